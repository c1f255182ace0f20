section
-- ===== PART A: goes FIRST, ahead of the names: the tables' words, and 'selects' of the private methods out of them =====
/-- a private method of a class that the tables say can be made, by its rows of tables_1 -/
def lw_okq (q : MethodName × Nat) : Prop := (q.1.cls ≠ "java/lang/invoke/MethodHandle" ∧ q.1.cls ≠ "java/lang/invoke/VarHandle") ∧ Cond.instantiable q.1.cls q.2 ∈ tables_1 ∧ Cond.privateMethod q.1 ∈ tables_1 ∧ Cond.instanceMethod q.1 ∈ tables_1
theorem lw_p0 : lw_okq (⟨"PointerBuckets", "open", "(I)V"⟩, 18) := ⟨⟨by decide +kernel, by decide +kernel⟩, List.mem_of_getElem? (i := 4) (by decide +kernel), List.mem_of_getElem? (i := 19) (by decide +kernel), List.mem_of_getElem? (i := 20) (by decide +kernel)⟩
theorem lw_p1 : lw_okq (⟨"PointerBuckets", "takePage", "()I"⟩, 18) := ⟨⟨by decide +kernel, by decide +kernel⟩, List.mem_of_getElem? (i := 4) (by decide +kernel), List.mem_of_getElem? (i := 23) (by decide +kernel), List.mem_of_getElem? (i := 24) (by decide +kernel)⟩
theorem lw_p2 : lw_okq (⟨"PointerBuckets", "bucketOf", "(II)I"⟩, 18) := ⟨⟨by decide +kernel, by decide +kernel⟩, List.mem_of_getElem? (i := 4) (by decide +kernel), List.mem_of_getElem? (i := 92) (by decide +kernel), List.mem_of_getElem? (i := 93) (by decide +kernel)⟩
theorem lw_p3 : lw_okq (⟨"PointerBuckets", "find", "(II)I"⟩, 18) := ⟨⟨by decide +kernel, by decide +kernel⟩, List.mem_of_getElem? (i := 4) (by decide +kernel), List.mem_of_getElem? (i := 102) (by decide +kernel), List.mem_of_getElem? (i := 103) (by decide +kernel)⟩
theorem lw_p4 : lw_okq (⟨"PointerBuckets", "place", "(II)I"⟩, 18) := ⟨⟨by decide +kernel, by decide +kernel⟩, List.mem_of_getElem? (i := 4) (by decide +kernel), List.mem_of_getElem? (i := 106) (by decide +kernel), List.mem_of_getElem? (i := 107) (by decide +kernel)⟩
theorem lw_p5 : lw_okq (⟨"PointerBuckets", "fits", "(II)Z"⟩, 18) := ⟨⟨by decide +kernel, by decide +kernel⟩, List.mem_of_getElem? (i := 4) (by decide +kernel), List.mem_of_getElem? (i := 110) (by decide +kernel), List.mem_of_getElem? (i := 111) (by decide +kernel)⟩
theorem lw_p6 : lw_okq (⟨"PointerBuckets", "pagesOf", "(I)I"⟩, 18) := ⟨⟨by decide +kernel, by decide +kernel⟩, List.mem_of_getElem? (i := 4) (by decide +kernel), List.mem_of_getElem? (i := 114) (by decide +kernel), List.mem_of_getElem? (i := 115) (by decide +kernel)⟩
theorem lw_p7 : lw_okq (⟨"PointerBuckets", "parts", "(I)Z"⟩, 18) := ⟨⟨by decide +kernel, by decide +kernel⟩, List.mem_of_getElem? (i := 4) (by decide +kernel), List.mem_of_getElem? (i := 118) (by decide +kernel), List.mem_of_getElem? (i := 119) (by decide +kernel)⟩
theorem lw_p8 : lw_okq (⟨"PointerBuckets", "add", "(III)V"⟩, 18) := ⟨⟨by decide +kernel, by decide +kernel⟩, List.mem_of_getElem? (i := 4) (by decide +kernel), List.mem_of_getElem? (i := 125) (by decide +kernel), List.mem_of_getElem? (i := 126) (by decide +kernel)⟩
theorem lw_p9 : lw_okq (⟨"PointerBuckets", "takeOff", "(I)V"⟩, 18) := ⟨⟨by decide +kernel, by decide +kernel⟩, List.mem_of_getElem? (i := 4) (by decide +kernel), List.mem_of_getElem? (i := 129) (by decide +kernel), List.mem_of_getElem? (i := 130) (by decide +kernel)⟩
theorem lw_p10 : lw_okq (⟨"PointerBuckets", "givePage", "(I)V"⟩, 18) := ⟨⟨by decide +kernel, by decide +kernel⟩, List.mem_of_getElem? (i := 4) (by decide +kernel), List.mem_of_getElem? (i := 133) (by decide +kernel), List.mem_of_getElem? (i := 134) (by decide +kernel)⟩
theorem lw_p11 : lw_okq (⟨"PointerBuckets", "split", "()V"⟩, 18) := ⟨⟨by decide +kernel, by decide +kernel⟩, List.mem_of_getElem? (i := 4) (by decide +kernel), List.mem_of_getElem? (i := 137) (by decide +kernel), List.mem_of_getElem? (i := 138) (by decide +kernel)⟩
theorem lw_p12 : lw_okq (⟨"PointerBuckets", "dropLast", "(I)V"⟩, 18) := ⟨⟨by decide +kernel, by decide +kernel⟩, List.mem_of_getElem? (i := 4) (by decide +kernel), List.mem_of_getElem? (i := 153) (by decide +kernel), List.mem_of_getElem? (i := 154) (by decide +kernel)⟩
theorem lw_p13 : lw_okq (⟨"PointerBuckets", "join", "()V"⟩, 18) := ⟨⟨by decide +kernel, by decide +kernel⟩, List.mem_of_getElem? (i := 4) (by decide +kernel), List.mem_of_getElem? (i := 157) (by decide +kernel), List.mem_of_getElem? (i := 158) (by decide +kernel)⟩
theorem lw_p14 : lw_okq (⟨"PointerBuckets", "isBucket", "(I)Z"⟩, 18) := ⟨⟨by decide +kernel, by decide +kernel⟩, List.mem_of_getElem? (i := 4) (by decide +kernel), List.mem_of_getElem? (i := 177) (by decide +kernel), List.mem_of_getElem? (i := 178) (by decide +kernel)⟩
theorem lw_p15 : lw_okq (⟨"PointerBucketsModel", "round", "()I"⟩, 11) := ⟨⟨by decide +kernel, by decide +kernel⟩, List.mem_of_getElem? (i := 192) (by decide +kernel), List.mem_of_getElem? (i := 236) (by decide +kernel), List.mem_of_getElem? (i := 237) (by decide +kernel)⟩
def lw_privs_1 : List (MethodName × Nat) := [(⟨"PointerBuckets", "open", "(I)V"⟩, 18), (⟨"PointerBuckets", "takePage", "()I"⟩, 18), (⟨"PointerBuckets", "bucketOf", "(II)I"⟩, 18), (⟨"PointerBuckets", "find", "(II)I"⟩, 18), (⟨"PointerBuckets", "place", "(II)I"⟩, 18), (⟨"PointerBuckets", "fits", "(II)Z"⟩, 18), (⟨"PointerBuckets", "pagesOf", "(I)I"⟩, 18), (⟨"PointerBuckets", "parts", "(I)Z"⟩, 18), (⟨"PointerBuckets", "add", "(III)V"⟩, 18), (⟨"PointerBuckets", "takeOff", "(I)V"⟩, 18), (⟨"PointerBuckets", "givePage", "(I)V"⟩, 18), (⟨"PointerBuckets", "split", "()V"⟩, 18), (⟨"PointerBuckets", "dropLast", "(I)V"⟩, 18), (⟨"PointerBuckets", "join", "()V"⟩, 18), (⟨"PointerBuckets", "isBucket", "(I)Z"⟩, 18), (⟨"PointerBucketsModel", "round", "()I"⟩, 11)]
theorem lw_r1 : ∀ q ∈ lw_privs_1, lw_okq q := List.forall_mem_cons.mpr ⟨lw_p0, List.forall_mem_cons.mpr ⟨lw_p1, List.forall_mem_cons.mpr ⟨lw_p2, List.forall_mem_cons.mpr ⟨lw_p3, List.forall_mem_cons.mpr ⟨lw_p4, List.forall_mem_cons.mpr ⟨lw_p5, List.forall_mem_cons.mpr ⟨lw_p6, List.forall_mem_cons.mpr ⟨lw_p7, List.forall_mem_cons.mpr ⟨lw_p8, List.forall_mem_cons.mpr ⟨lw_p9, List.forall_mem_cons.mpr ⟨lw_p10, List.forall_mem_cons.mpr ⟨lw_p11, List.forall_mem_cons.mpr ⟨lw_p12, List.forall_mem_cons.mpr ⟨lw_p13, List.forall_mem_cons.mpr ⟨lw_p14, List.forall_mem_cons.mpr ⟨lw_p15, fun _ h => absurd h List.not_mem_nil⟩⟩⟩⟩⟩⟩⟩⟩⟩⟩⟩⟩⟩⟩⟩⟩
theorem lw_p16 : lw_okq (⟨"PointerBucketsModel", "find", "(I)I"⟩, 11) := ⟨⟨by decide +kernel, by decide +kernel⟩, List.mem_of_getElem? (i := 192) (by decide +kernel), List.mem_of_getElem? (i := 249) (by decide +kernel), List.mem_of_getElem? (i := 250) (by decide +kernel)⟩
theorem lw_p17 : lw_okq (⟨"PointerBucketsModel", "forth", "()V"⟩, 11) := ⟨⟨by decide +kernel, by decide +kernel⟩, List.mem_of_getElem? (i := 192) (by decide +kernel), List.mem_of_getElem? (i := 254) (by decide +kernel), List.mem_of_getElem? (i := 255) (by decide +kernel)⟩
theorem lw_p18 : lw_okq (⟨"PointerBucketsModel", "settle", "()V"⟩, 11) := ⟨⟨by decide +kernel, by decide +kernel⟩, List.mem_of_getElem? (i := 192) (by decide +kernel), List.mem_of_getElem? (i := 258) (by decide +kernel), List.mem_of_getElem? (i := 259) (by decide +kernel)⟩
theorem lw_p19 : lw_okq (⟨"PointerBucketsModel", "needed", "()I"⟩, 11) := ⟨⟨by decide +kernel, by decide +kernel⟩, List.mem_of_getElem? (i := 192) (by decide +kernel), List.mem_of_getElem? (i := 263) (by decide +kernel), List.mem_of_getElem? (i := 264) (by decide +kernel)⟩
theorem lw_p20 : lw_okq (⟨"PointerBucketsModel", "count", "()V"⟩, 11) := ⟨⟨by decide +kernel, by decide +kernel⟩, List.mem_of_getElem? (i := 192) (by decide +kernel), List.mem_of_getElem? (i := 267) (by decide +kernel), List.mem_of_getElem? (i := 268) (by decide +kernel)⟩
theorem lw_p21 : lw_okq (⟨"PointerBucketsModel", "pagesFor", "(I)I"⟩, 11) := ⟨⟨by decide +kernel, by decide +kernel⟩, List.mem_of_getElem? (i := 192) (by decide +kernel), List.mem_of_getElem? (i := 271) (by decide +kernel), List.mem_of_getElem? (i := 272) (by decide +kernel)⟩
theorem lw_p22 : lw_okq (⟨"PointerBucketsModel", "back", "()V"⟩, 11) := ⟨⟨by decide +kernel, by decide +kernel⟩, List.mem_of_getElem? (i := 192) (by decide +kernel), List.mem_of_getElem? (i := 275) (by decide +kernel), List.mem_of_getElem? (i := 276) (by decide +kernel)⟩
theorem lw_p23 : lw_okq (⟨"PointerBucketsModel", "cut", "(I)V"⟩, 11) := ⟨⟨by decide +kernel, by decide +kernel⟩, List.mem_of_getElem? (i := 192) (by decide +kernel), List.mem_of_getElem? (i := 291) (by decide +kernel), List.mem_of_getElem? (i := 292) (by decide +kernel)⟩
theorem lw_p24 : lw_okq (⟨"PointerBucketsModel", "toEnd", "(I)V"⟩, 11) := ⟨⟨by decide +kernel, by decide +kernel⟩, List.mem_of_getElem? (i := 192) (by decide +kernel), List.mem_of_getElem? (i := 295) (by decide +kernel), List.mem_of_getElem? (i := 296) (by decide +kernel)⟩
def lw_privs_2 : List (MethodName × Nat) := [(⟨"PointerBucketsModel", "find", "(I)I"⟩, 11), (⟨"PointerBucketsModel", "forth", "()V"⟩, 11), (⟨"PointerBucketsModel", "settle", "()V"⟩, 11), (⟨"PointerBucketsModel", "needed", "()I"⟩, 11), (⟨"PointerBucketsModel", "count", "()V"⟩, 11), (⟨"PointerBucketsModel", "pagesFor", "(I)I"⟩, 11), (⟨"PointerBucketsModel", "back", "()V"⟩, 11), (⟨"PointerBucketsModel", "cut", "(I)V"⟩, 11), (⟨"PointerBucketsModel", "toEnd", "(I)V"⟩, 11)]
theorem lw_r2 : ∀ q ∈ lw_privs_2, lw_okq q := List.forall_mem_cons.mpr ⟨lw_p16, List.forall_mem_cons.mpr ⟨lw_p17, List.forall_mem_cons.mpr ⟨lw_p18, List.forall_mem_cons.mpr ⟨lw_p19, List.forall_mem_cons.mpr ⟨lw_p20, List.forall_mem_cons.mpr ⟨lw_p21, List.forall_mem_cons.mpr ⟨lw_p22, List.forall_mem_cons.mpr ⟨lw_p23, List.forall_mem_cons.mpr ⟨lw_p24, fun _ h => absurd h List.not_mem_nil⟩⟩⟩⟩⟩⟩⟩⟩⟩
def lw_privs : List (MethodName × Nat) := lw_privs_1 ++ (lw_privs_2)
def lw_tbl : List Cond := k2_sels lw_privs ++ tables_1
theorem lw_privs_ok : ∀ q ∈ lw_privs, lw_okq q := by
  show ∀ q ∈ lw_privs_1 ++ (lw_privs_2), lw_okq q
  exact List.forall_mem_append.mpr ⟨lw_r1, lw_r2⟩
end
section
/-! names, field tables, the two worlds, generic rows of a walk (printed by wip/D-64308w/gen/base.py) -/
/-- the words of the tables that may be taken along into a call -/
def gw_tbl : List Cond := lw_tbl.filter goodWord
theorem wd_good : ∀ w ∈ gw_tbl, (w.onTables && w.keeps) = true ∨ ∃ ty, w = .arrayClass ty := fun w hw => good_of_word (List.mem_filter.mp hw).2
theorem wd_in {w : Cond} (i : Nat) (h : lw_tbl[i]? = some w) (hg : goodWord w = true) : w ∈ gw_tbl := List.mem_filter.mpr ⟨List.mem_of_getElem? h, hg⟩
def R_law : String := "PointerBucketsLaw"
def R_X : String := "PointerBuckets"
def F_X : u_T := fun k => match k with
  | 0 => ("PointerBuckets", "base", "I", true)
  | 1 => ("PointerBuckets", "cap", "I", true)
  | 2 => ("PointerBuckets", "most", "I", true)
  | 3 => ("PointerBuckets", "mostBuckets", "I", true)
  | 4 => ("PointerBuckets", "keys", "[I", true)
  | 5 => ("PointerBuckets", "values", "[I", true)
  | 6 => ("PointerBuckets", "next", "[I", true)
  | 7 => ("PointerBuckets", "first", "[I", true)
  | 8 => ("PointerBuckets", "last", "[I", true)
  | 9 => ("PointerBuckets", "counts", "[I", true)
  | 10 => ("PointerBuckets", "takenKeys", "[I", true)
  | 11 => ("PointerBuckets", "takenValues", "[I", true)
  | 12 => ("PointerBuckets", "taken", "I", false)
  | 13 => ("PointerBuckets", "freePage", "I", false)
  | 14 => ("PointerBuckets", "free", "I", false)
  | 15 => ("PointerBuckets", "level", "I", false)
  | 16 => ("PointerBuckets", "pointer", "I", false)
  | _ => ("PointerBuckets", "size", "I", false)
def t_X : Nat → FieldType := fun k => match k with
  | 0 => .int
  | 1 => .int
  | 2 => .int
  | 3 => .int
  | 4 => .array .int
  | 5 => .array .int
  | 6 => .array .int
  | 7 => .array .int
  | 8 => .array .int
  | 9 => .array .int
  | 10 => .array .int
  | 11 => .array .int
  | 12 => .int
  | 13 => .int
  | 14 => .int
  | 15 => .int
  | 16 => .int
  | _ => .int
abbrev w_X : List Cond := u_ws R_X F_X 18
def R_M : String := "PointerBucketsModel"
def F_M : u_T := fun k => match k with
  | 0 => ("PointerBucketsModel", "base", "I", true)
  | 1 => ("PointerBucketsModel", "cap", "I", true)
  | 2 => ("PointerBucketsModel", "most", "I", true)
  | 3 => ("PointerBucketsModel", "mostBuckets", "I", true)
  | 4 => ("PointerBucketsModel", "size", "I", false)
  | 5 => ("PointerBucketsModel", "keys", "[I", true)
  | 6 => ("PointerBucketsModel", "values", "[I", true)
  | 7 => ("PointerBucketsModel", "homes", "[I", true)
  | 8 => ("PointerBucketsModel", "level", "I", false)
  | 9 => ("PointerBucketsModel", "pointer", "I", false)
  | _ => ("PointerBucketsModel", "counts", "[I", true)
def t_M : Nat → FieldType := fun k => match k with
  | 0 => .int
  | 1 => .int
  | 2 => .int
  | 3 => .int
  | 4 => .int
  | 5 => .array .int
  | 6 => .array .int
  | 7 => .array .int
  | 8 => .int
  | 9 => .int
  | _ => .array .int
abbrev w_M : List Cond := u_ws R_M F_M 11
abbrev classes : List vw_C := [(R_X, F_X, 18), (R_M, F_M, 11)]
theorem n_X : ∀ a, a < 18 → ∀ b, b < 18 → a ≠ b → (F_X a).2.1 ≠ (F_X b).2.1 := by decide +kernel
theorem t_X_ok : ∀ k, k < 18 → parseFieldDescriptor (F_X k).2.2.1 = some (t_X k) := by decide +kernel
theorem i_X : ∀ w ∈ w_X, w ∈ gw_tbl := by decide +kernel
theorem n_M : ∀ a, a < 11 → ∀ b, b < 11 → a ≠ b → (F_M a).2.1 ≠ (F_M b).2.1 := by decide +kernel
theorem t_M_ok : ∀ k, k < 11 → parseFieldDescriptor (F_M k).2.2.1 = some (t_M k) := by decide +kernel
theorem i_M : ∀ w ∈ w_M, w ∈ gw_tbl := by decide +kernel
abbrev ArrF : Type := Nat → Int32
/-- base, cap, most, mostBuckets; the lengths of keys and of next -/
abbrev KX : Type := Int32 × Int32 × Int32 × Int32 × Nat × Nat
abbrev KM : Type := Int32 × Int32 × Int32 × Int32
abbrev xBase (k : KX) : Int32 := k.1
abbrev xCap (k : KX) : Int32 := k.2.1
abbrev xMost (k : KX) : Int32 := k.2.2.1
abbrev xMostBuckets (k : KX) : Int32 := k.2.2.2.1
abbrev mBase (k : KM) : Int32 := k.1
abbrev mCap (k : KM) : Int32 := k.2.1
abbrev mMost (k : KM) : Int32 := k.2.2.1
abbrev mMostBuckets (k : KM) : Int32 := k.2.2.2
abbrev xN1 (k : KX) : Nat := k.2.2.2.2.1
abbrev xN2 (k : KX) : Nat := k.2.2.2.2.2
def kOK (k : KX) : Prop := xN1 k < 2 ^ 31 ∧ xN2 k < 2 ^ 31
/-- taken, freePage, free, level, pointer, size, keys, values, next, first, last, counts, takenKeys, takenValues -/
abbrev StX : Type := Int32 × Int32 × Int32 × Int32 × Int32 × Int32 × ArrF × ArrF × ArrF × ArrF × ArrF × ArrF × ArrF × ArrF
abbrev xTaken (u : StX) : Int32 := u.1
abbrev xFreePage (u : StX) : Int32 := u.2.1
abbrev xFree (u : StX) : Int32 := u.2.2.1
abbrev xLevel (u : StX) : Int32 := u.2.2.2.1
abbrev xPointer (u : StX) : Int32 := u.2.2.2.2.1
abbrev xSize (u : StX) : Int32 := u.2.2.2.2.2.1
abbrev xKeys (u : StX) : ArrF := u.2.2.2.2.2.2.1
abbrev xValues (u : StX) : ArrF := u.2.2.2.2.2.2.2.1
abbrev xNext (u : StX) : ArrF := u.2.2.2.2.2.2.2.2.1
abbrev xFirst (u : StX) : ArrF := u.2.2.2.2.2.2.2.2.2.1
abbrev xLast (u : StX) : ArrF := u.2.2.2.2.2.2.2.2.2.2.1
abbrev xCounts (u : StX) : ArrF := u.2.2.2.2.2.2.2.2.2.2.2.1
abbrev xTakenKeys (u : StX) : ArrF := u.2.2.2.2.2.2.2.2.2.2.2.2.1
abbrev xTakenValues (u : StX) : ArrF := u.2.2.2.2.2.2.2.2.2.2.2.2.2
abbrev xSetTaken (v : Int32) (u : StX) : StX := (v, u.2)
abbrev xSetFreePage (v : Int32) (u : StX) : StX := (u.1, v, u.2.2)
abbrev xSetFree (v : Int32) (u : StX) : StX := (u.1, u.2.1, v, u.2.2.2)
abbrev xSetLevel (v : Int32) (u : StX) : StX := (u.1, u.2.1, u.2.2.1, v, u.2.2.2.2)
abbrev xSetPointer (v : Int32) (u : StX) : StX := (u.1, u.2.1, u.2.2.1, u.2.2.2.1, v, u.2.2.2.2.2)
abbrev xSetSize (v : Int32) (u : StX) : StX := (u.1, u.2.1, u.2.2.1, u.2.2.2.1, u.2.2.2.2.1, v, u.2.2.2.2.2.2)
abbrev xSetKeys (v : ArrF) (u : StX) : StX := (u.1, u.2.1, u.2.2.1, u.2.2.2.1, u.2.2.2.2.1, u.2.2.2.2.2.1, v, u.2.2.2.2.2.2.2)
abbrev xSetValues (v : ArrF) (u : StX) : StX := (u.1, u.2.1, u.2.2.1, u.2.2.2.1, u.2.2.2.2.1, u.2.2.2.2.2.1, u.2.2.2.2.2.2.1, v, u.2.2.2.2.2.2.2.2)
abbrev xSetNext (v : ArrF) (u : StX) : StX := (u.1, u.2.1, u.2.2.1, u.2.2.2.1, u.2.2.2.2.1, u.2.2.2.2.2.1, u.2.2.2.2.2.2.1, u.2.2.2.2.2.2.2.1, v, u.2.2.2.2.2.2.2.2.2)
abbrev xSetFirst (v : ArrF) (u : StX) : StX := (u.1, u.2.1, u.2.2.1, u.2.2.2.1, u.2.2.2.2.1, u.2.2.2.2.2.1, u.2.2.2.2.2.2.1, u.2.2.2.2.2.2.2.1, u.2.2.2.2.2.2.2.2.1, v, u.2.2.2.2.2.2.2.2.2.2)
abbrev xSetLast (v : ArrF) (u : StX) : StX := (u.1, u.2.1, u.2.2.1, u.2.2.2.1, u.2.2.2.2.1, u.2.2.2.2.2.1, u.2.2.2.2.2.2.1, u.2.2.2.2.2.2.2.1, u.2.2.2.2.2.2.2.2.1, u.2.2.2.2.2.2.2.2.2.1, v, u.2.2.2.2.2.2.2.2.2.2.2)
abbrev xSetCounts (v : ArrF) (u : StX) : StX := (u.1, u.2.1, u.2.2.1, u.2.2.2.1, u.2.2.2.2.1, u.2.2.2.2.2.1, u.2.2.2.2.2.2.1, u.2.2.2.2.2.2.2.1, u.2.2.2.2.2.2.2.2.1, u.2.2.2.2.2.2.2.2.2.1, u.2.2.2.2.2.2.2.2.2.2.1, v, u.2.2.2.2.2.2.2.2.2.2.2.2)
abbrev xSetTakenKeys (v : ArrF) (u : StX) : StX := (u.1, u.2.1, u.2.2.1, u.2.2.2.1, u.2.2.2.2.1, u.2.2.2.2.2.1, u.2.2.2.2.2.2.1, u.2.2.2.2.2.2.2.1, u.2.2.2.2.2.2.2.2.1, u.2.2.2.2.2.2.2.2.2.1, u.2.2.2.2.2.2.2.2.2.2.1, u.2.2.2.2.2.2.2.2.2.2.2.1, v, u.2.2.2.2.2.2.2.2.2.2.2.2.2)
abbrev xSetTakenValues (v : ArrF) (u : StX) : StX := (u.1, u.2.1, u.2.2.1, u.2.2.2.1, u.2.2.2.2.1, u.2.2.2.2.2.1, u.2.2.2.2.2.2.1, u.2.2.2.2.2.2.2.1, u.2.2.2.2.2.2.2.2.1, u.2.2.2.2.2.2.2.2.2.1, u.2.2.2.2.2.2.2.2.2.2.1, u.2.2.2.2.2.2.2.2.2.2.2.1, u.2.2.2.2.2.2.2.2.2.2.2.2.1, v)
/-- size, level, pointer, keys, values, homes, counts -/
abbrev StM : Type := Int32 × Int32 × Int32 × ArrF × ArrF × ArrF × ArrF
abbrev mSize (u : StM) : Int32 := u.1
abbrev mLevel (u : StM) : Int32 := u.2.1
abbrev mPointer (u : StM) : Int32 := u.2.2.1
abbrev mKeys (u : StM) : ArrF := u.2.2.2.1
abbrev mValues (u : StM) : ArrF := u.2.2.2.2.1
abbrev mHomes (u : StM) : ArrF := u.2.2.2.2.2.1
abbrev mCounts (u : StM) : ArrF := u.2.2.2.2.2.2
abbrev mSetSize (v : Int32) (u : StM) : StM := (v, u.2)
abbrev mSetLevel (v : Int32) (u : StM) : StM := (u.1, v, u.2.2)
abbrev mSetPointer (v : Int32) (u : StM) : StM := (u.1, u.2.1, v, u.2.2.2)
abbrev mSetKeys (v : ArrF) (u : StM) : StM := (u.1, u.2.1, u.2.2.1, v, u.2.2.2.2)
abbrev mSetValues (v : ArrF) (u : StM) : StM := (u.1, u.2.1, u.2.2.1, u.2.2.2.1, v, u.2.2.2.2.2)
abbrev mSetHomes (v : ArrF) (u : StM) : StM := (u.1, u.2.1, u.2.2.1, u.2.2.2.1, u.2.2.2.2.1, v, u.2.2.2.2.2.2)
abbrev mSetCounts (v : ArrF) (u : StM) : StM := (u.1, u.2.1, u.2.2.1, u.2.2.2.1, u.2.2.2.2.1, u.2.2.2.2.2.1, v)
def fsX (ad : Nat → Nat) (k : KX) (u : StX) : List Value := [.int (xBase k), .int (xCap k), .int (xMost k), .int (xMostBuckets k), .ref (ad 1), .ref (ad 2), .ref (ad 3), .ref (ad 4), .ref (ad 5), .ref (ad 6), .ref (ad 7), .ref (ad 8), .int (xTaken u), .int (xFreePage u), .int (xFree u), .int (xLevel u), .int (xPointer u), .int (xSize u)]
def wX (cA : ClassId) (ad : Nat → Nat) (k : KX) (u : StX) : va_W := [(ad 0, .inr (0, fsX ad k u)), (ad 1, .inl (cA, (xN1 k), .inl (xKeys u))), (ad 2, .inl (cA, (xN1 k), .inl (xValues u))), (ad 3, .inl (cA, (xN2 k), .inl (xNext u))), (ad 4, .inl (cA, 200, .inl (xFirst u))), (ad 5, .inl (cA, 200, .inl (xLast u))), (ad 6, .inl (cA, 200, .inl (xCounts u))), (ad 7, .inl (cA, (xN1 k), .inl (xTakenKeys u))), (ad 8, .inl (cA, (xN1 k), .inl (xTakenValues u)))]
def fsM (ad : Nat → Nat) (k : KM) (u : StM) : List Value := [.int (mBase k), .int (mCap k), .int (mMost k), .int (mMostBuckets k), .int (mSize u), .ref (ad 1), .ref (ad 2), .ref (ad 3), .int (mLevel u), .int (mPointer u), .ref (ad 4)]
def wM (cA : ClassId) (ad : Nat → Nat) (k : KM) (u : StM) : va_W := [(ad 0, .inr (1, fsM ad k u)), (ad 1, .inl (cA, 2401, .inl (mKeys u))), (ad 2, .inl (cA, 2401, .inl (mValues u))), (ad 3, .inl (cA, 2401, .inl (mHomes u))), (ad 4, .inl (cA, 200, .inl (mCounts u)))]
/-- the fixed facts of a walk in a method of the class own -/
def wC (p : Program) (s : State) (m : MethodId) (args : Array Value) (c : Code) (meth : Method) (cc : ByteArray) (nL : Nat) (own : String) (D : va_G) (cA : ClassId) (A : Nat → Prop) : Prop :=
  p.tables.exec = Jvm.exec ∧ c.code = cc ∧ c.maxLocals = nL ∧ s.vm.findClass own = some m.cls ∧ (∀ w ∈ gw_tbl, w.before args s = true) ∧ va_K D classes [(cA, .int)] s ∧ (∀ q : Nat, s.heap.size ≤ q → A q) ∧ meth.locks = false
/-- the heap holds the cells ws, they are apart, and nothing else has changed -/
def wG (D : va_G) (A : Nat → Prop) (s : State) (ws : va_W) (H : Heap) (locs : List Loc) : Prop :=
  va_P D classes ws H ∧ va_D A ws ∧ va_S A s.heap H locs
/-- a contract's start -/
def cB (D : va_G) (cA : ClassId) (ws : va_W) (sz : Nat) (U : State) : Prop :=
  U.heap.size = sz ∧ va_P D classes ws U.heap ∧ va_K D classes [(cA, .int)] U ∧ va_D (fun _ => True) ws
/-- a contract's world at its end -/
def cE {S : Type} (D : va_G) (cA : ClassId) (A : Nat → Prop) (wf : S → va_W) (u : S) (t : State) : Prop :=
  va_P D classes (wf u) t.heap ∧ va_K D classes [(cA, .int)] t ∧ va_D A (wf u)
/-- a contract: any world wf u; the answer and the new state u' have Q -/
def cMi {S : Type} (l : Launch) (D : va_G) (cA : ClassId) (wf : S → va_W) (h0 : Nat) (y : MethodName) (b : ByteArray) (n : Nat) (r : Option FieldType) (rm : Room) (As : List Value) (u : S) (Q : Int32 → S → Prop) : Prop :=
  ∀ sz : Nat, Met l y (.code y b n r :: gw_tbl) rm (va_Pc (.ref h0 :: As) (cB D cA (wf u) sz)) (va_Qi Q (cE D cA (va_A (wf u) sz) wf) (va_A (wf u) sz)) 0 0 (va_A (wf u) sz)
def cMv {S : Type} (l : Launch) (D : va_G) (cA : ClassId) (wf : S → va_W) (h0 : Nat) (y : MethodName) (b : ByteArray) (n : Nat) (r : Option FieldType) (rm : Room) (As : List Value) (u : S) (Q : S → Prop) : Prop :=
  ∀ sz : Nat, Met l y (.code y b n r :: gw_tbl) rm (va_Pc (.ref h0 :: As) (cB D cA (wf u) sz)) (va_Qv Q (cE D cA (va_A (wf u) sz) wf) (va_A (wf u) sz)) 0 0 (va_A (wf u) sz)
/-- the end of a walk -/
abbrev zI {S : Type} (D : va_G) (cA : ClassId) (wf : S → va_W) (A : Nat → Prop) (below : List Frame) (args : Array Value) (s : State) (Q : Int32 → S → Prop) : State → Prop := MQ below (va_Qi Q (cE D cA A wf) A) args s 0 0 A
abbrev zV {S : Type} (D : va_G) (cA : ClassId) (wf : S → va_W) (A : Nat → Prop) (below : List Frame) (args : Array Value) (s : State) (Q : S → Prop) : State → Prop := MQ below (va_Qv Q (cE D cA A wf) A) args s 0 0 A
/-- what a callee's name must have in the tables -/
def okM (y : MethodName) (b : ByteArray) (n : Nat) (r : Option FieldType) (np : Nat) : Prop :=
  Cond.instanceMethod y ∈ gw_tbl ∧ Cond.selects y.cls y y ∈ gw_tbl ∧ Cond.initialized y.cls ∈ gw_tbl ∧ Cond.code y b n r ∈ gw_tbl ∧ (y.cls ≠ "java/lang/invoke/MethodHandle" ∧ y.cls ≠ "java/lang/invoke/VarHandle" ∧ (parseMethodDescriptor y.desc).map (fun d => d.parameters.length) = some np)
theorem wd_code {y : MethodName} {b : ByteArray} {n : Nat} {r : Option FieldType} (h : Cond.code y b n r ∈ gw_tbl) : GoodIn gw_tbl (.code y b n r :: gw_tbl) := by
  intro w hw
  rcases List.mem_cons.mp hw with e | e
  · rw [e]; exact ⟨h, wd_good _ h⟩
  · exact ⟨e, wd_good _ e⟩
theorem cB_blind {D : va_G} {cA : ClassId} {ws : va_W} {sz : Nat} {av : List Value} : FrameBlind (va_Pc av (cB D cA ws sz)) := by
  intro a U g mk q
  obtain ⟨q0, q1, qP, qK, qD⟩ := q
  exact ⟨q0, q1, qP, va_K.moved (u := U) (U := U.calling g mk a) (Vm.Alike.refl U.vm) qK, qD⟩
theorem cMi.enter {S : Type} {l : Launch} {D : va_G} {cA : ClassId} {wf : S → va_W} {h0 : Nat} {y : MethodName} {b : ByteArray} {n : Nat} {r : Option FieldType} {rm : Room} {As : List Value} {u : S} {Q : Int32 → S → Prop} (hy : plainName y.cls = true) (hn : (lg_sl (.ref h0 :: As)).length ≤ n)
    (body : ∀ (p : Program) (e : Env) (s : State) (m : MethodId) (args : Array Value) (below : List Frame) (meth : Method) (c : Code) (A : Nat → Prop) (ls : Array Slot), wC p s m args c meth b n y.cls D cA A → meth.sig.returnType = r → wG D A s (wf u) s.heap [] → lv_has ls n (lv_args 0 (.ref h0 :: As)) →
      W p l e rm s m args below meth c s.heap [] 0 0 (zI D cA wf A below args s Q) (F0 m 0 ls [])) : cMi l D cA wf h0 y b n r rm As u Q := by
  intro sz
  refine Met.ofW (cc := b) (maxL := n) (ret := r) hy rfl ?_
  intro p e s m args below meth c s₁ B hml hv
  obtain ⟨rfl, hsz, hP, hK, hD0⟩ := hv
  have hts : ∀ w ∈ gw_tbl, w.before (Value.ref h0 :: As).toArray s = true := fun w hw => atoms_spec (ws := .code y b n r :: gw_tbl) B.pre w (List.mem_cons_of_mem _ hw)
  have hown : s.vm.findClass y.cls = some m.cls := findClass_of_methodNamed B.named
  subst hsz
  have hD := hD0.self (sz := s.heap.size)
  have hl := lv_entry (.ref h0 :: As) (n := n) hn
  rw [lg_entry_eq]
  exact body p e s m _ below meth c _ _ ⟨B.exec, B.bytes, hml, hown, hts, hK, fun q h => Or.inr h, B.notSynchronized⟩ B.returns ⟨hP, hD, va_S.rf⟩ hl
theorem cMv.enter {S : Type} {l : Launch} {D : va_G} {cA : ClassId} {wf : S → va_W} {h0 : Nat} {y : MethodName} {b : ByteArray} {n : Nat} {r : Option FieldType} {rm : Room} {As : List Value} {u : S} {Q : S → Prop} (hy : plainName y.cls = true) (hn : (lg_sl (.ref h0 :: As)).length ≤ n)
    (body : ∀ (p : Program) (e : Env) (s : State) (m : MethodId) (args : Array Value) (below : List Frame) (meth : Method) (c : Code) (A : Nat → Prop) (ls : Array Slot), wC p s m args c meth b n y.cls D cA A → meth.sig.returnType = r → wG D A s (wf u) s.heap [] → lv_has ls n (lv_args 0 (.ref h0 :: As)) →
      W p l e rm s m args below meth c s.heap [] 0 0 (zV D cA wf A below args s Q) (F0 m 0 ls [])) : cMv l D cA wf h0 y b n r rm As u Q := by
  intro sz
  refine Met.ofW (cc := b) (maxL := n) (ret := r) hy rfl ?_
  intro p e s m args below meth c s₁ B hml hv
  obtain ⟨rfl, hsz, hP, hK, hD0⟩ := hv
  have hts : ∀ w ∈ gw_tbl, w.before (Value.ref h0 :: As).toArray s = true := fun w hw => atoms_spec (ws := .code y b n r :: gw_tbl) B.pre w (List.mem_cons_of_mem _ hw)
  have hown : s.vm.findClass y.cls = some m.cls := findClass_of_methodNamed B.named
  subst hsz
  have hD := hD0.self (sz := s.heap.size)
  have hl := lv_entry (.ref h0 :: As) (n := n) hn
  rw [lg_entry_eq]
  exact body p e s m _ below meth c _ _ ⟨B.exec, B.bytes, hml, hown, hts, hK, fun q h => Or.inr h, B.notSynchronized⟩ B.returns ⟨hP, hD, va_S.rf⟩ hl
section GEN
variable {S : Type} {p : Program} {l : Launch} {e : Env} {R : Room} {s : State} {m : MethodId} {args : Array Value} {below : List Frame} {meth : Method} {c : Code} {H : Heap} {locs : List Loc} {cells slots : Nat}
variable {cc : ByteArray} {own : String} {nL pc : Nat} {ls : Array Slot} {rest st0 : List Value} {D : va_G} {cA : ClassId} {A : Nat → Prop} {wf : S → va_W} {u : S}
theorem g_iret {Q : Int32 → S → Prop} (C : wC p s m args c meth cc nL own D cA A) (G : wG D A s (wf u) H locs) {v : Int32} (hr : meth.sig.returnType = some .int) (h : Q v u) (hdg : decode cc pc = .ok (.ireturn, 1)) :
    W p l e R s m args below meth c H locs 0 0 (zI D cA wf A below args s Q) (F0 m pc ls [.int v]) :=
  W.iret C.1 C.2.1 hr (fun t ht hW => ⟨⟨v, u, rfl, h, by rw [ht]; exact G.1, va_K.moved hW.alike C.2.2.2.2.2.1, G.2.1⟩, G.2.2.F ht⟩) G.2.2.2.2 hdg C.2.2.2.2.2.2.2
theorem g_zret {Q : Int32 → S → Prop} (C : wC p s m args c meth cc nL own D cA A) (G : wG D A s (wf u) H locs) {v : Int32} (hr : meth.sig.returnType = some .boolean) (hn : narrow .boolean (.int v) = .int v) (h : Q v u) (hdg : decode cc pc = .ok (.ireturn, 1)) :
    W p l e R s m args below meth c H locs 0 0 (zI D cA wf A below args s Q) (F0 m pc ls [.int v]) :=
  W.zret C.1 C.2.1 hr hn (fun t ht hW => ⟨⟨v, u, rfl, h, by rw [ht]; exact G.1, va_K.moved hW.alike C.2.2.2.2.2.1, G.2.1⟩, G.2.2.F ht⟩) G.2.2.2.2 hdg C.2.2.2.2.2.2.2
theorem g_vret {Q : S → Prop} (C : wC p s m args c meth cc nL own D cA A) (G : wG D A s (wf u) H locs) (hr : meth.sig.returnType = none) (h : Q u) (hdg : decode cc pc = .ok (.return_, 1)) :
    W p l e R s m args below meth c H locs 0 0 (zV D cA wf A below args s Q) (F0 m pc ls []) :=
  W.vret C.1 C.2.1 hr (fun t ht hW => ⟨⟨u, rfl, h, by rw [ht]; exact G.1, va_K.moved hW.alike C.2.2.2.2.2.1, G.2.1⟩, G.2.2.F ht⟩) G.2.2.2.2 hdg C.2.2.2.2.2.2.2
theorem wd_call {y : MethodName} {b : ByteArray} {n : Nat} {r : Option FieldType} {np idx : Nat} {rm : Room} (hts : ∀ w ∈ gw_tbl, w.before args s = true) (ok : okM y b n r np) (hl : Cond.methodLink own idx y ∈ gw_tbl) (hc : rm.cells = 0) (hs : rm.slots = 0) (hR : rm.frames + 1 ≤ R.frames ∧ 8 + (n + 11) + rm.locals ≤ R.locals) :
    CallW R s args own y.cls idx y b n r (.code y b n r :: gw_tbl) rm 0 0 np :=
  ⟨callB_of np hts (wd_code ok.2.2.2.1) rfl hc hs (hts _ ok.2.2.1) (hts _ hl) ok.2.2.2.2 hR, hts _ ok.1, hts _ ok.2.1⟩
theorem g_free (C : wC p s m args c meth cc nL own D cA A) {ws : va_W} (G : wG D A s ws H locs) : ∀ q, va_A ws H.size q → A q := by
  intro q h
  rcases h with ⟨k, e, h⟩ | h
  · exact G.2.1.2 k (q, e) h
  · exact C.2.2.2.2.2.2.1 q (Nat.le_trans G.2.2.1 h)
theorem g_preV (C : wC p s m args c meth cc nL own D cA A) {ws : va_W} (G : wG D A s ws H locs) {h0 ci : Nat} {fs : List Value} {q : vw_C} (hw : ws[0]? = some (h0, .inr (ci, fs))) (hc : classes[ci]? = some q) (As : List Value) : PreV s H q.1 h0 (va_Pc (.ref h0 :: As) (cB D cA ws H.size)) As :=
  ⟨cB_blind, va_recv C.2.2.2.2.2.1 G.1 hc hw, fun U hU hW => ⟨rfl, by rw [hU], by rw [hU]; exact G.1, va_K.moved hW.alike C.2.2.2.2.2.1, G.2.1.weaken (fun _ _ _ _ => trivial)⟩⟩
/-- a call of a method of the same object that answers an int -/
theorem g_calli {Q : State → Prop} {Qc : Int32 → S → Prop} {y : MethodName} {b : ByteArray} {n : Nat} {r : Option FieldType} {np idx : Nat} {rm : Room} {h0 ci : Nat} {fs : List Value} {T : u_T} {N : Nat} (As : List Value)
    (C : wC p s m args c meth cc nL own D cA A) (G : wG D A s (wf u) H locs) (hM : cMi l D cA wf h0 y b n r rm As u Qc) (ok : okM y b n r np) (hl : Cond.methodLink own idx y ∈ gw_tbl) (hc : rm.cells = 0) (hs : rm.slots = 0) (hR : rm.frames + 1 ≤ R.frames ∧ 8 + (n + 11) + rm.locals ≤ R.locals)
    (hw : (wf u)[0]? = some (h0, .inr (ci, fs))) (hci : classes[ci]? = some (y.cls, T, N)) (hn : As.length = np) (hsz : ls.size = nL) (hst : st0 = As.reverse ++ .ref h0 :: rest) (hrm : 2 * (F0 m pc ls st0).monitorRoom + (rest.map fun v => v.category).sum ≤ 8) (hf : cells ≤ R.cells ∧ slots ≤ R.slots) (hdg : decode cc pc = .ok (.invokevirtual idx, 3))
    (kk : ∀ (a : Int32) (u' : S) (H1 : Heap) (locs1 : List Loc), wG D A s (wf u') H1 locs1 → Qc a u' → W p l e R s m args below meth c H1 locs1 cells slots Q (F0 m (pc + 3) ls (.int a :: rest))) : W p l e R s m args below meth c H locs cells slots Q (F0 m pc ls st0) := by
  have hF := g_free C G
  refine va_calli (va_runV (As := As) (rest := rest) (g := F0 m pc ls st0) (C := y.cls) ⟨C.1, C.2.1, C.2.2.1, C.2.2.2.1, C.2.2.2.2.1⟩ (hM H.size) (wd_call C.2.2.2.2.1 ok hl hc hs hR) (g_preV C G hw hci As) rfl hn hsz hst hrm hdg hf) G.2.2 (fun q _ h => hF q h) hF (fun a u' t H1 locs1 ht hvm hq hB _ _ hS => ?_)
  obtain ⟨hP1, hK1, hD1⟩ := hB
  rw [ht] at hP1
  exact kk a u' H1 locs1 ⟨hP1, hD1.weaken (fun _ q _ h => hF q.1 h), hS⟩ hq
theorem g_callv {Q : State → Prop} {Qc : S → Prop} {y : MethodName} {b : ByteArray} {n : Nat} {r : Option FieldType} {np idx : Nat} {rm : Room} {h0 ci : Nat} {fs : List Value} {T : u_T} {N : Nat} (As : List Value)
    (C : wC p s m args c meth cc nL own D cA A) (G : wG D A s (wf u) H locs) (hM : cMv l D cA wf h0 y b n r rm As u Qc) (ok : okM y b n r np) (hl : Cond.methodLink own idx y ∈ gw_tbl) (hc : rm.cells = 0) (hs : rm.slots = 0) (hR : rm.frames + 1 ≤ R.frames ∧ 8 + (n + 11) + rm.locals ≤ R.locals)
    (hw : (wf u)[0]? = some (h0, .inr (ci, fs))) (hci : classes[ci]? = some (y.cls, T, N)) (hn : As.length = np) (hsz : ls.size = nL) (hst : st0 = As.reverse ++ .ref h0 :: rest) (hrm : 2 * (F0 m pc ls st0).monitorRoom + (rest.map fun v => v.category).sum ≤ 8) (hf : cells ≤ R.cells ∧ slots ≤ R.slots) (hdg : decode cc pc = .ok (.invokevirtual idx, 3))
    (kk : ∀ (u' : S) (H1 : Heap) (locs1 : List Loc), wG D A s (wf u') H1 locs1 → Qc u' → W p l e R s m args below meth c H1 locs1 cells slots Q (F0 m (pc + 3) ls rest)) : W p l e R s m args below meth c H locs cells slots Q (F0 m pc ls st0) := by
  have hF := g_free C G
  refine va_callv (va_runV (As := As) (rest := rest) (g := F0 m pc ls st0) (C := y.cls) ⟨C.1, C.2.1, C.2.2.1, C.2.2.2.1, C.2.2.2.2.1⟩ (hM H.size) (wd_call C.2.2.2.2.1 ok hl hc hs hR) (g_preV C G hw hci As) rfl hn hsz hst hrm hdg hf) G.2.2 (fun q _ h => hF q h) hF (fun u' t H1 locs1 ht hvm hq hB _ _ hS => ?_)
  obtain ⟨hP1, hK1, hD1⟩ := hB
  rw [ht] at hP1
  exact kk u' H1 locs1 ⟨hP1, hD1.weaken (fun _ q _ h => hF q.1 h), hS⟩ hq
end GEN
abbrev jrem (x y : Int32) : Int32 := x - x / y * y
abbrev jshl (x y : Int32) : Int32 := x <<< (y &&& 31)

abbrev b_X_init : ByteArray := prog_1_method_2_code
def y_X_init : MethodName := ⟨R_X, "<init>", "(IIII)V"⟩
abbrev b_X_bring : ByteArray := prog_1_method_1_code
def y_X_bring : MethodName := ⟨R_X, "bring", "(III)I"⟩
abbrev b_X_clear : ByteArray := prog_1_method_3_code
def y_X_clear : MethodName := ⟨R_X, "clear", "()V"⟩
abbrev b_X_open : ByteArray := prog_1_method_6_code
def y_X_open : MethodName := ⟨R_X, "open", "(I)V"⟩
abbrev b_X_takePage : ByteArray := prog_1_method_4_code
def y_X_takePage : MethodName := ⟨R_X, "takePage", "()I"⟩
abbrev b_X_buckets : ByteArray := prog_1_method_12_code
def y_X_buckets : MethodName := ⟨R_X, "buckets", "()I"⟩
abbrev b_X_bucketOf : ByteArray := prog_1_method_14_code
def y_X_bucketOf : MethodName := ⟨R_X, "bucketOf", "(I)I"⟩
abbrev b_X_bucketOf2 : ByteArray := prog_1_method_13_code
def y_X_bucketOf2 : MethodName := ⟨R_X, "bucketOf", "(II)I"⟩
abbrev b_X_put : ByteArray := prog_1_method_20_code
def y_X_put : MethodName := ⟨R_X, "put", "(II)I"⟩
abbrev b_X_find : ByteArray := prog_1_method_9_code
def y_X_find : MethodName := ⟨R_X, "find", "(II)I"⟩
abbrev b_X_place : ByteArray := prog_1_method_8_code
def y_X_place : MethodName := ⟨R_X, "place", "(II)I"⟩
abbrev b_X_fits : ByteArray := prog_1_method_19_code
def y_X_fits : MethodName := ⟨R_X, "fits", "(II)Z"⟩
abbrev b_X_pagesOf : ByteArray := prog_1_method_17_code
def y_X_pagesOf : MethodName := ⟨R_X, "pagesOf", "(I)I"⟩
abbrev b_X_parts : ByteArray := prog_1_method_18_code
def y_X_parts : MethodName := ⟨R_X, "parts", "(I)Z"⟩
abbrev b_X_add : ByteArray := prog_1_method_7_code
def y_X_add : MethodName := ⟨R_X, "add", "(III)V"⟩
abbrev b_X_takeOff : ByteArray := prog_1_method_11_code
def y_X_takeOff : MethodName := ⟨R_X, "takeOff", "(I)V"⟩
abbrev b_X_givePage : ByteArray := prog_1_method_5_code
def y_X_givePage : MethodName := ⟨R_X, "givePage", "(I)V"⟩
abbrev b_X_split : ByteArray := prog_1_method_15_code
def y_X_split : MethodName := ⟨R_X, "split", "()V"⟩
abbrev b_X_get : ByteArray := prog_1_method_21_code
def y_X_get : MethodName := ⟨R_X, "get", "(I)I"⟩
abbrev b_X_has : ByteArray := prog_1_method_22_code
def y_X_has : MethodName := ⟨R_X, "has", "(I)Z"⟩
abbrev b_X_remove : ByteArray := prog_1_method_23_code
def y_X_remove : MethodName := ⟨R_X, "remove", "(I)Z"⟩
abbrev b_X_dropLast : ByteArray := prog_1_method_10_code
def y_X_dropLast : MethodName := ⟨R_X, "dropLast", "(I)V"⟩
abbrev b_X_join : ByteArray := prog_1_method_16_code
def y_X_join : MethodName := ⟨R_X, "join", "()V"⟩
abbrev b_X_size : ByteArray := prog_1_method_24_code
def y_X_size : MethodName := ⟨R_X, "size", "()I"⟩
abbrev b_X_level : ByteArray := prog_1_method_25_code
def y_X_level : MethodName := ⟨R_X, "level", "()I"⟩
abbrev b_X_pointer : ByteArray := prog_1_method_26_code
def y_X_pointer : MethodName := ⟨R_X, "pointer", "()I"⟩
abbrev b_X_pages : ByteArray := prog_1_method_28_code
def y_X_pages : MethodName := ⟨R_X, "pages", "(I)I"⟩
abbrev b_X_isBucket : ByteArray := prog_1_method_27_code
def y_X_isBucket : MethodName := ⟨R_X, "isBucket", "(I)Z"⟩
abbrev b_X_free : ByteArray := prog_1_method_29_code
def y_X_free : MethodName := ⟨R_X, "free", "()I"⟩
abbrev b_X_key : ByteArray := prog_1_method_30_code
def y_X_key : MethodName := ⟨R_X, "key", "(II)I"⟩
abbrev b_L_cell : ByteArray := method_2_code
def y_L_cell : MethodName := ⟨R_law, "cell", "([II)I"⟩
abbrev b_M_init : ByteArray := prog_3_method_1_code
def y_M_init : MethodName := ⟨R_M, "<init>", "(IIII)V"⟩
abbrev b_M_buckets : ByteArray := prog_3_method_3_code
def y_M_buckets : MethodName := ⟨R_M, "buckets", "()I"⟩
abbrev b_M_round : ByteArray := prog_3_method_2_code
def y_M_round : MethodName := ⟨R_M, "round", "()I"⟩
abbrev b_M_bucketOf : ByteArray := prog_3_method_4_code
def y_M_bucketOf : MethodName := ⟨R_M, "bucketOf", "(I)I"⟩
abbrev b_M_put : ByteArray := prog_3_method_12_code
def y_M_put : MethodName := ⟨R_M, "put", "(II)I"⟩
abbrev b_M_find : ByteArray := prog_3_method_5_code
def y_M_find : MethodName := ⟨R_M, "find", "(I)I"⟩
abbrev b_M_forth : ByteArray := prog_3_method_10_code
def y_M_forth : MethodName := ⟨R_M, "forth", "()V"⟩
abbrev b_M_settle : ByteArray := prog_3_method_9_code
def y_M_settle : MethodName := ⟨R_M, "settle", "()V"⟩
abbrev b_M_needed : ByteArray := prog_3_method_8_code
def y_M_needed : MethodName := ⟨R_M, "needed", "()I"⟩
abbrev b_M_count : ByteArray := prog_3_method_6_code
def y_M_count : MethodName := ⟨R_M, "count", "()V"⟩
abbrev b_M_pagesFor : ByteArray := prog_3_method_7_code
def y_M_pagesFor : MethodName := ⟨R_M, "pagesFor", "(I)I"⟩
abbrev b_M_back : ByteArray := prog_3_method_11_code
def y_M_back : MethodName := ⟨R_M, "back", "()V"⟩
abbrev b_M_get : ByteArray := prog_3_method_13_code
def y_M_get : MethodName := ⟨R_M, "get", "(I)I"⟩
abbrev b_M_has : ByteArray := prog_3_method_14_code
def y_M_has : MethodName := ⟨R_M, "has", "(I)Z"⟩
abbrev b_M_remove : ByteArray := prog_3_method_17_code
def y_M_remove : MethodName := ⟨R_M, "remove", "(I)Z"⟩
abbrev b_M_cut : ByteArray := prog_3_method_15_code
def y_M_cut : MethodName := ⟨R_M, "cut", "(I)V"⟩
abbrev b_M_toEnd : ByteArray := prog_3_method_16_code
def y_M_toEnd : MethodName := ⟨R_M, "toEnd", "(I)V"⟩
abbrev b_M_size : ByteArray := prog_3_method_18_code
def y_M_size : MethodName := ⟨R_M, "size", "()I"⟩
abbrev b_M_level : ByteArray := prog_3_method_19_code
def y_M_level : MethodName := ⟨R_M, "level", "()I"⟩
abbrev b_M_pointer : ByteArray := prog_3_method_20_code
def y_M_pointer : MethodName := ⟨R_M, "pointer", "()I"⟩
abbrev b_M_pages : ByteArray := prog_3_method_21_code
def y_M_pages : MethodName := ⟨R_M, "pages", "(I)I"⟩
abbrev b_M_free : ByteArray := prog_3_method_22_code
def y_M_free : MethodName := ⟨R_M, "free", "()I"⟩
abbrev b_M_key : ByteArray := prog_3_method_23_code
def y_M_key : MethodName := ⟨R_M, "key", "(II)I"⟩
abbrev b_M_clear : ByteArray := prog_3_method_24_code
def y_M_clear : MethodName := ⟨R_M, "clear", "()V"⟩
theorem ok_X_clear : okM y_X_clear b_X_clear 2 none 0 := ⟨by decide +kernel, by decide +kernel, by decide +kernel, wd_in 42 rfl rfl, by decide +kernel⟩
theorem ok_X_open : okM y_X_open b_X_open 2 none 1 := ⟨by decide +kernel, by decide +kernel, by decide +kernel, wd_in 46 rfl rfl, by decide +kernel⟩
theorem ok_X_takePage : okM y_X_takePage b_X_takePage 2 (some .int) 0 := ⟨by decide +kernel, by decide +kernel, by decide +kernel, wd_in 50 rfl rfl, by decide +kernel⟩
theorem ok_X_buckets : okM y_X_buckets b_X_buckets 1 (some .int) 0 := ⟨by decide +kernel, by decide +kernel, by decide +kernel, wd_in 111 rfl rfl, by decide +kernel⟩
theorem ok_X_bucketOf : okM y_X_bucketOf b_X_bucketOf 2 (some .int) 1 := ⟨by decide +kernel, by decide +kernel, by decide +kernel, wd_in 115 rfl rfl, by decide +kernel⟩
theorem ok_X_bucketOf2 : okM y_X_bucketOf2 b_X_bucketOf2 5 (some .int) 2 := ⟨by decide +kernel, by decide +kernel, by decide +kernel, wd_in 119 rfl rfl, by decide +kernel⟩
theorem ok_X_put : okM y_X_put b_X_put 7 (some .int) 2 := ⟨by decide +kernel, by decide +kernel, by decide +kernel, wd_in 124 rfl rfl, by decide +kernel⟩
theorem ok_X_find : okM y_X_find b_X_find 5 (some .int) 2 := ⟨by decide +kernel, by decide +kernel, by decide +kernel, wd_in 129 rfl rfl, by decide +kernel⟩
theorem ok_X_place : okM y_X_place b_X_place 5 (some .int) 2 := ⟨by decide +kernel, by decide +kernel, by decide +kernel, wd_in 133 rfl rfl, by decide +kernel⟩
theorem ok_X_fits : okM y_X_fits b_X_fits 6 (some .boolean) 2 := ⟨by decide +kernel, by decide +kernel, by decide +kernel, wd_in 137 rfl rfl, by decide +kernel⟩
theorem ok_X_pagesOf : okM y_X_pagesOf b_X_pagesOf 2 (some .int) 1 := ⟨by decide +kernel, by decide +kernel, by decide +kernel, wd_in 141 rfl rfl, by decide +kernel⟩
theorem ok_X_parts : okM y_X_parts b_X_parts 2 (some .boolean) 1 := ⟨by decide +kernel, by decide +kernel, by decide +kernel, wd_in 145 rfl rfl, by decide +kernel⟩
theorem ok_X_add : okM y_X_add b_X_add 5 none 3 := ⟨by decide +kernel, by decide +kernel, by decide +kernel, wd_in 152 rfl rfl, by decide +kernel⟩
theorem ok_X_takeOff : okM y_X_takeOff b_X_takeOff 4 none 1 := ⟨by decide +kernel, by decide +kernel, by decide +kernel, wd_in 156 rfl rfl, by decide +kernel⟩
theorem ok_X_givePage : okM y_X_givePage b_X_givePage 2 none 1 := ⟨by decide +kernel, by decide +kernel, by decide +kernel, wd_in 160 rfl rfl, by decide +kernel⟩
theorem ok_X_split : okM y_X_split b_X_split 3 none 0 := ⟨by decide +kernel, by decide +kernel, by decide +kernel, wd_in 164 rfl rfl, by decide +kernel⟩
theorem ok_X_get : okM y_X_get b_X_get 4 (some .int) 1 := ⟨by decide +kernel, by decide +kernel, by decide +kernel, wd_in 168 rfl rfl, by decide +kernel⟩
theorem ok_X_has : okM y_X_has b_X_has 2 (some .boolean) 1 := ⟨by decide +kernel, by decide +kernel, by decide +kernel, wd_in 172 rfl rfl, by decide +kernel⟩
theorem ok_X_remove : okM y_X_remove b_X_remove 6 (some .boolean) 1 := ⟨by decide +kernel, by decide +kernel, by decide +kernel, wd_in 176 rfl rfl, by decide +kernel⟩
theorem ok_X_dropLast : okM y_X_dropLast b_X_dropLast 3 none 1 := ⟨by decide +kernel, by decide +kernel, by decide +kernel, wd_in 180 rfl rfl, by decide +kernel⟩
theorem ok_X_join : okM y_X_join b_X_join 3 none 0 := ⟨by decide +kernel, by decide +kernel, by decide +kernel, wd_in 184 rfl rfl, by decide +kernel⟩
theorem ok_X_size : okM y_X_size b_X_size 1 (some .int) 0 := ⟨by decide +kernel, by decide +kernel, by decide +kernel, wd_in 188 rfl rfl, by decide +kernel⟩
theorem ok_X_level : okM y_X_level b_X_level 1 (some .int) 0 := ⟨by decide +kernel, by decide +kernel, by decide +kernel, wd_in 192 rfl rfl, by decide +kernel⟩
theorem ok_X_pointer : okM y_X_pointer b_X_pointer 1 (some .int) 0 := ⟨by decide +kernel, by decide +kernel, by decide +kernel, wd_in 196 rfl rfl, by decide +kernel⟩
theorem ok_X_pages : okM y_X_pages b_X_pages 2 (some .int) 1 := ⟨by decide +kernel, by decide +kernel, by decide +kernel, wd_in 200 rfl rfl, by decide +kernel⟩
theorem ok_X_isBucket : okM y_X_isBucket b_X_isBucket 2 (some .boolean) 1 := ⟨by decide +kernel, by decide +kernel, by decide +kernel, wd_in 204 rfl rfl, by decide +kernel⟩
theorem ok_X_free : okM y_X_free b_X_free 1 (some .int) 0 := ⟨by decide +kernel, by decide +kernel, by decide +kernel, wd_in 208 rfl rfl, by decide +kernel⟩
theorem ok_X_key : okM y_X_key b_X_key 3 (some .int) 2 := ⟨by decide +kernel, by decide +kernel, by decide +kernel, wd_in 212 rfl rfl, by decide +kernel⟩
theorem ok_M_buckets : okM y_M_buckets b_M_buckets 1 (some .int) 0 := ⟨by decide +kernel, by decide +kernel, by decide +kernel, wd_in 259 rfl rfl, by decide +kernel⟩
theorem ok_M_round : okM y_M_round b_M_round 3 (some .int) 0 := ⟨by decide +kernel, by decide +kernel, by decide +kernel, wd_in 263 rfl rfl, by decide +kernel⟩
theorem ok_M_bucketOf : okM y_M_bucketOf b_M_bucketOf 4 (some .int) 1 := ⟨by decide +kernel, by decide +kernel, by decide +kernel, wd_in 267 rfl rfl, by decide +kernel⟩
theorem ok_M_put : okM y_M_put b_M_put 5 (some .int) 2 := ⟨by decide +kernel, by decide +kernel, by decide +kernel, wd_in 272 rfl rfl, by decide +kernel⟩
theorem ok_M_find : okM y_M_find b_M_find 4 (some .int) 1 := ⟨by decide +kernel, by decide +kernel, by decide +kernel, wd_in 276 rfl rfl, by decide +kernel⟩
theorem ok_M_forth : okM y_M_forth b_M_forth 1 none 0 := ⟨by decide +kernel, by decide +kernel, by decide +kernel, wd_in 281 rfl rfl, by decide +kernel⟩
theorem ok_M_settle : okM y_M_settle b_M_settle 2 none 0 := ⟨by decide +kernel, by decide +kernel, by decide +kernel, wd_in 285 rfl rfl, by decide +kernel⟩
theorem ok_M_needed : okM y_M_needed b_M_needed 3 (some .int) 0 := ⟨by decide +kernel, by decide +kernel, by decide +kernel, wd_in 290 rfl rfl, by decide +kernel⟩
theorem ok_M_count : okM y_M_count b_M_count 2 none 0 := ⟨by decide +kernel, by decide +kernel, by decide +kernel, wd_in 294 rfl rfl, by decide +kernel⟩
theorem ok_M_pagesFor : okM y_M_pagesFor b_M_pagesFor 2 (some .int) 1 := ⟨by decide +kernel, by decide +kernel, by decide +kernel, wd_in 298 rfl rfl, by decide +kernel⟩
theorem ok_M_back : okM y_M_back b_M_back 1 none 0 := ⟨by decide +kernel, by decide +kernel, by decide +kernel, wd_in 302 rfl rfl, by decide +kernel⟩
theorem ok_M_get : okM y_M_get b_M_get 3 (some .int) 1 := ⟨by decide +kernel, by decide +kernel, by decide +kernel, wd_in 306 rfl rfl, by decide +kernel⟩
theorem ok_M_has : okM y_M_has b_M_has 2 (some .boolean) 1 := ⟨by decide +kernel, by decide +kernel, by decide +kernel, wd_in 310 rfl rfl, by decide +kernel⟩
theorem ok_M_remove : okM y_M_remove b_M_remove 5 (some .boolean) 1 := ⟨by decide +kernel, by decide +kernel, by decide +kernel, wd_in 314 rfl rfl, by decide +kernel⟩
theorem ok_M_cut : okM y_M_cut b_M_cut 3 none 1 := ⟨by decide +kernel, by decide +kernel, by decide +kernel, wd_in 318 rfl rfl, by decide +kernel⟩
theorem ok_M_toEnd : okM y_M_toEnd b_M_toEnd 6 none 1 := ⟨by decide +kernel, by decide +kernel, by decide +kernel, wd_in 322 rfl rfl, by decide +kernel⟩
theorem ok_M_size : okM y_M_size b_M_size 1 (some .int) 0 := ⟨by decide +kernel, by decide +kernel, by decide +kernel, wd_in 326 rfl rfl, by decide +kernel⟩
theorem ok_M_level : okM y_M_level b_M_level 1 (some .int) 0 := ⟨by decide +kernel, by decide +kernel, by decide +kernel, wd_in 330 rfl rfl, by decide +kernel⟩
theorem ok_M_pointer : okM y_M_pointer b_M_pointer 1 (some .int) 0 := ⟨by decide +kernel, by decide +kernel, by decide +kernel, wd_in 334 rfl rfl, by decide +kernel⟩
theorem ok_M_pages : okM y_M_pages b_M_pages 2 (some .int) 1 := ⟨by decide +kernel, by decide +kernel, by decide +kernel, wd_in 338 rfl rfl, by decide +kernel⟩
theorem ok_M_free : okM y_M_free b_M_free 1 (some .int) 0 := ⟨by decide +kernel, by decide +kernel, by decide +kernel, wd_in 342 rfl rfl, by decide +kernel⟩
theorem ok_M_key : okM y_M_key b_M_key 5 (some .int) 2 := ⟨by decide +kernel, by decide +kernel, by decide +kernel, wd_in 346 rfl rfl, by decide +kernel⟩
theorem ok_M_clear : okM y_M_clear b_M_clear 1 none 0 := ⟨by decide +kernel, by decide +kernel, by decide +kernel, wd_in 350 rfl rfl, by decide +kernel⟩
theorem ml_L_15 : Cond.methodLink R_law 15 y_X_init ∈ gw_tbl := wd_in 30 rfl rfl
theorem ml_X_19 : Cond.methodLink R_X 19 y_X_bring ∈ gw_tbl := wd_in 36 rfl rfl
theorem ml_X_51 : Cond.methodLink R_X 51 y_X_clear ∈ gw_tbl := wd_in 39 rfl rfl
theorem ml_X_69 : Cond.methodLink R_X 69 y_X_open ∈ gw_tbl := wd_in 43 rfl rfl
theorem ml_X_73 : Cond.methodLink R_X 73 y_X_takePage ∈ gw_tbl := wd_in 47 rfl rfl
theorem fl_X_23 : Cond.fieldLink R_X 23 R_X "base" "I" ∈ gw_tbl := wd_in 51 rfl rfl
theorem fl_X_27 : Cond.fieldLink R_X 27 R_X "cap" "I" ∈ gw_tbl := wd_in 52 rfl rfl
theorem fl_X_30 : Cond.fieldLink R_X 30 R_X "most" "I" ∈ gw_tbl := wd_in 53 rfl rfl
theorem fl_X_33 : Cond.fieldLink R_X 33 R_X "mostBuckets" "I" ∈ gw_tbl := wd_in 54 rfl rfl
theorem fl_X_36 : Cond.fieldLink R_X 36 R_X "keys" "[I" ∈ gw_tbl := wd_in 55 rfl rfl
theorem fl_X_39 : Cond.fieldLink R_X 39 R_X "values" "[I" ∈ gw_tbl := wd_in 56 rfl rfl
theorem fl_X_42 : Cond.fieldLink R_X 42 R_X "next" "[I" ∈ gw_tbl := wd_in 57 rfl rfl
theorem fl_X_7 : Cond.fieldLink R_X 7 R_X "first" "[I" ∈ gw_tbl := wd_in 58 rfl rfl
theorem fl_X_13 : Cond.fieldLink R_X 13 R_X "last" "[I" ∈ gw_tbl := wd_in 59 rfl rfl
theorem fl_X_16 : Cond.fieldLink R_X 16 R_X "counts" "[I" ∈ gw_tbl := wd_in 60 rfl rfl
theorem fl_X_45 : Cond.fieldLink R_X 45 R_X "takenKeys" "[I" ∈ gw_tbl := wd_in 61 rfl rfl
theorem fl_X_48 : Cond.fieldLink R_X 48 R_X "takenValues" "[I" ∈ gw_tbl := wd_in 62 rfl rfl
theorem fl_X_84 : Cond.fieldLink R_X 84 R_X "taken" "I" ∈ gw_tbl := wd_in 63 rfl rfl
theorem fl_X_54 : Cond.fieldLink R_X 54 R_X "freePage" "I" ∈ gw_tbl := wd_in 64 rfl rfl
theorem fl_X_57 : Cond.fieldLink R_X 57 R_X "free" "I" ∈ gw_tbl := wd_in 65 rfl rfl
theorem fl_X_60 : Cond.fieldLink R_X 60 R_X "level" "I" ∈ gw_tbl := wd_in 66 rfl rfl
theorem fl_X_63 : Cond.fieldLink R_X 63 R_X "pointer" "I" ∈ gw_tbl := wd_in 67 rfl rfl
theorem fl_X_66 : Cond.fieldLink R_X 66 R_X "size" "I" ∈ gw_tbl := wd_in 68 rfl rfl
theorem ml_L_73 : Cond.methodLink R_law 73 y_X_clear ∈ gw_tbl := wd_in 107 rfl rfl
theorem ml_L_45 : Cond.methodLink R_law 45 y_X_buckets ∈ gw_tbl := wd_in 108 rfl rfl
theorem ml_L_57 : Cond.methodLink R_law 57 y_X_bucketOf ∈ gw_tbl := wd_in 112 rfl rfl
theorem ml_X_90 : Cond.methodLink R_X 90 y_X_bucketOf2 ∈ gw_tbl := wd_in 116 rfl rfl
theorem ml_L_21 : Cond.methodLink R_law 21 y_X_put ∈ gw_tbl := wd_in 121 rfl rfl
theorem ml_X_115 : Cond.methodLink R_X 115 y_X_bucketOf ∈ gw_tbl := wd_in 125 rfl rfl
theorem ml_X_117 : Cond.methodLink R_X 117 y_X_find ∈ gw_tbl := wd_in 126 rfl rfl
theorem ml_X_80 : Cond.methodLink R_X 80 y_X_place ∈ gw_tbl := wd_in 130 rfl rfl
theorem ml_X_120 : Cond.methodLink R_X 120 y_X_fits ∈ gw_tbl := wd_in 134 rfl rfl
theorem ml_X_107 : Cond.methodLink R_X 107 y_X_pagesOf ∈ gw_tbl := wd_in 138 rfl rfl
theorem ml_X_111 : Cond.methodLink R_X 111 y_X_parts ∈ gw_tbl := wd_in 142 rfl rfl
theorem ml_X_93 : Cond.methodLink R_X 93 y_X_buckets ∈ gw_tbl := wd_in 148 rfl rfl
theorem ml_X_96 : Cond.methodLink R_X 96 y_X_add ∈ gw_tbl := wd_in 149 rfl rfl
theorem ml_X_100 : Cond.methodLink R_X 100 y_X_takeOff ∈ gw_tbl := wd_in 153 rfl rfl
theorem ml_X_77 : Cond.methodLink R_X 77 y_X_givePage ∈ gw_tbl := wd_in 157 rfl rfl
theorem ml_X_124 : Cond.methodLink R_X 124 y_X_split ∈ gw_tbl := wd_in 161 rfl rfl
theorem ml_L_26 : Cond.methodLink R_law 26 y_X_get ∈ gw_tbl := wd_in 165 rfl rfl
theorem ml_L_31 : Cond.methodLink R_law 31 y_X_has ∈ gw_tbl := wd_in 169 rfl rfl
theorem ml_L_36 : Cond.methodLink R_law 36 y_X_remove ∈ gw_tbl := wd_in 173 rfl rfl
theorem ml_X_127 : Cond.methodLink R_X 127 y_X_dropLast ∈ gw_tbl := wd_in 177 rfl rfl
theorem ml_X_130 : Cond.methodLink R_X 130 y_X_join ∈ gw_tbl := wd_in 181 rfl rfl
theorem ml_L_40 : Cond.methodLink R_law 40 y_X_size ∈ gw_tbl := wd_in 185 rfl rfl
theorem ml_L_49 : Cond.methodLink R_law 49 y_X_level ∈ gw_tbl := wd_in 189 rfl rfl
theorem ml_L_53 : Cond.methodLink R_law 53 y_X_pointer ∈ gw_tbl := wd_in 193 rfl rfl
theorem ml_L_61 : Cond.methodLink R_law 61 y_X_pages ∈ gw_tbl := wd_in 197 rfl rfl
theorem ml_X_133 : Cond.methodLink R_X 133 y_X_isBucket ∈ gw_tbl := wd_in 201 rfl rfl
theorem ml_L_65 : Cond.methodLink R_law 65 y_X_free ∈ gw_tbl := wd_in 205 rfl rfl
theorem ml_L_69 : Cond.methodLink R_law 69 y_X_key ∈ gw_tbl := wd_in 209 rfl rfl
theorem ml_L_9 : Cond.methodLink R_law 9 y_L_cell ∈ gw_tbl := wd_in 213 rfl rfl
theorem ml_L_20 : Cond.methodLink R_law 20 y_M_init ∈ gw_tbl := wd_in 218 rfl rfl
theorem fl_M_22 : Cond.fieldLink R_M 22 R_M "base" "I" ∈ gw_tbl := wd_in 222 rfl rfl
theorem fl_M_26 : Cond.fieldLink R_M 26 R_M "cap" "I" ∈ gw_tbl := wd_in 223 rfl rfl
theorem fl_M_29 : Cond.fieldLink R_M 29 R_M "most" "I" ∈ gw_tbl := wd_in 224 rfl rfl
theorem fl_M_32 : Cond.fieldLink R_M 32 R_M "mostBuckets" "I" ∈ gw_tbl := wd_in 225 rfl rfl
theorem fl_M_46 : Cond.fieldLink R_M 46 R_M "size" "I" ∈ gw_tbl := wd_in 226 rfl rfl
theorem fl_M_7 : Cond.fieldLink R_M 7 R_M "keys" "[I" ∈ gw_tbl := wd_in 227 rfl rfl
theorem fl_M_13 : Cond.fieldLink R_M 13 R_M "values" "[I" ∈ gw_tbl := wd_in 228 rfl rfl
theorem fl_M_16 : Cond.fieldLink R_M 16 R_M "homes" "[I" ∈ gw_tbl := wd_in 229 rfl rfl
theorem fl_M_35 : Cond.fieldLink R_M 35 R_M "level" "I" ∈ gw_tbl := wd_in 230 rfl rfl
theorem fl_M_42 : Cond.fieldLink R_M 42 R_M "pointer" "I" ∈ gw_tbl := wd_in 231 rfl rfl
theorem fl_M_19 : Cond.fieldLink R_M 19 R_M "counts" "[I" ∈ gw_tbl := wd_in 232 rfl rfl
theorem ml_L_48 : Cond.methodLink R_law 48 y_M_buckets ∈ gw_tbl := wd_in 256 rfl rfl
theorem ml_M_38 : Cond.methodLink R_M 38 y_M_round ∈ gw_tbl := wd_in 260 rfl rfl
theorem ml_L_60 : Cond.methodLink R_law 60 y_M_bucketOf ∈ gw_tbl := wd_in 264 rfl rfl
theorem ml_L_25 : Cond.methodLink R_law 25 y_M_put ∈ gw_tbl := wd_in 269 rfl rfl
theorem ml_M_62 : Cond.methodLink R_M 62 y_M_find ∈ gw_tbl := wd_in 273 rfl rfl
theorem ml_M_52 : Cond.methodLink R_M 52 y_M_buckets ∈ gw_tbl := wd_in 277 rfl rfl
theorem ml_M_65 : Cond.methodLink R_M 65 y_M_forth ∈ gw_tbl := wd_in 278 rfl rfl
theorem ml_M_68 : Cond.methodLink R_M 68 y_M_settle ∈ gw_tbl := wd_in 282 rfl rfl
theorem ml_M_59 : Cond.methodLink R_M 59 y_M_bucketOf ∈ gw_tbl := wd_in 286 rfl rfl
theorem ml_M_71 : Cond.methodLink R_M 71 y_M_needed ∈ gw_tbl := wd_in 287 rfl rfl
theorem ml_M_49 : Cond.methodLink R_M 49 y_M_count ∈ gw_tbl := wd_in 291 rfl rfl
theorem ml_M_55 : Cond.methodLink R_M 55 y_M_pagesFor ∈ gw_tbl := wd_in 295 rfl rfl
theorem ml_M_74 : Cond.methodLink R_M 74 y_M_back ∈ gw_tbl := wd_in 299 rfl rfl
theorem ml_L_30 : Cond.methodLink R_law 30 y_M_get ∈ gw_tbl := wd_in 303 rfl rfl
theorem ml_L_35 : Cond.methodLink R_law 35 y_M_has ∈ gw_tbl := wd_in 307 rfl rfl
theorem ml_L_39 : Cond.methodLink R_law 39 y_M_remove ∈ gw_tbl := wd_in 311 rfl rfl
theorem ml_M_77 : Cond.methodLink R_M 77 y_M_cut ∈ gw_tbl := wd_in 315 rfl rfl
theorem ml_M_81 : Cond.methodLink R_M 81 y_M_toEnd ∈ gw_tbl := wd_in 319 rfl rfl
theorem ml_L_44 : Cond.methodLink R_law 44 y_M_size ∈ gw_tbl := wd_in 323 rfl rfl
theorem ml_L_52 : Cond.methodLink R_law 52 y_M_level ∈ gw_tbl := wd_in 327 rfl rfl
theorem ml_L_56 : Cond.methodLink R_law 56 y_M_pointer ∈ gw_tbl := wd_in 331 rfl rfl
theorem ml_L_64 : Cond.methodLink R_law 64 y_M_pages ∈ gw_tbl := wd_in 335 rfl rfl
theorem ml_L_68 : Cond.methodLink R_law 68 y_M_free ∈ gw_tbl := wd_in 339 rfl rfl
theorem ml_L_72 : Cond.methodLink R_law 72 y_M_key ∈ gw_tbl := wd_in 343 rfl rfl
theorem ml_L_76 : Cond.methodLink R_law 76 y_M_clear ∈ gw_tbl := wd_in 347 rfl rfl
end
section
/-! rows of the two classes: a field read, a field written, an element read, an element written (printed by gen/base.py) -/
section ROWS
variable {p : Program} {l : Launch} {e : Env} {R : Room} {s : State} {m : MethodId} {args : Array Value} {below : List Frame} {meth : Method} {c : Code} {H : Heap} {locs : List Loc} {cells slots : Nat} {Q : State → Prop}
variable {cc : ByteArray} {nL pc : Nat} {ls : Array Slot} {rest : List Value} {D : va_G} {cA : ClassId} {A : Nat → Prop} {ad : Nat → Nat}
section X
variable {k : KX} {u : StX}
theorem xget_base (C : wC p s m args c meth cc nL R_X D cA A) (G : wG D A s (wX cA ad k u) H locs) (hdg : decode cc pc = .ok (.getfield 23, 3)) (kk : W p l e R s m args below meth c H locs cells slots Q (F0 m (pc + 3) ls (.int (xBase k) :: rest))) : W p l e R s m args below meth c H locs cells slots Q (F0 m pc ls (.ref (ad 0) :: rest)) :=
  va_get (ref := R_X) (ci := 0) (C := R_X) (T := F_X) (N := 18) C.1 C.2.1 C.2.2.2.2.1 i_X C.2.2.2.1 C.2.2.2.2.2.1 G.1 0 rfl rfl 0 (by decide) (C.2.2.2.2.1 _ fl_X_23) (fun _ h9 => h9) rfl hdg kk
theorem xget_cap (C : wC p s m args c meth cc nL R_X D cA A) (G : wG D A s (wX cA ad k u) H locs) (hdg : decode cc pc = .ok (.getfield 27, 3)) (kk : W p l e R s m args below meth c H locs cells slots Q (F0 m (pc + 3) ls (.int (xCap k) :: rest))) : W p l e R s m args below meth c H locs cells slots Q (F0 m pc ls (.ref (ad 0) :: rest)) :=
  va_get (ref := R_X) (ci := 0) (C := R_X) (T := F_X) (N := 18) C.1 C.2.1 C.2.2.2.2.1 i_X C.2.2.2.1 C.2.2.2.2.2.1 G.1 0 rfl rfl 1 (by decide) (C.2.2.2.2.1 _ fl_X_27) (fun _ h9 => h9) rfl hdg kk
theorem xget_most (C : wC p s m args c meth cc nL R_X D cA A) (G : wG D A s (wX cA ad k u) H locs) (hdg : decode cc pc = .ok (.getfield 30, 3)) (kk : W p l e R s m args below meth c H locs cells slots Q (F0 m (pc + 3) ls (.int (xMost k) :: rest))) : W p l e R s m args below meth c H locs cells slots Q (F0 m pc ls (.ref (ad 0) :: rest)) :=
  va_get (ref := R_X) (ci := 0) (C := R_X) (T := F_X) (N := 18) C.1 C.2.1 C.2.2.2.2.1 i_X C.2.2.2.1 C.2.2.2.2.2.1 G.1 0 rfl rfl 2 (by decide) (C.2.2.2.2.1 _ fl_X_30) (fun _ h9 => h9) rfl hdg kk
theorem xget_mostBuckets (C : wC p s m args c meth cc nL R_X D cA A) (G : wG D A s (wX cA ad k u) H locs) (hdg : decode cc pc = .ok (.getfield 33, 3)) (kk : W p l e R s m args below meth c H locs cells slots Q (F0 m (pc + 3) ls (.int (xMostBuckets k) :: rest))) : W p l e R s m args below meth c H locs cells slots Q (F0 m pc ls (.ref (ad 0) :: rest)) :=
  va_get (ref := R_X) (ci := 0) (C := R_X) (T := F_X) (N := 18) C.1 C.2.1 C.2.2.2.2.1 i_X C.2.2.2.1 C.2.2.2.2.2.1 G.1 0 rfl rfl 3 (by decide) (C.2.2.2.2.1 _ fl_X_33) (fun _ h9 => h9) rfl hdg kk
theorem xget_keys (C : wC p s m args c meth cc nL R_X D cA A) (G : wG D A s (wX cA ad k u) H locs) (hdg : decode cc pc = .ok (.getfield 36, 3)) (kk : W p l e R s m args below meth c H locs cells slots Q (F0 m (pc + 3) ls (.ref (ad 1) :: rest))) : W p l e R s m args below meth c H locs cells slots Q (F0 m pc ls (.ref (ad 0) :: rest)) :=
  va_get (ref := R_X) (ci := 0) (C := R_X) (T := F_X) (N := 18) C.1 C.2.1 C.2.2.2.2.1 i_X C.2.2.2.1 C.2.2.2.2.2.1 G.1 0 rfl rfl 4 (by decide) (C.2.2.2.2.1 _ fl_X_36) (fun _ h9 => h9) rfl hdg kk
theorem xget_values (C : wC p s m args c meth cc nL R_X D cA A) (G : wG D A s (wX cA ad k u) H locs) (hdg : decode cc pc = .ok (.getfield 39, 3)) (kk : W p l e R s m args below meth c H locs cells slots Q (F0 m (pc + 3) ls (.ref (ad 2) :: rest))) : W p l e R s m args below meth c H locs cells slots Q (F0 m pc ls (.ref (ad 0) :: rest)) :=
  va_get (ref := R_X) (ci := 0) (C := R_X) (T := F_X) (N := 18) C.1 C.2.1 C.2.2.2.2.1 i_X C.2.2.2.1 C.2.2.2.2.2.1 G.1 0 rfl rfl 5 (by decide) (C.2.2.2.2.1 _ fl_X_39) (fun _ h9 => h9) rfl hdg kk
theorem xget_next (C : wC p s m args c meth cc nL R_X D cA A) (G : wG D A s (wX cA ad k u) H locs) (hdg : decode cc pc = .ok (.getfield 42, 3)) (kk : W p l e R s m args below meth c H locs cells slots Q (F0 m (pc + 3) ls (.ref (ad 3) :: rest))) : W p l e R s m args below meth c H locs cells slots Q (F0 m pc ls (.ref (ad 0) :: rest)) :=
  va_get (ref := R_X) (ci := 0) (C := R_X) (T := F_X) (N := 18) C.1 C.2.1 C.2.2.2.2.1 i_X C.2.2.2.1 C.2.2.2.2.2.1 G.1 0 rfl rfl 6 (by decide) (C.2.2.2.2.1 _ fl_X_42) (fun _ h9 => h9) rfl hdg kk
theorem xget_first (C : wC p s m args c meth cc nL R_X D cA A) (G : wG D A s (wX cA ad k u) H locs) (hdg : decode cc pc = .ok (.getfield 7, 3)) (kk : W p l e R s m args below meth c H locs cells slots Q (F0 m (pc + 3) ls (.ref (ad 4) :: rest))) : W p l e R s m args below meth c H locs cells slots Q (F0 m pc ls (.ref (ad 0) :: rest)) :=
  va_get (ref := R_X) (ci := 0) (C := R_X) (T := F_X) (N := 18) C.1 C.2.1 C.2.2.2.2.1 i_X C.2.2.2.1 C.2.2.2.2.2.1 G.1 0 rfl rfl 7 (by decide) (C.2.2.2.2.1 _ fl_X_7) (fun _ h9 => h9) rfl hdg kk
theorem xget_last (C : wC p s m args c meth cc nL R_X D cA A) (G : wG D A s (wX cA ad k u) H locs) (hdg : decode cc pc = .ok (.getfield 13, 3)) (kk : W p l e R s m args below meth c H locs cells slots Q (F0 m (pc + 3) ls (.ref (ad 5) :: rest))) : W p l e R s m args below meth c H locs cells slots Q (F0 m pc ls (.ref (ad 0) :: rest)) :=
  va_get (ref := R_X) (ci := 0) (C := R_X) (T := F_X) (N := 18) C.1 C.2.1 C.2.2.2.2.1 i_X C.2.2.2.1 C.2.2.2.2.2.1 G.1 0 rfl rfl 8 (by decide) (C.2.2.2.2.1 _ fl_X_13) (fun _ h9 => h9) rfl hdg kk
theorem xget_counts (C : wC p s m args c meth cc nL R_X D cA A) (G : wG D A s (wX cA ad k u) H locs) (hdg : decode cc pc = .ok (.getfield 16, 3)) (kk : W p l e R s m args below meth c H locs cells slots Q (F0 m (pc + 3) ls (.ref (ad 6) :: rest))) : W p l e R s m args below meth c H locs cells slots Q (F0 m pc ls (.ref (ad 0) :: rest)) :=
  va_get (ref := R_X) (ci := 0) (C := R_X) (T := F_X) (N := 18) C.1 C.2.1 C.2.2.2.2.1 i_X C.2.2.2.1 C.2.2.2.2.2.1 G.1 0 rfl rfl 9 (by decide) (C.2.2.2.2.1 _ fl_X_16) (fun _ h9 => h9) rfl hdg kk
theorem xget_takenKeys (C : wC p s m args c meth cc nL R_X D cA A) (G : wG D A s (wX cA ad k u) H locs) (hdg : decode cc pc = .ok (.getfield 45, 3)) (kk : W p l e R s m args below meth c H locs cells slots Q (F0 m (pc + 3) ls (.ref (ad 7) :: rest))) : W p l e R s m args below meth c H locs cells slots Q (F0 m pc ls (.ref (ad 0) :: rest)) :=
  va_get (ref := R_X) (ci := 0) (C := R_X) (T := F_X) (N := 18) C.1 C.2.1 C.2.2.2.2.1 i_X C.2.2.2.1 C.2.2.2.2.2.1 G.1 0 rfl rfl 10 (by decide) (C.2.2.2.2.1 _ fl_X_45) (fun _ h9 => h9) rfl hdg kk
theorem xget_takenValues (C : wC p s m args c meth cc nL R_X D cA A) (G : wG D A s (wX cA ad k u) H locs) (hdg : decode cc pc = .ok (.getfield 48, 3)) (kk : W p l e R s m args below meth c H locs cells slots Q (F0 m (pc + 3) ls (.ref (ad 8) :: rest))) : W p l e R s m args below meth c H locs cells slots Q (F0 m pc ls (.ref (ad 0) :: rest)) :=
  va_get (ref := R_X) (ci := 0) (C := R_X) (T := F_X) (N := 18) C.1 C.2.1 C.2.2.2.2.1 i_X C.2.2.2.1 C.2.2.2.2.2.1 G.1 0 rfl rfl 11 (by decide) (C.2.2.2.2.1 _ fl_X_48) (fun _ h9 => h9) rfl hdg kk
theorem xget_taken (C : wC p s m args c meth cc nL R_X D cA A) (G : wG D A s (wX cA ad k u) H locs) (hdg : decode cc pc = .ok (.getfield 84, 3)) (kk : W p l e R s m args below meth c H locs cells slots Q (F0 m (pc + 3) ls (.int (xTaken u) :: rest))) : W p l e R s m args below meth c H locs cells slots Q (F0 m pc ls (.ref (ad 0) :: rest)) :=
  va_get (ref := R_X) (ci := 0) (C := R_X) (T := F_X) (N := 18) C.1 C.2.1 C.2.2.2.2.1 i_X C.2.2.2.1 C.2.2.2.2.2.1 G.1 0 rfl rfl 12 (by decide) (C.2.2.2.2.1 _ fl_X_84) (fun _ h9 => h9) rfl hdg kk
theorem xput_taken (C : wC p s m args c meth cc nL R_X D cA A) (G : wG D A s (wX cA ad k u) H locs) {v : Int32} (hdg : decode cc pc = .ok (.putfield 84, 3)) (kk : ∀ (H1 : Heap) (locs1 : List Loc), wG D A s (wX cA ad k (xSetTaken v u)) H1 locs1 → W p l e R s m args below meth c H1 locs1 cells slots Q (F0 m (pc + 3) ls rest)) : W p l e R s m args below meth c H locs cells slots Q (F0 m pc ls (.int v :: .ref (ad 0) :: rest)) :=
  va_put (ref := R_X) (ci := 0) (ty := .int) (C := R_X) (T := F_X) (N := 18) C.1 C.2.1 C.2.2.2.2.1 i_X t_X t_X_ok n_X C.2.2.2.1 C.2.2.2.2.2.1 G.1 G.2.1 G.2.2 0 rfl rfl 12 (by decide) (C.2.2.2.2.1 _ fl_X_84) (fun _ h9 => h9) rfl (by decide +kernel) rfl rfl (Nat.le_of_ble_eq_true rfl) hdg (fun H1 locs1 hP hD hS => kk H1 locs1 ⟨hP, hD, hS⟩)
theorem xget_freePage (C : wC p s m args c meth cc nL R_X D cA A) (G : wG D A s (wX cA ad k u) H locs) (hdg : decode cc pc = .ok (.getfield 54, 3)) (kk : W p l e R s m args below meth c H locs cells slots Q (F0 m (pc + 3) ls (.int (xFreePage u) :: rest))) : W p l e R s m args below meth c H locs cells slots Q (F0 m pc ls (.ref (ad 0) :: rest)) :=
  va_get (ref := R_X) (ci := 0) (C := R_X) (T := F_X) (N := 18) C.1 C.2.1 C.2.2.2.2.1 i_X C.2.2.2.1 C.2.2.2.2.2.1 G.1 0 rfl rfl 13 (by decide) (C.2.2.2.2.1 _ fl_X_54) (fun _ h9 => h9) rfl hdg kk
theorem xput_freePage (C : wC p s m args c meth cc nL R_X D cA A) (G : wG D A s (wX cA ad k u) H locs) {v : Int32} (hdg : decode cc pc = .ok (.putfield 54, 3)) (kk : ∀ (H1 : Heap) (locs1 : List Loc), wG D A s (wX cA ad k (xSetFreePage v u)) H1 locs1 → W p l e R s m args below meth c H1 locs1 cells slots Q (F0 m (pc + 3) ls rest)) : W p l e R s m args below meth c H locs cells slots Q (F0 m pc ls (.int v :: .ref (ad 0) :: rest)) :=
  va_put (ref := R_X) (ci := 0) (ty := .int) (C := R_X) (T := F_X) (N := 18) C.1 C.2.1 C.2.2.2.2.1 i_X t_X t_X_ok n_X C.2.2.2.1 C.2.2.2.2.2.1 G.1 G.2.1 G.2.2 0 rfl rfl 13 (by decide) (C.2.2.2.2.1 _ fl_X_54) (fun _ h9 => h9) rfl (by decide +kernel) rfl rfl (Nat.le_of_ble_eq_true rfl) hdg (fun H1 locs1 hP hD hS => kk H1 locs1 ⟨hP, hD, hS⟩)
theorem xget_free (C : wC p s m args c meth cc nL R_X D cA A) (G : wG D A s (wX cA ad k u) H locs) (hdg : decode cc pc = .ok (.getfield 57, 3)) (kk : W p l e R s m args below meth c H locs cells slots Q (F0 m (pc + 3) ls (.int (xFree u) :: rest))) : W p l e R s m args below meth c H locs cells slots Q (F0 m pc ls (.ref (ad 0) :: rest)) :=
  va_get (ref := R_X) (ci := 0) (C := R_X) (T := F_X) (N := 18) C.1 C.2.1 C.2.2.2.2.1 i_X C.2.2.2.1 C.2.2.2.2.2.1 G.1 0 rfl rfl 14 (by decide) (C.2.2.2.2.1 _ fl_X_57) (fun _ h9 => h9) rfl hdg kk
theorem xput_free (C : wC p s m args c meth cc nL R_X D cA A) (G : wG D A s (wX cA ad k u) H locs) {v : Int32} (hdg : decode cc pc = .ok (.putfield 57, 3)) (kk : ∀ (H1 : Heap) (locs1 : List Loc), wG D A s (wX cA ad k (xSetFree v u)) H1 locs1 → W p l e R s m args below meth c H1 locs1 cells slots Q (F0 m (pc + 3) ls rest)) : W p l e R s m args below meth c H locs cells slots Q (F0 m pc ls (.int v :: .ref (ad 0) :: rest)) :=
  va_put (ref := R_X) (ci := 0) (ty := .int) (C := R_X) (T := F_X) (N := 18) C.1 C.2.1 C.2.2.2.2.1 i_X t_X t_X_ok n_X C.2.2.2.1 C.2.2.2.2.2.1 G.1 G.2.1 G.2.2 0 rfl rfl 14 (by decide) (C.2.2.2.2.1 _ fl_X_57) (fun _ h9 => h9) rfl (by decide +kernel) rfl rfl (Nat.le_of_ble_eq_true rfl) hdg (fun H1 locs1 hP hD hS => kk H1 locs1 ⟨hP, hD, hS⟩)
theorem xget_level (C : wC p s m args c meth cc nL R_X D cA A) (G : wG D A s (wX cA ad k u) H locs) (hdg : decode cc pc = .ok (.getfield 60, 3)) (kk : W p l e R s m args below meth c H locs cells slots Q (F0 m (pc + 3) ls (.int (xLevel u) :: rest))) : W p l e R s m args below meth c H locs cells slots Q (F0 m pc ls (.ref (ad 0) :: rest)) :=
  va_get (ref := R_X) (ci := 0) (C := R_X) (T := F_X) (N := 18) C.1 C.2.1 C.2.2.2.2.1 i_X C.2.2.2.1 C.2.2.2.2.2.1 G.1 0 rfl rfl 15 (by decide) (C.2.2.2.2.1 _ fl_X_60) (fun _ h9 => h9) rfl hdg kk
theorem xput_level (C : wC p s m args c meth cc nL R_X D cA A) (G : wG D A s (wX cA ad k u) H locs) {v : Int32} (hdg : decode cc pc = .ok (.putfield 60, 3)) (kk : ∀ (H1 : Heap) (locs1 : List Loc), wG D A s (wX cA ad k (xSetLevel v u)) H1 locs1 → W p l e R s m args below meth c H1 locs1 cells slots Q (F0 m (pc + 3) ls rest)) : W p l e R s m args below meth c H locs cells slots Q (F0 m pc ls (.int v :: .ref (ad 0) :: rest)) :=
  va_put (ref := R_X) (ci := 0) (ty := .int) (C := R_X) (T := F_X) (N := 18) C.1 C.2.1 C.2.2.2.2.1 i_X t_X t_X_ok n_X C.2.2.2.1 C.2.2.2.2.2.1 G.1 G.2.1 G.2.2 0 rfl rfl 15 (by decide) (C.2.2.2.2.1 _ fl_X_60) (fun _ h9 => h9) rfl (by decide +kernel) rfl rfl (Nat.le_of_ble_eq_true rfl) hdg (fun H1 locs1 hP hD hS => kk H1 locs1 ⟨hP, hD, hS⟩)
theorem xget_pointer (C : wC p s m args c meth cc nL R_X D cA A) (G : wG D A s (wX cA ad k u) H locs) (hdg : decode cc pc = .ok (.getfield 63, 3)) (kk : W p l e R s m args below meth c H locs cells slots Q (F0 m (pc + 3) ls (.int (xPointer u) :: rest))) : W p l e R s m args below meth c H locs cells slots Q (F0 m pc ls (.ref (ad 0) :: rest)) :=
  va_get (ref := R_X) (ci := 0) (C := R_X) (T := F_X) (N := 18) C.1 C.2.1 C.2.2.2.2.1 i_X C.2.2.2.1 C.2.2.2.2.2.1 G.1 0 rfl rfl 16 (by decide) (C.2.2.2.2.1 _ fl_X_63) (fun _ h9 => h9) rfl hdg kk
theorem xput_pointer (C : wC p s m args c meth cc nL R_X D cA A) (G : wG D A s (wX cA ad k u) H locs) {v : Int32} (hdg : decode cc pc = .ok (.putfield 63, 3)) (kk : ∀ (H1 : Heap) (locs1 : List Loc), wG D A s (wX cA ad k (xSetPointer v u)) H1 locs1 → W p l e R s m args below meth c H1 locs1 cells slots Q (F0 m (pc + 3) ls rest)) : W p l e R s m args below meth c H locs cells slots Q (F0 m pc ls (.int v :: .ref (ad 0) :: rest)) :=
  va_put (ref := R_X) (ci := 0) (ty := .int) (C := R_X) (T := F_X) (N := 18) C.1 C.2.1 C.2.2.2.2.1 i_X t_X t_X_ok n_X C.2.2.2.1 C.2.2.2.2.2.1 G.1 G.2.1 G.2.2 0 rfl rfl 16 (by decide) (C.2.2.2.2.1 _ fl_X_63) (fun _ h9 => h9) rfl (by decide +kernel) rfl rfl (Nat.le_of_ble_eq_true rfl) hdg (fun H1 locs1 hP hD hS => kk H1 locs1 ⟨hP, hD, hS⟩)
theorem xget_size (C : wC p s m args c meth cc nL R_X D cA A) (G : wG D A s (wX cA ad k u) H locs) (hdg : decode cc pc = .ok (.getfield 66, 3)) (kk : W p l e R s m args below meth c H locs cells slots Q (F0 m (pc + 3) ls (.int (xSize u) :: rest))) : W p l e R s m args below meth c H locs cells slots Q (F0 m pc ls (.ref (ad 0) :: rest)) :=
  va_get (ref := R_X) (ci := 0) (C := R_X) (T := F_X) (N := 18) C.1 C.2.1 C.2.2.2.2.1 i_X C.2.2.2.1 C.2.2.2.2.2.1 G.1 0 rfl rfl 17 (by decide) (C.2.2.2.2.1 _ fl_X_66) (fun _ h9 => h9) rfl hdg kk
theorem xput_size (C : wC p s m args c meth cc nL R_X D cA A) (G : wG D A s (wX cA ad k u) H locs) {v : Int32} (hdg : decode cc pc = .ok (.putfield 66, 3)) (kk : ∀ (H1 : Heap) (locs1 : List Loc), wG D A s (wX cA ad k (xSetSize v u)) H1 locs1 → W p l e R s m args below meth c H1 locs1 cells slots Q (F0 m (pc + 3) ls rest)) : W p l e R s m args below meth c H locs cells slots Q (F0 m pc ls (.int v :: .ref (ad 0) :: rest)) :=
  va_put (ref := R_X) (ci := 0) (ty := .int) (C := R_X) (T := F_X) (N := 18) C.1 C.2.1 C.2.2.2.2.1 i_X t_X t_X_ok n_X C.2.2.2.1 C.2.2.2.2.2.1 G.1 G.2.1 G.2.2 0 rfl rfl 17 (by decide) (C.2.2.2.2.1 _ fl_X_66) (fun _ h9 => h9) rfl (by decide +kernel) rfl rfl (Nat.le_of_ble_eq_true rfl) hdg (fun H1 locs1 hP hD hS => kk H1 locs1 ⟨hP, hD, hS⟩)
theorem xald_keys (hk : kOK k) (C : wC p s m args c meth cc nL R_X D cA A) (G : wG D A s (wX cA ad k u) H locs) {i : Int32} {j : Nat} (hi : i = nI j) (hj : j < (xN1 k)) (hdg : decode cc pc = .ok (.iaload, 1)) (kk : W p l e R s m args below meth c H locs cells slots Q (F0 m (pc + 1) ls (.int (xKeys u j) :: rest))) : W p l e R s m args below meth c H locs cells slots Q (F0 m pc ls (.int i :: .ref (ad 1) :: rest)) := by
  subst hi
  refine va_iald C.1 C.2.1 C.2.2.2.2.2.1 G.1 1 0 rfl rfl (vp_in_nI hj hk.1) hdg ?_
  rw [nI_clamp (Nat.lt_trans hj hk.1)]
  exact kk
theorem xast_keys (hk : kOK k) (C : wC p s m args c meth cc nL R_X D cA A) (G : wG D A s (wX cA ad k u) H locs) {i x : Int32} {j : Nat} (hi : i = nI j) (hj : j < (xN1 k)) (hdg : decode cc pc = .ok (.iastore, 1)) (kk : ∀ (H1 : Heap) (locs1 : List Loc), wG D A s (wX cA ad k (xSetKeys (upd (xKeys u) j x) u)) H1 locs1 → W p l e R s m args below meth c H1 locs1 cells slots Q (F0 m (pc + 1) ls rest)) : W p l e R s m args below meth c H locs cells slots Q (F0 m pc ls (.int x :: .int i :: .ref (ad 1) :: rest)) := by
  subst hi
  refine va_iast C.1 C.2.1 C.2.2.2.2.2.1 G.1 G.2.1 G.2.2 1 0 rfl rfl (vp_in_nI hj hk.1) hdg (fun H1 locs1 hP hD hS => ?_)
  rw [nI_clamp (Nat.lt_trans hj hk.1)] at hP hD
  exact kk H1 locs1 ⟨hP, hD, hS⟩
theorem xald_values (hk : kOK k) (C : wC p s m args c meth cc nL R_X D cA A) (G : wG D A s (wX cA ad k u) H locs) {i : Int32} {j : Nat} (hi : i = nI j) (hj : j < (xN1 k)) (hdg : decode cc pc = .ok (.iaload, 1)) (kk : W p l e R s m args below meth c H locs cells slots Q (F0 m (pc + 1) ls (.int (xValues u j) :: rest))) : W p l e R s m args below meth c H locs cells slots Q (F0 m pc ls (.int i :: .ref (ad 2) :: rest)) := by
  subst hi
  refine va_iald C.1 C.2.1 C.2.2.2.2.2.1 G.1 2 0 rfl rfl (vp_in_nI hj hk.1) hdg ?_
  rw [nI_clamp (Nat.lt_trans hj hk.1)]
  exact kk
theorem xast_values (hk : kOK k) (C : wC p s m args c meth cc nL R_X D cA A) (G : wG D A s (wX cA ad k u) H locs) {i x : Int32} {j : Nat} (hi : i = nI j) (hj : j < (xN1 k)) (hdg : decode cc pc = .ok (.iastore, 1)) (kk : ∀ (H1 : Heap) (locs1 : List Loc), wG D A s (wX cA ad k (xSetValues (upd (xValues u) j x) u)) H1 locs1 → W p l e R s m args below meth c H1 locs1 cells slots Q (F0 m (pc + 1) ls rest)) : W p l e R s m args below meth c H locs cells slots Q (F0 m pc ls (.int x :: .int i :: .ref (ad 2) :: rest)) := by
  subst hi
  refine va_iast C.1 C.2.1 C.2.2.2.2.2.1 G.1 G.2.1 G.2.2 2 0 rfl rfl (vp_in_nI hj hk.1) hdg (fun H1 locs1 hP hD hS => ?_)
  rw [nI_clamp (Nat.lt_trans hj hk.1)] at hP hD
  exact kk H1 locs1 ⟨hP, hD, hS⟩
theorem xald_next (hk : kOK k) (C : wC p s m args c meth cc nL R_X D cA A) (G : wG D A s (wX cA ad k u) H locs) {i : Int32} {j : Nat} (hi : i = nI j) (hj : j < (xN2 k)) (hdg : decode cc pc = .ok (.iaload, 1)) (kk : W p l e R s m args below meth c H locs cells slots Q (F0 m (pc + 1) ls (.int (xNext u j) :: rest))) : W p l e R s m args below meth c H locs cells slots Q (F0 m pc ls (.int i :: .ref (ad 3) :: rest)) := by
  subst hi
  refine va_iald C.1 C.2.1 C.2.2.2.2.2.1 G.1 3 0 rfl rfl (vp_in_nI hj hk.2) hdg ?_
  rw [nI_clamp (Nat.lt_trans hj hk.2)]
  exact kk
theorem xast_next (hk : kOK k) (C : wC p s m args c meth cc nL R_X D cA A) (G : wG D A s (wX cA ad k u) H locs) {i x : Int32} {j : Nat} (hi : i = nI j) (hj : j < (xN2 k)) (hdg : decode cc pc = .ok (.iastore, 1)) (kk : ∀ (H1 : Heap) (locs1 : List Loc), wG D A s (wX cA ad k (xSetNext (upd (xNext u) j x) u)) H1 locs1 → W p l e R s m args below meth c H1 locs1 cells slots Q (F0 m (pc + 1) ls rest)) : W p l e R s m args below meth c H locs cells slots Q (F0 m pc ls (.int x :: .int i :: .ref (ad 3) :: rest)) := by
  subst hi
  refine va_iast C.1 C.2.1 C.2.2.2.2.2.1 G.1 G.2.1 G.2.2 3 0 rfl rfl (vp_in_nI hj hk.2) hdg (fun H1 locs1 hP hD hS => ?_)
  rw [nI_clamp (Nat.lt_trans hj hk.2)] at hP hD
  exact kk H1 locs1 ⟨hP, hD, hS⟩
theorem xald_first (hk : kOK k) (C : wC p s m args c meth cc nL R_X D cA A) (G : wG D A s (wX cA ad k u) H locs) {i : Int32} {j : Nat} (hi : i = nI j) (hj : j < 200) (hdg : decode cc pc = .ok (.iaload, 1)) (kk : W p l e R s m args below meth c H locs cells slots Q (F0 m (pc + 1) ls (.int (xFirst u j) :: rest))) : W p l e R s m args below meth c H locs cells slots Q (F0 m pc ls (.int i :: .ref (ad 4) :: rest)) := by
  subst hi
  refine va_iald C.1 C.2.1 C.2.2.2.2.2.1 G.1 4 0 rfl rfl (vp_in_nI hj (by decide)) hdg ?_
  rw [nI_clamp (Nat.lt_trans hj (by decide))]
  exact kk
theorem xast_first (hk : kOK k) (C : wC p s m args c meth cc nL R_X D cA A) (G : wG D A s (wX cA ad k u) H locs) {i x : Int32} {j : Nat} (hi : i = nI j) (hj : j < 200) (hdg : decode cc pc = .ok (.iastore, 1)) (kk : ∀ (H1 : Heap) (locs1 : List Loc), wG D A s (wX cA ad k (xSetFirst (upd (xFirst u) j x) u)) H1 locs1 → W p l e R s m args below meth c H1 locs1 cells slots Q (F0 m (pc + 1) ls rest)) : W p l e R s m args below meth c H locs cells slots Q (F0 m pc ls (.int x :: .int i :: .ref (ad 4) :: rest)) := by
  subst hi
  refine va_iast C.1 C.2.1 C.2.2.2.2.2.1 G.1 G.2.1 G.2.2 4 0 rfl rfl (vp_in_nI hj (by decide)) hdg (fun H1 locs1 hP hD hS => ?_)
  rw [nI_clamp (Nat.lt_trans hj (by decide))] at hP hD
  exact kk H1 locs1 ⟨hP, hD, hS⟩
theorem xald_last (hk : kOK k) (C : wC p s m args c meth cc nL R_X D cA A) (G : wG D A s (wX cA ad k u) H locs) {i : Int32} {j : Nat} (hi : i = nI j) (hj : j < 200) (hdg : decode cc pc = .ok (.iaload, 1)) (kk : W p l e R s m args below meth c H locs cells slots Q (F0 m (pc + 1) ls (.int (xLast u j) :: rest))) : W p l e R s m args below meth c H locs cells slots Q (F0 m pc ls (.int i :: .ref (ad 5) :: rest)) := by
  subst hi
  refine va_iald C.1 C.2.1 C.2.2.2.2.2.1 G.1 5 0 rfl rfl (vp_in_nI hj (by decide)) hdg ?_
  rw [nI_clamp (Nat.lt_trans hj (by decide))]
  exact kk
theorem xast_last (hk : kOK k) (C : wC p s m args c meth cc nL R_X D cA A) (G : wG D A s (wX cA ad k u) H locs) {i x : Int32} {j : Nat} (hi : i = nI j) (hj : j < 200) (hdg : decode cc pc = .ok (.iastore, 1)) (kk : ∀ (H1 : Heap) (locs1 : List Loc), wG D A s (wX cA ad k (xSetLast (upd (xLast u) j x) u)) H1 locs1 → W p l e R s m args below meth c H1 locs1 cells slots Q (F0 m (pc + 1) ls rest)) : W p l e R s m args below meth c H locs cells slots Q (F0 m pc ls (.int x :: .int i :: .ref (ad 5) :: rest)) := by
  subst hi
  refine va_iast C.1 C.2.1 C.2.2.2.2.2.1 G.1 G.2.1 G.2.2 5 0 rfl rfl (vp_in_nI hj (by decide)) hdg (fun H1 locs1 hP hD hS => ?_)
  rw [nI_clamp (Nat.lt_trans hj (by decide))] at hP hD
  exact kk H1 locs1 ⟨hP, hD, hS⟩
theorem xald_counts (hk : kOK k) (C : wC p s m args c meth cc nL R_X D cA A) (G : wG D A s (wX cA ad k u) H locs) {i : Int32} {j : Nat} (hi : i = nI j) (hj : j < 200) (hdg : decode cc pc = .ok (.iaload, 1)) (kk : W p l e R s m args below meth c H locs cells slots Q (F0 m (pc + 1) ls (.int (xCounts u j) :: rest))) : W p l e R s m args below meth c H locs cells slots Q (F0 m pc ls (.int i :: .ref (ad 6) :: rest)) := by
  subst hi
  refine va_iald C.1 C.2.1 C.2.2.2.2.2.1 G.1 6 0 rfl rfl (vp_in_nI hj (by decide)) hdg ?_
  rw [nI_clamp (Nat.lt_trans hj (by decide))]
  exact kk
theorem xast_counts (hk : kOK k) (C : wC p s m args c meth cc nL R_X D cA A) (G : wG D A s (wX cA ad k u) H locs) {i x : Int32} {j : Nat} (hi : i = nI j) (hj : j < 200) (hdg : decode cc pc = .ok (.iastore, 1)) (kk : ∀ (H1 : Heap) (locs1 : List Loc), wG D A s (wX cA ad k (xSetCounts (upd (xCounts u) j x) u)) H1 locs1 → W p l e R s m args below meth c H1 locs1 cells slots Q (F0 m (pc + 1) ls rest)) : W p l e R s m args below meth c H locs cells slots Q (F0 m pc ls (.int x :: .int i :: .ref (ad 6) :: rest)) := by
  subst hi
  refine va_iast C.1 C.2.1 C.2.2.2.2.2.1 G.1 G.2.1 G.2.2 6 0 rfl rfl (vp_in_nI hj (by decide)) hdg (fun H1 locs1 hP hD hS => ?_)
  rw [nI_clamp (Nat.lt_trans hj (by decide))] at hP hD
  exact kk H1 locs1 ⟨hP, hD, hS⟩
theorem xald_takenKeys (hk : kOK k) (C : wC p s m args c meth cc nL R_X D cA A) (G : wG D A s (wX cA ad k u) H locs) {i : Int32} {j : Nat} (hi : i = nI j) (hj : j < (xN1 k)) (hdg : decode cc pc = .ok (.iaload, 1)) (kk : W p l e R s m args below meth c H locs cells slots Q (F0 m (pc + 1) ls (.int (xTakenKeys u j) :: rest))) : W p l e R s m args below meth c H locs cells slots Q (F0 m pc ls (.int i :: .ref (ad 7) :: rest)) := by
  subst hi
  refine va_iald C.1 C.2.1 C.2.2.2.2.2.1 G.1 7 0 rfl rfl (vp_in_nI hj hk.1) hdg ?_
  rw [nI_clamp (Nat.lt_trans hj hk.1)]
  exact kk
theorem xast_takenKeys (hk : kOK k) (C : wC p s m args c meth cc nL R_X D cA A) (G : wG D A s (wX cA ad k u) H locs) {i x : Int32} {j : Nat} (hi : i = nI j) (hj : j < (xN1 k)) (hdg : decode cc pc = .ok (.iastore, 1)) (kk : ∀ (H1 : Heap) (locs1 : List Loc), wG D A s (wX cA ad k (xSetTakenKeys (upd (xTakenKeys u) j x) u)) H1 locs1 → W p l e R s m args below meth c H1 locs1 cells slots Q (F0 m (pc + 1) ls rest)) : W p l e R s m args below meth c H locs cells slots Q (F0 m pc ls (.int x :: .int i :: .ref (ad 7) :: rest)) := by
  subst hi
  refine va_iast C.1 C.2.1 C.2.2.2.2.2.1 G.1 G.2.1 G.2.2 7 0 rfl rfl (vp_in_nI hj hk.1) hdg (fun H1 locs1 hP hD hS => ?_)
  rw [nI_clamp (Nat.lt_trans hj hk.1)] at hP hD
  exact kk H1 locs1 ⟨hP, hD, hS⟩
theorem xald_takenValues (hk : kOK k) (C : wC p s m args c meth cc nL R_X D cA A) (G : wG D A s (wX cA ad k u) H locs) {i : Int32} {j : Nat} (hi : i = nI j) (hj : j < (xN1 k)) (hdg : decode cc pc = .ok (.iaload, 1)) (kk : W p l e R s m args below meth c H locs cells slots Q (F0 m (pc + 1) ls (.int (xTakenValues u j) :: rest))) : W p l e R s m args below meth c H locs cells slots Q (F0 m pc ls (.int i :: .ref (ad 8) :: rest)) := by
  subst hi
  refine va_iald C.1 C.2.1 C.2.2.2.2.2.1 G.1 8 0 rfl rfl (vp_in_nI hj hk.1) hdg ?_
  rw [nI_clamp (Nat.lt_trans hj hk.1)]
  exact kk
theorem xast_takenValues (hk : kOK k) (C : wC p s m args c meth cc nL R_X D cA A) (G : wG D A s (wX cA ad k u) H locs) {i x : Int32} {j : Nat} (hi : i = nI j) (hj : j < (xN1 k)) (hdg : decode cc pc = .ok (.iastore, 1)) (kk : ∀ (H1 : Heap) (locs1 : List Loc), wG D A s (wX cA ad k (xSetTakenValues (upd (xTakenValues u) j x) u)) H1 locs1 → W p l e R s m args below meth c H1 locs1 cells slots Q (F0 m (pc + 1) ls rest)) : W p l e R s m args below meth c H locs cells slots Q (F0 m pc ls (.int x :: .int i :: .ref (ad 8) :: rest)) := by
  subst hi
  refine va_iast C.1 C.2.1 C.2.2.2.2.2.1 G.1 G.2.1 G.2.2 8 0 rfl rfl (vp_in_nI hj hk.1) hdg (fun H1 locs1 hP hD hS => ?_)
  rw [nI_clamp (Nat.lt_trans hj hk.1)] at hP hD
  exact kk H1 locs1 ⟨hP, hD, hS⟩
end X
section M
variable {k : KM} {u : StM}
theorem mget_base (C : wC p s m args c meth cc nL R_M D cA A) (G : wG D A s (wM cA ad k u) H locs) (hdg : decode cc pc = .ok (.getfield 22, 3)) (kk : W p l e R s m args below meth c H locs cells slots Q (F0 m (pc + 3) ls (.int (mBase k) :: rest))) : W p l e R s m args below meth c H locs cells slots Q (F0 m pc ls (.ref (ad 0) :: rest)) :=
  va_get (ref := R_M) (ci := 1) (C := R_M) (T := F_M) (N := 11) C.1 C.2.1 C.2.2.2.2.1 i_M C.2.2.2.1 C.2.2.2.2.2.1 G.1 0 rfl rfl 0 (by decide) (C.2.2.2.2.1 _ fl_M_22) (fun _ h9 => h9) rfl hdg kk
theorem mget_cap (C : wC p s m args c meth cc nL R_M D cA A) (G : wG D A s (wM cA ad k u) H locs) (hdg : decode cc pc = .ok (.getfield 26, 3)) (kk : W p l e R s m args below meth c H locs cells slots Q (F0 m (pc + 3) ls (.int (mCap k) :: rest))) : W p l e R s m args below meth c H locs cells slots Q (F0 m pc ls (.ref (ad 0) :: rest)) :=
  va_get (ref := R_M) (ci := 1) (C := R_M) (T := F_M) (N := 11) C.1 C.2.1 C.2.2.2.2.1 i_M C.2.2.2.1 C.2.2.2.2.2.1 G.1 0 rfl rfl 1 (by decide) (C.2.2.2.2.1 _ fl_M_26) (fun _ h9 => h9) rfl hdg kk
theorem mget_most (C : wC p s m args c meth cc nL R_M D cA A) (G : wG D A s (wM cA ad k u) H locs) (hdg : decode cc pc = .ok (.getfield 29, 3)) (kk : W p l e R s m args below meth c H locs cells slots Q (F0 m (pc + 3) ls (.int (mMost k) :: rest))) : W p l e R s m args below meth c H locs cells slots Q (F0 m pc ls (.ref (ad 0) :: rest)) :=
  va_get (ref := R_M) (ci := 1) (C := R_M) (T := F_M) (N := 11) C.1 C.2.1 C.2.2.2.2.1 i_M C.2.2.2.1 C.2.2.2.2.2.1 G.1 0 rfl rfl 2 (by decide) (C.2.2.2.2.1 _ fl_M_29) (fun _ h9 => h9) rfl hdg kk
theorem mget_mostBuckets (C : wC p s m args c meth cc nL R_M D cA A) (G : wG D A s (wM cA ad k u) H locs) (hdg : decode cc pc = .ok (.getfield 32, 3)) (kk : W p l e R s m args below meth c H locs cells slots Q (F0 m (pc + 3) ls (.int (mMostBuckets k) :: rest))) : W p l e R s m args below meth c H locs cells slots Q (F0 m pc ls (.ref (ad 0) :: rest)) :=
  va_get (ref := R_M) (ci := 1) (C := R_M) (T := F_M) (N := 11) C.1 C.2.1 C.2.2.2.2.1 i_M C.2.2.2.1 C.2.2.2.2.2.1 G.1 0 rfl rfl 3 (by decide) (C.2.2.2.2.1 _ fl_M_32) (fun _ h9 => h9) rfl hdg kk
theorem mget_size (C : wC p s m args c meth cc nL R_M D cA A) (G : wG D A s (wM cA ad k u) H locs) (hdg : decode cc pc = .ok (.getfield 46, 3)) (kk : W p l e R s m args below meth c H locs cells slots Q (F0 m (pc + 3) ls (.int (mSize u) :: rest))) : W p l e R s m args below meth c H locs cells slots Q (F0 m pc ls (.ref (ad 0) :: rest)) :=
  va_get (ref := R_M) (ci := 1) (C := R_M) (T := F_M) (N := 11) C.1 C.2.1 C.2.2.2.2.1 i_M C.2.2.2.1 C.2.2.2.2.2.1 G.1 0 rfl rfl 4 (by decide) (C.2.2.2.2.1 _ fl_M_46) (fun _ h9 => h9) rfl hdg kk
theorem mput_size (C : wC p s m args c meth cc nL R_M D cA A) (G : wG D A s (wM cA ad k u) H locs) {v : Int32} (hdg : decode cc pc = .ok (.putfield 46, 3)) (kk : ∀ (H1 : Heap) (locs1 : List Loc), wG D A s (wM cA ad k (mSetSize v u)) H1 locs1 → W p l e R s m args below meth c H1 locs1 cells slots Q (F0 m (pc + 3) ls rest)) : W p l e R s m args below meth c H locs cells slots Q (F0 m pc ls (.int v :: .ref (ad 0) :: rest)) :=
  va_put (ref := R_M) (ci := 1) (ty := .int) (C := R_M) (T := F_M) (N := 11) C.1 C.2.1 C.2.2.2.2.1 i_M t_M t_M_ok n_M C.2.2.2.1 C.2.2.2.2.2.1 G.1 G.2.1 G.2.2 0 rfl rfl 4 (by decide) (C.2.2.2.2.1 _ fl_M_46) (fun _ h9 => h9) rfl (by decide +kernel) rfl rfl (Nat.le_of_ble_eq_true rfl) hdg (fun H1 locs1 hP hD hS => kk H1 locs1 ⟨hP, hD, hS⟩)
theorem mget_keys (C : wC p s m args c meth cc nL R_M D cA A) (G : wG D A s (wM cA ad k u) H locs) (hdg : decode cc pc = .ok (.getfield 7, 3)) (kk : W p l e R s m args below meth c H locs cells slots Q (F0 m (pc + 3) ls (.ref (ad 1) :: rest))) : W p l e R s m args below meth c H locs cells slots Q (F0 m pc ls (.ref (ad 0) :: rest)) :=
  va_get (ref := R_M) (ci := 1) (C := R_M) (T := F_M) (N := 11) C.1 C.2.1 C.2.2.2.2.1 i_M C.2.2.2.1 C.2.2.2.2.2.1 G.1 0 rfl rfl 5 (by decide) (C.2.2.2.2.1 _ fl_M_7) (fun _ h9 => h9) rfl hdg kk
theorem mget_values (C : wC p s m args c meth cc nL R_M D cA A) (G : wG D A s (wM cA ad k u) H locs) (hdg : decode cc pc = .ok (.getfield 13, 3)) (kk : W p l e R s m args below meth c H locs cells slots Q (F0 m (pc + 3) ls (.ref (ad 2) :: rest))) : W p l e R s m args below meth c H locs cells slots Q (F0 m pc ls (.ref (ad 0) :: rest)) :=
  va_get (ref := R_M) (ci := 1) (C := R_M) (T := F_M) (N := 11) C.1 C.2.1 C.2.2.2.2.1 i_M C.2.2.2.1 C.2.2.2.2.2.1 G.1 0 rfl rfl 6 (by decide) (C.2.2.2.2.1 _ fl_M_13) (fun _ h9 => h9) rfl hdg kk
theorem mget_homes (C : wC p s m args c meth cc nL R_M D cA A) (G : wG D A s (wM cA ad k u) H locs) (hdg : decode cc pc = .ok (.getfield 16, 3)) (kk : W p l e R s m args below meth c H locs cells slots Q (F0 m (pc + 3) ls (.ref (ad 3) :: rest))) : W p l e R s m args below meth c H locs cells slots Q (F0 m pc ls (.ref (ad 0) :: rest)) :=
  va_get (ref := R_M) (ci := 1) (C := R_M) (T := F_M) (N := 11) C.1 C.2.1 C.2.2.2.2.1 i_M C.2.2.2.1 C.2.2.2.2.2.1 G.1 0 rfl rfl 7 (by decide) (C.2.2.2.2.1 _ fl_M_16) (fun _ h9 => h9) rfl hdg kk
theorem mget_level (C : wC p s m args c meth cc nL R_M D cA A) (G : wG D A s (wM cA ad k u) H locs) (hdg : decode cc pc = .ok (.getfield 35, 3)) (kk : W p l e R s m args below meth c H locs cells slots Q (F0 m (pc + 3) ls (.int (mLevel u) :: rest))) : W p l e R s m args below meth c H locs cells slots Q (F0 m pc ls (.ref (ad 0) :: rest)) :=
  va_get (ref := R_M) (ci := 1) (C := R_M) (T := F_M) (N := 11) C.1 C.2.1 C.2.2.2.2.1 i_M C.2.2.2.1 C.2.2.2.2.2.1 G.1 0 rfl rfl 8 (by decide) (C.2.2.2.2.1 _ fl_M_35) (fun _ h9 => h9) rfl hdg kk
theorem mput_level (C : wC p s m args c meth cc nL R_M D cA A) (G : wG D A s (wM cA ad k u) H locs) {v : Int32} (hdg : decode cc pc = .ok (.putfield 35, 3)) (kk : ∀ (H1 : Heap) (locs1 : List Loc), wG D A s (wM cA ad k (mSetLevel v u)) H1 locs1 → W p l e R s m args below meth c H1 locs1 cells slots Q (F0 m (pc + 3) ls rest)) : W p l e R s m args below meth c H locs cells slots Q (F0 m pc ls (.int v :: .ref (ad 0) :: rest)) :=
  va_put (ref := R_M) (ci := 1) (ty := .int) (C := R_M) (T := F_M) (N := 11) C.1 C.2.1 C.2.2.2.2.1 i_M t_M t_M_ok n_M C.2.2.2.1 C.2.2.2.2.2.1 G.1 G.2.1 G.2.2 0 rfl rfl 8 (by decide) (C.2.2.2.2.1 _ fl_M_35) (fun _ h9 => h9) rfl (by decide +kernel) rfl rfl (Nat.le_of_ble_eq_true rfl) hdg (fun H1 locs1 hP hD hS => kk H1 locs1 ⟨hP, hD, hS⟩)
theorem mget_pointer (C : wC p s m args c meth cc nL R_M D cA A) (G : wG D A s (wM cA ad k u) H locs) (hdg : decode cc pc = .ok (.getfield 42, 3)) (kk : W p l e R s m args below meth c H locs cells slots Q (F0 m (pc + 3) ls (.int (mPointer u) :: rest))) : W p l e R s m args below meth c H locs cells slots Q (F0 m pc ls (.ref (ad 0) :: rest)) :=
  va_get (ref := R_M) (ci := 1) (C := R_M) (T := F_M) (N := 11) C.1 C.2.1 C.2.2.2.2.1 i_M C.2.2.2.1 C.2.2.2.2.2.1 G.1 0 rfl rfl 9 (by decide) (C.2.2.2.2.1 _ fl_M_42) (fun _ h9 => h9) rfl hdg kk
theorem mput_pointer (C : wC p s m args c meth cc nL R_M D cA A) (G : wG D A s (wM cA ad k u) H locs) {v : Int32} (hdg : decode cc pc = .ok (.putfield 42, 3)) (kk : ∀ (H1 : Heap) (locs1 : List Loc), wG D A s (wM cA ad k (mSetPointer v u)) H1 locs1 → W p l e R s m args below meth c H1 locs1 cells slots Q (F0 m (pc + 3) ls rest)) : W p l e R s m args below meth c H locs cells slots Q (F0 m pc ls (.int v :: .ref (ad 0) :: rest)) :=
  va_put (ref := R_M) (ci := 1) (ty := .int) (C := R_M) (T := F_M) (N := 11) C.1 C.2.1 C.2.2.2.2.1 i_M t_M t_M_ok n_M C.2.2.2.1 C.2.2.2.2.2.1 G.1 G.2.1 G.2.2 0 rfl rfl 9 (by decide) (C.2.2.2.2.1 _ fl_M_42) (fun _ h9 => h9) rfl (by decide +kernel) rfl rfl (Nat.le_of_ble_eq_true rfl) hdg (fun H1 locs1 hP hD hS => kk H1 locs1 ⟨hP, hD, hS⟩)
theorem mget_counts (C : wC p s m args c meth cc nL R_M D cA A) (G : wG D A s (wM cA ad k u) H locs) (hdg : decode cc pc = .ok (.getfield 19, 3)) (kk : W p l e R s m args below meth c H locs cells slots Q (F0 m (pc + 3) ls (.ref (ad 4) :: rest))) : W p l e R s m args below meth c H locs cells slots Q (F0 m pc ls (.ref (ad 0) :: rest)) :=
  va_get (ref := R_M) (ci := 1) (C := R_M) (T := F_M) (N := 11) C.1 C.2.1 C.2.2.2.2.1 i_M C.2.2.2.1 C.2.2.2.2.2.1 G.1 0 rfl rfl 10 (by decide) (C.2.2.2.2.1 _ fl_M_19) (fun _ h9 => h9) rfl hdg kk
theorem mald_keys (C : wC p s m args c meth cc nL R_M D cA A) (G : wG D A s (wM cA ad k u) H locs) {i : Int32} {j : Nat} (hi : i = nI j) (hj : j < 2401) (hdg : decode cc pc = .ok (.iaload, 1)) (kk : W p l e R s m args below meth c H locs cells slots Q (F0 m (pc + 1) ls (.int (mKeys u j) :: rest))) : W p l e R s m args below meth c H locs cells slots Q (F0 m pc ls (.int i :: .ref (ad 1) :: rest)) := by
  subst hi
  refine va_iald C.1 C.2.1 C.2.2.2.2.2.1 G.1 1 0 rfl rfl (vp_in_nI hj (by decide)) hdg ?_
  rw [nI_clamp (Nat.lt_trans hj (by decide))]
  exact kk
theorem mast_keys (C : wC p s m args c meth cc nL R_M D cA A) (G : wG D A s (wM cA ad k u) H locs) {i x : Int32} {j : Nat} (hi : i = nI j) (hj : j < 2401) (hdg : decode cc pc = .ok (.iastore, 1)) (kk : ∀ (H1 : Heap) (locs1 : List Loc), wG D A s (wM cA ad k (mSetKeys (upd (mKeys u) j x) u)) H1 locs1 → W p l e R s m args below meth c H1 locs1 cells slots Q (F0 m (pc + 1) ls rest)) : W p l e R s m args below meth c H locs cells slots Q (F0 m pc ls (.int x :: .int i :: .ref (ad 1) :: rest)) := by
  subst hi
  refine va_iast C.1 C.2.1 C.2.2.2.2.2.1 G.1 G.2.1 G.2.2 1 0 rfl rfl (vp_in_nI hj (by decide)) hdg (fun H1 locs1 hP hD hS => ?_)
  rw [nI_clamp (Nat.lt_trans hj (by decide))] at hP hD
  exact kk H1 locs1 ⟨hP, hD, hS⟩
theorem mald_values (C : wC p s m args c meth cc nL R_M D cA A) (G : wG D A s (wM cA ad k u) H locs) {i : Int32} {j : Nat} (hi : i = nI j) (hj : j < 2401) (hdg : decode cc pc = .ok (.iaload, 1)) (kk : W p l e R s m args below meth c H locs cells slots Q (F0 m (pc + 1) ls (.int (mValues u j) :: rest))) : W p l e R s m args below meth c H locs cells slots Q (F0 m pc ls (.int i :: .ref (ad 2) :: rest)) := by
  subst hi
  refine va_iald C.1 C.2.1 C.2.2.2.2.2.1 G.1 2 0 rfl rfl (vp_in_nI hj (by decide)) hdg ?_
  rw [nI_clamp (Nat.lt_trans hj (by decide))]
  exact kk
theorem mast_values (C : wC p s m args c meth cc nL R_M D cA A) (G : wG D A s (wM cA ad k u) H locs) {i x : Int32} {j : Nat} (hi : i = nI j) (hj : j < 2401) (hdg : decode cc pc = .ok (.iastore, 1)) (kk : ∀ (H1 : Heap) (locs1 : List Loc), wG D A s (wM cA ad k (mSetValues (upd (mValues u) j x) u)) H1 locs1 → W p l e R s m args below meth c H1 locs1 cells slots Q (F0 m (pc + 1) ls rest)) : W p l e R s m args below meth c H locs cells slots Q (F0 m pc ls (.int x :: .int i :: .ref (ad 2) :: rest)) := by
  subst hi
  refine va_iast C.1 C.2.1 C.2.2.2.2.2.1 G.1 G.2.1 G.2.2 2 0 rfl rfl (vp_in_nI hj (by decide)) hdg (fun H1 locs1 hP hD hS => ?_)
  rw [nI_clamp (Nat.lt_trans hj (by decide))] at hP hD
  exact kk H1 locs1 ⟨hP, hD, hS⟩
theorem mald_homes (C : wC p s m args c meth cc nL R_M D cA A) (G : wG D A s (wM cA ad k u) H locs) {i : Int32} {j : Nat} (hi : i = nI j) (hj : j < 2401) (hdg : decode cc pc = .ok (.iaload, 1)) (kk : W p l e R s m args below meth c H locs cells slots Q (F0 m (pc + 1) ls (.int (mHomes u j) :: rest))) : W p l e R s m args below meth c H locs cells slots Q (F0 m pc ls (.int i :: .ref (ad 3) :: rest)) := by
  subst hi
  refine va_iald C.1 C.2.1 C.2.2.2.2.2.1 G.1 3 0 rfl rfl (vp_in_nI hj (by decide)) hdg ?_
  rw [nI_clamp (Nat.lt_trans hj (by decide))]
  exact kk
theorem mast_homes (C : wC p s m args c meth cc nL R_M D cA A) (G : wG D A s (wM cA ad k u) H locs) {i x : Int32} {j : Nat} (hi : i = nI j) (hj : j < 2401) (hdg : decode cc pc = .ok (.iastore, 1)) (kk : ∀ (H1 : Heap) (locs1 : List Loc), wG D A s (wM cA ad k (mSetHomes (upd (mHomes u) j x) u)) H1 locs1 → W p l e R s m args below meth c H1 locs1 cells slots Q (F0 m (pc + 1) ls rest)) : W p l e R s m args below meth c H locs cells slots Q (F0 m pc ls (.int x :: .int i :: .ref (ad 3) :: rest)) := by
  subst hi
  refine va_iast C.1 C.2.1 C.2.2.2.2.2.1 G.1 G.2.1 G.2.2 3 0 rfl rfl (vp_in_nI hj (by decide)) hdg (fun H1 locs1 hP hD hS => ?_)
  rw [nI_clamp (Nat.lt_trans hj (by decide))] at hP hD
  exact kk H1 locs1 ⟨hP, hD, hS⟩
theorem mald_counts (C : wC p s m args c meth cc nL R_M D cA A) (G : wG D A s (wM cA ad k u) H locs) {i : Int32} {j : Nat} (hi : i = nI j) (hj : j < 200) (hdg : decode cc pc = .ok (.iaload, 1)) (kk : W p l e R s m args below meth c H locs cells slots Q (F0 m (pc + 1) ls (.int (mCounts u j) :: rest))) : W p l e R s m args below meth c H locs cells slots Q (F0 m pc ls (.int i :: .ref (ad 4) :: rest)) := by
  subst hi
  refine va_iald C.1 C.2.1 C.2.2.2.2.2.1 G.1 4 0 rfl rfl (vp_in_nI hj (by decide)) hdg ?_
  rw [nI_clamp (Nat.lt_trans hj (by decide))]
  exact kk
theorem mast_counts (C : wC p s m args c meth cc nL R_M D cA A) (G : wG D A s (wM cA ad k u) H locs) {i x : Int32} {j : Nat} (hi : i = nI j) (hj : j < 200) (hdg : decode cc pc = .ok (.iastore, 1)) (kk : ∀ (H1 : Heap) (locs1 : List Loc), wG D A s (wM cA ad k (mSetCounts (upd (mCounts u) j x) u)) H1 locs1 → W p l e R s m args below meth c H1 locs1 cells slots Q (F0 m (pc + 1) ls rest)) : W p l e R s m args below meth c H locs cells slots Q (F0 m pc ls (.int x :: .int i :: .ref (ad 4) :: rest)) := by
  subst hi
  refine va_iast C.1 C.2.1 C.2.2.2.2.2.1 G.1 G.2.1 G.2.2 4 0 rfl rfl (vp_in_nI hj (by decide)) hdg (fun H1 locs1 hP hD hS => ?_)
  rw [nI_clamp (Nat.lt_trans hj (by decide))] at hP hD
  exact kk H1 locs1 ⟨hP, hD, hS⟩
end M
end ROWS
end
section
/-! what each method of the class asks and does, over its state: printed by gen/walk.py out of the bytecode -/
def wp_X_takePage (k : KX) (u : StX) (Q : Int32 → StX → Prop) : Prop := (∀ x1_4 : Int32, x1_4 = (xFreePage u) → (∃ j11 : Nat, x1_4 = nI j11 ∧ j11 < (xN2 k) ∧ Q x1_4 (xSetNext (upd (xNext u) j11 (-1)) (xSetFree ((xFree u) - 1) (xSetFreePage (xNext u j11) u)))))
def wp_X_givePage (k : KX) (x1 : Int32) (u : StX) (Q : StX → Prop) : Prop := (∃ j9 : Nat, x1 = nI j9 ∧ j9 < (xN2 k) ∧ Q (xSetNext (upd (xNext u) j9 (xFreePage u)) (xSetFree ((xFree u) + 1) (xSetFreePage x1 u))))
def wp_X_open (k : KX) (x1 : Int32) (u : StX) (Q : StX → Prop) : Prop := (wp_X_takePage k u (fun r6 u6 => (∃ j9 : Nat, x1 = nI j9 ∧ j9 < 200 ∧ Q (xSetCounts (upd (xCounts u6) j9 0) (xSetLast (upd (xLast u6) j9 ((upd (xFirst u6) j9 r6) j9)) (xSetFirst (upd (xFirst u6) j9 r6) u6))))))
def lp_X_clear_69 (k : KX) (Q : StX → Prop) : Nat → Int32 → StX → Prop
  | 0, _, _ => False
  | n + 1, x1, u => (((xBase k) ≤ x1 → Q u) ∧ (¬ (xBase k) ≤ x1 → (wp_X_open k x1 u (fun u79 => (∀ x1_82 : Int32, x1_82 = x1 + 1 → lp_X_clear_69 k Q n x1_82 u79)))))
def lp_X_clear_2 (k : KX) (Q : StX → Prop) : Nat → Int32 → StX → Prop
  | 0, _, _ => False
  | n + 1, x1, u => (((xMost k) ≤ x1 → ∃ n : Nat, lp_X_clear_69 k Q n 0 (xSetSize 0 (xSetPointer 0 (xSetLevel 0 (xSetFree (xMost k) (xSetFreePage 0 u)))))) ∧ (¬ (xMost k) ≤ x1 → (((xMost k) ≤ (x1 + 1) → (∃ j32 : Nat, x1 = nI j32 ∧ j32 < (xN2 k) ∧ (∀ x1_33 : Int32, x1_33 = x1 + 1 → lp_X_clear_2 k Q n x1_33 (xSetNext (upd (xNext u) j32 (-1)) u)))) ∧ (¬ (xMost k) ≤ (x1 + 1) → (∃ j32 : Nat, x1 = nI j32 ∧ j32 < (xN2 k) ∧ (∀ x1_33 : Int32, x1_33 = x1 + 1 → lp_X_clear_2 k Q n x1_33 (xSetNext (upd (xNext u) j32 (x1 + 1)) u)))))))
def wp_X_clear (k : KX) (u : StX) (Q : StX → Prop) : Prop := ∃ n : Nat, lp_X_clear_2 k Q n 0 u
def jn_X_add_50 (k : KX) (Q : StX → Prop) (x1 x2 x3 : Int32) (u : StX) : Prop := (∃ j59 : Nat, x1 = nI j59 ∧ j59 < 200 ∧ (¬ (xCap k) = 0 ∧ (∀ x4_73 : Int32, x4_73 = (((xCap k) * (xLast u j59)) + (jrem (xCounts u j59) (xCap k))) → (∃ j82 : Nat, x4_73 = nI j82 ∧ j82 < (xN1 k) ∧ Q (xSetCounts (upd (xCounts u) j59 ((xCounts u j59) + 1)) (xSetValues (upd (xValues u) j82 x3) (xSetKeys (upd (xKeys u) j82 x2) u)))))))
def wp_X_add (k : KX) (x1 x2 x3 : Int32) (u : StX) (Q : StX → Prop) : Prop := (∃ j5 : Nat, x1 = nI j5 ∧ j5 < 200 ∧ (((xCounts u j5) ≤ 0 → jn_X_add_50 k Q x1 x2 x3 u) ∧ (¬ (xCounts u j5) ≤ 0 → (¬ (xCap k) = 0 ∧ (((jrem (xCounts u j5) (xCap k)) = 0 → (wp_X_takePage k u (fun r24 u24 => (∃ j41 : Nat, (xLast u24 j5) = nI j41 ∧ j41 < (xN2 k) ∧ jn_X_add_50 k Q x1 x2 x3 (xSetLast (upd (xLast u24) j5 r24) (xSetNext (upd (xNext u24) j41 r24) u24)))))) ∧ (¬ (jrem (xCounts u j5) (xCap k)) = 0 → jn_X_add_50 k Q x1 x2 x3 u))))))
def lp_X_place_13 (k : KX) (Q : Int32 → StX → Prop) : Nat → Int32 → Int32 → Int32 → StX → Prop
  | 0, _, _, _, _ => False
  | n + 1, x2, x3, x4, u => ((x2 < x4 → (¬ (xCap k) = 0 ∧ Q (((xCap k) * x3) + (jrem x2 (xCap k))) u)) ∧ (¬ x2 < x4 → (∃ j24 : Nat, x3 = nI j24 ∧ j24 < (xN2 k) ∧ (∀ x3_25 : Int32, x3_25 = (xNext u j24) → (∀ x4_33 : Int32, x4_33 = (x4 + (xCap k)) → lp_X_place_13 k Q n x2 x3_25 x4_33 u)))))
def wp_X_place (k : KX) (x1 x2 : Int32) (u : StX) (Q : Int32 → StX → Prop) : Prop := (∃ j5 : Nat, x1 = nI j5 ∧ j5 < 200 ∧ (∀ x3_6 : Int32, x3_6 = (xFirst u j5) → (∀ x4_11 : Int32, x4_11 = (xCap k) → ∃ n : Nat, lp_X_place_13 k Q n x2 x3_6 x4_11 u)))
def jn_X_find_46 (k : KX) (Q : Int32 → StX → Prop) (K : Int32 → Int32 → Int32 → Int32 → StX → Prop) (x1 x2 x4 t0 : Int32) (u : StX) : Prop := (¬ (xCap k) = 0 ∧ (∃ j65 : Nat, (((xCap k) * t0) + (jrem x4 (xCap k))) = nI j65 ∧ j65 < (xN1 k) ∧ (((xKeys u j65) = x2 → Q x4 u) ∧ (¬ (xKeys u j65) = x2 → (∀ x4_73 : Int32, x4_73 = x4 + 1 → K x1 x2 t0 x4_73 u)))))
def lp_X_find_10 (k : KX) (Q : Int32 → StX → Prop) : Nat → Int32 → Int32 → Int32 → Int32 → StX → Prop
  | 0, _, _, _, _, _ => False
  | n + 1, x1, x2, x3, x4, u => (∃ j17 : Nat, x1 = nI j17 ∧ j17 < 200 ∧ (((xCounts u j17) ≤ x4 → Q (-1) u) ∧ (¬ (xCounts u j17) ≤ x4 → ((x4 ≤ 0 → jn_X_find_46 k Q (lp_X_find_10 k Q n) x1 x2 x4 x3 u) ∧ (¬ x4 ≤ 0 → (¬ (xCap k) = 0 ∧ (((jrem x4 (xCap k)) = 0 → (∃ j41 : Nat, x3 = nI j41 ∧ j41 < (xN2 k) ∧ jn_X_find_46 k Q (lp_X_find_10 k Q n) x1 x2 x4 (xNext u j41) u)) ∧ (¬ (jrem x4 (xCap k)) = 0 → jn_X_find_46 k Q (lp_X_find_10 k Q n) x1 x2 x4 x3 u))))))))
def wp_X_find (k : KX) (x1 x2 : Int32) (u : StX) (Q : Int32 → StX → Prop) : Prop := (∃ j5 : Nat, x1 = nI j5 ∧ j5 < 200 ∧ (∀ x3_6 : Int32, x3_6 = (xFirst u j5) → ∃ n : Nat, lp_X_find_10 k Q n x1 x2 x3_6 0 u))
def lp_X_dropLast_40 (k : KX) (Q : StX → Prop) : Nat → Int32 → Int32 → StX → Prop
  | 0, _, _, _ => False
  | n + 1, x1, x2, u => (∃ j45 : Nat, x2 = nI j45 ∧ j45 < (xN2 k) ∧ (∃ j51 : Nat, x1 = nI j51 ∧ j51 < 200 ∧ (((xNext u j45) = (xLast u j51) → (wp_X_givePage k (xLast u j51) u (fun u72 => Q (xSetLast (upd (xLast u72) j51 x2) (xSetNext (upd (xNext u72) j45 (-1)) u72))))) ∧ (¬ (xNext u j45) = (xLast u j51) → (∀ x2_61 : Int32, x2_61 = (xNext u j45) → lp_X_dropLast_40 k Q n x1 x2_61 u)))))
def wp_X_dropLast (k : KX) (x1 : Int32) (u : StX) (Q : StX → Prop) : Prop := (∃ j6 : Nat, x1 = nI j6 ∧ j6 < 200 ∧ ((((upd (xCounts u) j6 ((xCounts u j6) - 1)) j6) ≤ 0 → Q (xSetCounts (upd (xCounts u) j6 ((xCounts u j6) - 1)) u)) ∧ (¬ ((upd (xCounts u) j6 ((xCounts u j6) - 1)) j6) ≤ 0 → (¬ (xCap k) = 0 ∧ (((jrem ((upd (xCounts u) j6 ((xCounts u j6) - 1)) j6) (xCap k)) = 0 → (∀ x2_39 : Int32, x2_39 = (xFirst u j6) → ∃ n : Nat, lp_X_dropLast_40 k Q n x1 x2_39 (xSetCounts (upd (xCounts u) j6 ((xCounts u j6) - 1)) u))) ∧ (¬ (jrem ((upd (xCounts u) j6 ((xCounts u j6) - 1)) j6) (xCap k)) = 0 → Q (xSetCounts (upd (xCounts u) j6 ((xCounts u j6) - 1)) u)))))))
def lp_X_takeOff_72 (k : KX) (Q : StX → Prop) : Nat → Int32 → StX → Prop
  | 0, _, _ => False
  | n + 1, x2, u => ((x2 = (-1) → Q u) ∧ (¬ x2 = (-1) → (∃ j82 : Nat, x2 = nI j82 ∧ j82 < (xN2 k) ∧ (∀ x3_83 : Int32, x3_83 = (xNext u j82) → (wp_X_givePage k x2 u (fun u86 => lp_X_takeOff_72 k Q n x3_83 u86))))))
def lp_X_takeOff_2 (k : KX) (Q : StX → Prop) : Nat → Int32 → Int32 → StX → Prop
  | 0, _, _, _ => False
  | n + 1, x1, x2, u => (∃ j8 : Nat, x1 = nI j8 ∧ j8 < 200 ∧ (((xCounts u j8) ≤ x2 → (∀ x2_71 : Int32, x2_71 = (xFirst u j8) → ∃ n : Nat, lp_X_takeOff_72 k Q n x2_71 u)) ∧ (¬ (xCounts u j8) ≤ x2 → (wp_X_place k x1 x2 u (fun r15 u15 => (∃ j32 : Nat, r15 = nI j32 ∧ j32 < (xN1 k) ∧ (∃ j33 : Nat, (xTaken u15) = nI j33 ∧ j33 < (xN1 k) ∧ (∀ x2_59 : Int32, x2_59 = x2 + 1 → lp_X_takeOff_2 k Q n x1 x2_59 (xSetTakenValues (upd (xTakenValues u15) j33 (xValues u15 j32)) (xSetTakenKeys (upd (xTakenKeys u15) j33 (xKeys u15 j32)) (xSetTaken ((xTaken u15) + 1) u15)))))))))))
def wp_X_takeOff (k : KX) (x1 : Int32) (u : StX) (Q : StX → Prop) : Prop := ∃ n : Nat, lp_X_takeOff_2 k Q n x1 0 u
def wp_X_buckets (k : KX) (u : StX) (Q : Int32 → StX → Prop) : Prop := Q ((jshl (xBase k) (xLevel u)) + (xPointer u)) u
def wp_X_bucketOf2 (k : KX) (x1 x2 : Int32) (u : StX) (Q : Int32 → StX → Prop) : Prop := (∀ x3_4 : Int32, x3_4 = (x1 &&& 2147483647) → (¬ (jshl (xBase k) (xLevel u)) = 0 ∧ (∀ x4_16 : Int32, x4_16 = (jrem x3_4 (jshl (xBase k) (xLevel u))) → ((x2 ≤ x4_16 → Q x4_16 u) ∧ (¬ x2 ≤ x4_16 → (¬ (jshl (xBase k) ((xLevel u) + 1)) = 0 ∧ Q (jrem x3_4 (jshl (xBase k) ((xLevel u) + 1))) u))))))
def wp_X_bucketOf (k : KX) (x1 : Int32) (u : StX) (Q : Int32 → StX → Prop) : Prop := (wp_X_bucketOf2 k x1 (xPointer u) u (fun r6 u6 => Q r6 u6))
def lp_X_split_20 (k : KX) (Q : StX → Prop) : Nat → Int32 → StX → Prop
  | 0, _, _ => False
  | n + 1, x2, u => (((xTaken u) ≤ x2 → ((((xPointer u) + 1) = (jshl (xBase k) (xLevel u)) → Q (xSetPointer 0 (xSetLevel ((xLevel u) + 1) u))) ∧ (¬ ((xPointer u) + 1) = (jshl (xBase k) (xLevel u)) → Q (xSetPointer ((xPointer u) + 1) u)))) ∧ (¬ (xTaken u) ≤ x2 → (∃ j35 : Nat, x2 = nI j35 ∧ j35 < (xN1 k) ∧ (wp_X_bucketOf2 k (xTakenKeys u j35) ((xPointer u) + 1) u (fun r42 u42 => (wp_X_add k r42 (xTakenKeys u42 j35) (xTakenValues u42 j35) u42 (fun u57 => (∀ x2_60 : Int32, x2_60 = x2 + 1 → lp_X_split_20 k Q n x2_60 u57))))))))
def wp_X_split (k : KX) (u : StX) (Q : StX → Prop) : Prop := (wp_X_buckets k u (fun r1 u1 => (wp_X_open k (xPointer u1) u1 (fun u10 => (wp_X_open k r1 u10 (fun u15 => ∃ n : Nat, lp_X_split_20 k Q n 0 u15))))))
def lp_X_join_87 (k : KX) (Q : StX → Prop) : Nat → Int32 → StX → Prop
  | 0, _, _ => False
  | n + 1, x2, u => (((xTaken u) ≤ x2 → Q u) ∧ (¬ (xTaken u) ≤ x2 → (∃ j105 : Nat, x2 = nI j105 ∧ j105 < (xN1 k) ∧ (wp_X_add k (xPointer u) (xTakenKeys u j105) (xTakenValues u j105) u (fun u112 => (∀ x2_115 : Int32, x2_115 = x2 + 1 → lp_X_join_87 k Q n x2_115 u112))))))
def jn_X_join_56 (k : KX) (Q : StX → Prop) (x1 t0 : Int32) (u : StX) : Prop := (wp_X_takeOff k t0 (xSetPointer t0 (xSetTaken 0 u)) (fun u69 => (wp_X_takeOff k x1 u69 (fun u74 => (wp_X_open k (xPointer u74) u74 (fun u82 => ∃ n : Nat, lp_X_join_87 k Q n 0 u82))))))
def jn_X_join_24 (k : KX) (Q : StX → Prop) (x1 t0 t1 : Int32) (u : StX) : Prop := (((xPointer u) = 0 → jn_X_join_56 k Q x1 ((jshl (xBase k) (t1 - t0)) - 1) (xSetLevel (t1 - t0) u)) ∧ (¬ (xPointer u) = 0 → jn_X_join_56 k Q x1 ((xPointer u) - 1) (xSetLevel (t1 - t0) u)))
def wp_X_join (k : KX) (u : StX) (Q : StX → Prop) : Prop := (wp_X_buckets k u (fun r1 u1 => (∀ x1_6 : Int32, x1_6 = (r1 - 1) → (((xPointer u1) = 0 → jn_X_join_24 k Q x1_6 1 (xLevel u1) u1) ∧ (¬ (xPointer u1) = 0 → jn_X_join_24 k Q x1_6 0 (xLevel u1) u1)))))
def wp_X_pagesOf (k : KX) (x1 : Int32) (u : StX) (Q : Int32 → StX → Prop) : Prop := ((x1 = 0 → Q 1 u) ∧ (¬ x1 = 0 → (¬ (xCap k) = 0 ∧ Q (((x1 + (xCap k)) - 1) / (xCap k)) u)))
def wp_X_parts (k : KX) (x1 : Int32) (u : StX) (Q : Int32 → StX → Prop) : Prop := (wp_X_buckets k u (fun r16 u16 => (((lg_cmp ((4 : Int64) * (x1).toInt64) (((3 : Int64) * ((xCap k)).toInt64) * (r16).toInt64)) ≤ 0 → Q 0 u16) ∧ (¬ (lg_cmp ((4 : Int64) * (x1).toInt64) (((3 : Int64) * ((xCap k)).toInt64) * (r16).toInt64)) ≤ 0 → (wp_X_buckets k u16 (fun r26 u26 => (((xMostBuckets k) ≤ r26 → Q 0 u26) ∧ (¬ (xMostBuckets k) ≤ r26 → Q 1 u26))))))))
def jn_X_fits_171 (k : KX) (Q : Int32 → StX → Prop) (x3 x4 x5 : Int32) (u : StX) : Prop := (wp_X_pagesOf k x4 u (fun r175 u175 => (wp_X_pagesOf k (x5 - x4) u175 (fun r185 u185 => (∃ j198 : Nat, (xPointer u185) = nI j198 ∧ j198 < 200 ∧ (wp_X_pagesOf k (xCounts u185 j198) u185 (fun r199 u199 => (((xFree u199) < (((x3 + r175) + r185) - r199) → Q 0 u199) ∧ (¬ (xFree u199) < (((x3 + r175) + r185) - r199) → Q 1 u199)))))))))
def lp_X_fits_57 (k : KX) (Q : Int32 → StX → Prop) : Nat → Int32 → Int32 → Int32 → Int32 → Int32 → StX → Prop
  | 0, _, _, _, _, _, _ => False
  | n + 1, x1, x2, x3, x4, x5, u => (∃ j67 : Nat, (xPointer u) = nI j67 ∧ j67 < 200 ∧ (((xCounts u j67) ≤ x5 → (∀ x5_128 : Int32, x5_128 = (xCounts u j67) → ((x1 = (xPointer u) → (wp_X_bucketOf2 k x2 ((xPointer u) + 1) u (fun r148 u148 => ((r148 = (xPointer u148) → (∀ x4_164 : Int32, x4_164 = (x4 + 0) → (∀ x5_166 : Int32, x5_166 = x5_128 + 1 → jn_X_fits_171 k Q 0 x4_164 x5_166 u148))) ∧ (¬ r148 = (xPointer u148) → (∀ x4_164 : Int32, x4_164 = (x4 + 1) → (∀ x5_166 : Int32, x5_166 = x5_128 + 1 → jn_X_fits_171 k Q 0 x4_164 x5_166 u148))))))) ∧ (¬ x1 = (xPointer u) → jn_X_fits_171 k Q x3 x4 x5_128 u)))) ∧ (¬ (xCounts u j67) ≤ x5 → (wp_X_place k (xPointer u) x5 u (fun r85 u85 => (∃ j88 : Nat, r85 = nI j88 ∧ j88 < (xN1 k) ∧ (wp_X_bucketOf2 k (xKeys u85 j88) ((xPointer u85) + 1) u85 (fun r95 u95 => ((r95 = (xPointer u95) → (∀ x4_111 : Int32, x4_111 = (x4 + 0) → (∀ x5_113 : Int32, x5_113 = x5 + 1 → lp_X_fits_57 k Q n x1 x2 x3 x4_111 x5_113 u95))) ∧ (¬ r95 = (xPointer u95) → (∀ x4_111 : Int32, x4_111 = (x4 + 1) → (∀ x5_113 : Int32, x5_113 = x5 + 1 → lp_X_fits_57 k Q n x1 x2 x3 x4_111 x5_113 u95))))))))))))
def wp_X_fits (k : KX) (x1 x2 : Int32) (u : StX) (Q : Int32 → StX → Prop) : Prop := (∃ j6 : Nat, x1 = nI j6 ∧ j6 < 200 ∧ (wp_X_pagesOf k ((xCounts u j6) + 1) u (fun r9 u9 => (wp_X_pagesOf k (xCounts u9 j6) u9 (fun r19 u19 => (∀ x3_23 : Int32, x3_23 = (r9 - r19) → (wp_X_parts k ((xSize u19) + 1) u19 (fun r31 u31 => ((r31 = 0 → (((xFree u31) < x3_23 → Q 0 u31) ∧ (¬ (xFree u31) < x3_23 → Q 1 u31))) ∧ (¬ r31 = 0 → ∃ n : Nat, lp_X_fits_57 k Q n x1 x2 x3_23 0 0 u31))))))))))
def jn_X_put_153 (k : KX) (Q : Int32 → StX → Prop) (x5 : Int32) (u : StX) : Prop := ((x5 = 0 → Q 0 u) ∧ (¬ x5 = 0 → (wp_X_split k u (fun u159 => Q 0 u159))))
def jn_X_put_118 (k : KX) (Q : Int32 → StX → Prop) (x1 x2 x5 x6 : Int32) (u : StX) : Prop := ((x6 = 0 → jn_X_put_153 k Q x5 u) ∧ (¬ x6 = 0 → (∃ j132 : Nat, (xTaken u) = nI j132 ∧ j132 < (xN1 k) ∧ jn_X_put_153 k Q x5 (xSetTakenValues (upd (xTakenValues u) j132 x2) (xSetTakenKeys (upd (xTakenKeys u) j132 x1) (xSetTaken ((xTaken u) + 1) u))))))
def jn_X_put_105 (k : KX) (Q : Int32 → StX → Prop) (x1 x2 x5 x6 : Int32) (u : StX) : Prop := ((x5 = 0 → jn_X_put_118 k Q x1 x2 x5 x6 u) ∧ (¬ x5 = 0 → (wp_X_takeOff k (xPointer u) u (fun u115 => jn_X_put_118 k Q x1 x2 x5 x6 u115))))
def jn_X_put_76 (k : KX) (Q : Int32 → StX → Prop) (x1 x2 x3 x5 t0 : Int32) (u : StX) : Prop := ((t0 = 0 → (wp_X_add k x3 x1 x2 (xSetSize ((xSize u) + 1) (xSetTaken 0 u)) (fun u102 => jn_X_put_105 k Q x1 x2 x5 t0 u102))) ∧ (¬ t0 = 0 → jn_X_put_105 k Q x1 x2 x5 t0 (xSetSize ((xSize u) + 1) (xSetTaken 0 u))))
def wp_X_put (k : KX) (x1 x2 : Int32) (u : StX) (Q : Int32 → StX → Prop) : Prop := (wp_X_bucketOf k x1 u (fun r2 u2 => (wp_X_find k r2 x1 u2 (fun r9 u9 => ((r9 = (-1) → (wp_X_fits k r2 x1 u9 (fun r38 u38 => ((r38 = 0 → Q 2 u38) ∧ (¬ r38 = 0 → (wp_X_parts k ((xSize u38) + 1) u38 (fun r53 u53 => ((r53 = 0 → jn_X_put_76 k Q x1 x2 r2 r53 0 u53) ∧ (¬ r53 = 0 → ((r2 = (xPointer u53) → jn_X_put_76 k Q x1 x2 r2 r53 1 u53) ∧ (¬ r2 = (xPointer u53) → jn_X_put_76 k Q x1 x2 r2 r53 0 u53))))))))))) ∧ (¬ r9 = (-1) → (wp_X_place k r2 r9 u9 (fun r28 u28 => (∃ j32 : Nat, r28 = nI j32 ∧ j32 < (xN1 k) ∧ Q 1 (xSetValues (upd (xValues u28) j32 x2) u28))))))))))
def wp_X_get (k : KX) (x1 : Int32) (u : StX) (Q : Int32 → StX → Prop) : Prop := (wp_X_bucketOf k x1 u (fun r2 u2 => (wp_X_find k r2 x1 u2 (fun r9 u9 => ((r9 = (-1) → Q 0 u9) ∧ (¬ r9 = (-1) → (wp_X_place k r2 r9 u9 (fun r29 u29 => (∃ j32 : Nat, r29 = nI j32 ∧ j32 < (xN1 k) ∧ Q (xValues u29 j32) u29)))))))))
def wp_X_has (k : KX) (x1 : Int32) (u : StX) (Q : Int32 → StX → Prop) : Prop := (wp_X_bucketOf k x1 u (fun r3 u3 => (wp_X_find k r3 x1 u3 (fun r7 u7 => ((r7 = (-1) → Q 0 u7) ∧ (¬ r7 = (-1) → Q 1 u7))))))
def wp_X_remove (k : KX) (x1 : Int32) (u : StX) (Q : Int32 → StX → Prop) : Prop := (wp_X_bucketOf k x1 u (fun r2 u2 => (wp_X_find k r2 x1 u2 (fun r9 u9 => ((r9 = (-1) → Q 0 u9) ∧ (¬ r9 = (-1) → (wp_X_place k r2 r9 u9 (fun r23 u23 => (∃ j35 : Nat, r2 = nI j35 ∧ j35 < 200 ∧ (wp_X_place k r2 ((xCounts u23 j35) - 1) u23 (fun r38 u38 => (∃ j55 : Nat, r38 = nI j55 ∧ j55 < (xN1 k) ∧ (∃ j56 : Nat, r23 = nI j56 ∧ j56 < (xN1 k) ∧ (wp_X_dropLast k r2 (xSetValues (upd (xValues u38) j56 (xValues u38 j55)) (xSetKeys (upd (xKeys u38) j56 (xKeys u38 j55)) u38)) (fun u73 => (wp_X_buckets k (xSetSize ((xSize u73) - 1) u73) (fun r101 u101 => ((0 ≤ (lg_cmp ((4 : Int64) * (((xSize u73) - 1)).toInt64) (((xCap k)).toInt64 * (r101).toInt64)) → Q 1 u101) ∧ (¬ 0 ≤ (lg_cmp ((4 : Int64) * (((xSize u73) - 1)).toInt64) (((xCap k)).toInt64 * (r101).toInt64)) → (wp_X_buckets k u101 (fun r111 u111 => ((r111 ≤ (xBase k) → Q 1 u111) ∧ (¬ r111 ≤ (xBase k) → (wp_X_join k u111 (fun u122 => Q 1 u122)))))))))))))))))))))))))
def wp_X_size (k : KX) (u : StX) (Q : Int32 → StX → Prop) : Prop := Q (xSize u) u
def wp_X_level (k : KX) (u : StX) (Q : Int32 → StX → Prop) : Prop := Q (xLevel u) u
def wp_X_pointer (k : KX) (u : StX) (Q : Int32 → StX → Prop) : Prop := Q (xPointer u) u
def wp_X_isBucket (k : KX) (x1 : Int32) (u : StX) (Q : Int32 → StX → Prop) : Prop := ((x1 < 0 → Q 0 u) ∧ (¬ x1 < 0 → (wp_X_buckets k u (fun r6 u6 => ((r6 ≤ x1 → Q 0 u6) ∧ (¬ r6 ≤ x1 → Q 1 u6))))))
def wp_X_pages (k : KX) (x1 : Int32) (u : StX) (Q : Int32 → StX → Prop) : Prop := (wp_X_isBucket k x1 u (fun r2 u2 => ((r2 = 0 → Q (-1) u2) ∧ (¬ r2 = 0 → (∃ j14 : Nat, x1 = nI j14 ∧ j14 < 200 ∧ (wp_X_pagesOf k (xCounts u2 j14) u2 (fun r15 u15 => Q r15 u15)))))))
def wp_X_free (k : KX) (u : StX) (Q : Int32 → StX → Prop) : Prop := Q (xFree u) u
def wp_X_key (k : KX) (x1 x2 : Int32) (u : StX) (Q : Int32 → StX → Prop) : Prop := (wp_X_isBucket k x1 u (fun r2 u2 => ((r2 = 0 → Q (-1) u2) ∧ (¬ r2 = 0 → ((x2 < 0 → Q (-1) u2) ∧ (¬ x2 < 0 → (∃ j18 : Nat, x1 = nI j18 ∧ j18 < 200 ∧ (((xCounts u2 j18) ≤ x2 → Q (-1) u2) ∧ (¬ (xCounts u2 j18) ≤ x2 → (wp_X_place k x1 x2 u2 (fun r29 u29 => (∃ j32 : Nat, r29 = nI j32 ∧ j32 < (xN1 k) ∧ Q (xKeys u29 j32) u29))))))))))))
end
section
/-! the same of the reference -/
def lp_M_round_7 (k : KM) (Q : Int32 → StM → Prop) : Nat → Int32 → Int32 → StM → Prop
  | 0, _, _, _ => False
  | n + 1, x1, x2, u => (((mLevel u) ≤ x2 → Q x1 u) ∧ (¬ (mLevel u) ≤ x2 → (∀ x1_18 : Int32, x1_18 = (2 * x1) → (∀ x2_19 : Int32, x2_19 = x2 + 1 → lp_M_round_7 k Q n x1_18 x2_19 u))))
def wp_M_round (k : KM) (u : StM) (Q : Int32 → StM → Prop) : Prop := (∀ x1_4 : Int32, x1_4 = (mBase k) → ∃ n : Nat, lp_M_round_7 k Q n x1_4 0 u)
def wp_M_buckets (k : KM) (u : StM) (Q : Int32 → StM → Prop) : Prop := (wp_M_round k u (fun r1 u1 => Q (r1 + (mPointer u1)) u1))
def wp_M_bucketOf (k : KM) (x1 : Int32) (u : StM) (Q : Int32 → StM → Prop) : Prop := (∀ x2_4 : Int32, x2_4 = (x1 &&& 2147483647) → (wp_M_round k u (fun r7 u7 => (¬ r7 = 0 ∧ (∀ x3_11 : Int32, x3_11 = (jrem x2_4 r7) → (((mPointer u7) ≤ x3_11 → Q x3_11 u7) ∧ (¬ (mPointer u7) ≤ x3_11 → (wp_M_round k u7 (fun r23 u23 => (¬ (2 * r23) = 0 ∧ Q (jrem x2_4 (2 * r23)) u23))))))))))
def lp_M_find_4 (k : KM) (Q : Int32 → StM → Prop) : Nat → Int32 → Int32 → Int32 → StM → Prop
  | 0, _, _, _, _ => False
  | n + 1, x1, x2, x3, u => (((mSize u) ≤ x3 → Q x2 u) ∧ (¬ (mSize u) ≤ x3 → (∃ j17 : Nat, x3 = nI j17 ∧ j17 < 2401 ∧ (((mKeys u j17) = x1 → (∀ x3_28 : Int32, x3_28 = x3 + 1 → lp_M_find_4 k Q n x1 x3 x3_28 u)) ∧ (¬ (mKeys u j17) = x1 → (∀ x3_28 : Int32, x3_28 = x3 + 1 → lp_M_find_4 k Q n x1 x2 x3_28 u))))))
def wp_M_find (k : KM) (x1 : Int32) (u : StM) (Q : Int32 → StM → Prop) : Prop := ∃ n : Nat, lp_M_find_4 k Q n x1 (-1) 0 u
def lp_M_count_24 (k : KM) (Q : StM → Prop) : Nat → Int32 → StM → Prop
  | 0, _, _ => False
  | n + 1, x1, u => (((mSize u) ≤ x1 → Q u) ∧ (¬ (mSize u) ≤ x1 → (∃ j41 : Nat, x1 = nI j41 ∧ j41 < 2401 ∧ (∃ j43 : Nat, (mHomes u j41) = nI j43 ∧ j43 < 200 ∧ (∀ x1_47 : Int32, x1_47 = x1 + 1 → lp_M_count_24 k Q n x1_47 (mSetCounts (upd (mCounts u) j43 ((mCounts u j43) + 1)) u))))))
def lp_M_count_2 (k : KM) (Q : StM → Prop) : Nat → Int32 → StM → Prop
  | 0, _, _ => False
  | n + 1, x1, u => ((200 ≤ x1 → ∃ n : Nat, lp_M_count_24 k Q n 0 u) ∧ (¬ 200 ≤ x1 → (∃ j15 : Nat, x1 = nI j15 ∧ j15 < 200 ∧ (∀ x1_16 : Int32, x1_16 = x1 + 1 → lp_M_count_2 k Q n x1_16 (mSetCounts (upd (mCounts u) j15 0) u)))))
def wp_M_count (k : KM) (u : StM) (Q : StM → Prop) : Prop := ∃ n : Nat, lp_M_count_2 k Q n 0 u
def wp_M_pagesFor (k : KM) (x1 : Int32) (u : StM) (Q : Int32 → StM → Prop) : Prop := ((x1 = 0 → Q 1 u) ∧ (¬ x1 = 0 → (¬ (mCap k) = 0 ∧ Q (((x1 + (mCap k)) - 1) / (mCap k)) u)))
def lp_M_needed_8 (k : KM) (Q : Int32 → StM → Prop) : Nat → Int32 → Int32 → StM → Prop
  | 0, _, _, _ => False
  | n + 1, x1, x2, u => (wp_M_buckets k u (fun r10 u10 => ((r10 ≤ x2 → Q x1 u10) ∧ (¬ r10 ≤ x2 → (∃ j23 : Nat, x2 = nI j23 ∧ j23 < 200 ∧ (wp_M_pagesFor k (mCounts u10 j23) u10 (fun r24 u24 => (∀ x1_28 : Int32, x1_28 = (x1 + r24) → (∀ x2_29 : Int32, x2_29 = x2 + 1 → lp_M_needed_8 k Q n x1_28 x2_29 u24)))))))))
def wp_M_needed (k : KM) (u : StM) (Q : Int32 → StM → Prop) : Prop := (wp_M_count k u (fun u1 => ∃ n : Nat, lp_M_needed_8 k Q n 0 0 u1))
def lp_M_settle_2 (k : KM) (Q : StM → Prop) : Nat → Int32 → StM → Prop
  | 0, _, _ => False
  | n + 1, x1, u => (((mSize u) ≤ x1 → Q u) ∧ (¬ (mSize u) ≤ x1 → (∃ j21 : Nat, x1 = nI j21 ∧ j21 < 2401 ∧ (wp_M_bucketOf k (mKeys u j21) u (fun r22 u22 => (∀ x1_26 : Int32, x1_26 = x1 + 1 → lp_M_settle_2 k Q n x1_26 (mSetHomes (upd (mHomes u22) j21 r22) u22)))))))
def wp_M_settle (k : KM) (u : StM) (Q : StM → Prop) : Prop := ∃ n : Nat, lp_M_settle_2 k Q n 0 u
def wp_M_forth (k : KM) (u : StM) (Q : StM → Prop) : Prop := (wp_M_round k (mSetPointer ((mPointer u) + 1) u) (fun r15 u15 => ((((mPointer u) + 1) = r15 → Q (mSetPointer 0 (mSetLevel ((mLevel u15) + 1) u15))) ∧ (¬ ((mPointer u) + 1) = r15 → Q u15))))
def wp_M_back (k : KM) (u : StM) (Q : StM → Prop) : Prop := (((mPointer u) = 0 → (wp_M_round k (mSetLevel ((mLevel u) - 1) u) (fun r19 u19 => Q (mSetPointer (r19 - 1) u19)))) ∧ (¬ (mPointer u) = 0 → Q (mSetPointer ((mPointer u) - 1) u)))
def jn_M_put_122 (k : KM) (Q : Int32 → StM → Prop) (u : StM) : Prop := (wp_M_settle k (mSetSize ((mSize u) - 1) u) (fun u133 => Q 2 u133))
def jn_M_put_96 (k : KM) (Q : Int32 → StM → Prop) (x4 : Int32) (u : StM) : Prop := (wp_M_settle k u (fun u97 => (wp_M_needed k u97 (fun r101 u101 => (((mMost k) < r101 → ((x4 = 0 → jn_M_put_122 k Q u101) ∧ (¬ x4 = 0 → (wp_M_back k u101 (fun u119 => jn_M_put_122 k Q u119))))) ∧ (¬ (mMost k) < r101 → Q 0 u101))))))
def jn_M_put_85 (k : KM) (Q : Int32 → StM → Prop) (t0 : Int32) (u : StM) : Prop := ((t0 = 0 → jn_M_put_96 k Q t0 u) ∧ (¬ t0 = 0 → (wp_M_forth k u (fun u93 => jn_M_put_96 k Q t0 u93))))
def wp_M_put (k : KM) (x1 x2 : Int32) (u : StM) (Q : Int32 → StM → Prop) : Prop := (wp_M_find k x1 u (fun r2 u2 => ((r2 < 0 → (∃ j28 : Nat, (mSize u2) = nI j28 ∧ j28 < 2401 ∧ (wp_M_buckets k (mSetValues (upd (mValues u2) j28 x2) (mSetKeys (upd (mKeys u2) j28 x1) (mSetSize ((mSize u2) + 1) u2))) (fun r62 u62 => (((4 * ((mSize u2) + 1)) ≤ ((3 * (mCap k)) * r62) → jn_M_put_85 k Q 0 u62) ∧ (¬ (4 * ((mSize u2) + 1)) ≤ ((3 * (mCap k)) * r62) → (wp_M_buckets k u62 (fun r70 u70 => (((mMostBuckets k) ≤ r70 → jn_M_put_85 k Q 0 u70) ∧ (¬ (mMostBuckets k) ≤ r70 → jn_M_put_85 k Q 1 u70)))))))))) ∧ (¬ r2 < 0 → (∃ j16 : Nat, r2 = nI j16 ∧ j16 < 2401 ∧ Q 1 (mSetValues (upd (mValues u2) j16 x2) u2))))))
def wp_M_get (k : KM) (x1 : Int32) (u : StM) (Q : Int32 → StM → Prop) : Prop := (wp_M_find k x1 u (fun r2 u2 => ((0 ≤ r2 → (∃ j19 : Nat, r2 = nI j19 ∧ j19 < 2401 ∧ Q (mValues u2 j19) u2)) ∧ (¬ 0 ≤ r2 → Q 0 u2))))
def wp_M_has (k : KM) (x1 : Int32) (u : StM) (Q : Int32 → StM → Prop) : Prop := (wp_M_find k x1 u (fun r2 u2 => ((r2 < 0 → Q 0 u2) ∧ (¬ r2 < 0 → Q 1 u2))))
def lp_M_cut_12 (k : KM) (Q : StM → Prop) : Nat → Int32 → StM → Prop
  | 0, _, _ => False
  | n + 1, x2, u => (((mSize u) ≤ x2 → Q u) ∧ (¬ (mSize u) ≤ x2 → (∃ j32 : Nat, (x2 + 1) = nI j32 ∧ j32 < 2401 ∧ (∃ j33 : Nat, x2 = nI j33 ∧ j33 < 2401 ∧ (∀ x2_62 : Int32, x2_62 = x2 + 1 → lp_M_cut_12 k Q n x2_62 (mSetHomes (upd (mHomes u) j33 (mHomes u j32)) (mSetValues (upd (mValues u) j33 (mValues u j32)) (mSetKeys (upd (mKeys u) j33 (mKeys u j32)) u))))))))
def wp_M_cut (k : KM) (x1 : Int32) (u : StM) (Q : StM → Prop) : Prop := ∃ n : Nat, lp_M_cut_12 k Q n x1 (mSetSize ((mSize u) - 1) u)
def lp_M_toEnd_7 (k : KM) (Q : StM → Prop) : Nat → Int32 → Int32 → Int32 → StM → Prop
  | 0, _, _, _, _ => False
  | n + 1, x1, x2, x3, u => ((x3 ≤ 0 → Q u) ∧ (¬ x3 ≤ 0 → (∃ j16 : Nat, x2 = nI j16 ∧ j16 < 2401 ∧ (((mHomes u j16) = x1 → (∀ x4_33 : Int32, x4_33 = (mKeys u j16) → (∀ x5_41 : Int32, x5_41 = (mValues u j16) → (wp_M_cut k x2 u (fun u45 => (∃ j58 : Nat, (mSize u45) = nI j58 ∧ j58 < 2401 ∧ (∀ x3_90 : Int32, x3_90 = x3 + (-1) → lp_M_toEnd_7 k Q n x1 x2 x3_90 (mSetHomes (upd (mHomes u45) j58 x1) (mSetValues (upd (mValues u45) j58 x5_41) (mSetKeys (upd (mKeys u45) j58 x4_33) (mSetSize ((mSize u45) + 1) u45))))))))))) ∧ (¬ (mHomes u j16) = x1 → (∀ x2_21 : Int32, x2_21 = x2 + 1 → (∀ x3_90 : Int32, x3_90 = x3 + (-1) → lp_M_toEnd_7 k Q n x1 x2_21 x3_90 u)))))))
def wp_M_toEnd (k : KM) (x1 : Int32) (u : StM) (Q : StM → Prop) : Prop := (∀ x3_6 : Int32, x3_6 = (mSize u) → ∃ n : Nat, lp_M_toEnd_7 k Q n x1 0 x3_6 u)
def lp_M_remove_17 (k : KM) (Q : Int32 → StM → Prop) : Nat → Int32 → Int32 → Int32 → StM → Prop
  | 0, _, _, _, _ => False
  | n + 1, x2, x3, x4, u => (((mSize u) ≤ x4 → (∃ j65 : Nat, x3 = nI j65 ∧ j65 < 2401 ∧ (∃ j66 : Nat, x2 = nI j66 ∧ j66 < 2401 ∧ (wp_M_cut k x3 (mSetValues (upd (mValues u) j66 (mValues u j65)) (mSetKeys (upd (mKeys u) j66 (mKeys u j65)) u)) (fun u81 => (wp_M_buckets k u81 (fun r95 u95 => ((((mCap k) * r95) ≤ (4 * (mSize u81)) → Q 1 u95) ∧ (¬ ((mCap k) * r95) ≤ (4 * (mSize u81)) → (wp_M_buckets k u95 (fun r103 u103 => ((r103 ≤ (mBase k) → Q 1 u103) ∧ (¬ r103 ≤ (mBase k) → (wp_M_buckets k u103 (fun r115 u115 => (wp_M_toEnd k (r115 - 1) u115 (fun u120 => (wp_M_back k u120 (fun u124 => (wp_M_settle k u124 (fun u128 => Q 1 u128))))))))))))))))))))) ∧ (¬ (mSize u) ≤ x4 → (∃ j32 : Nat, x4 = nI j32 ∧ j32 < 2401 ∧ (∃ j38 : Nat, x2 = nI j38 ∧ j38 < 2401 ∧ (((mHomes u j32) = (mHomes u j38) → (∀ x4_49 : Int32, x4_49 = x4 + 1 → lp_M_remove_17 k Q n x2 x4 x4_49 u)) ∧ (¬ (mHomes u j32) = (mHomes u j38) → (∀ x4_49 : Int32, x4_49 = x4 + 1 → lp_M_remove_17 k Q n x2 x3 x4_49 u)))))))
def wp_M_remove (k : KM) (x1 : Int32) (u : StM) (Q : Int32 → StM → Prop) : Prop := (wp_M_find k x1 u (fun r2 u2 => ((0 ≤ r2 → ∃ n : Nat, lp_M_remove_17 k Q n r2 r2 r2 u2) ∧ (¬ 0 ≤ r2 → Q 0 u2))))
def wp_M_size (k : KM) (u : StM) (Q : Int32 → StM → Prop) : Prop := Q (mSize u) u
def wp_M_level (k : KM) (u : StM) (Q : Int32 → StM → Prop) : Prop := Q (mLevel u) u
def wp_M_pointer (k : KM) (u : StM) (Q : Int32 → StM → Prop) : Prop := Q (mPointer u) u
def wp_M_pages (k : KM) (x1 : Int32) (u : StM) (Q : Int32 → StM → Prop) : Prop := ((x1 < 0 → Q (-1) u) ∧ (¬ x1 < 0 → (wp_M_buckets k u (fun r6 u6 => ((x1 < r6 → (wp_M_count k u6 (fun u15 => (∃ j24 : Nat, x1 = nI j24 ∧ j24 < 200 ∧ (wp_M_pagesFor k (mCounts u15 j24) u15 (fun r25 u25 => Q r25 u25)))))) ∧ (¬ x1 < r6 → Q (-1) u6))))))
def wp_M_free (k : KM) (u : StM) (Q : Int32 → StM → Prop) : Prop := (wp_M_needed k u (fun r5 u5 => Q ((mMost k) - r5) u5))
def lp_M_key_23 (k : KM) (Q : Int32 → StM → Prop) : Nat → Int32 → Int32 → Int32 → StM → Prop
  | 0, _, _, _, _ => False
  | n + 1, x1, x3, x4, u => (((mSize u) ≤ x4 → Q (-1) u) ∧ (¬ (mSize u) ≤ x4 → (∃ j38 : Nat, x4 = nI j38 ∧ j38 < 2401 ∧ (((mHomes u j38) = x1 → ((x3 = 0 → Q (mKeys u j38) u) ∧ (¬ x3 = 0 → (∀ x3_55 : Int32, x3_55 = x3 + (-1) → (∀ x4_58 : Int32, x4_58 = x4 + 1 → lp_M_key_23 k Q n x1 x3_55 x4_58 u))))) ∧ (¬ (mHomes u j38) = x1 → (∀ x4_58 : Int32, x4_58 = x4 + 1 → lp_M_key_23 k Q n x1 x3 x4_58 u))))))
def wp_M_key (k : KM) (x1 x2 : Int32) (u : StM) (Q : Int32 → StM → Prop) : Prop := ((x1 < 0 → Q (-1) u) ∧ (¬ x1 < 0 → (wp_M_buckets k u (fun r6 u6 => ((r6 ≤ x1 → Q (-1) u6) ∧ (¬ r6 ≤ x1 → ((0 ≤ x2 → ∃ n : Nat, lp_M_key_23 k Q n x1 x2 0 u6) ∧ (¬ 0 ≤ x2 → Q (-1) u6))))))))
def wp_M_clear (k : KM) (u : StM) (Q : StM → Prop) : Prop := Q (mSetPointer 0 (mSetLevel 0 (mSetSize 0 u)))
end
section
/-! the law's loop, over the two states: printed by gen/law.py -/
def lp_L_law (kx : KX) (km : KM) (L : Nat) (xs : Nat → Int32) : Nat → Int32 → StX → StM → Prop
  | 0, _, _, _ => False
  | n + 1, x3, u, v => ((((nI L) - 3) < x3 → True) ∧ (¬ ((nI L) - 3) < x3 → (∃ j68 : Nat, x3 = nI j68 ∧ j68 < L ∧ (((xs j68) &&& 15) = 0 → (∃ j145 : Nat, (x3 + 1) = nI j145 ∧ j145 < L ∧ (∃ j150 : Nat, (x3 + 2) = nI j150 ∧ j150 < L ∧ (wp_X_put kx (xs j145) (xs j150) u (fun r151 u151 => (wp_M_put km (xs j145) (xs j150) v (fun r165 v165 => ((r151 = r165 → (∀ x3_397 : Int32, x3_397 = x3 + 3 → lp_L_law kx km L xs n x3_397 u151 v165)) ∧ (¬ r151 = r165 → False))))))))) ∧ ((((xs j68) &&& 15) = 1 → (∃ j178 : Nat, (x3 + 1) = nI j178 ∧ j178 < L ∧ (wp_X_get kx (xs j178) u (fun r179 u179 => (wp_M_get km (xs j178) v (fun r188 v188 => ((r179 = r188 → (∀ x3_397 : Int32, x3_397 = x3 + 3 → lp_L_law kx km L xs n x3_397 u179 v188)) ∧ (¬ r179 = r188 → False)))))))) ∧ ((((xs j68) &&& 15) = 2 → (∃ j201 : Nat, (x3 + 1) = nI j201 ∧ j201 < L ∧ (wp_X_has kx (xs j201) u (fun r202 u202 => (wp_M_has km (xs j201) v (fun r211 v211 => ((r202 = r211 → (∀ x3_397 : Int32, x3_397 = x3 + 3 → lp_L_law kx km L xs n x3_397 u202 v211)) ∧ (¬ r202 = r211 → False)))))))) ∧ ((((xs j68) &&& 15) = 3 → (∃ j224 : Nat, (x3 + 1) = nI j224 ∧ j224 < L ∧ (wp_X_remove kx (xs j224) u (fun r225 u225 => (wp_M_remove km (xs j224) v (fun r234 v234 => ((r225 = r234 → (∀ x3_397 : Int32, x3_397 = x3 + 3 → lp_L_law kx km L xs n x3_397 u225 v234)) ∧ (¬ r225 = r234 → False)))))))) ∧ ((((xs j68) &&& 15) = 4 → (wp_X_size kx u (fun r243 u243 => (wp_M_size km v (fun r247 v247 => ((r243 = r247 → (∀ x3_397 : Int32, x3_397 = x3 + 3 → lp_L_law kx km L xs n x3_397 u243 v247)) ∧ (¬ r243 = r247 → False))))))) ∧ ((((xs j68) &&& 15) = 5 → (wp_X_buckets kx u (fun r256 u256 => (wp_M_buckets km v (fun r260 v260 => ((r256 = r260 → (∀ x3_397 : Int32, x3_397 = x3 + 3 → lp_L_law kx km L xs n x3_397 u256 v260)) ∧ (¬ r256 = r260 → False))))))) ∧ ((((xs j68) &&& 15) = 6 → (wp_X_level kx u (fun r269 u269 => (wp_M_level km v (fun r273 v273 => ((r269 = r273 → (∀ x3_397 : Int32, x3_397 = x3 + 3 → lp_L_law kx km L xs n x3_397 u269 v273)) ∧ (¬ r269 = r273 → False))))))) ∧ ((((xs j68) &&& 15) = 7 → (wp_X_pointer kx u (fun r282 u282 => (wp_M_pointer km v (fun r286 v286 => ((r282 = r286 → (∀ x3_397 : Int32, x3_397 = x3 + 3 → lp_L_law kx km L xs n x3_397 u282 v286)) ∧ (¬ r282 = r286 → False))))))) ∧ ((((xs j68) &&& 15) = 8 → (∃ j299 : Nat, (x3 + 1) = nI j299 ∧ j299 < L ∧ (wp_X_bucketOf kx (xs j299) u (fun r300 u300 => (wp_M_bucketOf km (xs j299) v (fun r309 v309 => ((r300 = r309 → (∀ x3_397 : Int32, x3_397 = x3 + 3 → lp_L_law kx km L xs n x3_397 u300 v309)) ∧ (¬ r300 = r309 → False)))))))) ∧ ((((xs j68) &&& 15) = 9 → (∃ j322 : Nat, (x3 + 1) = nI j322 ∧ j322 < L ∧ (wp_X_pages kx (xs j322) u (fun r323 u323 => (wp_M_pages km (xs j322) v (fun r332 v332 => ((r323 = r332 → (∀ x3_397 : Int32, x3_397 = x3 + 3 → lp_L_law kx km L xs n x3_397 u323 v332)) ∧ (¬ r323 = r332 → False)))))))) ∧ ((((xs j68) &&& 15) = 10 → (wp_X_free kx u (fun r341 u341 => (wp_M_free km v (fun r345 v345 => ((r341 = r345 → (∀ x3_397 : Int32, x3_397 = x3 + 3 → lp_L_law kx km L xs n x3_397 u341 v345)) ∧ (¬ r341 = r345 → False))))))) ∧ ((((xs j68) &&& 15) = 11 → (∃ j358 : Nat, (x3 + 1) = nI j358 ∧ j358 < L ∧ (∃ j363 : Nat, (x3 + 2) = nI j363 ∧ j363 < L ∧ (wp_X_key kx (xs j358) (xs j363) u (fun r364 u364 => (wp_M_key km (xs j358) (xs j363) v (fun r378 v378 => ((r364 = r378 → (∀ x3_397 : Int32, x3_397 = x3 + 3 → lp_L_law kx km L xs n x3_397 u364 v378)) ∧ (¬ r364 = r378 → False))))))))) ∧ ((((xs j68) &&& 15) = 12 → (wp_X_clear kx u (fun u387 => (wp_M_clear km v (fun v391 => (∀ x3_397 : Int32, x3_397 = x3 + 3 → lp_L_law kx km L xs n x3_397 u387 v391)))))) ∧ (((∀ x3_397 : Int32, x3_397 = x3 + 3 → lp_L_law kx km L xs n x3_397 u v))))))))))))))))))
end
section
/-! decode rows -/
theorem d_X_takePage_0 : decode b_X_takePage 0 = .ok (.aload_n 0, 1) := by decide +kernel
theorem d_X_takePage_1 : decode b_X_takePage 1 = .ok (.getfield 54, 3) := by decide +kernel
theorem d_X_takePage_4 : decode b_X_takePage 4 = .ok (.istore_n 1, 1) := by decide +kernel
theorem d_X_takePage_5 : decode b_X_takePage 5 = .ok (.aload_n 0, 1) := by decide +kernel
theorem d_X_takePage_6 : decode b_X_takePage 6 = .ok (.aload_n 0, 1) := by decide +kernel
theorem d_X_takePage_7 : decode b_X_takePage 7 = .ok (.getfield 42, 3) := by decide +kernel
theorem d_X_takePage_10 : decode b_X_takePage 10 = .ok (.iload_n 1, 1) := by decide +kernel
theorem d_X_takePage_11 : decode b_X_takePage 11 = .ok (.iaload, 1) := by decide +kernel
theorem d_X_takePage_12 : decode b_X_takePage 12 = .ok (.putfield 54, 3) := by decide +kernel
theorem d_X_takePage_15 : decode b_X_takePage 15 = .ok (.aload_n 0, 1) := by decide +kernel
theorem d_X_takePage_16 : decode b_X_takePage 16 = .ok (.getfield 42, 3) := by decide +kernel
theorem d_X_takePage_19 : decode b_X_takePage 19 = .ok (.iload_n 1, 1) := by decide +kernel
theorem d_X_takePage_20 : decode b_X_takePage 20 = .ok (.iconst (-1), 1) := by decide +kernel
theorem d_X_takePage_21 : decode b_X_takePage 21 = .ok (.iastore, 1) := by decide +kernel
theorem d_X_takePage_22 : decode b_X_takePage 22 = .ok (.aload_n 0, 1) := by decide +kernel
theorem d_X_takePage_23 : decode b_X_takePage 23 = .ok (.dup, 1) := by decide +kernel
theorem d_X_takePage_24 : decode b_X_takePage 24 = .ok (.getfield 57, 3) := by decide +kernel
theorem d_X_takePage_27 : decode b_X_takePage 27 = .ok (.iconst 1, 1) := by decide +kernel
theorem d_X_takePage_28 : decode b_X_takePage 28 = .ok (.isub, 1) := by decide +kernel
theorem d_X_takePage_29 : decode b_X_takePage 29 = .ok (.putfield 57, 3) := by decide +kernel
theorem d_X_takePage_32 : decode b_X_takePage 32 = .ok (.iload_n 1, 1) := by decide +kernel
theorem d_X_takePage_33 : decode b_X_takePage 33 = .ok (.ireturn, 1) := by decide +kernel
theorem d_X_givePage_0 : decode b_X_givePage 0 = .ok (.aload_n 0, 1) := by decide +kernel
theorem d_X_givePage_1 : decode b_X_givePage 1 = .ok (.getfield 42, 3) := by decide +kernel
theorem d_X_givePage_4 : decode b_X_givePage 4 = .ok (.iload_n 1, 1) := by decide +kernel
theorem d_X_givePage_5 : decode b_X_givePage 5 = .ok (.aload_n 0, 1) := by decide +kernel
theorem d_X_givePage_6 : decode b_X_givePage 6 = .ok (.getfield 54, 3) := by decide +kernel
theorem d_X_givePage_9 : decode b_X_givePage 9 = .ok (.iastore, 1) := by decide +kernel
theorem d_X_givePage_10 : decode b_X_givePage 10 = .ok (.aload_n 0, 1) := by decide +kernel
theorem d_X_givePage_11 : decode b_X_givePage 11 = .ok (.iload_n 1, 1) := by decide +kernel
theorem d_X_givePage_12 : decode b_X_givePage 12 = .ok (.putfield 54, 3) := by decide +kernel
theorem d_X_givePage_15 : decode b_X_givePage 15 = .ok (.aload_n 0, 1) := by decide +kernel
theorem d_X_givePage_16 : decode b_X_givePage 16 = .ok (.dup, 1) := by decide +kernel
theorem d_X_givePage_17 : decode b_X_givePage 17 = .ok (.getfield 57, 3) := by decide +kernel
theorem d_X_givePage_20 : decode b_X_givePage 20 = .ok (.iconst 1, 1) := by decide +kernel
theorem d_X_givePage_21 : decode b_X_givePage 21 = .ok (.iadd, 1) := by decide +kernel
theorem d_X_givePage_22 : decode b_X_givePage 22 = .ok (.putfield 57, 3) := by decide +kernel
theorem d_X_givePage_25 : decode b_X_givePage 25 = .ok (.return_, 1) := by decide +kernel
theorem d_X_open_0 : decode b_X_open 0 = .ok (.aload_n 0, 1) := by decide +kernel
theorem d_X_open_1 : decode b_X_open 1 = .ok (.getfield 7, 3) := by decide +kernel
theorem d_X_open_4 : decode b_X_open 4 = .ok (.iload_n 1, 1) := by decide +kernel
theorem d_X_open_5 : decode b_X_open 5 = .ok (.aload_n 0, 1) := by decide +kernel
theorem d_X_open_6 : decode b_X_open 6 = .ok (.invokevirtual 73, 3) := by decide +kernel
theorem d_X_open_9 : decode b_X_open 9 = .ok (.iastore, 1) := by decide +kernel
theorem d_X_open_10 : decode b_X_open 10 = .ok (.aload_n 0, 1) := by decide +kernel
theorem d_X_open_11 : decode b_X_open 11 = .ok (.getfield 13, 3) := by decide +kernel
theorem d_X_open_14 : decode b_X_open 14 = .ok (.iload_n 1, 1) := by decide +kernel
theorem d_X_open_15 : decode b_X_open 15 = .ok (.aload_n 0, 1) := by decide +kernel
theorem d_X_open_16 : decode b_X_open 16 = .ok (.getfield 7, 3) := by decide +kernel
theorem d_X_open_19 : decode b_X_open 19 = .ok (.iload_n 1, 1) := by decide +kernel
theorem d_X_open_20 : decode b_X_open 20 = .ok (.iaload, 1) := by decide +kernel
theorem d_X_open_21 : decode b_X_open 21 = .ok (.iastore, 1) := by decide +kernel
theorem d_X_open_22 : decode b_X_open 22 = .ok (.aload_n 0, 1) := by decide +kernel
theorem d_X_open_23 : decode b_X_open 23 = .ok (.getfield 16, 3) := by decide +kernel
theorem d_X_open_26 : decode b_X_open 26 = .ok (.iload_n 1, 1) := by decide +kernel
theorem d_X_open_27 : decode b_X_open 27 = .ok (.iconst 0, 1) := by decide +kernel
theorem d_X_open_28 : decode b_X_open 28 = .ok (.iastore, 1) := by decide +kernel
theorem d_X_open_29 : decode b_X_open 29 = .ok (.return_, 1) := by decide +kernel
theorem d_X_clear_0 : decode b_X_clear 0 = .ok (.iconst 0, 1) := by decide +kernel
theorem d_X_clear_1 : decode b_X_clear 1 = .ok (.istore_n 1, 1) := by decide +kernel
theorem d_X_clear_2 : decode b_X_clear 2 = .ok (.iload_n 1, 1) := by decide +kernel
theorem d_X_clear_3 : decode b_X_clear 3 = .ok (.aload_n 0, 1) := by decide +kernel
theorem d_X_clear_4 : decode b_X_clear 4 = .ok (.getfield 30, 3) := by decide +kernel
theorem d_X_clear_7 : decode b_X_clear 7 = .ok (.if_icmp .ge 32, 3) := by decide +kernel
theorem d_X_clear_10 : decode b_X_clear 10 = .ok (.aload_n 0, 1) := by decide +kernel
theorem d_X_clear_11 : decode b_X_clear 11 = .ok (.getfield 42, 3) := by decide +kernel
theorem d_X_clear_14 : decode b_X_clear 14 = .ok (.iload_n 1, 1) := by decide +kernel
theorem d_X_clear_15 : decode b_X_clear 15 = .ok (.iload_n 1, 1) := by decide +kernel
theorem d_X_clear_16 : decode b_X_clear 16 = .ok (.iconst 1, 1) := by decide +kernel
theorem d_X_clear_17 : decode b_X_clear 17 = .ok (.iadd, 1) := by decide +kernel
theorem d_X_clear_18 : decode b_X_clear 18 = .ok (.aload_n 0, 1) := by decide +kernel
theorem d_X_clear_19 : decode b_X_clear 19 = .ok (.getfield 30, 3) := by decide +kernel
theorem d_X_clear_22 : decode b_X_clear 22 = .ok (.if_icmp .ge 9, 3) := by decide +kernel
theorem d_X_clear_25 : decode b_X_clear 25 = .ok (.iload_n 1, 1) := by decide +kernel
theorem d_X_clear_26 : decode b_X_clear 26 = .ok (.iconst 1, 1) := by decide +kernel
theorem d_X_clear_27 : decode b_X_clear 27 = .ok (.iadd, 1) := by decide +kernel
theorem d_X_clear_28 : decode b_X_clear 28 = .ok (.goto 4, 3) := by decide +kernel
theorem d_X_clear_31 : decode b_X_clear 31 = .ok (.iconst (-1), 1) := by decide +kernel
theorem d_X_clear_32 : decode b_X_clear 32 = .ok (.iastore, 1) := by decide +kernel
theorem d_X_clear_33 : decode b_X_clear 33 = .ok (.iinc 1 1, 3) := by decide +kernel
theorem d_X_clear_36 : decode b_X_clear 36 = .ok (.goto (-34), 3) := by decide +kernel
theorem d_X_clear_39 : decode b_X_clear 39 = .ok (.aload_n 0, 1) := by decide +kernel
theorem d_X_clear_40 : decode b_X_clear 40 = .ok (.iconst 0, 1) := by decide +kernel
theorem d_X_clear_41 : decode b_X_clear 41 = .ok (.putfield 54, 3) := by decide +kernel
theorem d_X_clear_44 : decode b_X_clear 44 = .ok (.aload_n 0, 1) := by decide +kernel
theorem d_X_clear_45 : decode b_X_clear 45 = .ok (.aload_n 0, 1) := by decide +kernel
theorem d_X_clear_46 : decode b_X_clear 46 = .ok (.getfield 30, 3) := by decide +kernel
theorem d_X_clear_49 : decode b_X_clear 49 = .ok (.putfield 57, 3) := by decide +kernel
theorem d_X_clear_52 : decode b_X_clear 52 = .ok (.aload_n 0, 1) := by decide +kernel
theorem d_X_clear_53 : decode b_X_clear 53 = .ok (.iconst 0, 1) := by decide +kernel
theorem d_X_clear_54 : decode b_X_clear 54 = .ok (.putfield 60, 3) := by decide +kernel
theorem d_X_clear_57 : decode b_X_clear 57 = .ok (.aload_n 0, 1) := by decide +kernel
theorem d_X_clear_58 : decode b_X_clear 58 = .ok (.iconst 0, 1) := by decide +kernel
theorem d_X_clear_59 : decode b_X_clear 59 = .ok (.putfield 63, 3) := by decide +kernel
theorem d_X_clear_62 : decode b_X_clear 62 = .ok (.aload_n 0, 1) := by decide +kernel
theorem d_X_clear_63 : decode b_X_clear 63 = .ok (.iconst 0, 1) := by decide +kernel
theorem d_X_clear_64 : decode b_X_clear 64 = .ok (.putfield 66, 3) := by decide +kernel
theorem d_X_clear_67 : decode b_X_clear 67 = .ok (.iconst 0, 1) := by decide +kernel
theorem d_X_clear_68 : decode b_X_clear 68 = .ok (.istore_n 1, 1) := by decide +kernel
theorem d_X_clear_69 : decode b_X_clear 69 = .ok (.iload_n 1, 1) := by decide +kernel
theorem d_X_clear_70 : decode b_X_clear 70 = .ok (.aload_n 0, 1) := by decide +kernel
theorem d_X_clear_71 : decode b_X_clear 71 = .ok (.getfield 23, 3) := by decide +kernel
theorem d_X_clear_74 : decode b_X_clear 74 = .ok (.if_icmp .ge 14, 3) := by decide +kernel
theorem d_X_clear_77 : decode b_X_clear 77 = .ok (.aload_n 0, 1) := by decide +kernel
theorem d_X_clear_78 : decode b_X_clear 78 = .ok (.iload_n 1, 1) := by decide +kernel
theorem d_X_clear_79 : decode b_X_clear 79 = .ok (.invokevirtual 69, 3) := by decide +kernel
theorem d_X_clear_82 : decode b_X_clear 82 = .ok (.iinc 1 1, 3) := by decide +kernel
theorem d_X_clear_85 : decode b_X_clear 85 = .ok (.goto (-16), 3) := by decide +kernel
theorem d_X_clear_88 : decode b_X_clear 88 = .ok (.return_, 1) := by decide +kernel
theorem d_X_add_0 : decode b_X_add 0 = .ok (.aload_n 0, 1) := by decide +kernel
theorem d_X_add_1 : decode b_X_add 1 = .ok (.getfield 16, 3) := by decide +kernel
theorem d_X_add_4 : decode b_X_add 4 = .ok (.iload_n 1, 1) := by decide +kernel
theorem d_X_add_5 : decode b_X_add 5 = .ok (.iaload, 1) := by decide +kernel
theorem d_X_add_6 : decode b_X_add 6 = .ok (.ifCond .le 44, 3) := by decide +kernel
theorem d_X_add_9 : decode b_X_add 9 = .ok (.aload_n 0, 1) := by decide +kernel
theorem d_X_add_10 : decode b_X_add 10 = .ok (.getfield 16, 3) := by decide +kernel
theorem d_X_add_13 : decode b_X_add 13 = .ok (.iload_n 1, 1) := by decide +kernel
theorem d_X_add_14 : decode b_X_add 14 = .ok (.iaload, 1) := by decide +kernel
theorem d_X_add_15 : decode b_X_add 15 = .ok (.aload_n 0, 1) := by decide +kernel
theorem d_X_add_16 : decode b_X_add 16 = .ok (.getfield 27, 3) := by decide +kernel
theorem d_X_add_19 : decode b_X_add 19 = .ok (.irem, 1) := by decide +kernel
theorem d_X_add_20 : decode b_X_add 20 = .ok (.ifCond .ne 30, 3) := by decide +kernel
theorem d_X_add_23 : decode b_X_add 23 = .ok (.aload_n 0, 1) := by decide +kernel
theorem d_X_add_24 : decode b_X_add 24 = .ok (.invokevirtual 73, 3) := by decide +kernel
theorem d_X_add_27 : decode b_X_add 27 = .ok (.istore 4, 2) := by decide +kernel
theorem d_X_add_29 : decode b_X_add 29 = .ok (.aload_n 0, 1) := by decide +kernel
theorem d_X_add_30 : decode b_X_add 30 = .ok (.getfield 42, 3) := by decide +kernel
theorem d_X_add_33 : decode b_X_add 33 = .ok (.aload_n 0, 1) := by decide +kernel
theorem d_X_add_34 : decode b_X_add 34 = .ok (.getfield 13, 3) := by decide +kernel
theorem d_X_add_37 : decode b_X_add 37 = .ok (.iload_n 1, 1) := by decide +kernel
theorem d_X_add_38 : decode b_X_add 38 = .ok (.iaload, 1) := by decide +kernel
theorem d_X_add_39 : decode b_X_add 39 = .ok (.iload 4, 2) := by decide +kernel
theorem d_X_add_41 : decode b_X_add 41 = .ok (.iastore, 1) := by decide +kernel
theorem d_X_add_42 : decode b_X_add 42 = .ok (.aload_n 0, 1) := by decide +kernel
theorem d_X_add_43 : decode b_X_add 43 = .ok (.getfield 13, 3) := by decide +kernel
theorem d_X_add_46 : decode b_X_add 46 = .ok (.iload_n 1, 1) := by decide +kernel
theorem d_X_add_47 : decode b_X_add 47 = .ok (.iload 4, 2) := by decide +kernel
theorem d_X_add_49 : decode b_X_add 49 = .ok (.iastore, 1) := by decide +kernel
theorem d_X_add_50 : decode b_X_add 50 = .ok (.aload_n 0, 1) := by decide +kernel
theorem d_X_add_51 : decode b_X_add 51 = .ok (.getfield 27, 3) := by decide +kernel
theorem d_X_add_54 : decode b_X_add 54 = .ok (.aload_n 0, 1) := by decide +kernel
theorem d_X_add_55 : decode b_X_add 55 = .ok (.getfield 13, 3) := by decide +kernel
theorem d_X_add_58 : decode b_X_add 58 = .ok (.iload_n 1, 1) := by decide +kernel
theorem d_X_add_59 : decode b_X_add 59 = .ok (.iaload, 1) := by decide +kernel
theorem d_X_add_60 : decode b_X_add 60 = .ok (.imul, 1) := by decide +kernel
theorem d_X_add_61 : decode b_X_add 61 = .ok (.aload_n 0, 1) := by decide +kernel
theorem d_X_add_62 : decode b_X_add 62 = .ok (.getfield 16, 3) := by decide +kernel
theorem d_X_add_65 : decode b_X_add 65 = .ok (.iload_n 1, 1) := by decide +kernel
theorem d_X_add_66 : decode b_X_add 66 = .ok (.iaload, 1) := by decide +kernel
theorem d_X_add_67 : decode b_X_add 67 = .ok (.aload_n 0, 1) := by decide +kernel
theorem d_X_add_68 : decode b_X_add 68 = .ok (.getfield 27, 3) := by decide +kernel
theorem d_X_add_71 : decode b_X_add 71 = .ok (.irem, 1) := by decide +kernel
theorem d_X_add_72 : decode b_X_add 72 = .ok (.iadd, 1) := by decide +kernel
theorem d_X_add_73 : decode b_X_add 73 = .ok (.istore 4, 2) := by decide +kernel
theorem d_X_add_75 : decode b_X_add 75 = .ok (.aload_n 0, 1) := by decide +kernel
theorem d_X_add_76 : decode b_X_add 76 = .ok (.getfield 36, 3) := by decide +kernel
theorem d_X_add_79 : decode b_X_add 79 = .ok (.iload 4, 2) := by decide +kernel
theorem d_X_add_81 : decode b_X_add 81 = .ok (.iload_n 2, 1) := by decide +kernel
theorem d_X_add_82 : decode b_X_add 82 = .ok (.iastore, 1) := by decide +kernel
theorem d_X_add_83 : decode b_X_add 83 = .ok (.aload_n 0, 1) := by decide +kernel
theorem d_X_add_84 : decode b_X_add 84 = .ok (.getfield 39, 3) := by decide +kernel
theorem d_X_add_87 : decode b_X_add 87 = .ok (.iload 4, 2) := by decide +kernel
theorem d_X_add_89 : decode b_X_add 89 = .ok (.iload_n 3, 1) := by decide +kernel
theorem d_X_add_90 : decode b_X_add 90 = .ok (.iastore, 1) := by decide +kernel
theorem d_X_add_91 : decode b_X_add 91 = .ok (.aload_n 0, 1) := by decide +kernel
theorem d_X_add_92 : decode b_X_add 92 = .ok (.getfield 16, 3) := by decide +kernel
theorem d_X_add_95 : decode b_X_add 95 = .ok (.iload_n 1, 1) := by decide +kernel
theorem d_X_add_96 : decode b_X_add 96 = .ok (.dup2, 1) := by decide +kernel
theorem d_X_add_97 : decode b_X_add 97 = .ok (.iaload, 1) := by decide +kernel
theorem d_X_add_98 : decode b_X_add 98 = .ok (.iconst 1, 1) := by decide +kernel
theorem d_X_add_99 : decode b_X_add 99 = .ok (.iadd, 1) := by decide +kernel
theorem d_X_add_100 : decode b_X_add 100 = .ok (.iastore, 1) := by decide +kernel
theorem d_X_add_101 : decode b_X_add 101 = .ok (.return_, 1) := by decide +kernel
theorem d_X_place_0 : decode b_X_place 0 = .ok (.aload_n 0, 1) := by decide +kernel
theorem d_X_place_1 : decode b_X_place 1 = .ok (.getfield 7, 3) := by decide +kernel
theorem d_X_place_4 : decode b_X_place 4 = .ok (.iload_n 1, 1) := by decide +kernel
theorem d_X_place_5 : decode b_X_place 5 = .ok (.iaload, 1) := by decide +kernel
theorem d_X_place_6 : decode b_X_place 6 = .ok (.istore_n 3, 1) := by decide +kernel
theorem d_X_place_7 : decode b_X_place 7 = .ok (.aload_n 0, 1) := by decide +kernel
theorem d_X_place_8 : decode b_X_place 8 = .ok (.getfield 27, 3) := by decide +kernel
theorem d_X_place_11 : decode b_X_place 11 = .ok (.istore 4, 2) := by decide +kernel
theorem d_X_place_13 : decode b_X_place 13 = .ok (.iload 4, 2) := by decide +kernel
theorem d_X_place_15 : decode b_X_place 15 = .ok (.iload_n 2, 1) := by decide +kernel
theorem d_X_place_16 : decode b_X_place 16 = .ok (.if_icmp .gt 22, 3) := by decide +kernel
theorem d_X_place_19 : decode b_X_place 19 = .ok (.aload_n 0, 1) := by decide +kernel
theorem d_X_place_20 : decode b_X_place 20 = .ok (.getfield 42, 3) := by decide +kernel
theorem d_X_place_23 : decode b_X_place 23 = .ok (.iload_n 3, 1) := by decide +kernel
theorem d_X_place_24 : decode b_X_place 24 = .ok (.iaload, 1) := by decide +kernel
theorem d_X_place_25 : decode b_X_place 25 = .ok (.istore_n 3, 1) := by decide +kernel
theorem d_X_place_26 : decode b_X_place 26 = .ok (.iload 4, 2) := by decide +kernel
theorem d_X_place_28 : decode b_X_place 28 = .ok (.aload_n 0, 1) := by decide +kernel
theorem d_X_place_29 : decode b_X_place 29 = .ok (.getfield 27, 3) := by decide +kernel
theorem d_X_place_32 : decode b_X_place 32 = .ok (.iadd, 1) := by decide +kernel
theorem d_X_place_33 : decode b_X_place 33 = .ok (.istore 4, 2) := by decide +kernel
theorem d_X_place_35 : decode b_X_place 35 = .ok (.goto (-22), 3) := by decide +kernel
theorem d_X_place_38 : decode b_X_place 38 = .ok (.aload_n 0, 1) := by decide +kernel
theorem d_X_place_39 : decode b_X_place 39 = .ok (.getfield 27, 3) := by decide +kernel
theorem d_X_place_42 : decode b_X_place 42 = .ok (.iload_n 3, 1) := by decide +kernel
theorem d_X_place_43 : decode b_X_place 43 = .ok (.imul, 1) := by decide +kernel
theorem d_X_place_44 : decode b_X_place 44 = .ok (.iload_n 2, 1) := by decide +kernel
theorem d_X_place_45 : decode b_X_place 45 = .ok (.aload_n 0, 1) := by decide +kernel
theorem d_X_place_46 : decode b_X_place 46 = .ok (.getfield 27, 3) := by decide +kernel
theorem d_X_place_49 : decode b_X_place 49 = .ok (.irem, 1) := by decide +kernel
theorem d_X_place_50 : decode b_X_place 50 = .ok (.iadd, 1) := by decide +kernel
theorem d_X_place_51 : decode b_X_place 51 = .ok (.ireturn, 1) := by decide +kernel
theorem d_X_find_0 : decode b_X_find 0 = .ok (.aload_n 0, 1) := by decide +kernel
theorem d_X_find_1 : decode b_X_find 1 = .ok (.getfield 7, 3) := by decide +kernel
theorem d_X_find_4 : decode b_X_find 4 = .ok (.iload_n 1, 1) := by decide +kernel
theorem d_X_find_5 : decode b_X_find 5 = .ok (.iaload, 1) := by decide +kernel
theorem d_X_find_6 : decode b_X_find 6 = .ok (.istore_n 3, 1) := by decide +kernel
theorem d_X_find_7 : decode b_X_find 7 = .ok (.iconst 0, 1) := by decide +kernel
theorem d_X_find_8 : decode b_X_find 8 = .ok (.istore 4, 2) := by decide +kernel
theorem d_X_find_10 : decode b_X_find 10 = .ok (.iload 4, 2) := by decide +kernel
theorem d_X_find_12 : decode b_X_find 12 = .ok (.aload_n 0, 1) := by decide +kernel
theorem d_X_find_13 : decode b_X_find 13 = .ok (.getfield 16, 3) := by decide +kernel
theorem d_X_find_16 : decode b_X_find 16 = .ok (.iload_n 1, 1) := by decide +kernel
theorem d_X_find_17 : decode b_X_find 17 = .ok (.iaload, 1) := by decide +kernel
theorem d_X_find_18 : decode b_X_find 18 = .ok (.if_icmp .ge 61, 3) := by decide +kernel
theorem d_X_find_21 : decode b_X_find 21 = .ok (.iload 4, 2) := by decide +kernel
theorem d_X_find_23 : decode b_X_find 23 = .ok (.ifCond .le 22, 3) := by decide +kernel
theorem d_X_find_26 : decode b_X_find 26 = .ok (.iload 4, 2) := by decide +kernel
theorem d_X_find_28 : decode b_X_find 28 = .ok (.aload_n 0, 1) := by decide +kernel
theorem d_X_find_29 : decode b_X_find 29 = .ok (.getfield 27, 3) := by decide +kernel
theorem d_X_find_32 : decode b_X_find 32 = .ok (.irem, 1) := by decide +kernel
theorem d_X_find_33 : decode b_X_find 33 = .ok (.ifCond .ne 12, 3) := by decide +kernel
theorem d_X_find_36 : decode b_X_find 36 = .ok (.aload_n 0, 1) := by decide +kernel
theorem d_X_find_37 : decode b_X_find 37 = .ok (.getfield 42, 3) := by decide +kernel
theorem d_X_find_40 : decode b_X_find 40 = .ok (.iload_n 3, 1) := by decide +kernel
theorem d_X_find_41 : decode b_X_find 41 = .ok (.iaload, 1) := by decide +kernel
theorem d_X_find_42 : decode b_X_find 42 = .ok (.goto 4, 3) := by decide +kernel
theorem d_X_find_45 : decode b_X_find 45 = .ok (.iload_n 3, 1) := by decide +kernel
theorem d_X_find_46 : decode b_X_find 46 = .ok (.istore_n 3, 1) := by decide +kernel
theorem d_X_find_47 : decode b_X_find 47 = .ok (.aload_n 0, 1) := by decide +kernel
theorem d_X_find_48 : decode b_X_find 48 = .ok (.getfield 36, 3) := by decide +kernel
theorem d_X_find_51 : decode b_X_find 51 = .ok (.aload_n 0, 1) := by decide +kernel
theorem d_X_find_52 : decode b_X_find 52 = .ok (.getfield 27, 3) := by decide +kernel
theorem d_X_find_55 : decode b_X_find 55 = .ok (.iload_n 3, 1) := by decide +kernel
theorem d_X_find_56 : decode b_X_find 56 = .ok (.imul, 1) := by decide +kernel
theorem d_X_find_57 : decode b_X_find 57 = .ok (.iload 4, 2) := by decide +kernel
theorem d_X_find_59 : decode b_X_find 59 = .ok (.aload_n 0, 1) := by decide +kernel
theorem d_X_find_60 : decode b_X_find 60 = .ok (.getfield 27, 3) := by decide +kernel
theorem d_X_find_63 : decode b_X_find 63 = .ok (.irem, 1) := by decide +kernel
theorem d_X_find_64 : decode b_X_find 64 = .ok (.iadd, 1) := by decide +kernel
theorem d_X_find_65 : decode b_X_find 65 = .ok (.iaload, 1) := by decide +kernel
theorem d_X_find_66 : decode b_X_find 66 = .ok (.iload_n 2, 1) := by decide +kernel
theorem d_X_find_67 : decode b_X_find 67 = .ok (.if_icmp .ne 6, 3) := by decide +kernel
theorem d_X_find_70 : decode b_X_find 70 = .ok (.iload 4, 2) := by decide +kernel
theorem d_X_find_72 : decode b_X_find 72 = .ok (.ireturn, 1) := by decide +kernel
theorem d_X_find_73 : decode b_X_find 73 = .ok (.iinc 4 1, 3) := by decide +kernel
theorem d_X_find_76 : decode b_X_find 76 = .ok (.goto (-66), 3) := by decide +kernel
theorem d_X_find_79 : decode b_X_find 79 = .ok (.iconst (-1), 1) := by decide +kernel
theorem d_X_find_80 : decode b_X_find 80 = .ok (.ireturn, 1) := by decide +kernel
theorem d_X_dropLast_0 : decode b_X_dropLast 0 = .ok (.aload_n 0, 1) := by decide +kernel
theorem d_X_dropLast_1 : decode b_X_dropLast 1 = .ok (.getfield 16, 3) := by decide +kernel
theorem d_X_dropLast_4 : decode b_X_dropLast 4 = .ok (.iload_n 1, 1) := by decide +kernel
theorem d_X_dropLast_5 : decode b_X_dropLast 5 = .ok (.dup2, 1) := by decide +kernel
theorem d_X_dropLast_6 : decode b_X_dropLast 6 = .ok (.iaload, 1) := by decide +kernel
theorem d_X_dropLast_7 : decode b_X_dropLast 7 = .ok (.iconst 1, 1) := by decide +kernel
theorem d_X_dropLast_8 : decode b_X_dropLast 8 = .ok (.isub, 1) := by decide +kernel
theorem d_X_dropLast_9 : decode b_X_dropLast 9 = .ok (.iastore, 1) := by decide +kernel
theorem d_X_dropLast_10 : decode b_X_dropLast 10 = .ok (.aload_n 0, 1) := by decide +kernel
theorem d_X_dropLast_11 : decode b_X_dropLast 11 = .ok (.getfield 16, 3) := by decide +kernel
theorem d_X_dropLast_14 : decode b_X_dropLast 14 = .ok (.iload_n 1, 1) := by decide +kernel
theorem d_X_dropLast_15 : decode b_X_dropLast 15 = .ok (.iaload, 1) := by decide +kernel
theorem d_X_dropLast_16 : decode b_X_dropLast 16 = .ok (.ifCond .le 73, 3) := by decide +kernel
theorem d_X_dropLast_19 : decode b_X_dropLast 19 = .ok (.aload_n 0, 1) := by decide +kernel
theorem d_X_dropLast_20 : decode b_X_dropLast 20 = .ok (.getfield 16, 3) := by decide +kernel
theorem d_X_dropLast_23 : decode b_X_dropLast 23 = .ok (.iload_n 1, 1) := by decide +kernel
theorem d_X_dropLast_24 : decode b_X_dropLast 24 = .ok (.iaload, 1) := by decide +kernel
theorem d_X_dropLast_25 : decode b_X_dropLast 25 = .ok (.aload_n 0, 1) := by decide +kernel
theorem d_X_dropLast_26 : decode b_X_dropLast 26 = .ok (.getfield 27, 3) := by decide +kernel
theorem d_X_dropLast_29 : decode b_X_dropLast 29 = .ok (.irem, 1) := by decide +kernel
theorem d_X_dropLast_30 : decode b_X_dropLast 30 = .ok (.ifCond .ne 59, 3) := by decide +kernel
theorem d_X_dropLast_33 : decode b_X_dropLast 33 = .ok (.aload_n 0, 1) := by decide +kernel
theorem d_X_dropLast_34 : decode b_X_dropLast 34 = .ok (.getfield 7, 3) := by decide +kernel
theorem d_X_dropLast_37 : decode b_X_dropLast 37 = .ok (.iload_n 1, 1) := by decide +kernel
theorem d_X_dropLast_38 : decode b_X_dropLast 38 = .ok (.iaload, 1) := by decide +kernel
theorem d_X_dropLast_39 : decode b_X_dropLast 39 = .ok (.istore_n 2, 1) := by decide +kernel
theorem d_X_dropLast_40 : decode b_X_dropLast 40 = .ok (.aload_n 0, 1) := by decide +kernel
theorem d_X_dropLast_41 : decode b_X_dropLast 41 = .ok (.getfield 42, 3) := by decide +kernel
theorem d_X_dropLast_44 : decode b_X_dropLast 44 = .ok (.iload_n 2, 1) := by decide +kernel
theorem d_X_dropLast_45 : decode b_X_dropLast 45 = .ok (.iaload, 1) := by decide +kernel
theorem d_X_dropLast_46 : decode b_X_dropLast 46 = .ok (.aload_n 0, 1) := by decide +kernel
theorem d_X_dropLast_47 : decode b_X_dropLast 47 = .ok (.getfield 13, 3) := by decide +kernel
theorem d_X_dropLast_50 : decode b_X_dropLast 50 = .ok (.iload_n 1, 1) := by decide +kernel
theorem d_X_dropLast_51 : decode b_X_dropLast 51 = .ok (.iaload, 1) := by decide +kernel
theorem d_X_dropLast_52 : decode b_X_dropLast 52 = .ok (.if_icmp .eq 13, 3) := by decide +kernel
theorem d_X_dropLast_55 : decode b_X_dropLast 55 = .ok (.aload_n 0, 1) := by decide +kernel
theorem d_X_dropLast_56 : decode b_X_dropLast 56 = .ok (.getfield 42, 3) := by decide +kernel
theorem d_X_dropLast_59 : decode b_X_dropLast 59 = .ok (.iload_n 2, 1) := by decide +kernel
theorem d_X_dropLast_60 : decode b_X_dropLast 60 = .ok (.iaload, 1) := by decide +kernel
theorem d_X_dropLast_61 : decode b_X_dropLast 61 = .ok (.istore_n 2, 1) := by decide +kernel
theorem d_X_dropLast_62 : decode b_X_dropLast 62 = .ok (.goto (-22), 3) := by decide +kernel
theorem d_X_dropLast_65 : decode b_X_dropLast 65 = .ok (.aload_n 0, 1) := by decide +kernel
theorem d_X_dropLast_66 : decode b_X_dropLast 66 = .ok (.aload_n 0, 1) := by decide +kernel
theorem d_X_dropLast_67 : decode b_X_dropLast 67 = .ok (.getfield 13, 3) := by decide +kernel
theorem d_X_dropLast_70 : decode b_X_dropLast 70 = .ok (.iload_n 1, 1) := by decide +kernel
theorem d_X_dropLast_71 : decode b_X_dropLast 71 = .ok (.iaload, 1) := by decide +kernel
theorem d_X_dropLast_72 : decode b_X_dropLast 72 = .ok (.invokevirtual 77, 3) := by decide +kernel
theorem d_X_dropLast_75 : decode b_X_dropLast 75 = .ok (.aload_n 0, 1) := by decide +kernel
theorem d_X_dropLast_76 : decode b_X_dropLast 76 = .ok (.getfield 42, 3) := by decide +kernel
theorem d_X_dropLast_79 : decode b_X_dropLast 79 = .ok (.iload_n 2, 1) := by decide +kernel
theorem d_X_dropLast_80 : decode b_X_dropLast 80 = .ok (.iconst (-1), 1) := by decide +kernel
theorem d_X_dropLast_81 : decode b_X_dropLast 81 = .ok (.iastore, 1) := by decide +kernel
theorem d_X_dropLast_82 : decode b_X_dropLast 82 = .ok (.aload_n 0, 1) := by decide +kernel
theorem d_X_dropLast_83 : decode b_X_dropLast 83 = .ok (.getfield 13, 3) := by decide +kernel
theorem d_X_dropLast_86 : decode b_X_dropLast 86 = .ok (.iload_n 1, 1) := by decide +kernel
theorem d_X_dropLast_87 : decode b_X_dropLast 87 = .ok (.iload_n 2, 1) := by decide +kernel
theorem d_X_dropLast_88 : decode b_X_dropLast 88 = .ok (.iastore, 1) := by decide +kernel
theorem d_X_dropLast_89 : decode b_X_dropLast 89 = .ok (.return_, 1) := by decide +kernel
theorem d_X_takeOff_0 : decode b_X_takeOff 0 = .ok (.iconst 0, 1) := by decide +kernel
theorem d_X_takeOff_1 : decode b_X_takeOff 1 = .ok (.istore_n 2, 1) := by decide +kernel
theorem d_X_takeOff_2 : decode b_X_takeOff 2 = .ok (.iload_n 2, 1) := by decide +kernel
theorem d_X_takeOff_3 : decode b_X_takeOff 3 = .ok (.aload_n 0, 1) := by decide +kernel
theorem d_X_takeOff_4 : decode b_X_takeOff 4 = .ok (.getfield 16, 3) := by decide +kernel
theorem d_X_takeOff_7 : decode b_X_takeOff 7 = .ok (.iload_n 1, 1) := by decide +kernel
theorem d_X_takeOff_8 : decode b_X_takeOff 8 = .ok (.iaload, 1) := by decide +kernel
theorem d_X_takeOff_9 : decode b_X_takeOff 9 = .ok (.if_icmp .ge 56, 3) := by decide +kernel
theorem d_X_takeOff_12 : decode b_X_takeOff 12 = .ok (.aload_n 0, 1) := by decide +kernel
theorem d_X_takeOff_13 : decode b_X_takeOff 13 = .ok (.iload_n 1, 1) := by decide +kernel
theorem d_X_takeOff_14 : decode b_X_takeOff 14 = .ok (.iload_n 2, 1) := by decide +kernel
theorem d_X_takeOff_15 : decode b_X_takeOff 15 = .ok (.invokevirtual 80, 3) := by decide +kernel
theorem d_X_takeOff_18 : decode b_X_takeOff 18 = .ok (.istore_n 3, 1) := by decide +kernel
theorem d_X_takeOff_19 : decode b_X_takeOff 19 = .ok (.aload_n 0, 1) := by decide +kernel
theorem d_X_takeOff_20 : decode b_X_takeOff 20 = .ok (.getfield 45, 3) := by decide +kernel
theorem d_X_takeOff_23 : decode b_X_takeOff 23 = .ok (.aload_n 0, 1) := by decide +kernel
theorem d_X_takeOff_24 : decode b_X_takeOff 24 = .ok (.getfield 84, 3) := by decide +kernel
theorem d_X_takeOff_27 : decode b_X_takeOff 27 = .ok (.aload_n 0, 1) := by decide +kernel
theorem d_X_takeOff_28 : decode b_X_takeOff 28 = .ok (.getfield 36, 3) := by decide +kernel
theorem d_X_takeOff_31 : decode b_X_takeOff 31 = .ok (.iload_n 3, 1) := by decide +kernel
theorem d_X_takeOff_32 : decode b_X_takeOff 32 = .ok (.iaload, 1) := by decide +kernel
theorem d_X_takeOff_33 : decode b_X_takeOff 33 = .ok (.iastore, 1) := by decide +kernel
theorem d_X_takeOff_34 : decode b_X_takeOff 34 = .ok (.aload_n 0, 1) := by decide +kernel
theorem d_X_takeOff_35 : decode b_X_takeOff 35 = .ok (.getfield 48, 3) := by decide +kernel
theorem d_X_takeOff_38 : decode b_X_takeOff 38 = .ok (.aload_n 0, 1) := by decide +kernel
theorem d_X_takeOff_39 : decode b_X_takeOff 39 = .ok (.getfield 84, 3) := by decide +kernel
theorem d_X_takeOff_42 : decode b_X_takeOff 42 = .ok (.aload_n 0, 1) := by decide +kernel
theorem d_X_takeOff_43 : decode b_X_takeOff 43 = .ok (.getfield 39, 3) := by decide +kernel
theorem d_X_takeOff_46 : decode b_X_takeOff 46 = .ok (.iload_n 3, 1) := by decide +kernel
theorem d_X_takeOff_47 : decode b_X_takeOff 47 = .ok (.iaload, 1) := by decide +kernel
theorem d_X_takeOff_48 : decode b_X_takeOff 48 = .ok (.iastore, 1) := by decide +kernel
theorem d_X_takeOff_49 : decode b_X_takeOff 49 = .ok (.aload_n 0, 1) := by decide +kernel
theorem d_X_takeOff_50 : decode b_X_takeOff 50 = .ok (.dup, 1) := by decide +kernel
theorem d_X_takeOff_51 : decode b_X_takeOff 51 = .ok (.getfield 84, 3) := by decide +kernel
theorem d_X_takeOff_54 : decode b_X_takeOff 54 = .ok (.iconst 1, 1) := by decide +kernel
theorem d_X_takeOff_55 : decode b_X_takeOff 55 = .ok (.iadd, 1) := by decide +kernel
theorem d_X_takeOff_56 : decode b_X_takeOff 56 = .ok (.putfield 84, 3) := by decide +kernel
theorem d_X_takeOff_59 : decode b_X_takeOff 59 = .ok (.iinc 2 1, 3) := by decide +kernel
theorem d_X_takeOff_62 : decode b_X_takeOff 62 = .ok (.goto (-60), 3) := by decide +kernel
theorem d_X_takeOff_65 : decode b_X_takeOff 65 = .ok (.aload_n 0, 1) := by decide +kernel
theorem d_X_takeOff_66 : decode b_X_takeOff 66 = .ok (.getfield 7, 3) := by decide +kernel
theorem d_X_takeOff_69 : decode b_X_takeOff 69 = .ok (.iload_n 1, 1) := by decide +kernel
theorem d_X_takeOff_70 : decode b_X_takeOff 70 = .ok (.iaload, 1) := by decide +kernel
theorem d_X_takeOff_71 : decode b_X_takeOff 71 = .ok (.istore_n 2, 1) := by decide +kernel
theorem d_X_takeOff_72 : decode b_X_takeOff 72 = .ok (.iload_n 2, 1) := by decide +kernel
theorem d_X_takeOff_73 : decode b_X_takeOff 73 = .ok (.iconst (-1), 1) := by decide +kernel
theorem d_X_takeOff_74 : decode b_X_takeOff 74 = .ok (.if_icmp .eq 20, 3) := by decide +kernel
theorem d_X_takeOff_77 : decode b_X_takeOff 77 = .ok (.aload_n 0, 1) := by decide +kernel
theorem d_X_takeOff_78 : decode b_X_takeOff 78 = .ok (.getfield 42, 3) := by decide +kernel
theorem d_X_takeOff_81 : decode b_X_takeOff 81 = .ok (.iload_n 2, 1) := by decide +kernel
theorem d_X_takeOff_82 : decode b_X_takeOff 82 = .ok (.iaload, 1) := by decide +kernel
theorem d_X_takeOff_83 : decode b_X_takeOff 83 = .ok (.istore_n 3, 1) := by decide +kernel
theorem d_X_takeOff_84 : decode b_X_takeOff 84 = .ok (.aload_n 0, 1) := by decide +kernel
theorem d_X_takeOff_85 : decode b_X_takeOff 85 = .ok (.iload_n 2, 1) := by decide +kernel
theorem d_X_takeOff_86 : decode b_X_takeOff 86 = .ok (.invokevirtual 77, 3) := by decide +kernel
theorem d_X_takeOff_89 : decode b_X_takeOff 89 = .ok (.iload_n 3, 1) := by decide +kernel
theorem d_X_takeOff_90 : decode b_X_takeOff 90 = .ok (.istore_n 2, 1) := by decide +kernel
theorem d_X_takeOff_91 : decode b_X_takeOff 91 = .ok (.goto (-19), 3) := by decide +kernel
theorem d_X_takeOff_94 : decode b_X_takeOff 94 = .ok (.return_, 1) := by decide +kernel
theorem d_X_buckets_0 : decode b_X_buckets 0 = .ok (.aload_n 0, 1) := by decide +kernel
theorem d_X_buckets_1 : decode b_X_buckets 1 = .ok (.getfield 23, 3) := by decide +kernel
theorem d_X_buckets_4 : decode b_X_buckets 4 = .ok (.aload_n 0, 1) := by decide +kernel
theorem d_X_buckets_5 : decode b_X_buckets 5 = .ok (.getfield 60, 3) := by decide +kernel
theorem d_X_buckets_8 : decode b_X_buckets 8 = .ok (.ishl, 1) := by decide +kernel
theorem d_X_buckets_9 : decode b_X_buckets 9 = .ok (.aload_n 0, 1) := by decide +kernel
theorem d_X_buckets_10 : decode b_X_buckets 10 = .ok (.getfield 63, 3) := by decide +kernel
theorem d_X_buckets_13 : decode b_X_buckets 13 = .ok (.iadd, 1) := by decide +kernel
theorem d_X_buckets_14 : decode b_X_buckets 14 = .ok (.ireturn, 1) := by decide +kernel
theorem d_X_bucketOf2_0 : decode b_X_bucketOf2 0 = .ok (.iload_n 1, 1) := by decide +kernel
theorem d_X_bucketOf2_1 : decode b_X_bucketOf2 1 = .ok (.ldc 89, 2) := by decide +kernel
theorem d_X_bucketOf2_3 : decode b_X_bucketOf2 3 = .ok (.iand, 1) := by decide +kernel
theorem d_X_bucketOf2_4 : decode b_X_bucketOf2 4 = .ok (.istore_n 3, 1) := by decide +kernel
theorem d_X_bucketOf2_5 : decode b_X_bucketOf2 5 = .ok (.iload_n 3, 1) := by decide +kernel
theorem d_X_bucketOf2_6 : decode b_X_bucketOf2 6 = .ok (.aload_n 0, 1) := by decide +kernel
theorem d_X_bucketOf2_7 : decode b_X_bucketOf2 7 = .ok (.getfield 23, 3) := by decide +kernel
theorem d_X_bucketOf2_10 : decode b_X_bucketOf2 10 = .ok (.aload_n 0, 1) := by decide +kernel
theorem d_X_bucketOf2_11 : decode b_X_bucketOf2 11 = .ok (.getfield 60, 3) := by decide +kernel
theorem d_X_bucketOf2_14 : decode b_X_bucketOf2 14 = .ok (.ishl, 1) := by decide +kernel
theorem d_X_bucketOf2_15 : decode b_X_bucketOf2 15 = .ok (.irem, 1) := by decide +kernel
theorem d_X_bucketOf2_16 : decode b_X_bucketOf2 16 = .ok (.istore 4, 2) := by decide +kernel
theorem d_X_bucketOf2_18 : decode b_X_bucketOf2 18 = .ok (.iload 4, 2) := by decide +kernel
theorem d_X_bucketOf2_20 : decode b_X_bucketOf2 20 = .ok (.iload_n 2, 1) := by decide +kernel
theorem d_X_bucketOf2_21 : decode b_X_bucketOf2 21 = .ok (.if_icmp .ge 19, 3) := by decide +kernel
theorem d_X_bucketOf2_24 : decode b_X_bucketOf2 24 = .ok (.iload_n 3, 1) := by decide +kernel
theorem d_X_bucketOf2_25 : decode b_X_bucketOf2 25 = .ok (.aload_n 0, 1) := by decide +kernel
theorem d_X_bucketOf2_26 : decode b_X_bucketOf2 26 = .ok (.getfield 23, 3) := by decide +kernel
theorem d_X_bucketOf2_29 : decode b_X_bucketOf2 29 = .ok (.aload_n 0, 1) := by decide +kernel
theorem d_X_bucketOf2_30 : decode b_X_bucketOf2 30 = .ok (.getfield 60, 3) := by decide +kernel
theorem d_X_bucketOf2_33 : decode b_X_bucketOf2 33 = .ok (.iconst 1, 1) := by decide +kernel
theorem d_X_bucketOf2_34 : decode b_X_bucketOf2 34 = .ok (.iadd, 1) := by decide +kernel
theorem d_X_bucketOf2_35 : decode b_X_bucketOf2 35 = .ok (.ishl, 1) := by decide +kernel
theorem d_X_bucketOf2_36 : decode b_X_bucketOf2 36 = .ok (.irem, 1) := by decide +kernel
theorem d_X_bucketOf2_37 : decode b_X_bucketOf2 37 = .ok (.goto 5, 3) := by decide +kernel
theorem d_X_bucketOf2_40 : decode b_X_bucketOf2 40 = .ok (.iload 4, 2) := by decide +kernel
theorem d_X_bucketOf2_42 : decode b_X_bucketOf2 42 = .ok (.ireturn, 1) := by decide +kernel
theorem d_X_bucketOf_0 : decode b_X_bucketOf 0 = .ok (.aload_n 0, 1) := by decide +kernel
theorem d_X_bucketOf_1 : decode b_X_bucketOf 1 = .ok (.iload_n 1, 1) := by decide +kernel
theorem d_X_bucketOf_2 : decode b_X_bucketOf 2 = .ok (.aload_n 0, 1) := by decide +kernel
theorem d_X_bucketOf_3 : decode b_X_bucketOf 3 = .ok (.getfield 63, 3) := by decide +kernel
theorem d_X_bucketOf_6 : decode b_X_bucketOf 6 = .ok (.invokevirtual 90, 3) := by decide +kernel
theorem d_X_bucketOf_9 : decode b_X_bucketOf 9 = .ok (.ireturn, 1) := by decide +kernel
theorem d_X_split_0 : decode b_X_split 0 = .ok (.aload_n 0, 1) := by decide +kernel
theorem d_X_split_1 : decode b_X_split 1 = .ok (.invokevirtual 93, 3) := by decide +kernel
theorem d_X_split_4 : decode b_X_split 4 = .ok (.istore_n 1, 1) := by decide +kernel
theorem d_X_split_5 : decode b_X_split 5 = .ok (.aload_n 0, 1) := by decide +kernel
theorem d_X_split_6 : decode b_X_split 6 = .ok (.aload_n 0, 1) := by decide +kernel
theorem d_X_split_7 : decode b_X_split 7 = .ok (.getfield 63, 3) := by decide +kernel
theorem d_X_split_10 : decode b_X_split 10 = .ok (.invokevirtual 69, 3) := by decide +kernel
theorem d_X_split_13 : decode b_X_split 13 = .ok (.aload_n 0, 1) := by decide +kernel
theorem d_X_split_14 : decode b_X_split 14 = .ok (.iload_n 1, 1) := by decide +kernel
theorem d_X_split_15 : decode b_X_split 15 = .ok (.invokevirtual 69, 3) := by decide +kernel
theorem d_X_split_18 : decode b_X_split 18 = .ok (.iconst 0, 1) := by decide +kernel
theorem d_X_split_19 : decode b_X_split 19 = .ok (.istore_n 2, 1) := by decide +kernel
theorem d_X_split_20 : decode b_X_split 20 = .ok (.iload_n 2, 1) := by decide +kernel
theorem d_X_split_21 : decode b_X_split 21 = .ok (.aload_n 0, 1) := by decide +kernel
theorem d_X_split_22 : decode b_X_split 22 = .ok (.getfield 84, 3) := by decide +kernel
theorem d_X_split_25 : decode b_X_split 25 = .ok (.if_icmp .ge 41, 3) := by decide +kernel
theorem d_X_split_28 : decode b_X_split 28 = .ok (.aload_n 0, 1) := by decide +kernel
theorem d_X_split_29 : decode b_X_split 29 = .ok (.aload_n 0, 1) := by decide +kernel
theorem d_X_split_30 : decode b_X_split 30 = .ok (.aload_n 0, 1) := by decide +kernel
theorem d_X_split_31 : decode b_X_split 31 = .ok (.getfield 45, 3) := by decide +kernel
theorem d_X_split_34 : decode b_X_split 34 = .ok (.iload_n 2, 1) := by decide +kernel
theorem d_X_split_35 : decode b_X_split 35 = .ok (.iaload, 1) := by decide +kernel
theorem d_X_split_36 : decode b_X_split 36 = .ok (.aload_n 0, 1) := by decide +kernel
theorem d_X_split_37 : decode b_X_split 37 = .ok (.getfield 63, 3) := by decide +kernel
theorem d_X_split_40 : decode b_X_split 40 = .ok (.iconst 1, 1) := by decide +kernel
theorem d_X_split_41 : decode b_X_split 41 = .ok (.iadd, 1) := by decide +kernel
theorem d_X_split_42 : decode b_X_split 42 = .ok (.invokevirtual 90, 3) := by decide +kernel
theorem d_X_split_45 : decode b_X_split 45 = .ok (.aload_n 0, 1) := by decide +kernel
theorem d_X_split_46 : decode b_X_split 46 = .ok (.getfield 45, 3) := by decide +kernel
theorem d_X_split_49 : decode b_X_split 49 = .ok (.iload_n 2, 1) := by decide +kernel
theorem d_X_split_50 : decode b_X_split 50 = .ok (.iaload, 1) := by decide +kernel
theorem d_X_split_51 : decode b_X_split 51 = .ok (.aload_n 0, 1) := by decide +kernel
theorem d_X_split_52 : decode b_X_split 52 = .ok (.getfield 48, 3) := by decide +kernel
theorem d_X_split_55 : decode b_X_split 55 = .ok (.iload_n 2, 1) := by decide +kernel
theorem d_X_split_56 : decode b_X_split 56 = .ok (.iaload, 1) := by decide +kernel
theorem d_X_split_57 : decode b_X_split 57 = .ok (.invokevirtual 96, 3) := by decide +kernel
theorem d_X_split_60 : decode b_X_split 60 = .ok (.iinc 2 1, 3) := by decide +kernel
theorem d_X_split_63 : decode b_X_split 63 = .ok (.goto (-43), 3) := by decide +kernel
theorem d_X_split_66 : decode b_X_split 66 = .ok (.aload_n 0, 1) := by decide +kernel
theorem d_X_split_67 : decode b_X_split 67 = .ok (.dup, 1) := by decide +kernel
theorem d_X_split_68 : decode b_X_split 68 = .ok (.getfield 63, 3) := by decide +kernel
theorem d_X_split_71 : decode b_X_split 71 = .ok (.iconst 1, 1) := by decide +kernel
theorem d_X_split_72 : decode b_X_split 72 = .ok (.iadd, 1) := by decide +kernel
theorem d_X_split_73 : decode b_X_split 73 = .ok (.putfield 63, 3) := by decide +kernel
theorem d_X_split_76 : decode b_X_split 76 = .ok (.aload_n 0, 1) := by decide +kernel
theorem d_X_split_77 : decode b_X_split 77 = .ok (.getfield 63, 3) := by decide +kernel
theorem d_X_split_80 : decode b_X_split 80 = .ok (.aload_n 0, 1) := by decide +kernel
theorem d_X_split_81 : decode b_X_split 81 = .ok (.getfield 23, 3) := by decide +kernel
theorem d_X_split_84 : decode b_X_split 84 = .ok (.aload_n 0, 1) := by decide +kernel
theorem d_X_split_85 : decode b_X_split 85 = .ok (.getfield 60, 3) := by decide +kernel
theorem d_X_split_88 : decode b_X_split 88 = .ok (.ishl, 1) := by decide +kernel
theorem d_X_split_89 : decode b_X_split 89 = .ok (.if_icmp .ne 18, 3) := by decide +kernel
theorem d_X_split_92 : decode b_X_split 92 = .ok (.aload_n 0, 1) := by decide +kernel
theorem d_X_split_93 : decode b_X_split 93 = .ok (.iconst 0, 1) := by decide +kernel
theorem d_X_split_94 : decode b_X_split 94 = .ok (.putfield 63, 3) := by decide +kernel
theorem d_X_split_97 : decode b_X_split 97 = .ok (.aload_n 0, 1) := by decide +kernel
theorem d_X_split_98 : decode b_X_split 98 = .ok (.dup, 1) := by decide +kernel
theorem d_X_split_99 : decode b_X_split 99 = .ok (.getfield 60, 3) := by decide +kernel
theorem d_X_split_102 : decode b_X_split 102 = .ok (.iconst 1, 1) := by decide +kernel
theorem d_X_split_103 : decode b_X_split 103 = .ok (.iadd, 1) := by decide +kernel
theorem d_X_split_104 : decode b_X_split 104 = .ok (.putfield 60, 3) := by decide +kernel
theorem d_X_split_107 : decode b_X_split 107 = .ok (.return_, 1) := by decide +kernel
theorem d_X_join_0 : decode b_X_join 0 = .ok (.aload_n 0, 1) := by decide +kernel
theorem d_X_join_1 : decode b_X_join 1 = .ok (.invokevirtual 93, 3) := by decide +kernel
theorem d_X_join_4 : decode b_X_join 4 = .ok (.iconst 1, 1) := by decide +kernel
theorem d_X_join_5 : decode b_X_join 5 = .ok (.isub, 1) := by decide +kernel
theorem d_X_join_6 : decode b_X_join 6 = .ok (.istore_n 1, 1) := by decide +kernel
theorem d_X_join_7 : decode b_X_join 7 = .ok (.aload_n 0, 1) := by decide +kernel
theorem d_X_join_8 : decode b_X_join 8 = .ok (.dup, 1) := by decide +kernel
theorem d_X_join_9 : decode b_X_join 9 = .ok (.getfield 60, 3) := by decide +kernel
theorem d_X_join_12 : decode b_X_join 12 = .ok (.aload_n 0, 1) := by decide +kernel
theorem d_X_join_13 : decode b_X_join 13 = .ok (.getfield 63, 3) := by decide +kernel
theorem d_X_join_16 : decode b_X_join 16 = .ok (.ifCond .ne 7, 3) := by decide +kernel
theorem d_X_join_19 : decode b_X_join 19 = .ok (.iconst 1, 1) := by decide +kernel
theorem d_X_join_20 : decode b_X_join 20 = .ok (.goto 4, 3) := by decide +kernel
theorem d_X_join_23 : decode b_X_join 23 = .ok (.iconst 0, 1) := by decide +kernel
theorem d_X_join_24 : decode b_X_join 24 = .ok (.isub, 1) := by decide +kernel
theorem d_X_join_25 : decode b_X_join 25 = .ok (.putfield 60, 3) := by decide +kernel
theorem d_X_join_28 : decode b_X_join 28 = .ok (.aload_n 0, 1) := by decide +kernel
theorem d_X_join_29 : decode b_X_join 29 = .ok (.aload_n 0, 1) := by decide +kernel
theorem d_X_join_30 : decode b_X_join 30 = .ok (.getfield 63, 3) := by decide +kernel
theorem d_X_join_33 : decode b_X_join 33 = .ok (.ifCond .ne 17, 3) := by decide +kernel
theorem d_X_join_36 : decode b_X_join 36 = .ok (.aload_n 0, 1) := by decide +kernel
theorem d_X_join_37 : decode b_X_join 37 = .ok (.getfield 23, 3) := by decide +kernel
theorem d_X_join_40 : decode b_X_join 40 = .ok (.aload_n 0, 1) := by decide +kernel
theorem d_X_join_41 : decode b_X_join 41 = .ok (.getfield 60, 3) := by decide +kernel
theorem d_X_join_44 : decode b_X_join 44 = .ok (.ishl, 1) := by decide +kernel
theorem d_X_join_45 : decode b_X_join 45 = .ok (.iconst 1, 1) := by decide +kernel
theorem d_X_join_46 : decode b_X_join 46 = .ok (.isub, 1) := by decide +kernel
theorem d_X_join_47 : decode b_X_join 47 = .ok (.goto 9, 3) := by decide +kernel
theorem d_X_join_50 : decode b_X_join 50 = .ok (.aload_n 0, 1) := by decide +kernel
theorem d_X_join_51 : decode b_X_join 51 = .ok (.getfield 63, 3) := by decide +kernel
theorem d_X_join_54 : decode b_X_join 54 = .ok (.iconst 1, 1) := by decide +kernel
theorem d_X_join_55 : decode b_X_join 55 = .ok (.isub, 1) := by decide +kernel
theorem d_X_join_56 : decode b_X_join 56 = .ok (.putfield 63, 3) := by decide +kernel
theorem d_X_join_59 : decode b_X_join 59 = .ok (.aload_n 0, 1) := by decide +kernel
theorem d_X_join_60 : decode b_X_join 60 = .ok (.iconst 0, 1) := by decide +kernel
theorem d_X_join_61 : decode b_X_join 61 = .ok (.putfield 84, 3) := by decide +kernel
theorem d_X_join_64 : decode b_X_join 64 = .ok (.aload_n 0, 1) := by decide +kernel
theorem d_X_join_65 : decode b_X_join 65 = .ok (.aload_n 0, 1) := by decide +kernel
theorem d_X_join_66 : decode b_X_join 66 = .ok (.getfield 63, 3) := by decide +kernel
theorem d_X_join_69 : decode b_X_join 69 = .ok (.invokevirtual 100, 3) := by decide +kernel
theorem d_X_join_72 : decode b_X_join 72 = .ok (.aload_n 0, 1) := by decide +kernel
theorem d_X_join_73 : decode b_X_join 73 = .ok (.iload_n 1, 1) := by decide +kernel
theorem d_X_join_74 : decode b_X_join 74 = .ok (.invokevirtual 100, 3) := by decide +kernel
theorem d_X_join_77 : decode b_X_join 77 = .ok (.aload_n 0, 1) := by decide +kernel
theorem d_X_join_78 : decode b_X_join 78 = .ok (.aload_n 0, 1) := by decide +kernel
theorem d_X_join_79 : decode b_X_join 79 = .ok (.getfield 63, 3) := by decide +kernel
theorem d_X_join_82 : decode b_X_join 82 = .ok (.invokevirtual 69, 3) := by decide +kernel
theorem d_X_join_85 : decode b_X_join 85 = .ok (.iconst 0, 1) := by decide +kernel
theorem d_X_join_86 : decode b_X_join 86 = .ok (.istore_n 2, 1) := by decide +kernel
theorem d_X_join_87 : decode b_X_join 87 = .ok (.iload_n 2, 1) := by decide +kernel
theorem d_X_join_88 : decode b_X_join 88 = .ok (.aload_n 0, 1) := by decide +kernel
theorem d_X_join_89 : decode b_X_join 89 = .ok (.getfield 84, 3) := by decide +kernel
theorem d_X_join_92 : decode b_X_join 92 = .ok (.if_icmp .ge 29, 3) := by decide +kernel
theorem d_X_join_95 : decode b_X_join 95 = .ok (.aload_n 0, 1) := by decide +kernel
theorem d_X_join_96 : decode b_X_join 96 = .ok (.aload_n 0, 1) := by decide +kernel
theorem d_X_join_97 : decode b_X_join 97 = .ok (.getfield 63, 3) := by decide +kernel
theorem d_X_join_100 : decode b_X_join 100 = .ok (.aload_n 0, 1) := by decide +kernel
theorem d_X_join_101 : decode b_X_join 101 = .ok (.getfield 45, 3) := by decide +kernel
theorem d_X_join_104 : decode b_X_join 104 = .ok (.iload_n 2, 1) := by decide +kernel
theorem d_X_join_105 : decode b_X_join 105 = .ok (.iaload, 1) := by decide +kernel
theorem d_X_join_106 : decode b_X_join 106 = .ok (.aload_n 0, 1) := by decide +kernel
theorem d_X_join_107 : decode b_X_join 107 = .ok (.getfield 48, 3) := by decide +kernel
theorem d_X_join_110 : decode b_X_join 110 = .ok (.iload_n 2, 1) := by decide +kernel
theorem d_X_join_111 : decode b_X_join 111 = .ok (.iaload, 1) := by decide +kernel
theorem d_X_join_112 : decode b_X_join 112 = .ok (.invokevirtual 96, 3) := by decide +kernel
theorem d_X_join_115 : decode b_X_join 115 = .ok (.iinc 2 1, 3) := by decide +kernel
theorem d_X_join_118 : decode b_X_join 118 = .ok (.goto (-31), 3) := by decide +kernel
theorem d_X_join_121 : decode b_X_join 121 = .ok (.return_, 1) := by decide +kernel
theorem d_X_pagesOf_0 : decode b_X_pagesOf 0 = .ok (.iload_n 1, 1) := by decide +kernel
theorem d_X_pagesOf_1 : decode b_X_pagesOf 1 = .ok (.ifCond .ne 7, 3) := by decide +kernel
theorem d_X_pagesOf_4 : decode b_X_pagesOf 4 = .ok (.iconst 1, 1) := by decide +kernel
theorem d_X_pagesOf_5 : decode b_X_pagesOf 5 = .ok (.goto 16, 3) := by decide +kernel
theorem d_X_pagesOf_8 : decode b_X_pagesOf 8 = .ok (.iload_n 1, 1) := by decide +kernel
theorem d_X_pagesOf_9 : decode b_X_pagesOf 9 = .ok (.aload_n 0, 1) := by decide +kernel
theorem d_X_pagesOf_10 : decode b_X_pagesOf 10 = .ok (.getfield 27, 3) := by decide +kernel
theorem d_X_pagesOf_13 : decode b_X_pagesOf 13 = .ok (.iadd, 1) := by decide +kernel
theorem d_X_pagesOf_14 : decode b_X_pagesOf 14 = .ok (.iconst 1, 1) := by decide +kernel
theorem d_X_pagesOf_15 : decode b_X_pagesOf 15 = .ok (.isub, 1) := by decide +kernel
theorem d_X_pagesOf_16 : decode b_X_pagesOf 16 = .ok (.aload_n 0, 1) := by decide +kernel
theorem d_X_pagesOf_17 : decode b_X_pagesOf 17 = .ok (.getfield 27, 3) := by decide +kernel
theorem d_X_pagesOf_20 : decode b_X_pagesOf 20 = .ok (.idiv, 1) := by decide +kernel
theorem d_X_pagesOf_21 : decode b_X_pagesOf 21 = .ok (.ireturn, 1) := by decide +kernel
theorem d_X_parts_0 : decode b_X_parts 0 = .ok (.ldc2_w 103, 3) := by decide +kernel
theorem d_X_parts_3 : decode b_X_parts 3 = .ok (.iload_n 1, 1) := by decide +kernel
theorem d_X_parts_4 : decode b_X_parts 4 = .ok (.i2l, 1) := by decide +kernel
theorem d_X_parts_5 : decode b_X_parts 5 = .ok (.lmul, 1) := by decide +kernel
theorem d_X_parts_6 : decode b_X_parts 6 = .ok (.ldc2_w 105, 3) := by decide +kernel
theorem d_X_parts_9 : decode b_X_parts 9 = .ok (.aload_n 0, 1) := by decide +kernel
theorem d_X_parts_10 : decode b_X_parts 10 = .ok (.getfield 27, 3) := by decide +kernel
theorem d_X_parts_13 : decode b_X_parts 13 = .ok (.i2l, 1) := by decide +kernel
theorem d_X_parts_14 : decode b_X_parts 14 = .ok (.lmul, 1) := by decide +kernel
theorem d_X_parts_15 : decode b_X_parts 15 = .ok (.aload_n 0, 1) := by decide +kernel
theorem d_X_parts_16 : decode b_X_parts 16 = .ok (.invokevirtual 93, 3) := by decide +kernel
theorem d_X_parts_19 : decode b_X_parts 19 = .ok (.i2l, 1) := by decide +kernel
theorem d_X_parts_20 : decode b_X_parts 20 = .ok (.lmul, 1) := by decide +kernel
theorem d_X_parts_21 : decode b_X_parts 21 = .ok (.lcmp, 1) := by decide +kernel
theorem d_X_parts_22 : decode b_X_parts 22 = .ok (.ifCond .le 18, 3) := by decide +kernel
theorem d_X_parts_25 : decode b_X_parts 25 = .ok (.aload_n 0, 1) := by decide +kernel
theorem d_X_parts_26 : decode b_X_parts 26 = .ok (.invokevirtual 93, 3) := by decide +kernel
theorem d_X_parts_29 : decode b_X_parts 29 = .ok (.aload_n 0, 1) := by decide +kernel
theorem d_X_parts_30 : decode b_X_parts 30 = .ok (.getfield 33, 3) := by decide +kernel
theorem d_X_parts_33 : decode b_X_parts 33 = .ok (.if_icmp .ge 7, 3) := by decide +kernel
theorem d_X_parts_36 : decode b_X_parts 36 = .ok (.iconst 1, 1) := by decide +kernel
theorem d_X_parts_37 : decode b_X_parts 37 = .ok (.goto 4, 3) := by decide +kernel
theorem d_X_parts_40 : decode b_X_parts 40 = .ok (.iconst 0, 1) := by decide +kernel
theorem d_X_parts_41 : decode b_X_parts 41 = .ok (.ireturn, 1) := by decide +kernel
theorem d_X_fits_0 : decode b_X_fits 0 = .ok (.aload_n 0, 1) := by decide +kernel
theorem d_X_fits_1 : decode b_X_fits 1 = .ok (.aload_n 0, 1) := by decide +kernel
theorem d_X_fits_2 : decode b_X_fits 2 = .ok (.getfield 16, 3) := by decide +kernel
theorem d_X_fits_5 : decode b_X_fits 5 = .ok (.iload_n 1, 1) := by decide +kernel
theorem d_X_fits_6 : decode b_X_fits 6 = .ok (.iaload, 1) := by decide +kernel
theorem d_X_fits_7 : decode b_X_fits 7 = .ok (.iconst 1, 1) := by decide +kernel
theorem d_X_fits_8 : decode b_X_fits 8 = .ok (.iadd, 1) := by decide +kernel
theorem d_X_fits_9 : decode b_X_fits 9 = .ok (.invokevirtual 107, 3) := by decide +kernel
theorem d_X_fits_12 : decode b_X_fits 12 = .ok (.aload_n 0, 1) := by decide +kernel
theorem d_X_fits_13 : decode b_X_fits 13 = .ok (.aload_n 0, 1) := by decide +kernel
theorem d_X_fits_14 : decode b_X_fits 14 = .ok (.getfield 16, 3) := by decide +kernel
theorem d_X_fits_17 : decode b_X_fits 17 = .ok (.iload_n 1, 1) := by decide +kernel
theorem d_X_fits_18 : decode b_X_fits 18 = .ok (.iaload, 1) := by decide +kernel
theorem d_X_fits_19 : decode b_X_fits 19 = .ok (.invokevirtual 107, 3) := by decide +kernel
theorem d_X_fits_22 : decode b_X_fits 22 = .ok (.isub, 1) := by decide +kernel
theorem d_X_fits_23 : decode b_X_fits 23 = .ok (.istore_n 3, 1) := by decide +kernel
theorem d_X_fits_24 : decode b_X_fits 24 = .ok (.aload_n 0, 1) := by decide +kernel
theorem d_X_fits_25 : decode b_X_fits 25 = .ok (.aload_n 0, 1) := by decide +kernel
theorem d_X_fits_26 : decode b_X_fits 26 = .ok (.getfield 66, 3) := by decide +kernel
theorem d_X_fits_29 : decode b_X_fits 29 = .ok (.iconst 1, 1) := by decide +kernel
theorem d_X_fits_30 : decode b_X_fits 30 = .ok (.iadd, 1) := by decide +kernel
theorem d_X_fits_31 : decode b_X_fits 31 = .ok (.invokevirtual 111, 3) := by decide +kernel
theorem d_X_fits_34 : decode b_X_fits 34 = .ok (.ifCond .ne 17, 3) := by decide +kernel
theorem d_X_fits_37 : decode b_X_fits 37 = .ok (.iload_n 3, 1) := by decide +kernel
theorem d_X_fits_38 : decode b_X_fits 38 = .ok (.aload_n 0, 1) := by decide +kernel
theorem d_X_fits_39 : decode b_X_fits 39 = .ok (.getfield 57, 3) := by decide +kernel
theorem d_X_fits_42 : decode b_X_fits 42 = .ok (.if_icmp .gt 7, 3) := by decide +kernel
theorem d_X_fits_45 : decode b_X_fits 45 = .ok (.iconst 1, 1) := by decide +kernel
theorem d_X_fits_46 : decode b_X_fits 46 = .ok (.goto 4, 3) := by decide +kernel
theorem d_X_fits_49 : decode b_X_fits 49 = .ok (.iconst 0, 1) := by decide +kernel
theorem d_X_fits_50 : decode b_X_fits 50 = .ok (.ireturn, 1) := by decide +kernel
theorem d_X_fits_51 : decode b_X_fits 51 = .ok (.iconst 0, 1) := by decide +kernel
theorem d_X_fits_52 : decode b_X_fits 52 = .ok (.istore 4, 2) := by decide +kernel
theorem d_X_fits_54 : decode b_X_fits 54 = .ok (.iconst 0, 1) := by decide +kernel
theorem d_X_fits_55 : decode b_X_fits 55 = .ok (.istore 5, 2) := by decide +kernel
theorem d_X_fits_57 : decode b_X_fits 57 = .ok (.iload 5, 2) := by decide +kernel
theorem d_X_fits_59 : decode b_X_fits 59 = .ok (.aload_n 0, 1) := by decide +kernel
theorem d_X_fits_60 : decode b_X_fits 60 = .ok (.getfield 16, 3) := by decide +kernel
theorem d_X_fits_63 : decode b_X_fits 63 = .ok (.aload_n 0, 1) := by decide +kernel
theorem d_X_fits_64 : decode b_X_fits 64 = .ok (.getfield 63, 3) := by decide +kernel
theorem d_X_fits_67 : decode b_X_fits 67 = .ok (.iaload, 1) := by decide +kernel
theorem d_X_fits_68 : decode b_X_fits 68 = .ok (.if_icmp .ge 51, 3) := by decide +kernel
theorem d_X_fits_71 : decode b_X_fits 71 = .ok (.iload 4, 2) := by decide +kernel
theorem d_X_fits_73 : decode b_X_fits 73 = .ok (.aload_n 0, 1) := by decide +kernel
theorem d_X_fits_74 : decode b_X_fits 74 = .ok (.aload_n 0, 1) := by decide +kernel
theorem d_X_fits_75 : decode b_X_fits 75 = .ok (.getfield 36, 3) := by decide +kernel
theorem d_X_fits_78 : decode b_X_fits 78 = .ok (.aload_n 0, 1) := by decide +kernel
theorem d_X_fits_79 : decode b_X_fits 79 = .ok (.aload_n 0, 1) := by decide +kernel
theorem d_X_fits_80 : decode b_X_fits 80 = .ok (.getfield 63, 3) := by decide +kernel
theorem d_X_fits_83 : decode b_X_fits 83 = .ok (.iload 5, 2) := by decide +kernel
theorem d_X_fits_85 : decode b_X_fits 85 = .ok (.invokevirtual 80, 3) := by decide +kernel
theorem d_X_fits_88 : decode b_X_fits 88 = .ok (.iaload, 1) := by decide +kernel
theorem d_X_fits_89 : decode b_X_fits 89 = .ok (.aload_n 0, 1) := by decide +kernel
theorem d_X_fits_90 : decode b_X_fits 90 = .ok (.getfield 63, 3) := by decide +kernel
theorem d_X_fits_93 : decode b_X_fits 93 = .ok (.iconst 1, 1) := by decide +kernel
theorem d_X_fits_94 : decode b_X_fits 94 = .ok (.iadd, 1) := by decide +kernel
theorem d_X_fits_95 : decode b_X_fits 95 = .ok (.invokevirtual 90, 3) := by decide +kernel
theorem d_X_fits_98 : decode b_X_fits 98 = .ok (.aload_n 0, 1) := by decide +kernel
theorem d_X_fits_99 : decode b_X_fits 99 = .ok (.getfield 63, 3) := by decide +kernel
theorem d_X_fits_102 : decode b_X_fits 102 = .ok (.if_icmp .ne 7, 3) := by decide +kernel
theorem d_X_fits_105 : decode b_X_fits 105 = .ok (.iconst 0, 1) := by decide +kernel
theorem d_X_fits_106 : decode b_X_fits 106 = .ok (.goto 4, 3) := by decide +kernel
theorem d_X_fits_109 : decode b_X_fits 109 = .ok (.iconst 1, 1) := by decide +kernel
theorem d_X_fits_110 : decode b_X_fits 110 = .ok (.iadd, 1) := by decide +kernel
theorem d_X_fits_111 : decode b_X_fits 111 = .ok (.istore 4, 2) := by decide +kernel
theorem d_X_fits_113 : decode b_X_fits 113 = .ok (.iinc 5 1, 3) := by decide +kernel
theorem d_X_fits_116 : decode b_X_fits 116 = .ok (.goto (-59), 3) := by decide +kernel
theorem d_X_fits_119 : decode b_X_fits 119 = .ok (.aload_n 0, 1) := by decide +kernel
theorem d_X_fits_120 : decode b_X_fits 120 = .ok (.getfield 16, 3) := by decide +kernel
theorem d_X_fits_123 : decode b_X_fits 123 = .ok (.aload_n 0, 1) := by decide +kernel
theorem d_X_fits_124 : decode b_X_fits 124 = .ok (.getfield 63, 3) := by decide +kernel
theorem d_X_fits_127 : decode b_X_fits 127 = .ok (.iaload, 1) := by decide +kernel
theorem d_X_fits_128 : decode b_X_fits 128 = .ok (.istore 5, 2) := by decide +kernel
theorem d_X_fits_130 : decode b_X_fits 130 = .ok (.iload_n 1, 1) := by decide +kernel
theorem d_X_fits_131 : decode b_X_fits 131 = .ok (.aload_n 0, 1) := by decide +kernel
theorem d_X_fits_132 : decode b_X_fits 132 = .ok (.getfield 63, 3) := by decide +kernel
theorem d_X_fits_135 : decode b_X_fits 135 = .ok (.if_icmp .ne 36, 3) := by decide +kernel
theorem d_X_fits_138 : decode b_X_fits 138 = .ok (.iload 4, 2) := by decide +kernel
theorem d_X_fits_140 : decode b_X_fits 140 = .ok (.aload_n 0, 1) := by decide +kernel
theorem d_X_fits_141 : decode b_X_fits 141 = .ok (.iload_n 2, 1) := by decide +kernel
theorem d_X_fits_142 : decode b_X_fits 142 = .ok (.aload_n 0, 1) := by decide +kernel
theorem d_X_fits_143 : decode b_X_fits 143 = .ok (.getfield 63, 3) := by decide +kernel
theorem d_X_fits_146 : decode b_X_fits 146 = .ok (.iconst 1, 1) := by decide +kernel
theorem d_X_fits_147 : decode b_X_fits 147 = .ok (.iadd, 1) := by decide +kernel
theorem d_X_fits_148 : decode b_X_fits 148 = .ok (.invokevirtual 90, 3) := by decide +kernel
theorem d_X_fits_151 : decode b_X_fits 151 = .ok (.aload_n 0, 1) := by decide +kernel
theorem d_X_fits_152 : decode b_X_fits 152 = .ok (.getfield 63, 3) := by decide +kernel
theorem d_X_fits_155 : decode b_X_fits 155 = .ok (.if_icmp .ne 7, 3) := by decide +kernel
theorem d_X_fits_158 : decode b_X_fits 158 = .ok (.iconst 0, 1) := by decide +kernel
theorem d_X_fits_159 : decode b_X_fits 159 = .ok (.goto 4, 3) := by decide +kernel
theorem d_X_fits_162 : decode b_X_fits 162 = .ok (.iconst 1, 1) := by decide +kernel
theorem d_X_fits_163 : decode b_X_fits 163 = .ok (.iadd, 1) := by decide +kernel
theorem d_X_fits_164 : decode b_X_fits 164 = .ok (.istore 4, 2) := by decide +kernel
theorem d_X_fits_166 : decode b_X_fits 166 = .ok (.iinc 5 1, 3) := by decide +kernel
theorem d_X_fits_169 : decode b_X_fits 169 = .ok (.iconst 0, 1) := by decide +kernel
theorem d_X_fits_170 : decode b_X_fits 170 = .ok (.istore_n 3, 1) := by decide +kernel
theorem d_X_fits_171 : decode b_X_fits 171 = .ok (.iload_n 3, 1) := by decide +kernel
theorem d_X_fits_172 : decode b_X_fits 172 = .ok (.aload_n 0, 1) := by decide +kernel
theorem d_X_fits_173 : decode b_X_fits 173 = .ok (.iload 4, 2) := by decide +kernel
theorem d_X_fits_175 : decode b_X_fits 175 = .ok (.invokevirtual 107, 3) := by decide +kernel
theorem d_X_fits_178 : decode b_X_fits 178 = .ok (.iadd, 1) := by decide +kernel
theorem d_X_fits_179 : decode b_X_fits 179 = .ok (.aload_n 0, 1) := by decide +kernel
theorem d_X_fits_180 : decode b_X_fits 180 = .ok (.iload 5, 2) := by decide +kernel
theorem d_X_fits_182 : decode b_X_fits 182 = .ok (.iload 4, 2) := by decide +kernel
theorem d_X_fits_184 : decode b_X_fits 184 = .ok (.isub, 1) := by decide +kernel
theorem d_X_fits_185 : decode b_X_fits 185 = .ok (.invokevirtual 107, 3) := by decide +kernel
theorem d_X_fits_188 : decode b_X_fits 188 = .ok (.iadd, 1) := by decide +kernel
theorem d_X_fits_189 : decode b_X_fits 189 = .ok (.aload_n 0, 1) := by decide +kernel
theorem d_X_fits_190 : decode b_X_fits 190 = .ok (.aload_n 0, 1) := by decide +kernel
theorem d_X_fits_191 : decode b_X_fits 191 = .ok (.getfield 16, 3) := by decide +kernel
theorem d_X_fits_194 : decode b_X_fits 194 = .ok (.aload_n 0, 1) := by decide +kernel
theorem d_X_fits_195 : decode b_X_fits 195 = .ok (.getfield 63, 3) := by decide +kernel
theorem d_X_fits_198 : decode b_X_fits 198 = .ok (.iaload, 1) := by decide +kernel
theorem d_X_fits_199 : decode b_X_fits 199 = .ok (.invokevirtual 107, 3) := by decide +kernel
theorem d_X_fits_202 : decode b_X_fits 202 = .ok (.isub, 1) := by decide +kernel
theorem d_X_fits_203 : decode b_X_fits 203 = .ok (.aload_n 0, 1) := by decide +kernel
theorem d_X_fits_204 : decode b_X_fits 204 = .ok (.getfield 57, 3) := by decide +kernel
theorem d_X_fits_207 : decode b_X_fits 207 = .ok (.if_icmp .gt 7, 3) := by decide +kernel
theorem d_X_fits_210 : decode b_X_fits 210 = .ok (.iconst 1, 1) := by decide +kernel
theorem d_X_fits_211 : decode b_X_fits 211 = .ok (.goto 4, 3) := by decide +kernel
theorem d_X_fits_214 : decode b_X_fits 214 = .ok (.iconst 0, 1) := by decide +kernel
theorem d_X_fits_215 : decode b_X_fits 215 = .ok (.ireturn, 1) := by decide +kernel
theorem d_X_put_0 : decode b_X_put 0 = .ok (.aload_n 0, 1) := by decide +kernel
theorem d_X_put_1 : decode b_X_put 1 = .ok (.iload_n 1, 1) := by decide +kernel
theorem d_X_put_2 : decode b_X_put 2 = .ok (.invokevirtual 115, 3) := by decide +kernel
theorem d_X_put_5 : decode b_X_put 5 = .ok (.istore_n 3, 1) := by decide +kernel
theorem d_X_put_6 : decode b_X_put 6 = .ok (.aload_n 0, 1) := by decide +kernel
theorem d_X_put_7 : decode b_X_put 7 = .ok (.iload_n 3, 1) := by decide +kernel
theorem d_X_put_8 : decode b_X_put 8 = .ok (.iload_n 1, 1) := by decide +kernel
theorem d_X_put_9 : decode b_X_put 9 = .ok (.invokevirtual 117, 3) := by decide +kernel
theorem d_X_put_12 : decode b_X_put 12 = .ok (.istore 4, 2) := by decide +kernel
theorem d_X_put_14 : decode b_X_put 14 = .ok (.iload 4, 2) := by decide +kernel
theorem d_X_put_16 : decode b_X_put 16 = .ok (.iconst (-1), 1) := by decide +kernel
theorem d_X_put_17 : decode b_X_put 17 = .ok (.if_icmp .eq 18, 3) := by decide +kernel
theorem d_X_put_20 : decode b_X_put 20 = .ok (.aload_n 0, 1) := by decide +kernel
theorem d_X_put_21 : decode b_X_put 21 = .ok (.getfield 39, 3) := by decide +kernel
theorem d_X_put_24 : decode b_X_put 24 = .ok (.aload_n 0, 1) := by decide +kernel
theorem d_X_put_25 : decode b_X_put 25 = .ok (.iload_n 3, 1) := by decide +kernel
theorem d_X_put_26 : decode b_X_put 26 = .ok (.iload 4, 2) := by decide +kernel
theorem d_X_put_28 : decode b_X_put 28 = .ok (.invokevirtual 80, 3) := by decide +kernel
theorem d_X_put_31 : decode b_X_put 31 = .ok (.iload_n 2, 1) := by decide +kernel
theorem d_X_put_32 : decode b_X_put 32 = .ok (.iastore, 1) := by decide +kernel
theorem d_X_put_33 : decode b_X_put 33 = .ok (.iconst 1, 1) := by decide +kernel
theorem d_X_put_34 : decode b_X_put 34 = .ok (.ireturn, 1) := by decide +kernel
theorem d_X_put_35 : decode b_X_put 35 = .ok (.aload_n 0, 1) := by decide +kernel
theorem d_X_put_36 : decode b_X_put 36 = .ok (.iload_n 3, 1) := by decide +kernel
theorem d_X_put_37 : decode b_X_put 37 = .ok (.iload_n 1, 1) := by decide +kernel
theorem d_X_put_38 : decode b_X_put 38 = .ok (.invokevirtual 120, 3) := by decide +kernel
theorem d_X_put_41 : decode b_X_put 41 = .ok (.ifCond .ne 5, 3) := by decide +kernel
theorem d_X_put_44 : decode b_X_put 44 = .ok (.iconst 2, 1) := by decide +kernel
theorem d_X_put_45 : decode b_X_put 45 = .ok (.ireturn, 1) := by decide +kernel
theorem d_X_put_46 : decode b_X_put 46 = .ok (.aload_n 0, 1) := by decide +kernel
theorem d_X_put_47 : decode b_X_put 47 = .ok (.aload_n 0, 1) := by decide +kernel
theorem d_X_put_48 : decode b_X_put 48 = .ok (.getfield 66, 3) := by decide +kernel
theorem d_X_put_51 : decode b_X_put 51 = .ok (.iconst 1, 1) := by decide +kernel
theorem d_X_put_52 : decode b_X_put 52 = .ok (.iadd, 1) := by decide +kernel
theorem d_X_put_53 : decode b_X_put 53 = .ok (.invokevirtual 111, 3) := by decide +kernel
theorem d_X_put_56 : decode b_X_put 56 = .ok (.istore 5, 2) := by decide +kernel
theorem d_X_put_58 : decode b_X_put 58 = .ok (.iload 5, 2) := by decide +kernel
theorem d_X_put_60 : decode b_X_put 60 = .ok (.ifCond .eq 15, 3) := by decide +kernel
theorem d_X_put_63 : decode b_X_put 63 = .ok (.iload_n 3, 1) := by decide +kernel
theorem d_X_put_64 : decode b_X_put 64 = .ok (.aload_n 0, 1) := by decide +kernel
theorem d_X_put_65 : decode b_X_put 65 = .ok (.getfield 63, 3) := by decide +kernel
theorem d_X_put_68 : decode b_X_put 68 = .ok (.if_icmp .ne 7, 3) := by decide +kernel
theorem d_X_put_71 : decode b_X_put 71 = .ok (.iconst 1, 1) := by decide +kernel
theorem d_X_put_72 : decode b_X_put 72 = .ok (.goto 4, 3) := by decide +kernel
theorem d_X_put_75 : decode b_X_put 75 = .ok (.iconst 0, 1) := by decide +kernel
theorem d_X_put_76 : decode b_X_put 76 = .ok (.istore 6, 2) := by decide +kernel
theorem d_X_put_78 : decode b_X_put 78 = .ok (.aload_n 0, 1) := by decide +kernel
theorem d_X_put_79 : decode b_X_put 79 = .ok (.dup, 1) := by decide +kernel
theorem d_X_put_80 : decode b_X_put 80 = .ok (.getfield 66, 3) := by decide +kernel
theorem d_X_put_83 : decode b_X_put 83 = .ok (.iconst 1, 1) := by decide +kernel
theorem d_X_put_84 : decode b_X_put 84 = .ok (.iadd, 1) := by decide +kernel
theorem d_X_put_85 : decode b_X_put 85 = .ok (.putfield 66, 3) := by decide +kernel
theorem d_X_put_88 : decode b_X_put 88 = .ok (.aload_n 0, 1) := by decide +kernel
theorem d_X_put_89 : decode b_X_put 89 = .ok (.iconst 0, 1) := by decide +kernel
theorem d_X_put_90 : decode b_X_put 90 = .ok (.putfield 84, 3) := by decide +kernel
theorem d_X_put_93 : decode b_X_put 93 = .ok (.iload 6, 2) := by decide +kernel
theorem d_X_put_95 : decode b_X_put 95 = .ok (.ifCond .ne 10, 3) := by decide +kernel
theorem d_X_put_98 : decode b_X_put 98 = .ok (.aload_n 0, 1) := by decide +kernel
theorem d_X_put_99 : decode b_X_put 99 = .ok (.iload_n 3, 1) := by decide +kernel
theorem d_X_put_100 : decode b_X_put 100 = .ok (.iload_n 1, 1) := by decide +kernel
theorem d_X_put_101 : decode b_X_put 101 = .ok (.iload_n 2, 1) := by decide +kernel
theorem d_X_put_102 : decode b_X_put 102 = .ok (.invokevirtual 96, 3) := by decide +kernel
theorem d_X_put_105 : decode b_X_put 105 = .ok (.iload 5, 2) := by decide +kernel
theorem d_X_put_107 : decode b_X_put 107 = .ok (.ifCond .eq 11, 3) := by decide +kernel
theorem d_X_put_110 : decode b_X_put 110 = .ok (.aload_n 0, 1) := by decide +kernel
theorem d_X_put_111 : decode b_X_put 111 = .ok (.aload_n 0, 1) := by decide +kernel
theorem d_X_put_112 : decode b_X_put 112 = .ok (.getfield 63, 3) := by decide +kernel
theorem d_X_put_115 : decode b_X_put 115 = .ok (.invokevirtual 100, 3) := by decide +kernel
theorem d_X_put_118 : decode b_X_put 118 = .ok (.iload 6, 2) := by decide +kernel
theorem d_X_put_120 : decode b_X_put 120 = .ok (.ifCond .eq 33, 3) := by decide +kernel
theorem d_X_put_123 : decode b_X_put 123 = .ok (.aload_n 0, 1) := by decide +kernel
theorem d_X_put_124 : decode b_X_put 124 = .ok (.getfield 45, 3) := by decide +kernel
theorem d_X_put_127 : decode b_X_put 127 = .ok (.aload_n 0, 1) := by decide +kernel
theorem d_X_put_128 : decode b_X_put 128 = .ok (.getfield 84, 3) := by decide +kernel
theorem d_X_put_131 : decode b_X_put 131 = .ok (.iload_n 1, 1) := by decide +kernel
theorem d_X_put_132 : decode b_X_put 132 = .ok (.iastore, 1) := by decide +kernel
theorem d_X_put_133 : decode b_X_put 133 = .ok (.aload_n 0, 1) := by decide +kernel
theorem d_X_put_134 : decode b_X_put 134 = .ok (.getfield 48, 3) := by decide +kernel
theorem d_X_put_137 : decode b_X_put 137 = .ok (.aload_n 0, 1) := by decide +kernel
theorem d_X_put_138 : decode b_X_put 138 = .ok (.getfield 84, 3) := by decide +kernel
theorem d_X_put_141 : decode b_X_put 141 = .ok (.iload_n 2, 1) := by decide +kernel
theorem d_X_put_142 : decode b_X_put 142 = .ok (.iastore, 1) := by decide +kernel
theorem d_X_put_143 : decode b_X_put 143 = .ok (.aload_n 0, 1) := by decide +kernel
theorem d_X_put_144 : decode b_X_put 144 = .ok (.dup, 1) := by decide +kernel
theorem d_X_put_145 : decode b_X_put 145 = .ok (.getfield 84, 3) := by decide +kernel
theorem d_X_put_148 : decode b_X_put 148 = .ok (.iconst 1, 1) := by decide +kernel
theorem d_X_put_149 : decode b_X_put 149 = .ok (.iadd, 1) := by decide +kernel
theorem d_X_put_150 : decode b_X_put 150 = .ok (.putfield 84, 3) := by decide +kernel
theorem d_X_put_153 : decode b_X_put 153 = .ok (.iload 5, 2) := by decide +kernel
theorem d_X_put_155 : decode b_X_put 155 = .ok (.ifCond .eq 7, 3) := by decide +kernel
theorem d_X_put_158 : decode b_X_put 158 = .ok (.aload_n 0, 1) := by decide +kernel
theorem d_X_put_159 : decode b_X_put 159 = .ok (.invokevirtual 124, 3) := by decide +kernel
theorem d_X_put_162 : decode b_X_put 162 = .ok (.iconst 0, 1) := by decide +kernel
theorem d_X_put_163 : decode b_X_put 163 = .ok (.ireturn, 1) := by decide +kernel
theorem d_X_get_0 : decode b_X_get 0 = .ok (.aload_n 0, 1) := by decide +kernel
theorem d_X_get_1 : decode b_X_get 1 = .ok (.iload_n 1, 1) := by decide +kernel
theorem d_X_get_2 : decode b_X_get 2 = .ok (.invokevirtual 115, 3) := by decide +kernel
theorem d_X_get_5 : decode b_X_get 5 = .ok (.istore_n 2, 1) := by decide +kernel
theorem d_X_get_6 : decode b_X_get 6 = .ok (.aload_n 0, 1) := by decide +kernel
theorem d_X_get_7 : decode b_X_get 7 = .ok (.iload_n 2, 1) := by decide +kernel
theorem d_X_get_8 : decode b_X_get 8 = .ok (.iload_n 1, 1) := by decide +kernel
theorem d_X_get_9 : decode b_X_get 9 = .ok (.invokevirtual 117, 3) := by decide +kernel
theorem d_X_get_12 : decode b_X_get 12 = .ok (.istore_n 3, 1) := by decide +kernel
theorem d_X_get_13 : decode b_X_get 13 = .ok (.iload_n 3, 1) := by decide +kernel
theorem d_X_get_14 : decode b_X_get 14 = .ok (.iconst (-1), 1) := by decide +kernel
theorem d_X_get_15 : decode b_X_get 15 = .ok (.if_icmp .ne 7, 3) := by decide +kernel
theorem d_X_get_18 : decode b_X_get 18 = .ok (.iconst 0, 1) := by decide +kernel
theorem d_X_get_19 : decode b_X_get 19 = .ok (.goto 14, 3) := by decide +kernel
theorem d_X_get_22 : decode b_X_get 22 = .ok (.aload_n 0, 1) := by decide +kernel
theorem d_X_get_23 : decode b_X_get 23 = .ok (.getfield 39, 3) := by decide +kernel
theorem d_X_get_26 : decode b_X_get 26 = .ok (.aload_n 0, 1) := by decide +kernel
theorem d_X_get_27 : decode b_X_get 27 = .ok (.iload_n 2, 1) := by decide +kernel
theorem d_X_get_28 : decode b_X_get 28 = .ok (.iload_n 3, 1) := by decide +kernel
theorem d_X_get_29 : decode b_X_get 29 = .ok (.invokevirtual 80, 3) := by decide +kernel
theorem d_X_get_32 : decode b_X_get 32 = .ok (.iaload, 1) := by decide +kernel
theorem d_X_get_33 : decode b_X_get 33 = .ok (.ireturn, 1) := by decide +kernel
theorem d_X_has_0 : decode b_X_has 0 = .ok (.aload_n 0, 1) := by decide +kernel
theorem d_X_has_1 : decode b_X_has 1 = .ok (.aload_n 0, 1) := by decide +kernel
theorem d_X_has_2 : decode b_X_has 2 = .ok (.iload_n 1, 1) := by decide +kernel
theorem d_X_has_3 : decode b_X_has 3 = .ok (.invokevirtual 115, 3) := by decide +kernel
theorem d_X_has_6 : decode b_X_has 6 = .ok (.iload_n 1, 1) := by decide +kernel
theorem d_X_has_7 : decode b_X_has 7 = .ok (.invokevirtual 117, 3) := by decide +kernel
theorem d_X_has_10 : decode b_X_has 10 = .ok (.iconst (-1), 1) := by decide +kernel
theorem d_X_has_11 : decode b_X_has 11 = .ok (.if_icmp .eq 7, 3) := by decide +kernel
theorem d_X_has_14 : decode b_X_has 14 = .ok (.iconst 1, 1) := by decide +kernel
theorem d_X_has_15 : decode b_X_has 15 = .ok (.goto 4, 3) := by decide +kernel
theorem d_X_has_18 : decode b_X_has 18 = .ok (.iconst 0, 1) := by decide +kernel
theorem d_X_has_19 : decode b_X_has 19 = .ok (.ireturn, 1) := by decide +kernel
theorem d_X_remove_0 : decode b_X_remove 0 = .ok (.aload_n 0, 1) := by decide +kernel
theorem d_X_remove_1 : decode b_X_remove 1 = .ok (.iload_n 1, 1) := by decide +kernel
theorem d_X_remove_2 : decode b_X_remove 2 = .ok (.invokevirtual 115, 3) := by decide +kernel
theorem d_X_remove_5 : decode b_X_remove 5 = .ok (.istore_n 2, 1) := by decide +kernel
theorem d_X_remove_6 : decode b_X_remove 6 = .ok (.aload_n 0, 1) := by decide +kernel
theorem d_X_remove_7 : decode b_X_remove 7 = .ok (.iload_n 2, 1) := by decide +kernel
theorem d_X_remove_8 : decode b_X_remove 8 = .ok (.iload_n 1, 1) := by decide +kernel
theorem d_X_remove_9 : decode b_X_remove 9 = .ok (.invokevirtual 117, 3) := by decide +kernel
theorem d_X_remove_12 : decode b_X_remove 12 = .ok (.istore_n 3, 1) := by decide +kernel
theorem d_X_remove_13 : decode b_X_remove 13 = .ok (.iload_n 3, 1) := by decide +kernel
theorem d_X_remove_14 : decode b_X_remove 14 = .ok (.iconst (-1), 1) := by decide +kernel
theorem d_X_remove_15 : decode b_X_remove 15 = .ok (.if_icmp .ne 5, 3) := by decide +kernel
theorem d_X_remove_18 : decode b_X_remove 18 = .ok (.iconst 0, 1) := by decide +kernel
theorem d_X_remove_19 : decode b_X_remove 19 = .ok (.ireturn, 1) := by decide +kernel
theorem d_X_remove_20 : decode b_X_remove 20 = .ok (.aload_n 0, 1) := by decide +kernel
theorem d_X_remove_21 : decode b_X_remove 21 = .ok (.iload_n 2, 1) := by decide +kernel
theorem d_X_remove_22 : decode b_X_remove 22 = .ok (.iload_n 3, 1) := by decide +kernel
theorem d_X_remove_23 : decode b_X_remove 23 = .ok (.invokevirtual 80, 3) := by decide +kernel
theorem d_X_remove_26 : decode b_X_remove 26 = .ok (.istore 4, 2) := by decide +kernel
theorem d_X_remove_28 : decode b_X_remove 28 = .ok (.aload_n 0, 1) := by decide +kernel
theorem d_X_remove_29 : decode b_X_remove 29 = .ok (.iload_n 2, 1) := by decide +kernel
theorem d_X_remove_30 : decode b_X_remove 30 = .ok (.aload_n 0, 1) := by decide +kernel
theorem d_X_remove_31 : decode b_X_remove 31 = .ok (.getfield 16, 3) := by decide +kernel
theorem d_X_remove_34 : decode b_X_remove 34 = .ok (.iload_n 2, 1) := by decide +kernel
theorem d_X_remove_35 : decode b_X_remove 35 = .ok (.iaload, 1) := by decide +kernel
theorem d_X_remove_36 : decode b_X_remove 36 = .ok (.iconst 1, 1) := by decide +kernel
theorem d_X_remove_37 : decode b_X_remove 37 = .ok (.isub, 1) := by decide +kernel
theorem d_X_remove_38 : decode b_X_remove 38 = .ok (.invokevirtual 80, 3) := by decide +kernel
theorem d_X_remove_41 : decode b_X_remove 41 = .ok (.istore 5, 2) := by decide +kernel
theorem d_X_remove_43 : decode b_X_remove 43 = .ok (.aload_n 0, 1) := by decide +kernel
theorem d_X_remove_44 : decode b_X_remove 44 = .ok (.getfield 36, 3) := by decide +kernel
theorem d_X_remove_47 : decode b_X_remove 47 = .ok (.iload 4, 2) := by decide +kernel
theorem d_X_remove_49 : decode b_X_remove 49 = .ok (.aload_n 0, 1) := by decide +kernel
theorem d_X_remove_50 : decode b_X_remove 50 = .ok (.getfield 36, 3) := by decide +kernel
theorem d_X_remove_53 : decode b_X_remove 53 = .ok (.iload 5, 2) := by decide +kernel
theorem d_X_remove_55 : decode b_X_remove 55 = .ok (.iaload, 1) := by decide +kernel
theorem d_X_remove_56 : decode b_X_remove 56 = .ok (.iastore, 1) := by decide +kernel
theorem d_X_remove_57 : decode b_X_remove 57 = .ok (.aload_n 0, 1) := by decide +kernel
theorem d_X_remove_58 : decode b_X_remove 58 = .ok (.getfield 39, 3) := by decide +kernel
theorem d_X_remove_61 : decode b_X_remove 61 = .ok (.iload 4, 2) := by decide +kernel
theorem d_X_remove_63 : decode b_X_remove 63 = .ok (.aload_n 0, 1) := by decide +kernel
theorem d_X_remove_64 : decode b_X_remove 64 = .ok (.getfield 39, 3) := by decide +kernel
theorem d_X_remove_67 : decode b_X_remove 67 = .ok (.iload 5, 2) := by decide +kernel
theorem d_X_remove_69 : decode b_X_remove 69 = .ok (.iaload, 1) := by decide +kernel
theorem d_X_remove_70 : decode b_X_remove 70 = .ok (.iastore, 1) := by decide +kernel
theorem d_X_remove_71 : decode b_X_remove 71 = .ok (.aload_n 0, 1) := by decide +kernel
theorem d_X_remove_72 : decode b_X_remove 72 = .ok (.iload_n 2, 1) := by decide +kernel
theorem d_X_remove_73 : decode b_X_remove 73 = .ok (.invokevirtual 127, 3) := by decide +kernel
theorem d_X_remove_76 : decode b_X_remove 76 = .ok (.aload_n 0, 1) := by decide +kernel
theorem d_X_remove_77 : decode b_X_remove 77 = .ok (.dup, 1) := by decide +kernel
theorem d_X_remove_78 : decode b_X_remove 78 = .ok (.getfield 66, 3) := by decide +kernel
theorem d_X_remove_81 : decode b_X_remove 81 = .ok (.iconst 1, 1) := by decide +kernel
theorem d_X_remove_82 : decode b_X_remove 82 = .ok (.isub, 1) := by decide +kernel
theorem d_X_remove_83 : decode b_X_remove 83 = .ok (.putfield 66, 3) := by decide +kernel
theorem d_X_remove_86 : decode b_X_remove 86 = .ok (.ldc2_w 103, 3) := by decide +kernel
theorem d_X_remove_89 : decode b_X_remove 89 = .ok (.aload_n 0, 1) := by decide +kernel
theorem d_X_remove_90 : decode b_X_remove 90 = .ok (.getfield 66, 3) := by decide +kernel
theorem d_X_remove_93 : decode b_X_remove 93 = .ok (.i2l, 1) := by decide +kernel
theorem d_X_remove_94 : decode b_X_remove 94 = .ok (.lmul, 1) := by decide +kernel
theorem d_X_remove_95 : decode b_X_remove 95 = .ok (.aload_n 0, 1) := by decide +kernel
theorem d_X_remove_96 : decode b_X_remove 96 = .ok (.getfield 27, 3) := by decide +kernel
theorem d_X_remove_99 : decode b_X_remove 99 = .ok (.i2l, 1) := by decide +kernel
theorem d_X_remove_100 : decode b_X_remove 100 = .ok (.aload_n 0, 1) := by decide +kernel
theorem d_X_remove_101 : decode b_X_remove 101 = .ok (.invokevirtual 93, 3) := by decide +kernel
theorem d_X_remove_104 : decode b_X_remove 104 = .ok (.i2l, 1) := by decide +kernel
theorem d_X_remove_105 : decode b_X_remove 105 = .ok (.lmul, 1) := by decide +kernel
theorem d_X_remove_106 : decode b_X_remove 106 = .ok (.lcmp, 1) := by decide +kernel
theorem d_X_remove_107 : decode b_X_remove 107 = .ok (.ifCond .ge 18, 3) := by decide +kernel
theorem d_X_remove_110 : decode b_X_remove 110 = .ok (.aload_n 0, 1) := by decide +kernel
theorem d_X_remove_111 : decode b_X_remove 111 = .ok (.invokevirtual 93, 3) := by decide +kernel
theorem d_X_remove_114 : decode b_X_remove 114 = .ok (.aload_n 0, 1) := by decide +kernel
theorem d_X_remove_115 : decode b_X_remove 115 = .ok (.getfield 23, 3) := by decide +kernel
theorem d_X_remove_118 : decode b_X_remove 118 = .ok (.if_icmp .le 7, 3) := by decide +kernel
theorem d_X_remove_121 : decode b_X_remove 121 = .ok (.aload_n 0, 1) := by decide +kernel
theorem d_X_remove_122 : decode b_X_remove 122 = .ok (.invokevirtual 130, 3) := by decide +kernel
theorem d_X_remove_125 : decode b_X_remove 125 = .ok (.iconst 1, 1) := by decide +kernel
theorem d_X_remove_126 : decode b_X_remove 126 = .ok (.ireturn, 1) := by decide +kernel
theorem d_X_size_0 : decode b_X_size 0 = .ok (.aload_n 0, 1) := by decide +kernel
theorem d_X_size_1 : decode b_X_size 1 = .ok (.getfield 66, 3) := by decide +kernel
theorem d_X_size_4 : decode b_X_size 4 = .ok (.ireturn, 1) := by decide +kernel
theorem d_X_level_0 : decode b_X_level 0 = .ok (.aload_n 0, 1) := by decide +kernel
theorem d_X_level_1 : decode b_X_level 1 = .ok (.getfield 60, 3) := by decide +kernel
theorem d_X_level_4 : decode b_X_level 4 = .ok (.ireturn, 1) := by decide +kernel
theorem d_X_pointer_0 : decode b_X_pointer 0 = .ok (.aload_n 0, 1) := by decide +kernel
theorem d_X_pointer_1 : decode b_X_pointer 1 = .ok (.getfield 63, 3) := by decide +kernel
theorem d_X_pointer_4 : decode b_X_pointer 4 = .ok (.ireturn, 1) := by decide +kernel
theorem d_X_isBucket_0 : decode b_X_isBucket 0 = .ok (.iload_n 1, 1) := by decide +kernel
theorem d_X_isBucket_1 : decode b_X_isBucket 1 = .ok (.ifCond .lt 15, 3) := by decide +kernel
theorem d_X_isBucket_4 : decode b_X_isBucket 4 = .ok (.iload_n 1, 1) := by decide +kernel
theorem d_X_isBucket_5 : decode b_X_isBucket 5 = .ok (.aload_n 0, 1) := by decide +kernel
theorem d_X_isBucket_6 : decode b_X_isBucket 6 = .ok (.invokevirtual 93, 3) := by decide +kernel
theorem d_X_isBucket_9 : decode b_X_isBucket 9 = .ok (.if_icmp .ge 7, 3) := by decide +kernel
theorem d_X_isBucket_12 : decode b_X_isBucket 12 = .ok (.iconst 1, 1) := by decide +kernel
theorem d_X_isBucket_13 : decode b_X_isBucket 13 = .ok (.goto 4, 3) := by decide +kernel
theorem d_X_isBucket_16 : decode b_X_isBucket 16 = .ok (.iconst 0, 1) := by decide +kernel
theorem d_X_isBucket_17 : decode b_X_isBucket 17 = .ok (.ireturn, 1) := by decide +kernel
theorem d_X_pages_0 : decode b_X_pages 0 = .ok (.aload_n 0, 1) := by decide +kernel
theorem d_X_pages_1 : decode b_X_pages 1 = .ok (.iload_n 1, 1) := by decide +kernel
theorem d_X_pages_2 : decode b_X_pages 2 = .ok (.invokevirtual 133, 3) := by decide +kernel
theorem d_X_pages_5 : decode b_X_pages 5 = .ok (.ifCond .eq 16, 3) := by decide +kernel
theorem d_X_pages_8 : decode b_X_pages 8 = .ok (.aload_n 0, 1) := by decide +kernel
theorem d_X_pages_9 : decode b_X_pages 9 = .ok (.aload_n 0, 1) := by decide +kernel
theorem d_X_pages_10 : decode b_X_pages 10 = .ok (.getfield 16, 3) := by decide +kernel
theorem d_X_pages_13 : decode b_X_pages 13 = .ok (.iload_n 1, 1) := by decide +kernel
theorem d_X_pages_14 : decode b_X_pages 14 = .ok (.iaload, 1) := by decide +kernel
theorem d_X_pages_15 : decode b_X_pages 15 = .ok (.invokevirtual 107, 3) := by decide +kernel
theorem d_X_pages_18 : decode b_X_pages 18 = .ok (.goto 4, 3) := by decide +kernel
theorem d_X_pages_21 : decode b_X_pages 21 = .ok (.iconst (-1), 1) := by decide +kernel
theorem d_X_pages_22 : decode b_X_pages 22 = .ok (.ireturn, 1) := by decide +kernel
theorem d_X_free_0 : decode b_X_free 0 = .ok (.aload_n 0, 1) := by decide +kernel
theorem d_X_free_1 : decode b_X_free 1 = .ok (.getfield 57, 3) := by decide +kernel
theorem d_X_free_4 : decode b_X_free 4 = .ok (.ireturn, 1) := by decide +kernel
theorem d_X_key_0 : decode b_X_key 0 = .ok (.aload_n 0, 1) := by decide +kernel
theorem d_X_key_1 : decode b_X_key 1 = .ok (.iload_n 1, 1) := by decide +kernel
theorem d_X_key_2 : decode b_X_key 2 = .ok (.invokevirtual 133, 3) := by decide +kernel
theorem d_X_key_5 : decode b_X_key 5 = .ok (.ifCond .eq 31, 3) := by decide +kernel
theorem d_X_key_8 : decode b_X_key 8 = .ok (.iload_n 2, 1) := by decide +kernel
theorem d_X_key_9 : decode b_X_key 9 = .ok (.ifCond .lt 27, 3) := by decide +kernel
theorem d_X_key_12 : decode b_X_key 12 = .ok (.iload_n 2, 1) := by decide +kernel
theorem d_X_key_13 : decode b_X_key 13 = .ok (.aload_n 0, 1) := by decide +kernel
theorem d_X_key_14 : decode b_X_key 14 = .ok (.getfield 16, 3) := by decide +kernel
theorem d_X_key_17 : decode b_X_key 17 = .ok (.iload_n 1, 1) := by decide +kernel
theorem d_X_key_18 : decode b_X_key 18 = .ok (.iaload, 1) := by decide +kernel
theorem d_X_key_19 : decode b_X_key 19 = .ok (.if_icmp .ge 17, 3) := by decide +kernel
theorem d_X_key_22 : decode b_X_key 22 = .ok (.aload_n 0, 1) := by decide +kernel
theorem d_X_key_23 : decode b_X_key 23 = .ok (.getfield 36, 3) := by decide +kernel
theorem d_X_key_26 : decode b_X_key 26 = .ok (.aload_n 0, 1) := by decide +kernel
theorem d_X_key_27 : decode b_X_key 27 = .ok (.iload_n 1, 1) := by decide +kernel
theorem d_X_key_28 : decode b_X_key 28 = .ok (.iload_n 2, 1) := by decide +kernel
theorem d_X_key_29 : decode b_X_key 29 = .ok (.invokevirtual 80, 3) := by decide +kernel
theorem d_X_key_32 : decode b_X_key 32 = .ok (.iaload, 1) := by decide +kernel
theorem d_X_key_33 : decode b_X_key 33 = .ok (.goto 4, 3) := by decide +kernel
theorem d_X_key_36 : decode b_X_key 36 = .ok (.iconst (-1), 1) := by decide +kernel
theorem d_X_key_37 : decode b_X_key 37 = .ok (.ireturn, 1) := by decide +kernel
theorem d_X_bring_0 : decode b_X_bring 0 = .ok (.iload_n 0, 1) := by decide +kernel
theorem d_X_bring_1 : decode b_X_bring 1 = .ok (.iload_n 1, 1) := by decide +kernel
theorem d_X_bring_2 : decode b_X_bring 2 = .ok (.if_icmp .ge 7, 3) := by decide +kernel
theorem d_X_bring_5 : decode b_X_bring 5 = .ok (.iload_n 1, 1) := by decide +kernel
theorem d_X_bring_6 : decode b_X_bring 6 = .ok (.goto 13, 3) := by decide +kernel
theorem d_X_bring_9 : decode b_X_bring 9 = .ok (.iload_n 0, 1) := by decide +kernel
theorem d_X_bring_10 : decode b_X_bring 10 = .ok (.iload_n 2, 1) := by decide +kernel
theorem d_X_bring_11 : decode b_X_bring 11 = .ok (.if_icmp .le 7, 3) := by decide +kernel
theorem d_X_bring_14 : decode b_X_bring 14 = .ok (.iload_n 2, 1) := by decide +kernel
theorem d_X_bring_15 : decode b_X_bring 15 = .ok (.goto 4, 3) := by decide +kernel
theorem d_X_bring_18 : decode b_X_bring 18 = .ok (.iload_n 0, 1) := by decide +kernel
theorem d_X_bring_19 : decode b_X_bring 19 = .ok (.ireturn, 1) := by decide +kernel
theorem d_X_init_0 : decode b_X_init 0 = .ok (.aload_n 0, 1) := by decide +kernel
theorem d_X_init_1 : decode b_X_init 1 = .ok (.invokespecial 1, 3) := by decide +kernel
theorem d_X_init_4 : decode b_X_init 4 = .ok (.aload_n 0, 1) := by decide +kernel
theorem d_X_init_5 : decode b_X_init 5 = .ok (.sipush 200, 3) := by decide +kernel
theorem d_X_init_8 : decode b_X_init 8 = .ok (.newarray .int, 2) := by decide +kernel
theorem d_X_init_10 : decode b_X_init 10 = .ok (.putfield 7, 3) := by decide +kernel
theorem d_X_init_13 : decode b_X_init 13 = .ok (.aload_n 0, 1) := by decide +kernel
theorem d_X_init_14 : decode b_X_init 14 = .ok (.sipush 200, 3) := by decide +kernel
theorem d_X_init_17 : decode b_X_init 17 = .ok (.newarray .int, 2) := by decide +kernel
theorem d_X_init_19 : decode b_X_init 19 = .ok (.putfield 13, 3) := by decide +kernel
theorem d_X_init_22 : decode b_X_init 22 = .ok (.aload_n 0, 1) := by decide +kernel
theorem d_X_init_23 : decode b_X_init 23 = .ok (.sipush 200, 3) := by decide +kernel
theorem d_X_init_26 : decode b_X_init 26 = .ok (.newarray .int, 2) := by decide +kernel
theorem d_X_init_28 : decode b_X_init 28 = .ok (.putfield 16, 3) := by decide +kernel
theorem d_X_init_31 : decode b_X_init 31 = .ok (.aload_n 0, 1) := by decide +kernel
theorem d_X_init_32 : decode b_X_init 32 = .ok (.iload_n 1, 1) := by decide +kernel
theorem d_X_init_33 : decode b_X_init 33 = .ok (.iconst 1, 1) := by decide +kernel
theorem d_X_init_34 : decode b_X_init 34 = .ok (.bipush 8, 2) := by decide +kernel
theorem d_X_init_36 : decode b_X_init 36 = .ok (.invokestatic 19, 3) := by decide +kernel
theorem d_X_init_39 : decode b_X_init 39 = .ok (.putfield 23, 3) := by decide +kernel
theorem d_X_init_42 : decode b_X_init 42 = .ok (.aload_n 0, 1) := by decide +kernel
theorem d_X_init_43 : decode b_X_init 43 = .ok (.iload_n 2, 1) := by decide +kernel
theorem d_X_init_44 : decode b_X_init 44 = .ok (.iconst 1, 1) := by decide +kernel
theorem d_X_init_45 : decode b_X_init 45 = .ok (.bipush 8, 2) := by decide +kernel
theorem d_X_init_47 : decode b_X_init 47 = .ok (.invokestatic 19, 3) := by decide +kernel
theorem d_X_init_50 : decode b_X_init 50 = .ok (.putfield 27, 3) := by decide +kernel
theorem d_X_init_53 : decode b_X_init 53 = .ok (.aload_n 0, 1) := by decide +kernel
theorem d_X_init_54 : decode b_X_init 54 = .ok (.iload_n 3, 1) := by decide +kernel
theorem d_X_init_55 : decode b_X_init 55 = .ok (.bipush 8, 2) := by decide +kernel
theorem d_X_init_57 : decode b_X_init 57 = .ok (.sipush 300, 3) := by decide +kernel
theorem d_X_init_60 : decode b_X_init 60 = .ok (.invokestatic 19, 3) := by decide +kernel
theorem d_X_init_63 : decode b_X_init 63 = .ok (.putfield 30, 3) := by decide +kernel
theorem d_X_init_66 : decode b_X_init 66 = .ok (.aload_n 0, 1) := by decide +kernel
theorem d_X_init_67 : decode b_X_init 67 = .ok (.iload 4, 2) := by decide +kernel
theorem d_X_init_69 : decode b_X_init 69 = .ok (.aload_n 0, 1) := by decide +kernel
theorem d_X_init_70 : decode b_X_init 70 = .ok (.getfield 23, 3) := by decide +kernel
theorem d_X_init_73 : decode b_X_init 73 = .ok (.sipush 200, 3) := by decide +kernel
theorem d_X_init_76 : decode b_X_init 76 = .ok (.invokestatic 19, 3) := by decide +kernel
theorem d_X_init_79 : decode b_X_init 79 = .ok (.putfield 33, 3) := by decide +kernel
theorem d_X_init_82 : decode b_X_init 82 = .ok (.aload_n 0, 1) := by decide +kernel
theorem d_X_init_83 : decode b_X_init 83 = .ok (.aload_n 0, 1) := by decide +kernel
theorem d_X_init_84 : decode b_X_init 84 = .ok (.getfield 30, 3) := by decide +kernel
theorem d_X_init_87 : decode b_X_init 87 = .ok (.aload_n 0, 1) := by decide +kernel
theorem d_X_init_88 : decode b_X_init 88 = .ok (.getfield 27, 3) := by decide +kernel
theorem d_X_init_91 : decode b_X_init 91 = .ok (.imul, 1) := by decide +kernel
theorem d_X_init_92 : decode b_X_init 92 = .ok (.newarray .int, 2) := by decide +kernel
theorem d_X_init_94 : decode b_X_init 94 = .ok (.putfield 36, 3) := by decide +kernel
theorem d_X_init_97 : decode b_X_init 97 = .ok (.aload_n 0, 1) := by decide +kernel
theorem d_X_init_98 : decode b_X_init 98 = .ok (.aload_n 0, 1) := by decide +kernel
theorem d_X_init_99 : decode b_X_init 99 = .ok (.getfield 30, 3) := by decide +kernel
theorem d_X_init_102 : decode b_X_init 102 = .ok (.aload_n 0, 1) := by decide +kernel
theorem d_X_init_103 : decode b_X_init 103 = .ok (.getfield 27, 3) := by decide +kernel
theorem d_X_init_106 : decode b_X_init 106 = .ok (.imul, 1) := by decide +kernel
theorem d_X_init_107 : decode b_X_init 107 = .ok (.newarray .int, 2) := by decide +kernel
theorem d_X_init_109 : decode b_X_init 109 = .ok (.putfield 39, 3) := by decide +kernel
theorem d_X_init_112 : decode b_X_init 112 = .ok (.aload_n 0, 1) := by decide +kernel
theorem d_X_init_113 : decode b_X_init 113 = .ok (.aload_n 0, 1) := by decide +kernel
theorem d_X_init_114 : decode b_X_init 114 = .ok (.getfield 30, 3) := by decide +kernel
theorem d_X_init_117 : decode b_X_init 117 = .ok (.newarray .int, 2) := by decide +kernel
theorem d_X_init_119 : decode b_X_init 119 = .ok (.putfield 42, 3) := by decide +kernel
theorem d_X_init_122 : decode b_X_init 122 = .ok (.aload_n 0, 1) := by decide +kernel
theorem d_X_init_123 : decode b_X_init 123 = .ok (.aload_n 0, 1) := by decide +kernel
theorem d_X_init_124 : decode b_X_init 124 = .ok (.getfield 30, 3) := by decide +kernel
theorem d_X_init_127 : decode b_X_init 127 = .ok (.aload_n 0, 1) := by decide +kernel
theorem d_X_init_128 : decode b_X_init 128 = .ok (.getfield 27, 3) := by decide +kernel
theorem d_X_init_131 : decode b_X_init 131 = .ok (.imul, 1) := by decide +kernel
theorem d_X_init_132 : decode b_X_init 132 = .ok (.newarray .int, 2) := by decide +kernel
theorem d_X_init_134 : decode b_X_init 134 = .ok (.putfield 45, 3) := by decide +kernel
theorem d_X_init_137 : decode b_X_init 137 = .ok (.aload_n 0, 1) := by decide +kernel
theorem d_X_init_138 : decode b_X_init 138 = .ok (.aload_n 0, 1) := by decide +kernel
theorem d_X_init_139 : decode b_X_init 139 = .ok (.getfield 30, 3) := by decide +kernel
theorem d_X_init_142 : decode b_X_init 142 = .ok (.aload_n 0, 1) := by decide +kernel
theorem d_X_init_143 : decode b_X_init 143 = .ok (.getfield 27, 3) := by decide +kernel
theorem d_X_init_146 : decode b_X_init 146 = .ok (.imul, 1) := by decide +kernel
theorem d_X_init_147 : decode b_X_init 147 = .ok (.newarray .int, 2) := by decide +kernel
theorem d_X_init_149 : decode b_X_init 149 = .ok (.putfield 48, 3) := by decide +kernel
theorem d_X_init_152 : decode b_X_init 152 = .ok (.aload_n 0, 1) := by decide +kernel
theorem d_X_init_153 : decode b_X_init 153 = .ok (.invokevirtual 51, 3) := by decide +kernel
theorem d_X_init_156 : decode b_X_init 156 = .ok (.return_, 1) := by decide +kernel
end
section
/-! decode rows -/
theorem d_M_round_0 : decode b_M_round 0 = .ok (.aload_n 0, 1) := by decide +kernel
theorem d_M_round_1 : decode b_M_round 1 = .ok (.getfield 22, 3) := by decide +kernel
theorem d_M_round_4 : decode b_M_round 4 = .ok (.istore_n 1, 1) := by decide +kernel
theorem d_M_round_5 : decode b_M_round 5 = .ok (.iconst 0, 1) := by decide +kernel
theorem d_M_round_6 : decode b_M_round 6 = .ok (.istore_n 2, 1) := by decide +kernel
theorem d_M_round_7 : decode b_M_round 7 = .ok (.iload_n 2, 1) := by decide +kernel
theorem d_M_round_8 : decode b_M_round 8 = .ok (.aload_n 0, 1) := by decide +kernel
theorem d_M_round_9 : decode b_M_round 9 = .ok (.getfield 35, 3) := by decide +kernel
theorem d_M_round_12 : decode b_M_round 12 = .ok (.if_icmp .ge 13, 3) := by decide +kernel
theorem d_M_round_15 : decode b_M_round 15 = .ok (.iconst 2, 1) := by decide +kernel
theorem d_M_round_16 : decode b_M_round 16 = .ok (.iload_n 1, 1) := by decide +kernel
theorem d_M_round_17 : decode b_M_round 17 = .ok (.imul, 1) := by decide +kernel
theorem d_M_round_18 : decode b_M_round 18 = .ok (.istore_n 1, 1) := by decide +kernel
theorem d_M_round_19 : decode b_M_round 19 = .ok (.iinc 2 1, 3) := by decide +kernel
theorem d_M_round_22 : decode b_M_round 22 = .ok (.goto (-15), 3) := by decide +kernel
theorem d_M_round_25 : decode b_M_round 25 = .ok (.iload_n 1, 1) := by decide +kernel
theorem d_M_round_26 : decode b_M_round 26 = .ok (.ireturn, 1) := by decide +kernel
theorem d_M_buckets_0 : decode b_M_buckets 0 = .ok (.aload_n 0, 1) := by decide +kernel
theorem d_M_buckets_1 : decode b_M_buckets 1 = .ok (.invokevirtual 38, 3) := by decide +kernel
theorem d_M_buckets_4 : decode b_M_buckets 4 = .ok (.aload_n 0, 1) := by decide +kernel
theorem d_M_buckets_5 : decode b_M_buckets 5 = .ok (.getfield 42, 3) := by decide +kernel
theorem d_M_buckets_8 : decode b_M_buckets 8 = .ok (.iadd, 1) := by decide +kernel
theorem d_M_buckets_9 : decode b_M_buckets 9 = .ok (.ireturn, 1) := by decide +kernel
theorem d_M_bucketOf_0 : decode b_M_bucketOf 0 = .ok (.iload_n 1, 1) := by decide +kernel
theorem d_M_bucketOf_1 : decode b_M_bucketOf 1 = .ok (.ldc 45, 2) := by decide +kernel
theorem d_M_bucketOf_3 : decode b_M_bucketOf 3 = .ok (.iand, 1) := by decide +kernel
theorem d_M_bucketOf_4 : decode b_M_bucketOf 4 = .ok (.istore_n 2, 1) := by decide +kernel
theorem d_M_bucketOf_5 : decode b_M_bucketOf 5 = .ok (.iload_n 2, 1) := by decide +kernel
theorem d_M_bucketOf_6 : decode b_M_bucketOf 6 = .ok (.aload_n 0, 1) := by decide +kernel
theorem d_M_bucketOf_7 : decode b_M_bucketOf 7 = .ok (.invokevirtual 38, 3) := by decide +kernel
theorem d_M_bucketOf_10 : decode b_M_bucketOf 10 = .ok (.irem, 1) := by decide +kernel
theorem d_M_bucketOf_11 : decode b_M_bucketOf 11 = .ok (.istore_n 3, 1) := by decide +kernel
theorem d_M_bucketOf_12 : decode b_M_bucketOf 12 = .ok (.iload_n 3, 1) := by decide +kernel
theorem d_M_bucketOf_13 : decode b_M_bucketOf 13 = .ok (.aload_n 0, 1) := by decide +kernel
theorem d_M_bucketOf_14 : decode b_M_bucketOf 14 = .ok (.getfield 42, 3) := by decide +kernel
theorem d_M_bucketOf_17 : decode b_M_bucketOf 17 = .ok (.if_icmp .ge 14, 3) := by decide +kernel
theorem d_M_bucketOf_20 : decode b_M_bucketOf 20 = .ok (.iload_n 2, 1) := by decide +kernel
theorem d_M_bucketOf_21 : decode b_M_bucketOf 21 = .ok (.iconst 2, 1) := by decide +kernel
theorem d_M_bucketOf_22 : decode b_M_bucketOf 22 = .ok (.aload_n 0, 1) := by decide +kernel
theorem d_M_bucketOf_23 : decode b_M_bucketOf 23 = .ok (.invokevirtual 38, 3) := by decide +kernel
theorem d_M_bucketOf_26 : decode b_M_bucketOf 26 = .ok (.imul, 1) := by decide +kernel
theorem d_M_bucketOf_27 : decode b_M_bucketOf 27 = .ok (.irem, 1) := by decide +kernel
theorem d_M_bucketOf_28 : decode b_M_bucketOf 28 = .ok (.goto 4, 3) := by decide +kernel
theorem d_M_bucketOf_31 : decode b_M_bucketOf 31 = .ok (.iload_n 3, 1) := by decide +kernel
theorem d_M_bucketOf_32 : decode b_M_bucketOf 32 = .ok (.ireturn, 1) := by decide +kernel
theorem d_M_find_0 : decode b_M_find 0 = .ok (.iconst (-1), 1) := by decide +kernel
theorem d_M_find_1 : decode b_M_find 1 = .ok (.istore_n 2, 1) := by decide +kernel
theorem d_M_find_2 : decode b_M_find 2 = .ok (.iconst 0, 1) := by decide +kernel
theorem d_M_find_3 : decode b_M_find 3 = .ok (.istore_n 3, 1) := by decide +kernel
theorem d_M_find_4 : decode b_M_find 4 = .ok (.iload_n 3, 1) := by decide +kernel
theorem d_M_find_5 : decode b_M_find 5 = .ok (.aload_n 0, 1) := by decide +kernel
theorem d_M_find_6 : decode b_M_find 6 = .ok (.getfield 46, 3) := by decide +kernel
theorem d_M_find_9 : decode b_M_find 9 = .ok (.if_icmp .ge 25, 3) := by decide +kernel
theorem d_M_find_12 : decode b_M_find 12 = .ok (.aload_n 0, 1) := by decide +kernel
theorem d_M_find_13 : decode b_M_find 13 = .ok (.getfield 7, 3) := by decide +kernel
theorem d_M_find_16 : decode b_M_find 16 = .ok (.iload_n 3, 1) := by decide +kernel
theorem d_M_find_17 : decode b_M_find 17 = .ok (.iaload, 1) := by decide +kernel
theorem d_M_find_18 : decode b_M_find 18 = .ok (.iload_n 1, 1) := by decide +kernel
theorem d_M_find_19 : decode b_M_find 19 = .ok (.if_icmp .ne 7, 3) := by decide +kernel
theorem d_M_find_22 : decode b_M_find 22 = .ok (.iload_n 3, 1) := by decide +kernel
theorem d_M_find_23 : decode b_M_find 23 = .ok (.goto 4, 3) := by decide +kernel
theorem d_M_find_26 : decode b_M_find 26 = .ok (.iload_n 2, 1) := by decide +kernel
theorem d_M_find_27 : decode b_M_find 27 = .ok (.istore_n 2, 1) := by decide +kernel
theorem d_M_find_28 : decode b_M_find 28 = .ok (.iinc 3 1, 3) := by decide +kernel
theorem d_M_find_31 : decode b_M_find 31 = .ok (.goto (-27), 3) := by decide +kernel
theorem d_M_find_34 : decode b_M_find 34 = .ok (.iload_n 2, 1) := by decide +kernel
theorem d_M_find_35 : decode b_M_find 35 = .ok (.ireturn, 1) := by decide +kernel
theorem d_M_count_0 : decode b_M_count 0 = .ok (.iconst 0, 1) := by decide +kernel
theorem d_M_count_1 : decode b_M_count 1 = .ok (.istore_n 1, 1) := by decide +kernel
theorem d_M_count_2 : decode b_M_count 2 = .ok (.iload_n 1, 1) := by decide +kernel
theorem d_M_count_3 : decode b_M_count 3 = .ok (.sipush 200, 3) := by decide +kernel
theorem d_M_count_6 : decode b_M_count 6 = .ok (.if_icmp .ge 16, 3) := by decide +kernel
theorem d_M_count_9 : decode b_M_count 9 = .ok (.aload_n 0, 1) := by decide +kernel
theorem d_M_count_10 : decode b_M_count 10 = .ok (.getfield 19, 3) := by decide +kernel
theorem d_M_count_13 : decode b_M_count 13 = .ok (.iload_n 1, 1) := by decide +kernel
theorem d_M_count_14 : decode b_M_count 14 = .ok (.iconst 0, 1) := by decide +kernel
theorem d_M_count_15 : decode b_M_count 15 = .ok (.iastore, 1) := by decide +kernel
theorem d_M_count_16 : decode b_M_count 16 = .ok (.iinc 1 1, 3) := by decide +kernel
theorem d_M_count_19 : decode b_M_count 19 = .ok (.goto (-17), 3) := by decide +kernel
theorem d_M_count_22 : decode b_M_count 22 = .ok (.iconst 0, 1) := by decide +kernel
theorem d_M_count_23 : decode b_M_count 23 = .ok (.istore_n 1, 1) := by decide +kernel
theorem d_M_count_24 : decode b_M_count 24 = .ok (.iload_n 1, 1) := by decide +kernel
theorem d_M_count_25 : decode b_M_count 25 = .ok (.aload_n 0, 1) := by decide +kernel
theorem d_M_count_26 : decode b_M_count 26 = .ok (.getfield 46, 3) := by decide +kernel
theorem d_M_count_29 : decode b_M_count 29 = .ok (.if_icmp .ge 24, 3) := by decide +kernel
theorem d_M_count_32 : decode b_M_count 32 = .ok (.aload_n 0, 1) := by decide +kernel
theorem d_M_count_33 : decode b_M_count 33 = .ok (.getfield 19, 3) := by decide +kernel
theorem d_M_count_36 : decode b_M_count 36 = .ok (.aload_n 0, 1) := by decide +kernel
theorem d_M_count_37 : decode b_M_count 37 = .ok (.getfield 16, 3) := by decide +kernel
theorem d_M_count_40 : decode b_M_count 40 = .ok (.iload_n 1, 1) := by decide +kernel
theorem d_M_count_41 : decode b_M_count 41 = .ok (.iaload, 1) := by decide +kernel
theorem d_M_count_42 : decode b_M_count 42 = .ok (.dup2, 1) := by decide +kernel
theorem d_M_count_43 : decode b_M_count 43 = .ok (.iaload, 1) := by decide +kernel
theorem d_M_count_44 : decode b_M_count 44 = .ok (.iconst 1, 1) := by decide +kernel
theorem d_M_count_45 : decode b_M_count 45 = .ok (.iadd, 1) := by decide +kernel
theorem d_M_count_46 : decode b_M_count 46 = .ok (.iastore, 1) := by decide +kernel
theorem d_M_count_47 : decode b_M_count 47 = .ok (.iinc 1 1, 3) := by decide +kernel
theorem d_M_count_50 : decode b_M_count 50 = .ok (.goto (-26), 3) := by decide +kernel
theorem d_M_count_53 : decode b_M_count 53 = .ok (.return_, 1) := by decide +kernel
theorem d_M_pagesFor_0 : decode b_M_pagesFor 0 = .ok (.iload_n 1, 1) := by decide +kernel
theorem d_M_pagesFor_1 : decode b_M_pagesFor 1 = .ok (.ifCond .ne 7, 3) := by decide +kernel
theorem d_M_pagesFor_4 : decode b_M_pagesFor 4 = .ok (.iconst 1, 1) := by decide +kernel
theorem d_M_pagesFor_5 : decode b_M_pagesFor 5 = .ok (.goto 16, 3) := by decide +kernel
theorem d_M_pagesFor_8 : decode b_M_pagesFor 8 = .ok (.iload_n 1, 1) := by decide +kernel
theorem d_M_pagesFor_9 : decode b_M_pagesFor 9 = .ok (.aload_n 0, 1) := by decide +kernel
theorem d_M_pagesFor_10 : decode b_M_pagesFor 10 = .ok (.getfield 26, 3) := by decide +kernel
theorem d_M_pagesFor_13 : decode b_M_pagesFor 13 = .ok (.iadd, 1) := by decide +kernel
theorem d_M_pagesFor_14 : decode b_M_pagesFor 14 = .ok (.iconst 1, 1) := by decide +kernel
theorem d_M_pagesFor_15 : decode b_M_pagesFor 15 = .ok (.isub, 1) := by decide +kernel
theorem d_M_pagesFor_16 : decode b_M_pagesFor 16 = .ok (.aload_n 0, 1) := by decide +kernel
theorem d_M_pagesFor_17 : decode b_M_pagesFor 17 = .ok (.getfield 26, 3) := by decide +kernel
theorem d_M_pagesFor_20 : decode b_M_pagesFor 20 = .ok (.idiv, 1) := by decide +kernel
theorem d_M_pagesFor_21 : decode b_M_pagesFor 21 = .ok (.ireturn, 1) := by decide +kernel
theorem d_M_needed_0 : decode b_M_needed 0 = .ok (.aload_n 0, 1) := by decide +kernel
theorem d_M_needed_1 : decode b_M_needed 1 = .ok (.invokevirtual 49, 3) := by decide +kernel
theorem d_M_needed_4 : decode b_M_needed 4 = .ok (.iconst 0, 1) := by decide +kernel
theorem d_M_needed_5 : decode b_M_needed 5 = .ok (.istore_n 1, 1) := by decide +kernel
theorem d_M_needed_6 : decode b_M_needed 6 = .ok (.iconst 0, 1) := by decide +kernel
theorem d_M_needed_7 : decode b_M_needed 7 = .ok (.istore_n 2, 1) := by decide +kernel
theorem d_M_needed_8 : decode b_M_needed 8 = .ok (.iload_n 2, 1) := by decide +kernel
theorem d_M_needed_9 : decode b_M_needed 9 = .ok (.aload_n 0, 1) := by decide +kernel
theorem d_M_needed_10 : decode b_M_needed 10 = .ok (.invokevirtual 52, 3) := by decide +kernel
theorem d_M_needed_13 : decode b_M_needed 13 = .ok (.if_icmp .ge 22, 3) := by decide +kernel
theorem d_M_needed_16 : decode b_M_needed 16 = .ok (.iload_n 1, 1) := by decide +kernel
theorem d_M_needed_17 : decode b_M_needed 17 = .ok (.aload_n 0, 1) := by decide +kernel
theorem d_M_needed_18 : decode b_M_needed 18 = .ok (.aload_n 0, 1) := by decide +kernel
theorem d_M_needed_19 : decode b_M_needed 19 = .ok (.getfield 19, 3) := by decide +kernel
theorem d_M_needed_22 : decode b_M_needed 22 = .ok (.iload_n 2, 1) := by decide +kernel
theorem d_M_needed_23 : decode b_M_needed 23 = .ok (.iaload, 1) := by decide +kernel
theorem d_M_needed_24 : decode b_M_needed 24 = .ok (.invokevirtual 55, 3) := by decide +kernel
theorem d_M_needed_27 : decode b_M_needed 27 = .ok (.iadd, 1) := by decide +kernel
theorem d_M_needed_28 : decode b_M_needed 28 = .ok (.istore_n 1, 1) := by decide +kernel
theorem d_M_needed_29 : decode b_M_needed 29 = .ok (.iinc 2 1, 3) := by decide +kernel
theorem d_M_needed_32 : decode b_M_needed 32 = .ok (.goto (-24), 3) := by decide +kernel
theorem d_M_needed_35 : decode b_M_needed 35 = .ok (.iload_n 1, 1) := by decide +kernel
theorem d_M_needed_36 : decode b_M_needed 36 = .ok (.ireturn, 1) := by decide +kernel
theorem d_M_settle_0 : decode b_M_settle 0 = .ok (.iconst 0, 1) := by decide +kernel
theorem d_M_settle_1 : decode b_M_settle 1 = .ok (.istore_n 1, 1) := by decide +kernel
theorem d_M_settle_2 : decode b_M_settle 2 = .ok (.iload_n 1, 1) := by decide +kernel
theorem d_M_settle_3 : decode b_M_settle 3 = .ok (.aload_n 0, 1) := by decide +kernel
theorem d_M_settle_4 : decode b_M_settle 4 = .ok (.getfield 46, 3) := by decide +kernel
theorem d_M_settle_7 : decode b_M_settle 7 = .ok (.if_icmp .ge 25, 3) := by decide +kernel
theorem d_M_settle_10 : decode b_M_settle 10 = .ok (.aload_n 0, 1) := by decide +kernel
theorem d_M_settle_11 : decode b_M_settle 11 = .ok (.getfield 16, 3) := by decide +kernel
theorem d_M_settle_14 : decode b_M_settle 14 = .ok (.iload_n 1, 1) := by decide +kernel
theorem d_M_settle_15 : decode b_M_settle 15 = .ok (.aload_n 0, 1) := by decide +kernel
theorem d_M_settle_16 : decode b_M_settle 16 = .ok (.aload_n 0, 1) := by decide +kernel
theorem d_M_settle_17 : decode b_M_settle 17 = .ok (.getfield 7, 3) := by decide +kernel
theorem d_M_settle_20 : decode b_M_settle 20 = .ok (.iload_n 1, 1) := by decide +kernel
theorem d_M_settle_21 : decode b_M_settle 21 = .ok (.iaload, 1) := by decide +kernel
theorem d_M_settle_22 : decode b_M_settle 22 = .ok (.invokevirtual 59, 3) := by decide +kernel
theorem d_M_settle_25 : decode b_M_settle 25 = .ok (.iastore, 1) := by decide +kernel
theorem d_M_settle_26 : decode b_M_settle 26 = .ok (.iinc 1 1, 3) := by decide +kernel
theorem d_M_settle_29 : decode b_M_settle 29 = .ok (.goto (-27), 3) := by decide +kernel
theorem d_M_settle_32 : decode b_M_settle 32 = .ok (.return_, 1) := by decide +kernel
theorem d_M_forth_0 : decode b_M_forth 0 = .ok (.aload_n 0, 1) := by decide +kernel
theorem d_M_forth_1 : decode b_M_forth 1 = .ok (.dup, 1) := by decide +kernel
theorem d_M_forth_2 : decode b_M_forth 2 = .ok (.getfield 42, 3) := by decide +kernel
theorem d_M_forth_5 : decode b_M_forth 5 = .ok (.iconst 1, 1) := by decide +kernel
theorem d_M_forth_6 : decode b_M_forth 6 = .ok (.iadd, 1) := by decide +kernel
theorem d_M_forth_7 : decode b_M_forth 7 = .ok (.putfield 42, 3) := by decide +kernel
theorem d_M_forth_10 : decode b_M_forth 10 = .ok (.aload_n 0, 1) := by decide +kernel
theorem d_M_forth_11 : decode b_M_forth 11 = .ok (.getfield 42, 3) := by decide +kernel
theorem d_M_forth_14 : decode b_M_forth 14 = .ok (.aload_n 0, 1) := by decide +kernel
theorem d_M_forth_15 : decode b_M_forth 15 = .ok (.invokevirtual 38, 3) := by decide +kernel
theorem d_M_forth_18 : decode b_M_forth 18 = .ok (.if_icmp .ne 18, 3) := by decide +kernel
theorem d_M_forth_21 : decode b_M_forth 21 = .ok (.aload_n 0, 1) := by decide +kernel
theorem d_M_forth_22 : decode b_M_forth 22 = .ok (.iconst 0, 1) := by decide +kernel
theorem d_M_forth_23 : decode b_M_forth 23 = .ok (.putfield 42, 3) := by decide +kernel
theorem d_M_forth_26 : decode b_M_forth 26 = .ok (.aload_n 0, 1) := by decide +kernel
theorem d_M_forth_27 : decode b_M_forth 27 = .ok (.dup, 1) := by decide +kernel
theorem d_M_forth_28 : decode b_M_forth 28 = .ok (.getfield 35, 3) := by decide +kernel
theorem d_M_forth_31 : decode b_M_forth 31 = .ok (.iconst 1, 1) := by decide +kernel
theorem d_M_forth_32 : decode b_M_forth 32 = .ok (.iadd, 1) := by decide +kernel
theorem d_M_forth_33 : decode b_M_forth 33 = .ok (.putfield 35, 3) := by decide +kernel
theorem d_M_forth_36 : decode b_M_forth 36 = .ok (.return_, 1) := by decide +kernel
theorem d_M_back_0 : decode b_M_back 0 = .ok (.aload_n 0, 1) := by decide +kernel
theorem d_M_back_1 : decode b_M_back 1 = .ok (.getfield 42, 3) := by decide +kernel
theorem d_M_back_4 : decode b_M_back 4 = .ok (.ifCond .ne 21, 3) := by decide +kernel
theorem d_M_back_7 : decode b_M_back 7 = .ok (.aload_n 0, 1) := by decide +kernel
theorem d_M_back_8 : decode b_M_back 8 = .ok (.dup, 1) := by decide +kernel
theorem d_M_back_9 : decode b_M_back 9 = .ok (.getfield 35, 3) := by decide +kernel
theorem d_M_back_12 : decode b_M_back 12 = .ok (.iconst 1, 1) := by decide +kernel
theorem d_M_back_13 : decode b_M_back 13 = .ok (.isub, 1) := by decide +kernel
theorem d_M_back_14 : decode b_M_back 14 = .ok (.putfield 35, 3) := by decide +kernel
theorem d_M_back_17 : decode b_M_back 17 = .ok (.aload_n 0, 1) := by decide +kernel
theorem d_M_back_18 : decode b_M_back 18 = .ok (.aload_n 0, 1) := by decide +kernel
theorem d_M_back_19 : decode b_M_back 19 = .ok (.invokevirtual 38, 3) := by decide +kernel
theorem d_M_back_22 : decode b_M_back 22 = .ok (.putfield 42, 3) := by decide +kernel
theorem d_M_back_25 : decode b_M_back 25 = .ok (.aload_n 0, 1) := by decide +kernel
theorem d_M_back_26 : decode b_M_back 26 = .ok (.dup, 1) := by decide +kernel
theorem d_M_back_27 : decode b_M_back 27 = .ok (.getfield 42, 3) := by decide +kernel
theorem d_M_back_30 : decode b_M_back 30 = .ok (.iconst 1, 1) := by decide +kernel
theorem d_M_back_31 : decode b_M_back 31 = .ok (.isub, 1) := by decide +kernel
theorem d_M_back_32 : decode b_M_back 32 = .ok (.putfield 42, 3) := by decide +kernel
theorem d_M_back_35 : decode b_M_back 35 = .ok (.return_, 1) := by decide +kernel
theorem d_M_put_0 : decode b_M_put 0 = .ok (.aload_n 0, 1) := by decide +kernel
theorem d_M_put_1 : decode b_M_put 1 = .ok (.iload_n 1, 1) := by decide +kernel
theorem d_M_put_2 : decode b_M_put 2 = .ok (.invokevirtual 62, 3) := by decide +kernel
theorem d_M_put_5 : decode b_M_put 5 = .ok (.istore_n 3, 1) := by decide +kernel
theorem d_M_put_6 : decode b_M_put 6 = .ok (.iload_n 3, 1) := by decide +kernel
theorem d_M_put_7 : decode b_M_put 7 = .ok (.ifCond .lt 12, 3) := by decide +kernel
theorem d_M_put_10 : decode b_M_put 10 = .ok (.aload_n 0, 1) := by decide +kernel
theorem d_M_put_11 : decode b_M_put 11 = .ok (.getfield 13, 3) := by decide +kernel
theorem d_M_put_14 : decode b_M_put 14 = .ok (.iload_n 3, 1) := by decide +kernel
theorem d_M_put_15 : decode b_M_put 15 = .ok (.iload_n 2, 1) := by decide +kernel
theorem d_M_put_16 : decode b_M_put 16 = .ok (.iastore, 1) := by decide +kernel
theorem d_M_put_17 : decode b_M_put 17 = .ok (.iconst 1, 1) := by decide +kernel
theorem d_M_put_18 : decode b_M_put 18 = .ok (.ireturn, 1) := by decide +kernel
theorem d_M_put_19 : decode b_M_put 19 = .ok (.aload_n 0, 1) := by decide +kernel
theorem d_M_put_20 : decode b_M_put 20 = .ok (.getfield 7, 3) := by decide +kernel
theorem d_M_put_23 : decode b_M_put 23 = .ok (.aload_n 0, 1) := by decide +kernel
theorem d_M_put_24 : decode b_M_put 24 = .ok (.getfield 46, 3) := by decide +kernel
theorem d_M_put_27 : decode b_M_put 27 = .ok (.iload_n 1, 1) := by decide +kernel
theorem d_M_put_28 : decode b_M_put 28 = .ok (.iastore, 1) := by decide +kernel
theorem d_M_put_29 : decode b_M_put 29 = .ok (.aload_n 0, 1) := by decide +kernel
theorem d_M_put_30 : decode b_M_put 30 = .ok (.getfield 13, 3) := by decide +kernel
theorem d_M_put_33 : decode b_M_put 33 = .ok (.aload_n 0, 1) := by decide +kernel
theorem d_M_put_34 : decode b_M_put 34 = .ok (.getfield 46, 3) := by decide +kernel
theorem d_M_put_37 : decode b_M_put 37 = .ok (.iload_n 2, 1) := by decide +kernel
theorem d_M_put_38 : decode b_M_put 38 = .ok (.iastore, 1) := by decide +kernel
theorem d_M_put_39 : decode b_M_put 39 = .ok (.aload_n 0, 1) := by decide +kernel
theorem d_M_put_40 : decode b_M_put 40 = .ok (.dup, 1) := by decide +kernel
theorem d_M_put_41 : decode b_M_put 41 = .ok (.getfield 46, 3) := by decide +kernel
theorem d_M_put_44 : decode b_M_put 44 = .ok (.iconst 1, 1) := by decide +kernel
theorem d_M_put_45 : decode b_M_put 45 = .ok (.iadd, 1) := by decide +kernel
theorem d_M_put_46 : decode b_M_put 46 = .ok (.putfield 46, 3) := by decide +kernel
theorem d_M_put_49 : decode b_M_put 49 = .ok (.iconst 4, 1) := by decide +kernel
theorem d_M_put_50 : decode b_M_put 50 = .ok (.aload_n 0, 1) := by decide +kernel
theorem d_M_put_51 : decode b_M_put 51 = .ok (.getfield 46, 3) := by decide +kernel
theorem d_M_put_54 : decode b_M_put 54 = .ok (.imul, 1) := by decide +kernel
theorem d_M_put_55 : decode b_M_put 55 = .ok (.iconst 3, 1) := by decide +kernel
theorem d_M_put_56 : decode b_M_put 56 = .ok (.aload_n 0, 1) := by decide +kernel
theorem d_M_put_57 : decode b_M_put 57 = .ok (.getfield 26, 3) := by decide +kernel
theorem d_M_put_60 : decode b_M_put 60 = .ok (.imul, 1) := by decide +kernel
theorem d_M_put_61 : decode b_M_put 61 = .ok (.aload_n 0, 1) := by decide +kernel
theorem d_M_put_62 : decode b_M_put 62 = .ok (.invokevirtual 52, 3) := by decide +kernel
theorem d_M_put_65 : decode b_M_put 65 = .ok (.imul, 1) := by decide +kernel
theorem d_M_put_66 : decode b_M_put 66 = .ok (.if_icmp .le 18, 3) := by decide +kernel
theorem d_M_put_69 : decode b_M_put 69 = .ok (.aload_n 0, 1) := by decide +kernel
theorem d_M_put_70 : decode b_M_put 70 = .ok (.invokevirtual 52, 3) := by decide +kernel
theorem d_M_put_73 : decode b_M_put 73 = .ok (.aload_n 0, 1) := by decide +kernel
theorem d_M_put_74 : decode b_M_put 74 = .ok (.getfield 32, 3) := by decide +kernel
theorem d_M_put_77 : decode b_M_put 77 = .ok (.if_icmp .ge 7, 3) := by decide +kernel
theorem d_M_put_80 : decode b_M_put 80 = .ok (.iconst 1, 1) := by decide +kernel
theorem d_M_put_81 : decode b_M_put 81 = .ok (.goto 4, 3) := by decide +kernel
theorem d_M_put_84 : decode b_M_put 84 = .ok (.iconst 0, 1) := by decide +kernel
theorem d_M_put_85 : decode b_M_put 85 = .ok (.istore 4, 2) := by decide +kernel
theorem d_M_put_87 : decode b_M_put 87 = .ok (.iload 4, 2) := by decide +kernel
theorem d_M_put_89 : decode b_M_put 89 = .ok (.ifCond .eq 7, 3) := by decide +kernel
theorem d_M_put_92 : decode b_M_put 92 = .ok (.aload_n 0, 1) := by decide +kernel
theorem d_M_put_93 : decode b_M_put 93 = .ok (.invokevirtual 65, 3) := by decide +kernel
theorem d_M_put_96 : decode b_M_put 96 = .ok (.aload_n 0, 1) := by decide +kernel
theorem d_M_put_97 : decode b_M_put 97 = .ok (.invokevirtual 68, 3) := by decide +kernel
theorem d_M_put_100 : decode b_M_put 100 = .ok (.aload_n 0, 1) := by decide +kernel
theorem d_M_put_101 : decode b_M_put 101 = .ok (.invokevirtual 71, 3) := by decide +kernel
theorem d_M_put_104 : decode b_M_put 104 = .ok (.aload_n 0, 1) := by decide +kernel
theorem d_M_put_105 : decode b_M_put 105 = .ok (.getfield 29, 3) := by decide +kernel
theorem d_M_put_108 : decode b_M_put 108 = .ok (.if_icmp .gt 5, 3) := by decide +kernel
theorem d_M_put_111 : decode b_M_put 111 = .ok (.iconst 0, 1) := by decide +kernel
theorem d_M_put_112 : decode b_M_put 112 = .ok (.ireturn, 1) := by decide +kernel
theorem d_M_put_113 : decode b_M_put 113 = .ok (.iload 4, 2) := by decide +kernel
theorem d_M_put_115 : decode b_M_put 115 = .ok (.ifCond .eq 7, 3) := by decide +kernel
theorem d_M_put_118 : decode b_M_put 118 = .ok (.aload_n 0, 1) := by decide +kernel
theorem d_M_put_119 : decode b_M_put 119 = .ok (.invokevirtual 74, 3) := by decide +kernel
theorem d_M_put_122 : decode b_M_put 122 = .ok (.aload_n 0, 1) := by decide +kernel
theorem d_M_put_123 : decode b_M_put 123 = .ok (.dup, 1) := by decide +kernel
theorem d_M_put_124 : decode b_M_put 124 = .ok (.getfield 46, 3) := by decide +kernel
theorem d_M_put_127 : decode b_M_put 127 = .ok (.iconst 1, 1) := by decide +kernel
theorem d_M_put_128 : decode b_M_put 128 = .ok (.isub, 1) := by decide +kernel
theorem d_M_put_129 : decode b_M_put 129 = .ok (.putfield 46, 3) := by decide +kernel
theorem d_M_put_132 : decode b_M_put 132 = .ok (.aload_n 0, 1) := by decide +kernel
theorem d_M_put_133 : decode b_M_put 133 = .ok (.invokevirtual 68, 3) := by decide +kernel
theorem d_M_put_136 : decode b_M_put 136 = .ok (.iconst 2, 1) := by decide +kernel
theorem d_M_put_137 : decode b_M_put 137 = .ok (.ireturn, 1) := by decide +kernel
theorem d_M_get_0 : decode b_M_get 0 = .ok (.aload_n 0, 1) := by decide +kernel
theorem d_M_get_1 : decode b_M_get 1 = .ok (.iload_n 1, 1) := by decide +kernel
theorem d_M_get_2 : decode b_M_get 2 = .ok (.invokevirtual 62, 3) := by decide +kernel
theorem d_M_get_5 : decode b_M_get 5 = .ok (.istore_n 2, 1) := by decide +kernel
theorem d_M_get_6 : decode b_M_get 6 = .ok (.iload_n 2, 1) := by decide +kernel
theorem d_M_get_7 : decode b_M_get 7 = .ok (.ifCond .ge 7, 3) := by decide +kernel
theorem d_M_get_10 : decode b_M_get 10 = .ok (.iconst 0, 1) := by decide +kernel
theorem d_M_get_11 : decode b_M_get 11 = .ok (.goto 9, 3) := by decide +kernel
theorem d_M_get_14 : decode b_M_get 14 = .ok (.aload_n 0, 1) := by decide +kernel
theorem d_M_get_15 : decode b_M_get 15 = .ok (.getfield 13, 3) := by decide +kernel
theorem d_M_get_18 : decode b_M_get 18 = .ok (.iload_n 2, 1) := by decide +kernel
theorem d_M_get_19 : decode b_M_get 19 = .ok (.iaload, 1) := by decide +kernel
theorem d_M_get_20 : decode b_M_get 20 = .ok (.ireturn, 1) := by decide +kernel
theorem d_M_has_0 : decode b_M_has 0 = .ok (.aload_n 0, 1) := by decide +kernel
theorem d_M_has_1 : decode b_M_has 1 = .ok (.iload_n 1, 1) := by decide +kernel
theorem d_M_has_2 : decode b_M_has 2 = .ok (.invokevirtual 62, 3) := by decide +kernel
theorem d_M_has_5 : decode b_M_has 5 = .ok (.ifCond .lt 7, 3) := by decide +kernel
theorem d_M_has_8 : decode b_M_has 8 = .ok (.iconst 1, 1) := by decide +kernel
theorem d_M_has_9 : decode b_M_has 9 = .ok (.goto 4, 3) := by decide +kernel
theorem d_M_has_12 : decode b_M_has 12 = .ok (.iconst 0, 1) := by decide +kernel
theorem d_M_has_13 : decode b_M_has 13 = .ok (.ireturn, 1) := by decide +kernel
theorem d_M_cut_0 : decode b_M_cut 0 = .ok (.aload_n 0, 1) := by decide +kernel
theorem d_M_cut_1 : decode b_M_cut 1 = .ok (.dup, 1) := by decide +kernel
theorem d_M_cut_2 : decode b_M_cut 2 = .ok (.getfield 46, 3) := by decide +kernel
theorem d_M_cut_5 : decode b_M_cut 5 = .ok (.iconst 1, 1) := by decide +kernel
theorem d_M_cut_6 : decode b_M_cut 6 = .ok (.isub, 1) := by decide +kernel
theorem d_M_cut_7 : decode b_M_cut 7 = .ok (.putfield 46, 3) := by decide +kernel
theorem d_M_cut_10 : decode b_M_cut 10 = .ok (.iload_n 1, 1) := by decide +kernel
theorem d_M_cut_11 : decode b_M_cut 11 = .ok (.istore_n 2, 1) := by decide +kernel
theorem d_M_cut_12 : decode b_M_cut 12 = .ok (.iload_n 2, 1) := by decide +kernel
theorem d_M_cut_13 : decode b_M_cut 13 = .ok (.aload_n 0, 1) := by decide +kernel
theorem d_M_cut_14 : decode b_M_cut 14 = .ok (.getfield 46, 3) := by decide +kernel
theorem d_M_cut_17 : decode b_M_cut 17 = .ok (.if_icmp .ge 51, 3) := by decide +kernel
theorem d_M_cut_20 : decode b_M_cut 20 = .ok (.aload_n 0, 1) := by decide +kernel
theorem d_M_cut_21 : decode b_M_cut 21 = .ok (.getfield 7, 3) := by decide +kernel
theorem d_M_cut_24 : decode b_M_cut 24 = .ok (.iload_n 2, 1) := by decide +kernel
theorem d_M_cut_25 : decode b_M_cut 25 = .ok (.aload_n 0, 1) := by decide +kernel
theorem d_M_cut_26 : decode b_M_cut 26 = .ok (.getfield 7, 3) := by decide +kernel
theorem d_M_cut_29 : decode b_M_cut 29 = .ok (.iload_n 2, 1) := by decide +kernel
theorem d_M_cut_30 : decode b_M_cut 30 = .ok (.iconst 1, 1) := by decide +kernel
theorem d_M_cut_31 : decode b_M_cut 31 = .ok (.iadd, 1) := by decide +kernel
theorem d_M_cut_32 : decode b_M_cut 32 = .ok (.iaload, 1) := by decide +kernel
theorem d_M_cut_33 : decode b_M_cut 33 = .ok (.iastore, 1) := by decide +kernel
theorem d_M_cut_34 : decode b_M_cut 34 = .ok (.aload_n 0, 1) := by decide +kernel
theorem d_M_cut_35 : decode b_M_cut 35 = .ok (.getfield 13, 3) := by decide +kernel
theorem d_M_cut_38 : decode b_M_cut 38 = .ok (.iload_n 2, 1) := by decide +kernel
theorem d_M_cut_39 : decode b_M_cut 39 = .ok (.aload_n 0, 1) := by decide +kernel
theorem d_M_cut_40 : decode b_M_cut 40 = .ok (.getfield 13, 3) := by decide +kernel
theorem d_M_cut_43 : decode b_M_cut 43 = .ok (.iload_n 2, 1) := by decide +kernel
theorem d_M_cut_44 : decode b_M_cut 44 = .ok (.iconst 1, 1) := by decide +kernel
theorem d_M_cut_45 : decode b_M_cut 45 = .ok (.iadd, 1) := by decide +kernel
theorem d_M_cut_46 : decode b_M_cut 46 = .ok (.iaload, 1) := by decide +kernel
theorem d_M_cut_47 : decode b_M_cut 47 = .ok (.iastore, 1) := by decide +kernel
theorem d_M_cut_48 : decode b_M_cut 48 = .ok (.aload_n 0, 1) := by decide +kernel
theorem d_M_cut_49 : decode b_M_cut 49 = .ok (.getfield 16, 3) := by decide +kernel
theorem d_M_cut_52 : decode b_M_cut 52 = .ok (.iload_n 2, 1) := by decide +kernel
theorem d_M_cut_53 : decode b_M_cut 53 = .ok (.aload_n 0, 1) := by decide +kernel
theorem d_M_cut_54 : decode b_M_cut 54 = .ok (.getfield 16, 3) := by decide +kernel
theorem d_M_cut_57 : decode b_M_cut 57 = .ok (.iload_n 2, 1) := by decide +kernel
theorem d_M_cut_58 : decode b_M_cut 58 = .ok (.iconst 1, 1) := by decide +kernel
theorem d_M_cut_59 : decode b_M_cut 59 = .ok (.iadd, 1) := by decide +kernel
theorem d_M_cut_60 : decode b_M_cut 60 = .ok (.iaload, 1) := by decide +kernel
theorem d_M_cut_61 : decode b_M_cut 61 = .ok (.iastore, 1) := by decide +kernel
theorem d_M_cut_62 : decode b_M_cut 62 = .ok (.iinc 2 1, 3) := by decide +kernel
theorem d_M_cut_65 : decode b_M_cut 65 = .ok (.goto (-53), 3) := by decide +kernel
theorem d_M_cut_68 : decode b_M_cut 68 = .ok (.return_, 1) := by decide +kernel
theorem d_M_toEnd_0 : decode b_M_toEnd 0 = .ok (.iconst 0, 1) := by decide +kernel
theorem d_M_toEnd_1 : decode b_M_toEnd 1 = .ok (.istore_n 2, 1) := by decide +kernel
theorem d_M_toEnd_2 : decode b_M_toEnd 2 = .ok (.aload_n 0, 1) := by decide +kernel
theorem d_M_toEnd_3 : decode b_M_toEnd 3 = .ok (.getfield 46, 3) := by decide +kernel
theorem d_M_toEnd_6 : decode b_M_toEnd 6 = .ok (.istore_n 3, 1) := by decide +kernel
theorem d_M_toEnd_7 : decode b_M_toEnd 7 = .ok (.iload_n 3, 1) := by decide +kernel
theorem d_M_toEnd_8 : decode b_M_toEnd 8 = .ok (.ifCond .le 88, 3) := by decide +kernel
theorem d_M_toEnd_11 : decode b_M_toEnd 11 = .ok (.aload_n 0, 1) := by decide +kernel
theorem d_M_toEnd_12 : decode b_M_toEnd 12 = .ok (.getfield 16, 3) := by decide +kernel
theorem d_M_toEnd_15 : decode b_M_toEnd 15 = .ok (.iload_n 2, 1) := by decide +kernel
theorem d_M_toEnd_16 : decode b_M_toEnd 16 = .ok (.iaload, 1) := by decide +kernel
theorem d_M_toEnd_17 : decode b_M_toEnd 17 = .ok (.iload_n 1, 1) := by decide +kernel
theorem d_M_toEnd_18 : decode b_M_toEnd 18 = .ok (.if_icmp .eq 9, 3) := by decide +kernel
theorem d_M_toEnd_21 : decode b_M_toEnd 21 = .ok (.iinc 2 1, 3) := by decide +kernel
theorem d_M_toEnd_24 : decode b_M_toEnd 24 = .ok (.goto 66, 3) := by decide +kernel
theorem d_M_toEnd_27 : decode b_M_toEnd 27 = .ok (.aload_n 0, 1) := by decide +kernel
theorem d_M_toEnd_28 : decode b_M_toEnd 28 = .ok (.getfield 7, 3) := by decide +kernel
theorem d_M_toEnd_31 : decode b_M_toEnd 31 = .ok (.iload_n 2, 1) := by decide +kernel
theorem d_M_toEnd_32 : decode b_M_toEnd 32 = .ok (.iaload, 1) := by decide +kernel
theorem d_M_toEnd_33 : decode b_M_toEnd 33 = .ok (.istore 4, 2) := by decide +kernel
theorem d_M_toEnd_35 : decode b_M_toEnd 35 = .ok (.aload_n 0, 1) := by decide +kernel
theorem d_M_toEnd_36 : decode b_M_toEnd 36 = .ok (.getfield 13, 3) := by decide +kernel
theorem d_M_toEnd_39 : decode b_M_toEnd 39 = .ok (.iload_n 2, 1) := by decide +kernel
theorem d_M_toEnd_40 : decode b_M_toEnd 40 = .ok (.iaload, 1) := by decide +kernel
theorem d_M_toEnd_41 : decode b_M_toEnd 41 = .ok (.istore 5, 2) := by decide +kernel
theorem d_M_toEnd_43 : decode b_M_toEnd 43 = .ok (.aload_n 0, 1) := by decide +kernel
theorem d_M_toEnd_44 : decode b_M_toEnd 44 = .ok (.iload_n 2, 1) := by decide +kernel
theorem d_M_toEnd_45 : decode b_M_toEnd 45 = .ok (.invokevirtual 77, 3) := by decide +kernel
theorem d_M_toEnd_48 : decode b_M_toEnd 48 = .ok (.aload_n 0, 1) := by decide +kernel
theorem d_M_toEnd_49 : decode b_M_toEnd 49 = .ok (.getfield 7, 3) := by decide +kernel
theorem d_M_toEnd_52 : decode b_M_toEnd 52 = .ok (.aload_n 0, 1) := by decide +kernel
theorem d_M_toEnd_53 : decode b_M_toEnd 53 = .ok (.getfield 46, 3) := by decide +kernel
theorem d_M_toEnd_56 : decode b_M_toEnd 56 = .ok (.iload 4, 2) := by decide +kernel
theorem d_M_toEnd_58 : decode b_M_toEnd 58 = .ok (.iastore, 1) := by decide +kernel
theorem d_M_toEnd_59 : decode b_M_toEnd 59 = .ok (.aload_n 0, 1) := by decide +kernel
theorem d_M_toEnd_60 : decode b_M_toEnd 60 = .ok (.getfield 13, 3) := by decide +kernel
theorem d_M_toEnd_63 : decode b_M_toEnd 63 = .ok (.aload_n 0, 1) := by decide +kernel
theorem d_M_toEnd_64 : decode b_M_toEnd 64 = .ok (.getfield 46, 3) := by decide +kernel
theorem d_M_toEnd_67 : decode b_M_toEnd 67 = .ok (.iload 5, 2) := by decide +kernel
theorem d_M_toEnd_69 : decode b_M_toEnd 69 = .ok (.iastore, 1) := by decide +kernel
theorem d_M_toEnd_70 : decode b_M_toEnd 70 = .ok (.aload_n 0, 1) := by decide +kernel
theorem d_M_toEnd_71 : decode b_M_toEnd 71 = .ok (.getfield 16, 3) := by decide +kernel
theorem d_M_toEnd_74 : decode b_M_toEnd 74 = .ok (.aload_n 0, 1) := by decide +kernel
theorem d_M_toEnd_75 : decode b_M_toEnd 75 = .ok (.getfield 46, 3) := by decide +kernel
theorem d_M_toEnd_78 : decode b_M_toEnd 78 = .ok (.iload_n 1, 1) := by decide +kernel
theorem d_M_toEnd_79 : decode b_M_toEnd 79 = .ok (.iastore, 1) := by decide +kernel
theorem d_M_toEnd_80 : decode b_M_toEnd 80 = .ok (.aload_n 0, 1) := by decide +kernel
theorem d_M_toEnd_81 : decode b_M_toEnd 81 = .ok (.dup, 1) := by decide +kernel
theorem d_M_toEnd_82 : decode b_M_toEnd 82 = .ok (.getfield 46, 3) := by decide +kernel
theorem d_M_toEnd_85 : decode b_M_toEnd 85 = .ok (.iconst 1, 1) := by decide +kernel
theorem d_M_toEnd_86 : decode b_M_toEnd 86 = .ok (.iadd, 1) := by decide +kernel
theorem d_M_toEnd_87 : decode b_M_toEnd 87 = .ok (.putfield 46, 3) := by decide +kernel
theorem d_M_toEnd_90 : decode b_M_toEnd 90 = .ok (.iinc 3 (-1), 3) := by decide +kernel
theorem d_M_toEnd_93 : decode b_M_toEnd 93 = .ok (.goto (-86), 3) := by decide +kernel
theorem d_M_toEnd_96 : decode b_M_toEnd 96 = .ok (.return_, 1) := by decide +kernel
theorem d_M_remove_0 : decode b_M_remove 0 = .ok (.aload_n 0, 1) := by decide +kernel
theorem d_M_remove_1 : decode b_M_remove 1 = .ok (.iload_n 1, 1) := by decide +kernel
theorem d_M_remove_2 : decode b_M_remove 2 = .ok (.invokevirtual 62, 3) := by decide +kernel
theorem d_M_remove_5 : decode b_M_remove 5 = .ok (.istore_n 2, 1) := by decide +kernel
theorem d_M_remove_6 : decode b_M_remove 6 = .ok (.iload_n 2, 1) := by decide +kernel
theorem d_M_remove_7 : decode b_M_remove 7 = .ok (.ifCond .ge 5, 3) := by decide +kernel
theorem d_M_remove_10 : decode b_M_remove 10 = .ok (.iconst 0, 1) := by decide +kernel
theorem d_M_remove_11 : decode b_M_remove 11 = .ok (.ireturn, 1) := by decide +kernel
theorem d_M_remove_12 : decode b_M_remove 12 = .ok (.iload_n 2, 1) := by decide +kernel
theorem d_M_remove_13 : decode b_M_remove 13 = .ok (.istore_n 3, 1) := by decide +kernel
theorem d_M_remove_14 : decode b_M_remove 14 = .ok (.iload_n 2, 1) := by decide +kernel
theorem d_M_remove_15 : decode b_M_remove 15 = .ok (.istore 4, 2) := by decide +kernel
theorem d_M_remove_17 : decode b_M_remove 17 = .ok (.iload 4, 2) := by decide +kernel
theorem d_M_remove_19 : decode b_M_remove 19 = .ok (.aload_n 0, 1) := by decide +kernel
theorem d_M_remove_20 : decode b_M_remove 20 = .ok (.getfield 46, 3) := by decide +kernel
theorem d_M_remove_23 : decode b_M_remove 23 = .ok (.if_icmp .ge 32, 3) := by decide +kernel
theorem d_M_remove_26 : decode b_M_remove 26 = .ok (.aload_n 0, 1) := by decide +kernel
theorem d_M_remove_27 : decode b_M_remove 27 = .ok (.getfield 16, 3) := by decide +kernel
theorem d_M_remove_30 : decode b_M_remove 30 = .ok (.iload 4, 2) := by decide +kernel
theorem d_M_remove_32 : decode b_M_remove 32 = .ok (.iaload, 1) := by decide +kernel
theorem d_M_remove_33 : decode b_M_remove 33 = .ok (.aload_n 0, 1) := by decide +kernel
theorem d_M_remove_34 : decode b_M_remove 34 = .ok (.getfield 16, 3) := by decide +kernel
theorem d_M_remove_37 : decode b_M_remove 37 = .ok (.iload_n 2, 1) := by decide +kernel
theorem d_M_remove_38 : decode b_M_remove 38 = .ok (.iaload, 1) := by decide +kernel
theorem d_M_remove_39 : decode b_M_remove 39 = .ok (.if_icmp .ne 8, 3) := by decide +kernel
theorem d_M_remove_42 : decode b_M_remove 42 = .ok (.iload 4, 2) := by decide +kernel
theorem d_M_remove_44 : decode b_M_remove 44 = .ok (.goto 4, 3) := by decide +kernel
theorem d_M_remove_47 : decode b_M_remove 47 = .ok (.iload_n 3, 1) := by decide +kernel
theorem d_M_remove_48 : decode b_M_remove 48 = .ok (.istore_n 3, 1) := by decide +kernel
theorem d_M_remove_49 : decode b_M_remove 49 = .ok (.iinc 4 1, 3) := by decide +kernel
theorem d_M_remove_52 : decode b_M_remove 52 = .ok (.goto (-35), 3) := by decide +kernel
theorem d_M_remove_55 : decode b_M_remove 55 = .ok (.aload_n 0, 1) := by decide +kernel
theorem d_M_remove_56 : decode b_M_remove 56 = .ok (.getfield 7, 3) := by decide +kernel
theorem d_M_remove_59 : decode b_M_remove 59 = .ok (.iload_n 2, 1) := by decide +kernel
theorem d_M_remove_60 : decode b_M_remove 60 = .ok (.aload_n 0, 1) := by decide +kernel
theorem d_M_remove_61 : decode b_M_remove 61 = .ok (.getfield 7, 3) := by decide +kernel
theorem d_M_remove_64 : decode b_M_remove 64 = .ok (.iload_n 3, 1) := by decide +kernel
theorem d_M_remove_65 : decode b_M_remove 65 = .ok (.iaload, 1) := by decide +kernel
theorem d_M_remove_66 : decode b_M_remove 66 = .ok (.iastore, 1) := by decide +kernel
theorem d_M_remove_67 : decode b_M_remove 67 = .ok (.aload_n 0, 1) := by decide +kernel
theorem d_M_remove_68 : decode b_M_remove 68 = .ok (.getfield 13, 3) := by decide +kernel
theorem d_M_remove_71 : decode b_M_remove 71 = .ok (.iload_n 2, 1) := by decide +kernel
theorem d_M_remove_72 : decode b_M_remove 72 = .ok (.aload_n 0, 1) := by decide +kernel
theorem d_M_remove_73 : decode b_M_remove 73 = .ok (.getfield 13, 3) := by decide +kernel
theorem d_M_remove_76 : decode b_M_remove 76 = .ok (.iload_n 3, 1) := by decide +kernel
theorem d_M_remove_77 : decode b_M_remove 77 = .ok (.iaload, 1) := by decide +kernel
theorem d_M_remove_78 : decode b_M_remove 78 = .ok (.iastore, 1) := by decide +kernel
theorem d_M_remove_79 : decode b_M_remove 79 = .ok (.aload_n 0, 1) := by decide +kernel
theorem d_M_remove_80 : decode b_M_remove 80 = .ok (.iload_n 3, 1) := by decide +kernel
theorem d_M_remove_81 : decode b_M_remove 81 = .ok (.invokevirtual 77, 3) := by decide +kernel
theorem d_M_remove_84 : decode b_M_remove 84 = .ok (.iconst 4, 1) := by decide +kernel
theorem d_M_remove_85 : decode b_M_remove 85 = .ok (.aload_n 0, 1) := by decide +kernel
theorem d_M_remove_86 : decode b_M_remove 86 = .ok (.getfield 46, 3) := by decide +kernel
theorem d_M_remove_89 : decode b_M_remove 89 = .ok (.imul, 1) := by decide +kernel
theorem d_M_remove_90 : decode b_M_remove 90 = .ok (.aload_n 0, 1) := by decide +kernel
theorem d_M_remove_91 : decode b_M_remove 91 = .ok (.getfield 26, 3) := by decide +kernel
theorem d_M_remove_94 : decode b_M_remove 94 = .ok (.aload_n 0, 1) := by decide +kernel
theorem d_M_remove_95 : decode b_M_remove 95 = .ok (.invokevirtual 52, 3) := by decide +kernel
theorem d_M_remove_98 : decode b_M_remove 98 = .ok (.imul, 1) := by decide +kernel
theorem d_M_remove_99 : decode b_M_remove 99 = .ok (.if_icmp .ge 32, 3) := by decide +kernel
theorem d_M_remove_102 : decode b_M_remove 102 = .ok (.aload_n 0, 1) := by decide +kernel
theorem d_M_remove_103 : decode b_M_remove 103 = .ok (.invokevirtual 52, 3) := by decide +kernel
theorem d_M_remove_106 : decode b_M_remove 106 = .ok (.aload_n 0, 1) := by decide +kernel
theorem d_M_remove_107 : decode b_M_remove 107 = .ok (.getfield 22, 3) := by decide +kernel
theorem d_M_remove_110 : decode b_M_remove 110 = .ok (.if_icmp .le 21, 3) := by decide +kernel
theorem d_M_remove_113 : decode b_M_remove 113 = .ok (.aload_n 0, 1) := by decide +kernel
theorem d_M_remove_114 : decode b_M_remove 114 = .ok (.aload_n 0, 1) := by decide +kernel
theorem d_M_remove_115 : decode b_M_remove 115 = .ok (.invokevirtual 52, 3) := by decide +kernel
theorem d_M_remove_118 : decode b_M_remove 118 = .ok (.iconst 1, 1) := by decide +kernel
theorem d_M_remove_119 : decode b_M_remove 119 = .ok (.isub, 1) := by decide +kernel
theorem d_M_remove_120 : decode b_M_remove 120 = .ok (.invokevirtual 81, 3) := by decide +kernel
theorem d_M_remove_123 : decode b_M_remove 123 = .ok (.aload_n 0, 1) := by decide +kernel
theorem d_M_remove_124 : decode b_M_remove 124 = .ok (.invokevirtual 74, 3) := by decide +kernel
theorem d_M_remove_127 : decode b_M_remove 127 = .ok (.aload_n 0, 1) := by decide +kernel
theorem d_M_remove_128 : decode b_M_remove 128 = .ok (.invokevirtual 68, 3) := by decide +kernel
theorem d_M_remove_131 : decode b_M_remove 131 = .ok (.iconst 1, 1) := by decide +kernel
theorem d_M_remove_132 : decode b_M_remove 132 = .ok (.ireturn, 1) := by decide +kernel
theorem d_M_size_0 : decode b_M_size 0 = .ok (.aload_n 0, 1) := by decide +kernel
theorem d_M_size_1 : decode b_M_size 1 = .ok (.getfield 46, 3) := by decide +kernel
theorem d_M_size_4 : decode b_M_size 4 = .ok (.ireturn, 1) := by decide +kernel
theorem d_M_level_0 : decode b_M_level 0 = .ok (.aload_n 0, 1) := by decide +kernel
theorem d_M_level_1 : decode b_M_level 1 = .ok (.getfield 35, 3) := by decide +kernel
theorem d_M_level_4 : decode b_M_level 4 = .ok (.ireturn, 1) := by decide +kernel
theorem d_M_pointer_0 : decode b_M_pointer 0 = .ok (.aload_n 0, 1) := by decide +kernel
theorem d_M_pointer_1 : decode b_M_pointer 1 = .ok (.getfield 42, 3) := by decide +kernel
theorem d_M_pointer_4 : decode b_M_pointer 4 = .ok (.ireturn, 1) := by decide +kernel
theorem d_M_pages_0 : decode b_M_pages 0 = .ok (.iload_n 1, 1) := by decide +kernel
theorem d_M_pages_1 : decode b_M_pages 1 = .ok (.ifCond .lt 11, 3) := by decide +kernel
theorem d_M_pages_4 : decode b_M_pages 4 = .ok (.iload_n 1, 1) := by decide +kernel
theorem d_M_pages_5 : decode b_M_pages 5 = .ok (.aload_n 0, 1) := by decide +kernel
theorem d_M_pages_6 : decode b_M_pages 6 = .ok (.invokevirtual 52, 3) := by decide +kernel
theorem d_M_pages_9 : decode b_M_pages 9 = .ok (.if_icmp .lt 5, 3) := by decide +kernel
theorem d_M_pages_12 : decode b_M_pages 12 = .ok (.iconst (-1), 1) := by decide +kernel
theorem d_M_pages_13 : decode b_M_pages 13 = .ok (.ireturn, 1) := by decide +kernel
theorem d_M_pages_14 : decode b_M_pages 14 = .ok (.aload_n 0, 1) := by decide +kernel
theorem d_M_pages_15 : decode b_M_pages 15 = .ok (.invokevirtual 49, 3) := by decide +kernel
theorem d_M_pages_18 : decode b_M_pages 18 = .ok (.aload_n 0, 1) := by decide +kernel
theorem d_M_pages_19 : decode b_M_pages 19 = .ok (.aload_n 0, 1) := by decide +kernel
theorem d_M_pages_20 : decode b_M_pages 20 = .ok (.getfield 19, 3) := by decide +kernel
theorem d_M_pages_23 : decode b_M_pages 23 = .ok (.iload_n 1, 1) := by decide +kernel
theorem d_M_pages_24 : decode b_M_pages 24 = .ok (.iaload, 1) := by decide +kernel
theorem d_M_pages_25 : decode b_M_pages 25 = .ok (.invokevirtual 55, 3) := by decide +kernel
theorem d_M_pages_28 : decode b_M_pages 28 = .ok (.ireturn, 1) := by decide +kernel
theorem d_M_free_0 : decode b_M_free 0 = .ok (.aload_n 0, 1) := by decide +kernel
theorem d_M_free_1 : decode b_M_free 1 = .ok (.getfield 29, 3) := by decide +kernel
theorem d_M_free_4 : decode b_M_free 4 = .ok (.aload_n 0, 1) := by decide +kernel
theorem d_M_free_5 : decode b_M_free 5 = .ok (.invokevirtual 71, 3) := by decide +kernel
theorem d_M_free_8 : decode b_M_free 8 = .ok (.isub, 1) := by decide +kernel
theorem d_M_free_9 : decode b_M_free 9 = .ok (.ireturn, 1) := by decide +kernel
theorem d_M_key_0 : decode b_M_key 0 = .ok (.iload_n 1, 1) := by decide +kernel
theorem d_M_key_1 : decode b_M_key 1 = .ok (.ifCond .lt 15, 3) := by decide +kernel
theorem d_M_key_4 : decode b_M_key 4 = .ok (.iload_n 1, 1) := by decide +kernel
theorem d_M_key_5 : decode b_M_key 5 = .ok (.aload_n 0, 1) := by decide +kernel
theorem d_M_key_6 : decode b_M_key 6 = .ok (.invokevirtual 52, 3) := by decide +kernel
theorem d_M_key_9 : decode b_M_key 9 = .ok (.if_icmp .ge 7, 3) := by decide +kernel
theorem d_M_key_12 : decode b_M_key 12 = .ok (.iload_n 2, 1) := by decide +kernel
theorem d_M_key_13 : decode b_M_key 13 = .ok (.ifCond .ge 5, 3) := by decide +kernel
theorem d_M_key_16 : decode b_M_key 16 = .ok (.iconst (-1), 1) := by decide +kernel
theorem d_M_key_17 : decode b_M_key 17 = .ok (.ireturn, 1) := by decide +kernel
theorem d_M_key_18 : decode b_M_key 18 = .ok (.iload_n 2, 1) := by decide +kernel
theorem d_M_key_19 : decode b_M_key 19 = .ok (.istore_n 3, 1) := by decide +kernel
theorem d_M_key_20 : decode b_M_key 20 = .ok (.iconst 0, 1) := by decide +kernel
theorem d_M_key_21 : decode b_M_key 21 = .ok (.istore 4, 2) := by decide +kernel
theorem d_M_key_23 : decode b_M_key 23 = .ok (.iload 4, 2) := by decide +kernel
theorem d_M_key_25 : decode b_M_key 25 = .ok (.aload_n 0, 1) := by decide +kernel
theorem d_M_key_26 : decode b_M_key 26 = .ok (.getfield 46, 3) := by decide +kernel
theorem d_M_key_29 : decode b_M_key 29 = .ok (.if_icmp .ge 35, 3) := by decide +kernel
theorem d_M_key_32 : decode b_M_key 32 = .ok (.aload_n 0, 1) := by decide +kernel
theorem d_M_key_33 : decode b_M_key 33 = .ok (.getfield 16, 3) := by decide +kernel
theorem d_M_key_36 : decode b_M_key 36 = .ok (.iload 4, 2) := by decide +kernel
theorem d_M_key_38 : decode b_M_key 38 = .ok (.iaload, 1) := by decide +kernel
theorem d_M_key_39 : decode b_M_key 39 = .ok (.iload_n 1, 1) := by decide +kernel
theorem d_M_key_40 : decode b_M_key 40 = .ok (.if_icmp .ne 18, 3) := by decide +kernel
theorem d_M_key_43 : decode b_M_key 43 = .ok (.iload_n 3, 1) := by decide +kernel
theorem d_M_key_44 : decode b_M_key 44 = .ok (.ifCond .ne 11, 3) := by decide +kernel
theorem d_M_key_47 : decode b_M_key 47 = .ok (.aload_n 0, 1) := by decide +kernel
theorem d_M_key_48 : decode b_M_key 48 = .ok (.getfield 7, 3) := by decide +kernel
theorem d_M_key_51 : decode b_M_key 51 = .ok (.iload 4, 2) := by decide +kernel
theorem d_M_key_53 : decode b_M_key 53 = .ok (.iaload, 1) := by decide +kernel
theorem d_M_key_54 : decode b_M_key 54 = .ok (.ireturn, 1) := by decide +kernel
theorem d_M_key_55 : decode b_M_key 55 = .ok (.iinc 3 (-1), 3) := by decide +kernel
theorem d_M_key_58 : decode b_M_key 58 = .ok (.iinc 4 1, 3) := by decide +kernel
theorem d_M_key_61 : decode b_M_key 61 = .ok (.goto (-38), 3) := by decide +kernel
theorem d_M_key_64 : decode b_M_key 64 = .ok (.iconst (-1), 1) := by decide +kernel
theorem d_M_key_65 : decode b_M_key 65 = .ok (.ireturn, 1) := by decide +kernel
theorem d_M_clear_0 : decode b_M_clear 0 = .ok (.aload_n 0, 1) := by decide +kernel
theorem d_M_clear_1 : decode b_M_clear 1 = .ok (.iconst 0, 1) := by decide +kernel
theorem d_M_clear_2 : decode b_M_clear 2 = .ok (.putfield 46, 3) := by decide +kernel
theorem d_M_clear_5 : decode b_M_clear 5 = .ok (.aload_n 0, 1) := by decide +kernel
theorem d_M_clear_6 : decode b_M_clear 6 = .ok (.iconst 0, 1) := by decide +kernel
theorem d_M_clear_7 : decode b_M_clear 7 = .ok (.putfield 35, 3) := by decide +kernel
theorem d_M_clear_10 : decode b_M_clear 10 = .ok (.aload_n 0, 1) := by decide +kernel
theorem d_M_clear_11 : decode b_M_clear 11 = .ok (.iconst 0, 1) := by decide +kernel
theorem d_M_clear_12 : decode b_M_clear 12 = .ok (.putfield 42, 3) := by decide +kernel
theorem d_M_clear_15 : decode b_M_clear 15 = .ok (.return_, 1) := by decide +kernel
theorem d_M_init_0 : decode b_M_init 0 = .ok (.aload_n 0, 1) := by decide +kernel
theorem d_M_init_1 : decode b_M_init 1 = .ok (.invokespecial 1, 3) := by decide +kernel
theorem d_M_init_4 : decode b_M_init 4 = .ok (.aload_n 0, 1) := by decide +kernel
theorem d_M_init_5 : decode b_M_init 5 = .ok (.sipush 2401, 3) := by decide +kernel
theorem d_M_init_8 : decode b_M_init 8 = .ok (.newarray .int, 2) := by decide +kernel
theorem d_M_init_10 : decode b_M_init 10 = .ok (.putfield 7, 3) := by decide +kernel
theorem d_M_init_13 : decode b_M_init 13 = .ok (.aload_n 0, 1) := by decide +kernel
theorem d_M_init_14 : decode b_M_init 14 = .ok (.sipush 2401, 3) := by decide +kernel
theorem d_M_init_17 : decode b_M_init 17 = .ok (.newarray .int, 2) := by decide +kernel
theorem d_M_init_19 : decode b_M_init 19 = .ok (.putfield 13, 3) := by decide +kernel
theorem d_M_init_22 : decode b_M_init 22 = .ok (.aload_n 0, 1) := by decide +kernel
theorem d_M_init_23 : decode b_M_init 23 = .ok (.sipush 2401, 3) := by decide +kernel
theorem d_M_init_26 : decode b_M_init 26 = .ok (.newarray .int, 2) := by decide +kernel
theorem d_M_init_28 : decode b_M_init 28 = .ok (.putfield 16, 3) := by decide +kernel
theorem d_M_init_31 : decode b_M_init 31 = .ok (.aload_n 0, 1) := by decide +kernel
theorem d_M_init_32 : decode b_M_init 32 = .ok (.sipush 200, 3) := by decide +kernel
theorem d_M_init_35 : decode b_M_init 35 = .ok (.newarray .int, 2) := by decide +kernel
theorem d_M_init_37 : decode b_M_init 37 = .ok (.putfield 19, 3) := by decide +kernel
theorem d_M_init_40 : decode b_M_init 40 = .ok (.aload_n 0, 1) := by decide +kernel
theorem d_M_init_41 : decode b_M_init 41 = .ok (.iload_n 1, 1) := by decide +kernel
theorem d_M_init_42 : decode b_M_init 42 = .ok (.iconst 1, 1) := by decide +kernel
theorem d_M_init_43 : decode b_M_init 43 = .ok (.if_icmp .ge 7, 3) := by decide +kernel
theorem d_M_init_46 : decode b_M_init 46 = .ok (.iconst 1, 1) := by decide +kernel
theorem d_M_init_47 : decode b_M_init 47 = .ok (.goto 15, 3) := by decide +kernel
theorem d_M_init_50 : decode b_M_init 50 = .ok (.iload_n 1, 1) := by decide +kernel
theorem d_M_init_51 : decode b_M_init 51 = .ok (.bipush 8, 2) := by decide +kernel
theorem d_M_init_53 : decode b_M_init 53 = .ok (.if_icmp .le 8, 3) := by decide +kernel
theorem d_M_init_56 : decode b_M_init 56 = .ok (.bipush 8, 2) := by decide +kernel
theorem d_M_init_58 : decode b_M_init 58 = .ok (.goto 4, 3) := by decide +kernel
theorem d_M_init_61 : decode b_M_init 61 = .ok (.iload_n 1, 1) := by decide +kernel
theorem d_M_init_62 : decode b_M_init 62 = .ok (.putfield 22, 3) := by decide +kernel
theorem d_M_init_65 : decode b_M_init 65 = .ok (.aload_n 0, 1) := by decide +kernel
theorem d_M_init_66 : decode b_M_init 66 = .ok (.iload_n 2, 1) := by decide +kernel
theorem d_M_init_67 : decode b_M_init 67 = .ok (.iconst 1, 1) := by decide +kernel
theorem d_M_init_68 : decode b_M_init 68 = .ok (.if_icmp .ge 7, 3) := by decide +kernel
theorem d_M_init_71 : decode b_M_init 71 = .ok (.iconst 1, 1) := by decide +kernel
theorem d_M_init_72 : decode b_M_init 72 = .ok (.goto 15, 3) := by decide +kernel
theorem d_M_init_75 : decode b_M_init 75 = .ok (.iload_n 2, 1) := by decide +kernel
theorem d_M_init_76 : decode b_M_init 76 = .ok (.bipush 8, 2) := by decide +kernel
theorem d_M_init_78 : decode b_M_init 78 = .ok (.if_icmp .le 8, 3) := by decide +kernel
theorem d_M_init_81 : decode b_M_init 81 = .ok (.bipush 8, 2) := by decide +kernel
theorem d_M_init_83 : decode b_M_init 83 = .ok (.goto 4, 3) := by decide +kernel
theorem d_M_init_86 : decode b_M_init 86 = .ok (.iload_n 2, 1) := by decide +kernel
theorem d_M_init_87 : decode b_M_init 87 = .ok (.putfield 26, 3) := by decide +kernel
theorem d_M_init_90 : decode b_M_init 90 = .ok (.aload_n 0, 1) := by decide +kernel
theorem d_M_init_91 : decode b_M_init 91 = .ok (.iload_n 3, 1) := by decide +kernel
theorem d_M_init_92 : decode b_M_init 92 = .ok (.bipush 8, 2) := by decide +kernel
theorem d_M_init_94 : decode b_M_init 94 = .ok (.if_icmp .ge 8, 3) := by decide +kernel
theorem d_M_init_97 : decode b_M_init 97 = .ok (.bipush 8, 2) := by decide +kernel
theorem d_M_init_99 : decode b_M_init 99 = .ok (.goto 17, 3) := by decide +kernel
theorem d_M_init_102 : decode b_M_init 102 = .ok (.iload_n 3, 1) := by decide +kernel
theorem d_M_init_103 : decode b_M_init 103 = .ok (.sipush 300, 3) := by decide +kernel
theorem d_M_init_106 : decode b_M_init 106 = .ok (.if_icmp .le 9, 3) := by decide +kernel
theorem d_M_init_109 : decode b_M_init 109 = .ok (.sipush 300, 3) := by decide +kernel
theorem d_M_init_112 : decode b_M_init 112 = .ok (.goto 4, 3) := by decide +kernel
theorem d_M_init_115 : decode b_M_init 115 = .ok (.iload_n 3, 1) := by decide +kernel
theorem d_M_init_116 : decode b_M_init 116 = .ok (.putfield 29, 3) := by decide +kernel
theorem d_M_init_119 : decode b_M_init 119 = .ok (.aload_n 0, 1) := by decide +kernel
theorem d_M_init_120 : decode b_M_init 120 = .ok (.iload 4, 2) := by decide +kernel
theorem d_M_init_122 : decode b_M_init 122 = .ok (.aload_n 0, 1) := by decide +kernel
theorem d_M_init_123 : decode b_M_init 123 = .ok (.getfield 22, 3) := by decide +kernel
theorem d_M_init_126 : decode b_M_init 126 = .ok (.if_icmp .ge 10, 3) := by decide +kernel
theorem d_M_init_129 : decode b_M_init 129 = .ok (.aload_n 0, 1) := by decide +kernel
theorem d_M_init_130 : decode b_M_init 130 = .ok (.getfield 22, 3) := by decide +kernel
theorem d_M_init_133 : decode b_M_init 133 = .ok (.goto 19, 3) := by decide +kernel
theorem d_M_init_136 : decode b_M_init 136 = .ok (.iload 4, 2) := by decide +kernel
theorem d_M_init_138 : decode b_M_init 138 = .ok (.sipush 200, 3) := by decide +kernel
theorem d_M_init_141 : decode b_M_init 141 = .ok (.if_icmp .le 9, 3) := by decide +kernel
theorem d_M_init_144 : decode b_M_init 144 = .ok (.sipush 200, 3) := by decide +kernel
theorem d_M_init_147 : decode b_M_init 147 = .ok (.goto 5, 3) := by decide +kernel
theorem d_M_init_150 : decode b_M_init 150 = .ok (.iload 4, 2) := by decide +kernel
theorem d_M_init_152 : decode b_M_init 152 = .ok (.putfield 32, 3) := by decide +kernel
theorem d_M_init_155 : decode b_M_init 155 = .ok (.return_, 1) := by decide +kernel
end
section
/-! decode rows -/
theorem d_L_cell_0 : decode b_L_cell 0 = .ok (.iload_n 1, 1) := by decide +kernel
theorem d_L_cell_1 : decode b_L_cell 1 = .ok (.aload_n 0, 1) := by decide +kernel
theorem d_L_cell_2 : decode b_L_cell 2 = .ok (.arraylength, 1) := by decide +kernel
theorem d_L_cell_3 : decode b_L_cell 3 = .ok (.if_icmp .ge 9, 3) := by decide +kernel
theorem d_L_cell_6 : decode b_L_cell 6 = .ok (.aload_n 0, 1) := by decide +kernel
theorem d_L_cell_7 : decode b_L_cell 7 = .ok (.iload_n 1, 1) := by decide +kernel
theorem d_L_cell_8 : decode b_L_cell 8 = .ok (.iaload, 1) := by decide +kernel
theorem d_L_cell_9 : decode b_L_cell 9 = .ok (.goto 4, 3) := by decide +kernel
theorem d_L_cell_12 : decode b_L_cell 12 = .ok (.iconst 0, 1) := by decide +kernel
theorem d_L_cell_13 : decode b_L_cell 13 = .ok (.ireturn, 1) := by decide +kernel
theorem d_L_law_0 : decode code 0 = .ok (.new 7, 3) := by decide +kernel
theorem d_L_law_3 : decode code 3 = .ok (.dup, 1) := by decide +kernel
theorem d_L_law_4 : decode code 4 = .ok (.aload_n 0, 1) := by decide +kernel
theorem d_L_law_5 : decode code 5 = .ok (.iconst 0, 1) := by decide +kernel
theorem d_L_law_6 : decode code 6 = .ok (.invokestatic 9, 3) := by decide +kernel
theorem d_L_law_9 : decode code 9 = .ok (.aload_n 0, 1) := by decide +kernel
theorem d_L_law_10 : decode code 10 = .ok (.iconst 1, 1) := by decide +kernel
theorem d_L_law_11 : decode code 11 = .ok (.invokestatic 9, 3) := by decide +kernel
theorem d_L_law_14 : decode code 14 = .ok (.aload_n 0, 1) := by decide +kernel
theorem d_L_law_15 : decode code 15 = .ok (.iconst 2, 1) := by decide +kernel
theorem d_L_law_16 : decode code 16 = .ok (.invokestatic 9, 3) := by decide +kernel
theorem d_L_law_19 : decode code 19 = .ok (.aload_n 0, 1) := by decide +kernel
theorem d_L_law_20 : decode code 20 = .ok (.iconst 3, 1) := by decide +kernel
theorem d_L_law_21 : decode code 21 = .ok (.invokestatic 9, 3) := by decide +kernel
theorem d_L_law_24 : decode code 24 = .ok (.invokespecial 15, 3) := by decide +kernel
theorem d_L_law_27 : decode code 27 = .ok (.astore_n 1, 1) := by decide +kernel
theorem d_L_law_28 : decode code 28 = .ok (.new 18, 3) := by decide +kernel
theorem d_L_law_31 : decode code 31 = .ok (.dup, 1) := by decide +kernel
theorem d_L_law_32 : decode code 32 = .ok (.aload_n 0, 1) := by decide +kernel
theorem d_L_law_33 : decode code 33 = .ok (.iconst 0, 1) := by decide +kernel
theorem d_L_law_34 : decode code 34 = .ok (.invokestatic 9, 3) := by decide +kernel
theorem d_L_law_37 : decode code 37 = .ok (.aload_n 0, 1) := by decide +kernel
theorem d_L_law_38 : decode code 38 = .ok (.iconst 1, 1) := by decide +kernel
theorem d_L_law_39 : decode code 39 = .ok (.invokestatic 9, 3) := by decide +kernel
theorem d_L_law_42 : decode code 42 = .ok (.aload_n 0, 1) := by decide +kernel
theorem d_L_law_43 : decode code 43 = .ok (.iconst 2, 1) := by decide +kernel
theorem d_L_law_44 : decode code 44 = .ok (.invokestatic 9, 3) := by decide +kernel
theorem d_L_law_47 : decode code 47 = .ok (.aload_n 0, 1) := by decide +kernel
theorem d_L_law_48 : decode code 48 = .ok (.iconst 3, 1) := by decide +kernel
theorem d_L_law_49 : decode code 49 = .ok (.invokestatic 9, 3) := by decide +kernel
theorem d_L_law_52 : decode code 52 = .ok (.invokespecial 20, 3) := by decide +kernel
theorem d_L_law_55 : decode code 55 = .ok (.astore_n 2, 1) := by decide +kernel
theorem d_L_law_56 : decode code 56 = .ok (.iconst 4, 1) := by decide +kernel
theorem d_L_law_57 : decode code 57 = .ok (.istore_n 3, 1) := by decide +kernel
theorem d_L_law_58 : decode code 58 = .ok (.iload_n 3, 1) := by decide +kernel
theorem d_L_law_59 : decode code 59 = .ok (.aload_n 0, 1) := by decide +kernel
theorem d_L_law_60 : decode code 60 = .ok (.arraylength, 1) := by decide +kernel
theorem d_L_law_61 : decode code 61 = .ok (.iconst 3, 1) := by decide +kernel
theorem d_L_law_62 : decode code 62 = .ok (.isub, 1) := by decide +kernel
theorem d_L_law_63 : decode code 63 = .ok (.if_icmp .gt 340, 3) := by decide +kernel
theorem d_L_law_66 : decode code 66 = .ok (.aload_n 0, 1) := by decide +kernel
theorem d_L_law_67 : decode code 67 = .ok (.iload_n 3, 1) := by decide +kernel
theorem d_L_law_68 : decode code 68 = .ok (.iaload, 1) := by decide +kernel
theorem d_L_law_69 : decode code 69 = .ok (.bipush 15, 2) := by decide +kernel
theorem d_L_law_71 : decode code 71 = .ok (.iand, 1) := by decide +kernel
theorem d_L_law_72 : decode code 72 = .ok (.tableswitch 325 0 12 #[68, 101, 124, 147, 170, 183, 196, 209, 222, 245, 268, 281, 314], 68) := by decide +kernel
theorem d_L_law_140 : decode code 140 = .ok (.aload_n 1, 1) := by decide +kernel
theorem d_L_law_141 : decode code 141 = .ok (.aload_n 0, 1) := by decide +kernel
theorem d_L_law_142 : decode code 142 = .ok (.iload_n 3, 1) := by decide +kernel
theorem d_L_law_143 : decode code 143 = .ok (.iconst 1, 1) := by decide +kernel
theorem d_L_law_144 : decode code 144 = .ok (.iadd, 1) := by decide +kernel
theorem d_L_law_145 : decode code 145 = .ok (.iaload, 1) := by decide +kernel
theorem d_L_law_146 : decode code 146 = .ok (.aload_n 0, 1) := by decide +kernel
theorem d_L_law_147 : decode code 147 = .ok (.iload_n 3, 1) := by decide +kernel
theorem d_L_law_148 : decode code 148 = .ok (.iconst 2, 1) := by decide +kernel
theorem d_L_law_149 : decode code 149 = .ok (.iadd, 1) := by decide +kernel
theorem d_L_law_150 : decode code 150 = .ok (.iaload, 1) := by decide +kernel
theorem d_L_law_151 : decode code 151 = .ok (.invokevirtual 21, 3) := by decide +kernel
theorem d_L_law_154 : decode code 154 = .ok (.aload_n 2, 1) := by decide +kernel
theorem d_L_law_155 : decode code 155 = .ok (.aload_n 0, 1) := by decide +kernel
theorem d_L_law_156 : decode code 156 = .ok (.iload_n 3, 1) := by decide +kernel
theorem d_L_law_157 : decode code 157 = .ok (.iconst 1, 1) := by decide +kernel
theorem d_L_law_158 : decode code 158 = .ok (.iadd, 1) := by decide +kernel
theorem d_L_law_159 : decode code 159 = .ok (.iaload, 1) := by decide +kernel
theorem d_L_law_160 : decode code 160 = .ok (.aload_n 0, 1) := by decide +kernel
theorem d_L_law_161 : decode code 161 = .ok (.iload_n 3, 1) := by decide +kernel
theorem d_L_law_162 : decode code 162 = .ok (.iconst 2, 1) := by decide +kernel
theorem d_L_law_163 : decode code 163 = .ok (.iadd, 1) := by decide +kernel
theorem d_L_law_164 : decode code 164 = .ok (.iaload, 1) := by decide +kernel
theorem d_L_law_165 : decode code 165 = .ok (.invokevirtual 25, 3) := by decide +kernel
theorem d_L_law_168 : decode code 168 = .ok (.if_icmp .eq 229, 3) := by decide +kernel
theorem d_L_law_171 : decode code 171 = .ok (.iconst 0, 1) := by decide +kernel
theorem d_L_law_172 : decode code 172 = .ok (.ireturn, 1) := by decide +kernel
theorem d_L_law_173 : decode code 173 = .ok (.aload_n 1, 1) := by decide +kernel
theorem d_L_law_174 : decode code 174 = .ok (.aload_n 0, 1) := by decide +kernel
theorem d_L_law_175 : decode code 175 = .ok (.iload_n 3, 1) := by decide +kernel
theorem d_L_law_176 : decode code 176 = .ok (.iconst 1, 1) := by decide +kernel
theorem d_L_law_177 : decode code 177 = .ok (.iadd, 1) := by decide +kernel
theorem d_L_law_178 : decode code 178 = .ok (.iaload, 1) := by decide +kernel
theorem d_L_law_179 : decode code 179 = .ok (.invokevirtual 26, 3) := by decide +kernel
theorem d_L_law_182 : decode code 182 = .ok (.aload_n 2, 1) := by decide +kernel
theorem d_L_law_183 : decode code 183 = .ok (.aload_n 0, 1) := by decide +kernel
theorem d_L_law_184 : decode code 184 = .ok (.iload_n 3, 1) := by decide +kernel
theorem d_L_law_185 : decode code 185 = .ok (.iconst 1, 1) := by decide +kernel
theorem d_L_law_186 : decode code 186 = .ok (.iadd, 1) := by decide +kernel
theorem d_L_law_187 : decode code 187 = .ok (.iaload, 1) := by decide +kernel
theorem d_L_law_188 : decode code 188 = .ok (.invokevirtual 30, 3) := by decide +kernel
theorem d_L_law_191 : decode code 191 = .ok (.if_icmp .eq 206, 3) := by decide +kernel
theorem d_L_law_194 : decode code 194 = .ok (.iconst 0, 1) := by decide +kernel
theorem d_L_law_195 : decode code 195 = .ok (.ireturn, 1) := by decide +kernel
theorem d_L_law_196 : decode code 196 = .ok (.aload_n 1, 1) := by decide +kernel
theorem d_L_law_197 : decode code 197 = .ok (.aload_n 0, 1) := by decide +kernel
theorem d_L_law_198 : decode code 198 = .ok (.iload_n 3, 1) := by decide +kernel
theorem d_L_law_199 : decode code 199 = .ok (.iconst 1, 1) := by decide +kernel
theorem d_L_law_200 : decode code 200 = .ok (.iadd, 1) := by decide +kernel
theorem d_L_law_201 : decode code 201 = .ok (.iaload, 1) := by decide +kernel
theorem d_L_law_202 : decode code 202 = .ok (.invokevirtual 31, 3) := by decide +kernel
theorem d_L_law_205 : decode code 205 = .ok (.aload_n 2, 1) := by decide +kernel
theorem d_L_law_206 : decode code 206 = .ok (.aload_n 0, 1) := by decide +kernel
theorem d_L_law_207 : decode code 207 = .ok (.iload_n 3, 1) := by decide +kernel
theorem d_L_law_208 : decode code 208 = .ok (.iconst 1, 1) := by decide +kernel
theorem d_L_law_209 : decode code 209 = .ok (.iadd, 1) := by decide +kernel
theorem d_L_law_210 : decode code 210 = .ok (.iaload, 1) := by decide +kernel
theorem d_L_law_211 : decode code 211 = .ok (.invokevirtual 35, 3) := by decide +kernel
theorem d_L_law_214 : decode code 214 = .ok (.if_icmp .eq 183, 3) := by decide +kernel
theorem d_L_law_217 : decode code 217 = .ok (.iconst 0, 1) := by decide +kernel
theorem d_L_law_218 : decode code 218 = .ok (.ireturn, 1) := by decide +kernel
theorem d_L_law_219 : decode code 219 = .ok (.aload_n 1, 1) := by decide +kernel
theorem d_L_law_220 : decode code 220 = .ok (.aload_n 0, 1) := by decide +kernel
theorem d_L_law_221 : decode code 221 = .ok (.iload_n 3, 1) := by decide +kernel
theorem d_L_law_222 : decode code 222 = .ok (.iconst 1, 1) := by decide +kernel
theorem d_L_law_223 : decode code 223 = .ok (.iadd, 1) := by decide +kernel
theorem d_L_law_224 : decode code 224 = .ok (.iaload, 1) := by decide +kernel
theorem d_L_law_225 : decode code 225 = .ok (.invokevirtual 36, 3) := by decide +kernel
theorem d_L_law_228 : decode code 228 = .ok (.aload_n 2, 1) := by decide +kernel
theorem d_L_law_229 : decode code 229 = .ok (.aload_n 0, 1) := by decide +kernel
theorem d_L_law_230 : decode code 230 = .ok (.iload_n 3, 1) := by decide +kernel
theorem d_L_law_231 : decode code 231 = .ok (.iconst 1, 1) := by decide +kernel
theorem d_L_law_232 : decode code 232 = .ok (.iadd, 1) := by decide +kernel
theorem d_L_law_233 : decode code 233 = .ok (.iaload, 1) := by decide +kernel
theorem d_L_law_234 : decode code 234 = .ok (.invokevirtual 39, 3) := by decide +kernel
theorem d_L_law_237 : decode code 237 = .ok (.if_icmp .eq 160, 3) := by decide +kernel
theorem d_L_law_240 : decode code 240 = .ok (.iconst 0, 1) := by decide +kernel
theorem d_L_law_241 : decode code 241 = .ok (.ireturn, 1) := by decide +kernel
theorem d_L_law_242 : decode code 242 = .ok (.aload_n 1, 1) := by decide +kernel
theorem d_L_law_243 : decode code 243 = .ok (.invokevirtual 40, 3) := by decide +kernel
theorem d_L_law_246 : decode code 246 = .ok (.aload_n 2, 1) := by decide +kernel
theorem d_L_law_247 : decode code 247 = .ok (.invokevirtual 44, 3) := by decide +kernel
theorem d_L_law_250 : decode code 250 = .ok (.if_icmp .eq 147, 3) := by decide +kernel
theorem d_L_law_253 : decode code 253 = .ok (.iconst 0, 1) := by decide +kernel
theorem d_L_law_254 : decode code 254 = .ok (.ireturn, 1) := by decide +kernel
theorem d_L_law_255 : decode code 255 = .ok (.aload_n 1, 1) := by decide +kernel
theorem d_L_law_256 : decode code 256 = .ok (.invokevirtual 45, 3) := by decide +kernel
theorem d_L_law_259 : decode code 259 = .ok (.aload_n 2, 1) := by decide +kernel
theorem d_L_law_260 : decode code 260 = .ok (.invokevirtual 48, 3) := by decide +kernel
theorem d_L_law_263 : decode code 263 = .ok (.if_icmp .eq 134, 3) := by decide +kernel
theorem d_L_law_266 : decode code 266 = .ok (.iconst 0, 1) := by decide +kernel
theorem d_L_law_267 : decode code 267 = .ok (.ireturn, 1) := by decide +kernel
theorem d_L_law_268 : decode code 268 = .ok (.aload_n 1, 1) := by decide +kernel
theorem d_L_law_269 : decode code 269 = .ok (.invokevirtual 49, 3) := by decide +kernel
theorem d_L_law_272 : decode code 272 = .ok (.aload_n 2, 1) := by decide +kernel
theorem d_L_law_273 : decode code 273 = .ok (.invokevirtual 52, 3) := by decide +kernel
theorem d_L_law_276 : decode code 276 = .ok (.if_icmp .eq 121, 3) := by decide +kernel
theorem d_L_law_279 : decode code 279 = .ok (.iconst 0, 1) := by decide +kernel
theorem d_L_law_280 : decode code 280 = .ok (.ireturn, 1) := by decide +kernel
theorem d_L_law_281 : decode code 281 = .ok (.aload_n 1, 1) := by decide +kernel
theorem d_L_law_282 : decode code 282 = .ok (.invokevirtual 53, 3) := by decide +kernel
theorem d_L_law_285 : decode code 285 = .ok (.aload_n 2, 1) := by decide +kernel
theorem d_L_law_286 : decode code 286 = .ok (.invokevirtual 56, 3) := by decide +kernel
theorem d_L_law_289 : decode code 289 = .ok (.if_icmp .eq 108, 3) := by decide +kernel
theorem d_L_law_292 : decode code 292 = .ok (.iconst 0, 1) := by decide +kernel
theorem d_L_law_293 : decode code 293 = .ok (.ireturn, 1) := by decide +kernel
theorem d_L_law_294 : decode code 294 = .ok (.aload_n 1, 1) := by decide +kernel
theorem d_L_law_295 : decode code 295 = .ok (.aload_n 0, 1) := by decide +kernel
theorem d_L_law_296 : decode code 296 = .ok (.iload_n 3, 1) := by decide +kernel
theorem d_L_law_297 : decode code 297 = .ok (.iconst 1, 1) := by decide +kernel
theorem d_L_law_298 : decode code 298 = .ok (.iadd, 1) := by decide +kernel
theorem d_L_law_299 : decode code 299 = .ok (.iaload, 1) := by decide +kernel
theorem d_L_law_300 : decode code 300 = .ok (.invokevirtual 57, 3) := by decide +kernel
theorem d_L_law_303 : decode code 303 = .ok (.aload_n 2, 1) := by decide +kernel
theorem d_L_law_304 : decode code 304 = .ok (.aload_n 0, 1) := by decide +kernel
theorem d_L_law_305 : decode code 305 = .ok (.iload_n 3, 1) := by decide +kernel
theorem d_L_law_306 : decode code 306 = .ok (.iconst 1, 1) := by decide +kernel
theorem d_L_law_307 : decode code 307 = .ok (.iadd, 1) := by decide +kernel
theorem d_L_law_308 : decode code 308 = .ok (.iaload, 1) := by decide +kernel
theorem d_L_law_309 : decode code 309 = .ok (.invokevirtual 60, 3) := by decide +kernel
theorem d_L_law_312 : decode code 312 = .ok (.if_icmp .eq 85, 3) := by decide +kernel
theorem d_L_law_315 : decode code 315 = .ok (.iconst 0, 1) := by decide +kernel
theorem d_L_law_316 : decode code 316 = .ok (.ireturn, 1) := by decide +kernel
theorem d_L_law_317 : decode code 317 = .ok (.aload_n 1, 1) := by decide +kernel
theorem d_L_law_318 : decode code 318 = .ok (.aload_n 0, 1) := by decide +kernel
theorem d_L_law_319 : decode code 319 = .ok (.iload_n 3, 1) := by decide +kernel
theorem d_L_law_320 : decode code 320 = .ok (.iconst 1, 1) := by decide +kernel
theorem d_L_law_321 : decode code 321 = .ok (.iadd, 1) := by decide +kernel
theorem d_L_law_322 : decode code 322 = .ok (.iaload, 1) := by decide +kernel
theorem d_L_law_323 : decode code 323 = .ok (.invokevirtual 61, 3) := by decide +kernel
theorem d_L_law_326 : decode code 326 = .ok (.aload_n 2, 1) := by decide +kernel
theorem d_L_law_327 : decode code 327 = .ok (.aload_n 0, 1) := by decide +kernel
theorem d_L_law_328 : decode code 328 = .ok (.iload_n 3, 1) := by decide +kernel
theorem d_L_law_329 : decode code 329 = .ok (.iconst 1, 1) := by decide +kernel
theorem d_L_law_330 : decode code 330 = .ok (.iadd, 1) := by decide +kernel
theorem d_L_law_331 : decode code 331 = .ok (.iaload, 1) := by decide +kernel
theorem d_L_law_332 : decode code 332 = .ok (.invokevirtual 64, 3) := by decide +kernel
theorem d_L_law_335 : decode code 335 = .ok (.if_icmp .eq 62, 3) := by decide +kernel
theorem d_L_law_338 : decode code 338 = .ok (.iconst 0, 1) := by decide +kernel
theorem d_L_law_339 : decode code 339 = .ok (.ireturn, 1) := by decide +kernel
theorem d_L_law_340 : decode code 340 = .ok (.aload_n 1, 1) := by decide +kernel
theorem d_L_law_341 : decode code 341 = .ok (.invokevirtual 65, 3) := by decide +kernel
theorem d_L_law_344 : decode code 344 = .ok (.aload_n 2, 1) := by decide +kernel
theorem d_L_law_345 : decode code 345 = .ok (.invokevirtual 68, 3) := by decide +kernel
theorem d_L_law_348 : decode code 348 = .ok (.if_icmp .eq 49, 3) := by decide +kernel
theorem d_L_law_351 : decode code 351 = .ok (.iconst 0, 1) := by decide +kernel
theorem d_L_law_352 : decode code 352 = .ok (.ireturn, 1) := by decide +kernel
theorem d_L_law_353 : decode code 353 = .ok (.aload_n 1, 1) := by decide +kernel
theorem d_L_law_354 : decode code 354 = .ok (.aload_n 0, 1) := by decide +kernel
theorem d_L_law_355 : decode code 355 = .ok (.iload_n 3, 1) := by decide +kernel
theorem d_L_law_356 : decode code 356 = .ok (.iconst 1, 1) := by decide +kernel
theorem d_L_law_357 : decode code 357 = .ok (.iadd, 1) := by decide +kernel
theorem d_L_law_358 : decode code 358 = .ok (.iaload, 1) := by decide +kernel
theorem d_L_law_359 : decode code 359 = .ok (.aload_n 0, 1) := by decide +kernel
theorem d_L_law_360 : decode code 360 = .ok (.iload_n 3, 1) := by decide +kernel
theorem d_L_law_361 : decode code 361 = .ok (.iconst 2, 1) := by decide +kernel
theorem d_L_law_362 : decode code 362 = .ok (.iadd, 1) := by decide +kernel
theorem d_L_law_363 : decode code 363 = .ok (.iaload, 1) := by decide +kernel
theorem d_L_law_364 : decode code 364 = .ok (.invokevirtual 69, 3) := by decide +kernel
theorem d_L_law_367 : decode code 367 = .ok (.aload_n 2, 1) := by decide +kernel
theorem d_L_law_368 : decode code 368 = .ok (.aload_n 0, 1) := by decide +kernel
theorem d_L_law_369 : decode code 369 = .ok (.iload_n 3, 1) := by decide +kernel
theorem d_L_law_370 : decode code 370 = .ok (.iconst 1, 1) := by decide +kernel
theorem d_L_law_371 : decode code 371 = .ok (.iadd, 1) := by decide +kernel
theorem d_L_law_372 : decode code 372 = .ok (.iaload, 1) := by decide +kernel
theorem d_L_law_373 : decode code 373 = .ok (.aload_n 0, 1) := by decide +kernel
theorem d_L_law_374 : decode code 374 = .ok (.iload_n 3, 1) := by decide +kernel
theorem d_L_law_375 : decode code 375 = .ok (.iconst 2, 1) := by decide +kernel
theorem d_L_law_376 : decode code 376 = .ok (.iadd, 1) := by decide +kernel
theorem d_L_law_377 : decode code 377 = .ok (.iaload, 1) := by decide +kernel
theorem d_L_law_378 : decode code 378 = .ok (.invokevirtual 72, 3) := by decide +kernel
theorem d_L_law_381 : decode code 381 = .ok (.if_icmp .eq 16, 3) := by decide +kernel
theorem d_L_law_384 : decode code 384 = .ok (.iconst 0, 1) := by decide +kernel
theorem d_L_law_385 : decode code 385 = .ok (.ireturn, 1) := by decide +kernel
theorem d_L_law_386 : decode code 386 = .ok (.aload_n 1, 1) := by decide +kernel
theorem d_L_law_387 : decode code 387 = .ok (.invokevirtual 73, 3) := by decide +kernel
theorem d_L_law_390 : decode code 390 = .ok (.aload_n 2, 1) := by decide +kernel
theorem d_L_law_391 : decode code 391 = .ok (.invokevirtual 76, 3) := by decide +kernel
theorem d_L_law_394 : decode code 394 = .ok (.goto 3, 3) := by decide +kernel
theorem d_L_law_397 : decode code 397 = .ok (.iinc 3 3, 3) := by decide +kernel
theorem d_L_law_400 : decode code 400 = .ok (.goto (-342), 3) := by decide +kernel
theorem d_L_law_403 : decode code 403 = .ok (.iconst 1, 1) := by decide +kernel
theorem d_L_law_404 : decode code 404 = .ok (.ireturn, 1) := by decide +kernel
end
section
/-! walks -/
abbrev rm_X_takePage : Room := { frames := 0, cells := 0, slots := 0, locals := 0 }
abbrev rm_X_givePage : Room := { frames := 0, cells := 0, slots := 0, locals := 0 }
abbrev rm_X_open : Room := { frames := 1, cells := 0, slots := 0, locals := 21 }
abbrev rm_X_clear : Room := { frames := 2, cells := 0, slots := 0, locals := 42 }
abbrev rm_X_add : Room := { frames := 1, cells := 0, slots := 0, locals := 21 }
abbrev rm_X_place : Room := { frames := 0, cells := 0, slots := 0, locals := 0 }
abbrev rm_X_find : Room := { frames := 0, cells := 0, slots := 0, locals := 0 }
set_option maxHeartbeats 4000000 in
set_option maxRecDepth 100000 in
theorem c_X_takePage (l : Launch) (D : va_G) (cA : ClassId) (ad : Nat → Nat) (k : KX) (hk : kOK k) (u : StX) (Q : Int32 → StX → Prop) (h : wp_X_takePage k  u Q) : cMi l D cA (wX cA ad k) (ad 0) y_X_takePage b_X_takePage 2 (some .int) rm_X_takePage [] u Q := by
  refine cMi.enter (by decide) (Nat.le_of_ble_eq_true rfl) ?_
  intro p e s m args below meth c A ls C hr G hl
  have hx := C.1
  have hb := C.2.1
  unfold wp_X_takePage at h
  have hl : lv_has ls 2 [(0, .ref (ad 0))] := hl
  refine lv_aload_n hx hb d_X_takePage_0 rfl (lv_at hl 0 rfl) ?_
  refine xget_freePage C G d_X_takePage_1 ?_
  refine lv_topi (fun x1_4 ex1_4 => ?_)
  replace h := h x1_4 ex1_4
  refine lv_istore_n (lv' := [(1, .int x1_4), (0, .ref (ad 0))]) hx hb d_X_takePage_4 rfl hl (by decide) rfl (fun ls hl => ?_)
  refine lv_aload_n hx hb d_X_takePage_5 rfl (lv_at hl 1 rfl) ?_
  refine lv_aload_n hx hb d_X_takePage_6 rfl (lv_at hl 1 rfl) ?_
  refine xget_next C G d_X_takePage_7 ?_
  refine lv_iload_n hx hb d_X_takePage_10 rfl (lv_at hl 0 rfl) ?_
  obtain ⟨j11, hi_11, hj_11, h⟩ := h
  refine xald_next hk C G hi_11 hj_11 d_X_takePage_11 ?_
  refine xput_freePage C G d_X_takePage_12 (fun H locs G => ?_)
  have G : wG D A s (wX cA ad k (xSetFreePage (xNext u j11) u)) H locs := G
  refine lv_aload_n hx hb d_X_takePage_15 rfl (lv_at hl 1 rfl) ?_
  refine xget_next C G d_X_takePage_16 ?_
  refine lv_iload_n hx hb d_X_takePage_19 rfl (lv_at hl 0 rfl) ?_
  refine lv_iconst (v := (-1)) hx hb d_X_takePage_20 (by decide) ?_
  refine xast_next hk C G hi_11 hj_11 d_X_takePage_21 (fun H locs G => ?_)
  have G : wG D A s (wX cA ad k (xSetNext (upd (xNext u) j11 (-1)) (xSetFreePage (xNext u j11) u))) H locs := G
  refine lv_aload_n hx hb d_X_takePage_22 rfl (lv_at hl 1 rfl) ?_
  refine lv_dup hx hb d_X_takePage_23 rfl ?_
  refine xget_free C G d_X_takePage_24 ?_
  refine lv_iconst (v := 1) hx hb d_X_takePage_27 (by decide) ?_
  refine lv_isub hx hb d_X_takePage_28 ?_
  refine xput_free C G d_X_takePage_29 (fun H locs G => ?_)
  have G : wG D A s (wX cA ad k (xSetNext (upd (xNext u) j11 (-1)) (xSetFree ((xFree u) - 1) (xSetFreePage (xNext u j11) u)))) H locs := G
  refine lv_iload_n hx hb d_X_takePage_32 rfl (lv_at hl 0 rfl) ?_
  exact g_iret C G hr h d_X_takePage_33
set_option maxHeartbeats 4000000 in
set_option maxRecDepth 100000 in
theorem c_X_givePage (l : Launch) (D : va_G) (cA : ClassId) (ad : Nat → Nat) (k : KX) (hk : kOK k) (x1 : Int32) (u : StX) (Q : StX → Prop) (h : wp_X_givePage k x1 u Q) : cMv l D cA (wX cA ad k) (ad 0) y_X_givePage b_X_givePage 2 none rm_X_givePage [.int x1] u Q := by
  refine cMv.enter (by decide) (Nat.le_of_ble_eq_true rfl) ?_
  intro p e s m args below meth c A ls C hr G hl
  have hx := C.1
  have hb := C.2.1
  unfold wp_X_givePage at h
  have hl : lv_has ls 2 [(0, .ref (ad 0)), (1, .int x1)] := hl
  refine lv_aload_n hx hb d_X_givePage_0 rfl (lv_at hl 0 rfl) ?_
  refine xget_next C G d_X_givePage_1 ?_
  refine lv_iload_n hx hb d_X_givePage_4 rfl (lv_at hl 1 rfl) ?_
  refine lv_aload_n hx hb d_X_givePage_5 rfl (lv_at hl 0 rfl) ?_
  refine xget_freePage C G d_X_givePage_6 ?_
  obtain ⟨j9, hi_9, hj_9, h⟩ := h
  refine xast_next hk C G hi_9 hj_9 d_X_givePage_9 (fun H locs G => ?_)
  have G : wG D A s (wX cA ad k (xSetNext (upd (xNext u) j9 (xFreePage u)) u)) H locs := G
  refine lv_aload_n hx hb d_X_givePage_10 rfl (lv_at hl 0 rfl) ?_
  refine lv_iload_n hx hb d_X_givePage_11 rfl (lv_at hl 1 rfl) ?_
  refine xput_freePage C G d_X_givePage_12 (fun H locs G => ?_)
  have G : wG D A s (wX cA ad k (xSetNext (upd (xNext u) j9 (xFreePage u)) (xSetFreePage x1 u))) H locs := G
  refine lv_aload_n hx hb d_X_givePage_15 rfl (lv_at hl 0 rfl) ?_
  refine lv_dup hx hb d_X_givePage_16 rfl ?_
  refine xget_free C G d_X_givePage_17 ?_
  refine lv_iconst (v := 1) hx hb d_X_givePage_20 (by decide) ?_
  refine lv_iadd hx hb d_X_givePage_21 ?_
  refine xput_free C G d_X_givePage_22 (fun H locs G => ?_)
  have G : wG D A s (wX cA ad k (xSetNext (upd (xNext u) j9 (xFreePage u)) (xSetFree ((xFree u) + 1) (xSetFreePage x1 u)))) H locs := G
  exact g_vret C G hr h d_X_givePage_25
set_option maxHeartbeats 4000000 in
set_option maxRecDepth 100000 in
theorem c_X_open (l : Launch) (D : va_G) (cA : ClassId) (ad : Nat → Nat) (k : KX) (hk : kOK k) (x1 : Int32) (u : StX) (Q : StX → Prop) (h : wp_X_open k x1 u Q) : cMv l D cA (wX cA ad k) (ad 0) y_X_open b_X_open 2 none rm_X_open [.int x1] u Q := by
  refine cMv.enter (by decide) (Nat.le_of_ble_eq_true rfl) ?_
  intro p e s m args below meth c A ls C hr G hl
  have hx := C.1
  have hb := C.2.1
  unfold wp_X_open at h
  have hl : lv_has ls 2 [(0, .ref (ad 0)), (1, .int x1)] := hl
  refine lv_aload_n hx hb d_X_open_0 rfl (lv_at hl 0 rfl) ?_
  refine xget_first C G d_X_open_1 ?_
  refine lv_iload_n hx hb d_X_open_4 rfl (lv_at hl 1 rfl) ?_
  refine lv_aload_n hx hb d_X_open_5 rfl (lv_at hl 0 rfl) ?_
  refine g_calli [] C G (c_X_takePage l D cA ad k hk _ _ h) ok_X_takePage ml_X_73 rfl rfl ⟨Nat.le_of_ble_eq_true rfl, Nat.le_of_ble_eq_true rfl⟩ rfl rfl rfl hl.1 (rest := [.int x1, .ref (ad 4)]) rfl (lv_room (Nat.le_of_ble_eq_true rfl)) ⟨Nat.zero_le _, Nat.zero_le _⟩ d_X_open_6 (fun r6 u6 H locs G h => ?_)
  obtain ⟨j9, hi_9, hj_9, h⟩ := h
  refine xast_first hk C G hi_9 hj_9 d_X_open_9 (fun H locs G => ?_)
  have G : wG D A s (wX cA ad k (xSetFirst (upd (xFirst u6) j9 r6) u6)) H locs := G
  refine lv_aload_n hx hb d_X_open_10 rfl (lv_at hl 0 rfl) ?_
  refine xget_last C G d_X_open_11 ?_
  refine lv_iload_n hx hb d_X_open_14 rfl (lv_at hl 1 rfl) ?_
  refine lv_aload_n hx hb d_X_open_15 rfl (lv_at hl 0 rfl) ?_
  refine xget_first C G d_X_open_16 ?_
  refine lv_iload_n hx hb d_X_open_19 rfl (lv_at hl 1 rfl) ?_
  refine xald_first hk C G hi_9 hj_9 d_X_open_20 ?_
  refine xast_last hk C G hi_9 hj_9 d_X_open_21 (fun H locs G => ?_)
  have G : wG D A s (wX cA ad k (xSetLast (upd (xLast u6) j9 ((upd (xFirst u6) j9 r6) j9)) (xSetFirst (upd (xFirst u6) j9 r6) u6))) H locs := G
  refine lv_aload_n hx hb d_X_open_22 rfl (lv_at hl 0 rfl) ?_
  refine xget_counts C G d_X_open_23 ?_
  refine lv_iload_n hx hb d_X_open_26 rfl (lv_at hl 1 rfl) ?_
  refine lv_iconst (v := 0) hx hb d_X_open_27 (by decide) ?_
  refine xast_counts hk C G hi_9 hj_9 d_X_open_28 (fun H locs G => ?_)
  have G : wG D A s (wX cA ad k (xSetCounts (upd (xCounts u6) j9 0) (xSetLast (upd (xLast u6) j9 ((upd (xFirst u6) j9 r6) j9)) (xSetFirst (upd (xFirst u6) j9 r6) u6)))) H locs := G
  exact g_vret C G hr h d_X_open_29
set_option maxHeartbeats 4000000 in
set_option maxRecDepth 100000 in
theorem wlp_X_clear_69 {p : Program} {l : Launch} {e : Env} {s : State} {m : MethodId} {args : Array Value} {below : List Frame} {meth : Method} {c : Code} {D : va_G} {cA : ClassId} {A : Nat → Prop} {ad : Nat → Nat} {k : KX} (hk : kOK k) (C : wC p s m args c meth b_X_clear 2 R_X D cA A) (hr : meth.sig.returnType = none) (Q : StX → Prop) : ∀ (n : Nat) (x1 : Int32) (u : StX), lp_X_clear_69 k Q n x1 u → ∀ (H : Heap) (locs : List Loc) (ls : Array Slot), wG D A s (wX cA ad k u) H locs → lv_has ls 2 [(0, .ref (ad 0)), (1, .int x1)] → W p l e rm_X_clear s m args below meth c H locs 0 0 (zV D cA (wX cA ad k) A below args s Q) (F0 m 69 ls []) := by
  have hx := C.1
  have hb := C.2.1
  intro n
  induction n with
  | zero => intro x1 u h; exact absurd h (by unfold lp_X_clear_69; exact fun z => z)
  | succ n ih =>
    intro x1 u h H locs ls G hl
    unfold lp_X_clear_69 at h
    refine lv_iload_n hx hb d_X_clear_69 rfl (lv_at hl 1 rfl) ?_
    refine lv_aload_n hx hb d_X_clear_70 rfl (lv_at hl 0 rfl) ?_
    refine xget_base C G d_X_clear_71 ?_
    refine lv_icmp_ge (tgt := 88) hx hb d_X_clear_74 (by decide) (fun hc_74 => ?_) (fun hc_74 => ?_)
    · replace h := h.1 hc_74
      exact g_vret C G hr h d_X_clear_88
    · replace h := h.2 hc_74
      refine lv_aload_n hx hb d_X_clear_77 rfl (lv_at hl 0 rfl) ?_
      refine lv_iload_n hx hb d_X_clear_78 rfl (lv_at hl 1 rfl) ?_
      refine g_callv [.int x1] C G (c_X_open l D cA ad k hk _ _ _ h) ok_X_open ml_X_69 rfl rfl ⟨Nat.le_of_ble_eq_true rfl, Nat.le_of_ble_eq_true rfl⟩ rfl rfl rfl hl.1 (rest := []) rfl (lv_room (Nat.le_of_ble_eq_true rfl)) ⟨Nat.zero_le _, Nat.zero_le _⟩ d_X_clear_79 (fun u79 H locs G h => ?_)
      obtain ⟨x1_82, ex1_82⟩ : ∃ y : Int32, y = x1 + 1 := ⟨_, rfl⟩
      replace h := h x1_82 ex1_82
      refine lv_iinc (v := x1_82) (lv' := [(1, .int x1_82), (0, .ref (ad 0))]) hx hb d_X_clear_82 hl (k := 1) rfl (by rw [ex1_82]; rfl) (by decide) rfl (fun ls hl => ?_)
      refine lv_goto (tgt := 69) hx hb d_X_clear_85 (by decide) ?_
      exact ih _ _ h _ _ _ G (lv_sub hl [1, 0] rfl)
set_option maxHeartbeats 4000000 in
set_option maxRecDepth 100000 in
theorem wlp_X_clear_2 {p : Program} {l : Launch} {e : Env} {s : State} {m : MethodId} {args : Array Value} {below : List Frame} {meth : Method} {c : Code} {D : va_G} {cA : ClassId} {A : Nat → Prop} {ad : Nat → Nat} {k : KX} (hk : kOK k) (C : wC p s m args c meth b_X_clear 2 R_X D cA A) (hr : meth.sig.returnType = none) (Q : StX → Prop) : ∀ (n : Nat) (x1 : Int32) (u : StX), lp_X_clear_2 k Q n x1 u → ∀ (H : Heap) (locs : List Loc) (ls : Array Slot), wG D A s (wX cA ad k u) H locs → lv_has ls 2 [(0, .ref (ad 0)), (1, .int x1)] → W p l e rm_X_clear s m args below meth c H locs 0 0 (zV D cA (wX cA ad k) A below args s Q) (F0 m 2 ls []) := by
  have hx := C.1
  have hb := C.2.1
  intro n
  induction n with
  | zero => intro x1 u h; exact absurd h (by unfold lp_X_clear_2; exact fun z => z)
  | succ n ih =>
    intro x1 u h H locs ls G hl
    unfold lp_X_clear_2 at h
    refine lv_iload_n hx hb d_X_clear_2 rfl (lv_at hl 1 rfl) ?_
    refine lv_aload_n hx hb d_X_clear_3 rfl (lv_at hl 0 rfl) ?_
    refine xget_most C G d_X_clear_4 ?_
    refine lv_icmp_ge (tgt := 39) hx hb d_X_clear_7 (by decide) (fun hc_7 => ?_) (fun hc_7 => ?_)
    · replace h := h.1 hc_7
      refine lv_aload_n hx hb d_X_clear_39 rfl (lv_at hl 0 rfl) ?_
      refine lv_iconst (v := 0) hx hb d_X_clear_40 (by decide) ?_
      refine xput_freePage C G d_X_clear_41 (fun H locs G => ?_)
      have G : wG D A s (wX cA ad k (xSetFreePage 0 u)) H locs := G
      refine lv_aload_n hx hb d_X_clear_44 rfl (lv_at hl 0 rfl) ?_
      refine lv_aload_n hx hb d_X_clear_45 rfl (lv_at hl 0 rfl) ?_
      refine xget_most C G d_X_clear_46 ?_
      refine xput_free C G d_X_clear_49 (fun H locs G => ?_)
      have G : wG D A s (wX cA ad k (xSetFree (xMost k) (xSetFreePage 0 u))) H locs := G
      refine lv_aload_n hx hb d_X_clear_52 rfl (lv_at hl 0 rfl) ?_
      refine lv_iconst (v := 0) hx hb d_X_clear_53 (by decide) ?_
      refine xput_level C G d_X_clear_54 (fun H locs G => ?_)
      have G : wG D A s (wX cA ad k (xSetLevel 0 (xSetFree (xMost k) (xSetFreePage 0 u)))) H locs := G
      refine lv_aload_n hx hb d_X_clear_57 rfl (lv_at hl 0 rfl) ?_
      refine lv_iconst (v := 0) hx hb d_X_clear_58 (by decide) ?_
      refine xput_pointer C G d_X_clear_59 (fun H locs G => ?_)
      have G : wG D A s (wX cA ad k (xSetPointer 0 (xSetLevel 0 (xSetFree (xMost k) (xSetFreePage 0 u))))) H locs := G
      refine lv_aload_n hx hb d_X_clear_62 rfl (lv_at hl 0 rfl) ?_
      refine lv_iconst (v := 0) hx hb d_X_clear_63 (by decide) ?_
      refine xput_size C G d_X_clear_64 (fun H locs G => ?_)
      have G : wG D A s (wX cA ad k (xSetSize 0 (xSetPointer 0 (xSetLevel 0 (xSetFree (xMost k) (xSetFreePage 0 u)))))) H locs := G
      refine lv_iconst (v := 0) hx hb d_X_clear_67 (by decide) ?_
      refine lv_istore_n (lv' := [(1, .int 0), (0, .ref (ad 0))]) hx hb d_X_clear_68 rfl hl (by decide) rfl (fun ls hl => ?_)
      obtain ⟨n_69, h⟩ := h
      exact wlp_X_clear_69 hk C hr Q _ _ _ h _ _ _ G (lv_sub hl [1, 0] rfl)
    · replace h := h.2 hc_7
      refine lv_aload_n hx hb d_X_clear_10 rfl (lv_at hl 0 rfl) ?_
      refine xget_next C G d_X_clear_11 ?_
      refine lv_iload_n hx hb d_X_clear_14 rfl (lv_at hl 1 rfl) ?_
      refine lv_iload_n hx hb d_X_clear_15 rfl (lv_at hl 1 rfl) ?_
      refine lv_iconst (v := 1) hx hb d_X_clear_16 (by decide) ?_
      refine lv_iadd hx hb d_X_clear_17 ?_
      refine lv_aload_n hx hb d_X_clear_18 rfl (lv_at hl 0 rfl) ?_
      refine xget_most C G d_X_clear_19 ?_
      refine lv_icmp_ge (tgt := 31) hx hb d_X_clear_22 (by decide) (fun hc_22 => ?_) (fun hc_22 => ?_)
      · replace h := h.1 hc_22
        refine lv_iconst (v := (-1)) hx hb d_X_clear_31 (by decide) ?_
        obtain ⟨j32, hi_32, hj_32, h⟩ := h
        refine xast_next hk C G hi_32 hj_32 d_X_clear_32 (fun H locs G => ?_)
        have G : wG D A s (wX cA ad k (xSetNext (upd (xNext u) j32 (-1)) u)) H locs := G
        obtain ⟨x1_33, ex1_33⟩ : ∃ y : Int32, y = x1 + 1 := ⟨_, rfl⟩
        replace h := h x1_33 ex1_33
        refine lv_iinc (v := x1_33) (lv' := [(1, .int x1_33), (0, .ref (ad 0))]) hx hb d_X_clear_33 hl (k := 1) rfl (by rw [ex1_33]; rfl) (by decide) rfl (fun ls hl => ?_)
        refine lv_goto (tgt := 2) hx hb d_X_clear_36 (by decide) ?_
        exact ih _ _ h _ _ _ G (lv_sub hl [1, 0] rfl)
      · replace h := h.2 hc_22
        refine lv_iload_n hx hb d_X_clear_25 rfl (lv_at hl 1 rfl) ?_
        refine lv_iconst (v := 1) hx hb d_X_clear_26 (by decide) ?_
        refine lv_iadd hx hb d_X_clear_27 ?_
        refine lv_goto (tgt := 32) hx hb d_X_clear_28 (by decide) ?_
        obtain ⟨j32, hi_32, hj_32, h⟩ := h
        refine xast_next hk C G hi_32 hj_32 d_X_clear_32 (fun H locs G => ?_)
        have G : wG D A s (wX cA ad k (xSetNext (upd (xNext u) j32 (x1 + 1)) u)) H locs := G
        obtain ⟨x1_33, ex1_33⟩ : ∃ y : Int32, y = x1 + 1 := ⟨_, rfl⟩
        replace h := h x1_33 ex1_33
        refine lv_iinc (v := x1_33) (lv' := [(1, .int x1_33), (0, .ref (ad 0))]) hx hb d_X_clear_33 hl (k := 1) rfl (by rw [ex1_33]; rfl) (by decide) rfl (fun ls hl => ?_)
        refine lv_goto (tgt := 2) hx hb d_X_clear_36 (by decide) ?_
        exact ih _ _ h _ _ _ G (lv_sub hl [1, 0] rfl)
set_option maxHeartbeats 4000000 in
set_option maxRecDepth 100000 in
theorem c_X_clear (l : Launch) (D : va_G) (cA : ClassId) (ad : Nat → Nat) (k : KX) (hk : kOK k) (u : StX) (Q : StX → Prop) (h : wp_X_clear k  u Q) : cMv l D cA (wX cA ad k) (ad 0) y_X_clear b_X_clear 2 none rm_X_clear [] u Q := by
  refine cMv.enter (by decide) (Nat.le_of_ble_eq_true rfl) ?_
  intro p e s m args below meth c A ls C hr G hl
  have hx := C.1
  have hb := C.2.1
  unfold wp_X_clear at h
  have hl : lv_has ls 2 [(0, .ref (ad 0))] := hl
  refine lv_iconst (v := 0) hx hb d_X_clear_0 (by decide) ?_
  refine lv_istore_n (lv' := [(1, .int 0), (0, .ref (ad 0))]) hx hb d_X_clear_1 rfl hl (by decide) rfl (fun ls hl => ?_)
  obtain ⟨n_2, h⟩ := h
  exact wlp_X_clear_2 hk C hr Q _ _ _ h _ _ _ G (lv_sub hl [1, 0] rfl)
set_option maxHeartbeats 4000000 in
set_option maxRecDepth 100000 in
theorem wjn_X_add_50 {p : Program} {l : Launch} {e : Env} {s : State} {m : MethodId} {args : Array Value} {below : List Frame} {meth : Method} {c : Code} {D : va_G} {cA : ClassId} {A : Nat → Prop} {ad : Nat → Nat} {k : KX} (hk : kOK k) (C : wC p s m args c meth b_X_add 5 R_X D cA A) (hr : meth.sig.returnType = none) (Q : StX → Prop) (x1 x2 x3 : Int32) (u : StX) (h : jn_X_add_50 k Q x1 x2 x3 u) : ∀ (H : Heap) (locs : List Loc) (ls : Array Slot), wG D A s (wX cA ad k u) H locs → lv_has ls 5 [(0, .ref (ad 0)), (1, .int x1), (2, .int x2), (3, .int x3)] → W p l e rm_X_add s m args below meth c H locs 0 0 (zV D cA (wX cA ad k) A below args s Q) (F0 m 50 ls []) := by
  have hx := C.1
  have hb := C.2.1
  intro H locs ls G hl
  unfold jn_X_add_50 at h
  refine lv_aload_n hx hb d_X_add_50 rfl (lv_at hl 0 rfl) ?_
  refine xget_cap C G d_X_add_51 ?_
  refine lv_aload_n hx hb d_X_add_54 rfl (lv_at hl 0 rfl) ?_
  refine xget_last C G d_X_add_55 ?_
  refine lv_iload_n hx hb d_X_add_58 rfl (lv_at hl 1 rfl) ?_
  obtain ⟨j59, hi_59, hj_59, h⟩ := h
  refine xald_last hk C G hi_59 hj_59 d_X_add_59 ?_
  refine lv_imul hx hb d_X_add_60 ?_
  refine lv_aload_n hx hb d_X_add_61 rfl (lv_at hl 0 rfl) ?_
  refine xget_counts C G d_X_add_62 ?_
  refine lv_iload_n hx hb d_X_add_65 rfl (lv_at hl 1 rfl) ?_
  refine xald_counts hk C G hi_59 hj_59 d_X_add_66 ?_
  refine lv_aload_n hx hb d_X_add_67 rfl (lv_at hl 0 rfl) ?_
  refine xget_cap C G d_X_add_68 ?_
  obtain ⟨hd_71, h⟩ := h
  refine lv_irem hx hb d_X_add_71 hd_71 ?_
  refine lv_iadd hx hb d_X_add_72 ?_
  refine lv_topi (fun x4_73 ex4_73 => ?_)
  replace h := h x4_73 ex4_73
  refine lv_istore (lv' := [(4, .int x4_73), (0, .ref (ad 0)), (1, .int x1), (2, .int x2), (3, .int x3)]) hx hb d_X_add_73 hl (by decide) rfl (fun ls hl => ?_)
  refine lv_aload_n hx hb d_X_add_75 rfl (lv_at hl 1 rfl) ?_
  refine xget_keys C G d_X_add_76 ?_
  refine lv_iload hx hb d_X_add_79 (lv_at hl 0 rfl) ?_
  refine lv_iload_n hx hb d_X_add_81 rfl (lv_at hl 3 rfl) ?_
  obtain ⟨j82, hi_82, hj_82, h⟩ := h
  refine xast_keys hk C G hi_82 hj_82 d_X_add_82 (fun H locs G => ?_)
  have G : wG D A s (wX cA ad k (xSetKeys (upd (xKeys u) j82 x2) u)) H locs := G
  refine lv_aload_n hx hb d_X_add_83 rfl (lv_at hl 1 rfl) ?_
  refine xget_values C G d_X_add_84 ?_
  refine lv_iload hx hb d_X_add_87 (lv_at hl 0 rfl) ?_
  refine lv_iload_n hx hb d_X_add_89 rfl (lv_at hl 4 rfl) ?_
  refine xast_values hk C G hi_82 hj_82 d_X_add_90 (fun H locs G => ?_)
  have G : wG D A s (wX cA ad k (xSetValues (upd (xValues u) j82 x3) (xSetKeys (upd (xKeys u) j82 x2) u))) H locs := G
  refine lv_aload_n hx hb d_X_add_91 rfl (lv_at hl 1 rfl) ?_
  refine xget_counts C G d_X_add_92 ?_
  refine lv_iload_n hx hb d_X_add_95 rfl (lv_at hl 2 rfl) ?_
  refine lv_dup2_11 hx hb d_X_add_96 rfl rfl ?_
  refine xald_counts hk C G hi_59 hj_59 d_X_add_97 ?_
  refine lv_iconst (v := 1) hx hb d_X_add_98 (by decide) ?_
  refine lv_iadd hx hb d_X_add_99 ?_
  refine xast_counts hk C G hi_59 hj_59 d_X_add_100 (fun H locs G => ?_)
  have G : wG D A s (wX cA ad k (xSetCounts (upd (xCounts u) j59 ((xCounts u j59) + 1)) (xSetValues (upd (xValues u) j82 x3) (xSetKeys (upd (xKeys u) j82 x2) u)))) H locs := G
  exact g_vret C G hr h d_X_add_101
set_option maxHeartbeats 4000000 in
set_option maxRecDepth 100000 in
theorem c_X_add (l : Launch) (D : va_G) (cA : ClassId) (ad : Nat → Nat) (k : KX) (hk : kOK k) (x1 x2 x3 : Int32) (u : StX) (Q : StX → Prop) (h : wp_X_add k x1 x2 x3 u Q) : cMv l D cA (wX cA ad k) (ad 0) y_X_add b_X_add 5 none rm_X_add [.int x1, .int x2, .int x3] u Q := by
  refine cMv.enter (by decide) (Nat.le_of_ble_eq_true rfl) ?_
  intro p e s m args below meth c A ls C hr G hl
  have hx := C.1
  have hb := C.2.1
  unfold wp_X_add at h
  have hl : lv_has ls 5 [(0, .ref (ad 0)), (1, .int x1), (2, .int x2), (3, .int x3)] := hl
  refine lv_aload_n hx hb d_X_add_0 rfl (lv_at hl 0 rfl) ?_
  refine xget_counts C G d_X_add_1 ?_
  refine lv_iload_n hx hb d_X_add_4 rfl (lv_at hl 1 rfl) ?_
  obtain ⟨j5, hi_5, hj_5, h⟩ := h
  refine xald_counts hk C G hi_5 hj_5 d_X_add_5 ?_
  refine lv_if_le (tgt := 50) hx hb d_X_add_6 (by decide) (fun hc_6 => ?_) (fun hc_6 => ?_)
  · replace h := h.1 hc_6
    exact wjn_X_add_50 hk C hr Q _ _ _ _ h _ _ _ G (lv_sub hl [0, 1, 2, 3] rfl)
  · replace h := h.2 hc_6
    refine lv_aload_n hx hb d_X_add_9 rfl (lv_at hl 0 rfl) ?_
    refine xget_counts C G d_X_add_10 ?_
    refine lv_iload_n hx hb d_X_add_13 rfl (lv_at hl 1 rfl) ?_
    refine xald_counts hk C G hi_5 hj_5 d_X_add_14 ?_
    refine lv_aload_n hx hb d_X_add_15 rfl (lv_at hl 0 rfl) ?_
    refine xget_cap C G d_X_add_16 ?_
    obtain ⟨hd_19, h⟩ := h
    refine lv_irem hx hb d_X_add_19 hd_19 ?_
    refine lv_if_ne (tgt := 50) hx hb d_X_add_20 (by decide) (fun hc_20 => ?_) (fun hc_20 => ?_)
    · replace h := h.2 hc_20
      exact wjn_X_add_50 hk C hr Q _ _ _ _ h _ _ _ G (lv_sub hl [0, 1, 2, 3] rfl)
    · replace h := h.1 hc_20
      refine lv_aload_n hx hb d_X_add_23 rfl (lv_at hl 0 rfl) ?_
      refine g_calli [] C G (c_X_takePage l D cA ad k hk _ _ h) ok_X_takePage ml_X_73 rfl rfl ⟨Nat.le_of_ble_eq_true rfl, Nat.le_of_ble_eq_true rfl⟩ rfl rfl rfl hl.1 (rest := []) rfl (lv_room (Nat.le_of_ble_eq_true rfl)) ⟨Nat.zero_le _, Nat.zero_le _⟩ d_X_add_24 (fun r24 u24 H locs G h => ?_)
      refine lv_istore (lv' := [(4, .int r24), (0, .ref (ad 0)), (1, .int x1), (2, .int x2), (3, .int x3)]) hx hb d_X_add_27 hl (by decide) rfl (fun ls hl => ?_)
      refine lv_aload_n hx hb d_X_add_29 rfl (lv_at hl 1 rfl) ?_
      refine xget_next C G d_X_add_30 ?_
      refine lv_aload_n hx hb d_X_add_33 rfl (lv_at hl 1 rfl) ?_
      refine xget_last C G d_X_add_34 ?_
      refine lv_iload_n hx hb d_X_add_37 rfl (lv_at hl 2 rfl) ?_
      refine xald_last hk C G hi_5 hj_5 d_X_add_38 ?_
      refine lv_iload hx hb d_X_add_39 (lv_at hl 0 rfl) ?_
      obtain ⟨j41, hi_41, hj_41, h⟩ := h
      refine xast_next hk C G hi_41 hj_41 d_X_add_41 (fun H locs G => ?_)
      have G : wG D A s (wX cA ad k (xSetNext (upd (xNext u24) j41 r24) u24)) H locs := G
      refine lv_aload_n hx hb d_X_add_42 rfl (lv_at hl 1 rfl) ?_
      refine xget_last C G d_X_add_43 ?_
      refine lv_iload_n hx hb d_X_add_46 rfl (lv_at hl 2 rfl) ?_
      refine lv_iload hx hb d_X_add_47 (lv_at hl 0 rfl) ?_
      refine xast_last hk C G hi_5 hj_5 d_X_add_49 (fun H locs G => ?_)
      have G : wG D A s (wX cA ad k (xSetLast (upd (xLast u24) j5 r24) (xSetNext (upd (xNext u24) j41 r24) u24))) H locs := G
      exact wjn_X_add_50 hk C hr Q _ _ _ _ h _ _ _ G (lv_sub hl [1, 2, 3, 4] rfl)
set_option maxHeartbeats 4000000 in
set_option maxRecDepth 100000 in
theorem wlp_X_place_13 {p : Program} {l : Launch} {e : Env} {s : State} {m : MethodId} {args : Array Value} {below : List Frame} {meth : Method} {c : Code} {D : va_G} {cA : ClassId} {A : Nat → Prop} {ad : Nat → Nat} {k : KX} (hk : kOK k) (C : wC p s m args c meth b_X_place 5 R_X D cA A) (hr : meth.sig.returnType = (some .int)) (Q : Int32 → StX → Prop) : ∀ (n : Nat) (x2 x3 x4 : Int32) (u : StX), lp_X_place_13 k Q n x2 x3 x4 u → ∀ (H : Heap) (locs : List Loc) (ls : Array Slot), wG D A s (wX cA ad k u) H locs → lv_has ls 5 [(0, .ref (ad 0)), (2, .int x2), (3, .int x3), (4, .int x4)] → W p l e rm_X_place s m args below meth c H locs 0 0 (zI D cA (wX cA ad k) A below args s Q) (F0 m 13 ls []) := by
  have hx := C.1
  have hb := C.2.1
  intro n
  induction n with
  | zero => intro x2 x3 x4 u h; exact absurd h (by unfold lp_X_place_13; exact fun z => z)
  | succ n ih =>
    intro x2 x3 x4 u h H locs ls G hl
    unfold lp_X_place_13 at h
    refine lv_iload hx hb d_X_place_13 (lv_at hl 3 rfl) ?_
    refine lv_iload_n hx hb d_X_place_15 rfl (lv_at hl 1 rfl) ?_
    refine lv_icmp_gt (tgt := 38) hx hb d_X_place_16 (by decide) (fun hc_16 => ?_) (fun hc_16 => ?_)
    · replace h := h.1 hc_16
      refine lv_aload_n hx hb d_X_place_38 rfl (lv_at hl 0 rfl) ?_
      refine xget_cap C G d_X_place_39 ?_
      refine lv_iload_n hx hb d_X_place_42 rfl (lv_at hl 2 rfl) ?_
      refine lv_imul hx hb d_X_place_43 ?_
      refine lv_iload_n hx hb d_X_place_44 rfl (lv_at hl 1 rfl) ?_
      refine lv_aload_n hx hb d_X_place_45 rfl (lv_at hl 0 rfl) ?_
      refine xget_cap C G d_X_place_46 ?_
      obtain ⟨hd_49, h⟩ := h
      refine lv_irem hx hb d_X_place_49 hd_49 ?_
      refine lv_iadd hx hb d_X_place_50 ?_
      exact g_iret C G hr h d_X_place_51
    · replace h := h.2 hc_16
      refine lv_aload_n hx hb d_X_place_19 rfl (lv_at hl 0 rfl) ?_
      refine xget_next C G d_X_place_20 ?_
      refine lv_iload_n hx hb d_X_place_23 rfl (lv_at hl 2 rfl) ?_
      obtain ⟨j24, hi_24, hj_24, h⟩ := h
      refine xald_next hk C G hi_24 hj_24 d_X_place_24 ?_
      refine lv_topi (fun x3_25 ex3_25 => ?_)
      replace h := h x3_25 ex3_25
      refine lv_istore_n (lv' := [(3, .int x3_25), (0, .ref (ad 0)), (2, .int x2), (4, .int x4)]) hx hb d_X_place_25 rfl hl (by decide) rfl (fun ls hl => ?_)
      refine lv_iload hx hb d_X_place_26 (lv_at hl 3 rfl) ?_
      refine lv_aload_n hx hb d_X_place_28 rfl (lv_at hl 1 rfl) ?_
      refine xget_cap C G d_X_place_29 ?_
      refine lv_iadd hx hb d_X_place_32 ?_
      refine lv_topi (fun x4_33 ex4_33 => ?_)
      replace h := h x4_33 ex4_33
      refine lv_istore (lv' := [(4, .int x4_33), (3, .int x3_25), (0, .ref (ad 0)), (2, .int x2)]) hx hb d_X_place_33 hl (by decide) rfl (fun ls hl => ?_)
      refine lv_goto (tgt := 13) hx hb d_X_place_35 (by decide) ?_
      exact ih _ _ _ _ h _ _ _ G (lv_sub hl [2, 3, 1, 0] rfl)
set_option maxHeartbeats 4000000 in
set_option maxRecDepth 100000 in
theorem c_X_place (l : Launch) (D : va_G) (cA : ClassId) (ad : Nat → Nat) (k : KX) (hk : kOK k) (x1 x2 : Int32) (u : StX) (Q : Int32 → StX → Prop) (h : wp_X_place k x1 x2 u Q) : cMi l D cA (wX cA ad k) (ad 0) y_X_place b_X_place 5 (some .int) rm_X_place [.int x1, .int x2] u Q := by
  refine cMi.enter (by decide) (Nat.le_of_ble_eq_true rfl) ?_
  intro p e s m args below meth c A ls C hr G hl
  have hx := C.1
  have hb := C.2.1
  unfold wp_X_place at h
  have hl : lv_has ls 5 [(0, .ref (ad 0)), (1, .int x1), (2, .int x2)] := hl
  refine lv_aload_n hx hb d_X_place_0 rfl (lv_at hl 0 rfl) ?_
  refine xget_first C G d_X_place_1 ?_
  refine lv_iload_n hx hb d_X_place_4 rfl (lv_at hl 1 rfl) ?_
  obtain ⟨j5, hi_5, hj_5, h⟩ := h
  refine xald_first hk C G hi_5 hj_5 d_X_place_5 ?_
  refine lv_topi (fun x3_6 ex3_6 => ?_)
  replace h := h x3_6 ex3_6
  refine lv_istore_n (lv' := [(3, .int x3_6), (0, .ref (ad 0)), (1, .int x1), (2, .int x2)]) hx hb d_X_place_6 rfl hl (by decide) rfl (fun ls hl => ?_)
  refine lv_aload_n hx hb d_X_place_7 rfl (lv_at hl 1 rfl) ?_
  refine xget_cap C G d_X_place_8 ?_
  refine lv_topi (fun x4_11 ex4_11 => ?_)
  replace h := h x4_11 ex4_11
  refine lv_istore (lv' := [(4, .int x4_11), (3, .int x3_6), (0, .ref (ad 0)), (1, .int x1), (2, .int x2)]) hx hb d_X_place_11 hl (by decide) rfl (fun ls hl => ?_)
  obtain ⟨n_13, h⟩ := h
  exact wlp_X_place_13 hk C hr Q _ _ _ _ _ h _ _ _ G (lv_sub hl [2, 4, 1, 0] rfl)
set_option maxHeartbeats 4000000 in
set_option maxRecDepth 100000 in
theorem wjn_X_find_46 {p : Program} {l : Launch} {e : Env} {s : State} {m : MethodId} {args : Array Value} {below : List Frame} {meth : Method} {c : Code} {D : va_G} {cA : ClassId} {A : Nat → Prop} {ad : Nat → Nat} {k : KX} (hk : kOK k) (C : wC p s m args c meth b_X_find 5 R_X D cA A) (hr : meth.sig.returnType = (some .int)) (Q : Int32 → StX → Prop) (K : Int32 → Int32 → Int32 → Int32 → StX → Prop) (hK : ∀ (x1 x2 x3 x4 : Int32) (u : StX), K x1 x2 x3 x4 u → ∀ (H : Heap) (locs : List Loc) (ls : Array Slot), wG D A s (wX cA ad k u) H locs → lv_has ls 5 [(0, .ref (ad 0)), (1, .int x1), (2, .int x2), (3, .int x3), (4, .int x4)] → W p l e rm_X_find s m args below meth c H locs 0 0 (zI D cA (wX cA ad k) A below args s Q) (F0 m 10 ls [])) (x1 x2 x4 t0 : Int32) (u : StX) (h : jn_X_find_46 k Q K x1 x2 x4 t0 u) : ∀ (H : Heap) (locs : List Loc) (ls : Array Slot), wG D A s (wX cA ad k u) H locs → lv_has ls 5 [(0, .ref (ad 0)), (1, .int x1), (2, .int x2), (4, .int x4)] → W p l e rm_X_find s m args below meth c H locs 0 0 (zI D cA (wX cA ad k) A below args s Q) (F0 m 46 ls [.int t0]) := by
  have hx := C.1
  have hb := C.2.1
  intro H locs ls G hl
  unfold jn_X_find_46 at h
  refine lv_istore_n (lv' := [(3, .int t0), (0, .ref (ad 0)), (1, .int x1), (2, .int x2), (4, .int x4)]) hx hb d_X_find_46 rfl hl (by decide) rfl (fun ls hl => ?_)
  refine lv_aload_n hx hb d_X_find_47 rfl (lv_at hl 1 rfl) ?_
  refine xget_keys C G d_X_find_48 ?_
  refine lv_aload_n hx hb d_X_find_51 rfl (lv_at hl 1 rfl) ?_
  refine xget_cap C G d_X_find_52 ?_
  refine lv_iload_n hx hb d_X_find_55 rfl (lv_at hl 0 rfl) ?_
  refine lv_imul hx hb d_X_find_56 ?_
  refine lv_iload hx hb d_X_find_57 (lv_at hl 4 rfl) ?_
  refine lv_aload_n hx hb d_X_find_59 rfl (lv_at hl 1 rfl) ?_
  refine xget_cap C G d_X_find_60 ?_
  obtain ⟨hd_63, h⟩ := h
  refine lv_irem hx hb d_X_find_63 hd_63 ?_
  refine lv_iadd hx hb d_X_find_64 ?_
  obtain ⟨j65, hi_65, hj_65, h⟩ := h
  refine xald_keys hk C G hi_65 hj_65 d_X_find_65 ?_
  refine lv_iload_n hx hb d_X_find_66 rfl (lv_at hl 3 rfl) ?_
  refine lv_icmp_ne (tgt := 73) hx hb d_X_find_67 (by decide) (fun hc_67 => ?_) (fun hc_67 => ?_)
  · replace h := h.2 hc_67
    obtain ⟨x4_73, ex4_73⟩ : ∃ y : Int32, y = x4 + 1 := ⟨_, rfl⟩
    replace h := h x4_73 ex4_73
    refine lv_iinc (v := x4_73) (lv' := [(4, .int x4_73), (3, .int t0), (0, .ref (ad 0)), (1, .int x1), (2, .int x2)]) hx hb d_X_find_73 hl (k := 4) rfl (by rw [ex4_73]; rfl) (by decide) rfl (fun ls hl => ?_)
    refine lv_goto (tgt := 10) hx hb d_X_find_76 (by decide) ?_
    exact hK _ _ _ _ _ h _ _ _ G (lv_sub hl [2, 3, 4, 1, 0] rfl)
  · replace h := h.1 hc_67
    refine lv_iload hx hb d_X_find_70 (lv_at hl 4 rfl) ?_
    exact g_iret C G hr h d_X_find_72
set_option maxHeartbeats 4000000 in
set_option maxRecDepth 100000 in
theorem wlp_X_find_10 {p : Program} {l : Launch} {e : Env} {s : State} {m : MethodId} {args : Array Value} {below : List Frame} {meth : Method} {c : Code} {D : va_G} {cA : ClassId} {A : Nat → Prop} {ad : Nat → Nat} {k : KX} (hk : kOK k) (C : wC p s m args c meth b_X_find 5 R_X D cA A) (hr : meth.sig.returnType = (some .int)) (Q : Int32 → StX → Prop) : ∀ (n : Nat) (x1 x2 x3 x4 : Int32) (u : StX), lp_X_find_10 k Q n x1 x2 x3 x4 u → ∀ (H : Heap) (locs : List Loc) (ls : Array Slot), wG D A s (wX cA ad k u) H locs → lv_has ls 5 [(0, .ref (ad 0)), (1, .int x1), (2, .int x2), (3, .int x3), (4, .int x4)] → W p l e rm_X_find s m args below meth c H locs 0 0 (zI D cA (wX cA ad k) A below args s Q) (F0 m 10 ls []) := by
  have hx := C.1
  have hb := C.2.1
  intro n
  induction n with
  | zero => intro x1 x2 x3 x4 u h; exact absurd h (by unfold lp_X_find_10; exact fun z => z)
  | succ n ih =>
    intro x1 x2 x3 x4 u h H locs ls G hl
    unfold lp_X_find_10 at h
    refine lv_iload hx hb d_X_find_10 (lv_at hl 4 rfl) ?_
    refine lv_aload_n hx hb d_X_find_12 rfl (lv_at hl 0 rfl) ?_
    refine xget_counts C G d_X_find_13 ?_
    refine lv_iload_n hx hb d_X_find_16 rfl (lv_at hl 1 rfl) ?_
    obtain ⟨j17, hi_17, hj_17, h⟩ := h
    refine xald_counts hk C G hi_17 hj_17 d_X_find_17 ?_
    refine lv_icmp_ge (tgt := 79) hx hb d_X_find_18 (by decide) (fun hc_18 => ?_) (fun hc_18 => ?_)
    · replace h := h.1 hc_18
      refine lv_iconst (v := (-1)) hx hb d_X_find_79 (by decide) ?_
      exact g_iret C G hr h d_X_find_80
    · replace h := h.2 hc_18
      refine lv_iload hx hb d_X_find_21 (lv_at hl 4 rfl) ?_
      refine lv_if_le (tgt := 45) hx hb d_X_find_23 (by decide) (fun hc_23 => ?_) (fun hc_23 => ?_)
      · replace h := h.1 hc_23
        refine lv_iload_n hx hb d_X_find_45 rfl (lv_at hl 3 rfl) ?_
        exact wjn_X_find_46 hk C hr Q _ ih _ _ _ _ _ h _ _ _ G (lv_sub hl [0, 1, 2, 4] rfl)
      · replace h := h.2 hc_23
        refine lv_iload hx hb d_X_find_26 (lv_at hl 4 rfl) ?_
        refine lv_aload_n hx hb d_X_find_28 rfl (lv_at hl 0 rfl) ?_
        refine xget_cap C G d_X_find_29 ?_
        obtain ⟨hd_32, h⟩ := h
        refine lv_irem hx hb d_X_find_32 hd_32 ?_
        refine lv_if_ne (tgt := 45) hx hb d_X_find_33 (by decide) (fun hc_33 => ?_) (fun hc_33 => ?_)
        · replace h := h.2 hc_33
          refine lv_iload_n hx hb d_X_find_45 rfl (lv_at hl 3 rfl) ?_
          exact wjn_X_find_46 hk C hr Q _ ih _ _ _ _ _ h _ _ _ G (lv_sub hl [0, 1, 2, 4] rfl)
        · replace h := h.1 hc_33
          refine lv_aload_n hx hb d_X_find_36 rfl (lv_at hl 0 rfl) ?_
          refine xget_next C G d_X_find_37 ?_
          refine lv_iload_n hx hb d_X_find_40 rfl (lv_at hl 3 rfl) ?_
          obtain ⟨j41, hi_41, hj_41, h⟩ := h
          refine xald_next hk C G hi_41 hj_41 d_X_find_41 ?_
          refine lv_goto (tgt := 46) hx hb d_X_find_42 (by decide) ?_
          exact wjn_X_find_46 hk C hr Q _ ih _ _ _ _ _ h _ _ _ G (lv_sub hl [0, 1, 2, 4] rfl)
set_option maxHeartbeats 4000000 in
set_option maxRecDepth 100000 in
theorem c_X_find (l : Launch) (D : va_G) (cA : ClassId) (ad : Nat → Nat) (k : KX) (hk : kOK k) (x1 x2 : Int32) (u : StX) (Q : Int32 → StX → Prop) (h : wp_X_find k x1 x2 u Q) : cMi l D cA (wX cA ad k) (ad 0) y_X_find b_X_find 5 (some .int) rm_X_find [.int x1, .int x2] u Q := by
  refine cMi.enter (by decide) (Nat.le_of_ble_eq_true rfl) ?_
  intro p e s m args below meth c A ls C hr G hl
  have hx := C.1
  have hb := C.2.1
  unfold wp_X_find at h
  have hl : lv_has ls 5 [(0, .ref (ad 0)), (1, .int x1), (2, .int x2)] := hl
  refine lv_aload_n hx hb d_X_find_0 rfl (lv_at hl 0 rfl) ?_
  refine xget_first C G d_X_find_1 ?_
  refine lv_iload_n hx hb d_X_find_4 rfl (lv_at hl 1 rfl) ?_
  obtain ⟨j5, hi_5, hj_5, h⟩ := h
  refine xald_first hk C G hi_5 hj_5 d_X_find_5 ?_
  refine lv_topi (fun x3_6 ex3_6 => ?_)
  replace h := h x3_6 ex3_6
  refine lv_istore_n (lv' := [(3, .int x3_6), (0, .ref (ad 0)), (1, .int x1), (2, .int x2)]) hx hb d_X_find_6 rfl hl (by decide) rfl (fun ls hl => ?_)
  refine lv_iconst (v := 0) hx hb d_X_find_7 (by decide) ?_
  refine lv_istore (lv' := [(4, .int 0), (3, .int x3_6), (0, .ref (ad 0)), (1, .int x1), (2, .int x2)]) hx hb d_X_find_8 hl (by decide) rfl (fun ls hl => ?_)
  obtain ⟨n_10, h⟩ := h
  exact wlp_X_find_10 hk C hr Q _ _ _ _ _ _ h _ _ _ G (lv_sub hl [2, 3, 4, 1, 0] rfl)
end
section
/-! walks -/
abbrev rm_X_dropLast : Room := { frames := 1, cells := 0, slots := 0, locals := 21 }
abbrev rm_X_takeOff : Room := { frames := 1, cells := 0, slots := 0, locals := 24 }
abbrev rm_X_buckets : Room := { frames := 0, cells := 0, slots := 0, locals := 0 }
abbrev rm_X_bucketOf2 : Room := { frames := 0, cells := 0, slots := 0, locals := 0 }
abbrev rm_X_bucketOf : Room := { frames := 1, cells := 0, slots := 0, locals := 24 }
abbrev rm_X_split : Room := { frames := 2, cells := 0, slots := 0, locals := 45 }
abbrev rm_X_join : Room := { frames := 2, cells := 0, slots := 0, locals := 47 }
set_option maxHeartbeats 4000000 in
set_option maxRecDepth 100000 in
theorem wlp_X_dropLast_40 {p : Program} {l : Launch} {e : Env} {s : State} {m : MethodId} {args : Array Value} {below : List Frame} {meth : Method} {c : Code} {D : va_G} {cA : ClassId} {A : Nat → Prop} {ad : Nat → Nat} {k : KX} (hk : kOK k) (C : wC p s m args c meth b_X_dropLast 3 R_X D cA A) (hr : meth.sig.returnType = none) (Q : StX → Prop) : ∀ (n : Nat) (x1 x2 : Int32) (u : StX), lp_X_dropLast_40 k Q n x1 x2 u → ∀ (H : Heap) (locs : List Loc) (ls : Array Slot), wG D A s (wX cA ad k u) H locs → lv_has ls 3 [(0, .ref (ad 0)), (1, .int x1), (2, .int x2)] → W p l e rm_X_dropLast s m args below meth c H locs 0 0 (zV D cA (wX cA ad k) A below args s Q) (F0 m 40 ls []) := by
  have hx := C.1
  have hb := C.2.1
  intro n
  induction n with
  | zero => intro x1 x2 u h; exact absurd h (by unfold lp_X_dropLast_40; exact fun z => z)
  | succ n ih =>
    intro x1 x2 u h H locs ls G hl
    unfold lp_X_dropLast_40 at h
    refine lv_aload_n hx hb d_X_dropLast_40 rfl (lv_at hl 0 rfl) ?_
    refine xget_next C G d_X_dropLast_41 ?_
    refine lv_iload_n hx hb d_X_dropLast_44 rfl (lv_at hl 2 rfl) ?_
    obtain ⟨j45, hi_45, hj_45, h⟩ := h
    refine xald_next hk C G hi_45 hj_45 d_X_dropLast_45 ?_
    refine lv_aload_n hx hb d_X_dropLast_46 rfl (lv_at hl 0 rfl) ?_
    refine xget_last C G d_X_dropLast_47 ?_
    refine lv_iload_n hx hb d_X_dropLast_50 rfl (lv_at hl 1 rfl) ?_
    obtain ⟨j51, hi_51, hj_51, h⟩ := h
    refine xald_last hk C G hi_51 hj_51 d_X_dropLast_51 ?_
    refine lv_icmp_eq (tgt := 65) hx hb d_X_dropLast_52 (by decide) (fun hc_52 => ?_) (fun hc_52 => ?_)
    · replace h := h.1 hc_52
      refine lv_aload_n hx hb d_X_dropLast_65 rfl (lv_at hl 0 rfl) ?_
      refine lv_aload_n hx hb d_X_dropLast_66 rfl (lv_at hl 0 rfl) ?_
      refine xget_last C G d_X_dropLast_67 ?_
      refine lv_iload_n hx hb d_X_dropLast_70 rfl (lv_at hl 1 rfl) ?_
      refine xald_last hk C G hi_51 hj_51 d_X_dropLast_71 ?_
      refine g_callv [.int (xLast u j51)] C G (c_X_givePage l D cA ad k hk _ _ _ h) ok_X_givePage ml_X_77 rfl rfl ⟨Nat.le_of_ble_eq_true rfl, Nat.le_of_ble_eq_true rfl⟩ rfl rfl rfl hl.1 (rest := []) rfl (lv_room (Nat.le_of_ble_eq_true rfl)) ⟨Nat.zero_le _, Nat.zero_le _⟩ d_X_dropLast_72 (fun u72 H locs G h => ?_)
      refine lv_aload_n hx hb d_X_dropLast_75 rfl (lv_at hl 0 rfl) ?_
      refine xget_next C G d_X_dropLast_76 ?_
      refine lv_iload_n hx hb d_X_dropLast_79 rfl (lv_at hl 2 rfl) ?_
      refine lv_iconst (v := (-1)) hx hb d_X_dropLast_80 (by decide) ?_
      refine xast_next hk C G hi_45 hj_45 d_X_dropLast_81 (fun H locs G => ?_)
      have G : wG D A s (wX cA ad k (xSetNext (upd (xNext u72) j45 (-1)) u72)) H locs := G
      refine lv_aload_n hx hb d_X_dropLast_82 rfl (lv_at hl 0 rfl) ?_
      refine xget_last C G d_X_dropLast_83 ?_
      refine lv_iload_n hx hb d_X_dropLast_86 rfl (lv_at hl 1 rfl) ?_
      refine lv_iload_n hx hb d_X_dropLast_87 rfl (lv_at hl 2 rfl) ?_
      refine xast_last hk C G hi_51 hj_51 d_X_dropLast_88 (fun H locs G => ?_)
      have G : wG D A s (wX cA ad k (xSetLast (upd (xLast u72) j51 x2) (xSetNext (upd (xNext u72) j45 (-1)) u72))) H locs := G
      exact g_vret C G hr h d_X_dropLast_89
    · replace h := h.2 hc_52
      refine lv_aload_n hx hb d_X_dropLast_55 rfl (lv_at hl 0 rfl) ?_
      refine xget_next C G d_X_dropLast_56 ?_
      refine lv_iload_n hx hb d_X_dropLast_59 rfl (lv_at hl 2 rfl) ?_
      refine xald_next hk C G hi_45 hj_45 d_X_dropLast_60 ?_
      refine lv_topi (fun x2_61 ex2_61 => ?_)
      replace h := h x2_61 ex2_61
      refine lv_istore_n (lv' := [(2, .int x2_61), (0, .ref (ad 0)), (1, .int x1)]) hx hb d_X_dropLast_61 rfl hl (by decide) rfl (fun ls hl => ?_)
      refine lv_goto (tgt := 40) hx hb d_X_dropLast_62 (by decide) ?_
      exact ih _ _ _ h _ _ _ G (lv_sub hl [1, 2, 0] rfl)
set_option maxHeartbeats 4000000 in
set_option maxRecDepth 100000 in
theorem c_X_dropLast (l : Launch) (D : va_G) (cA : ClassId) (ad : Nat → Nat) (k : KX) (hk : kOK k) (x1 : Int32) (u : StX) (Q : StX → Prop) (h : wp_X_dropLast k x1 u Q) : cMv l D cA (wX cA ad k) (ad 0) y_X_dropLast b_X_dropLast 3 none rm_X_dropLast [.int x1] u Q := by
  refine cMv.enter (by decide) (Nat.le_of_ble_eq_true rfl) ?_
  intro p e s m args below meth c A ls C hr G hl
  have hx := C.1
  have hb := C.2.1
  unfold wp_X_dropLast at h
  have hl : lv_has ls 3 [(0, .ref (ad 0)), (1, .int x1)] := hl
  refine lv_aload_n hx hb d_X_dropLast_0 rfl (lv_at hl 0 rfl) ?_
  refine xget_counts C G d_X_dropLast_1 ?_
  refine lv_iload_n hx hb d_X_dropLast_4 rfl (lv_at hl 1 rfl) ?_
  refine lv_dup2_11 hx hb d_X_dropLast_5 rfl rfl ?_
  obtain ⟨j6, hi_6, hj_6, h⟩ := h
  refine xald_counts hk C G hi_6 hj_6 d_X_dropLast_6 ?_
  refine lv_iconst (v := 1) hx hb d_X_dropLast_7 (by decide) ?_
  refine lv_isub hx hb d_X_dropLast_8 ?_
  refine xast_counts hk C G hi_6 hj_6 d_X_dropLast_9 (fun H locs G => ?_)
  have G : wG D A s (wX cA ad k (xSetCounts (upd (xCounts u) j6 ((xCounts u j6) - 1)) u)) H locs := G
  refine lv_aload_n hx hb d_X_dropLast_10 rfl (lv_at hl 0 rfl) ?_
  refine xget_counts C G d_X_dropLast_11 ?_
  refine lv_iload_n hx hb d_X_dropLast_14 rfl (lv_at hl 1 rfl) ?_
  refine xald_counts hk C G hi_6 hj_6 d_X_dropLast_15 ?_
  refine lv_if_le (tgt := 89) hx hb d_X_dropLast_16 (by decide) (fun hc_16 => ?_) (fun hc_16 => ?_)
  · replace h := h.1 hc_16
    exact g_vret C G hr h d_X_dropLast_89
  · replace h := h.2 hc_16
    refine lv_aload_n hx hb d_X_dropLast_19 rfl (lv_at hl 0 rfl) ?_
    refine xget_counts C G d_X_dropLast_20 ?_
    refine lv_iload_n hx hb d_X_dropLast_23 rfl (lv_at hl 1 rfl) ?_
    refine xald_counts hk C G hi_6 hj_6 d_X_dropLast_24 ?_
    refine lv_aload_n hx hb d_X_dropLast_25 rfl (lv_at hl 0 rfl) ?_
    refine xget_cap C G d_X_dropLast_26 ?_
    obtain ⟨hd_29, h⟩ := h
    refine lv_irem hx hb d_X_dropLast_29 hd_29 ?_
    refine lv_if_ne (tgt := 89) hx hb d_X_dropLast_30 (by decide) (fun hc_30 => ?_) (fun hc_30 => ?_)
    · replace h := h.2 hc_30
      exact g_vret C G hr h d_X_dropLast_89
    · replace h := h.1 hc_30
      refine lv_aload_n hx hb d_X_dropLast_33 rfl (lv_at hl 0 rfl) ?_
      refine xget_first C G d_X_dropLast_34 ?_
      refine lv_iload_n hx hb d_X_dropLast_37 rfl (lv_at hl 1 rfl) ?_
      refine xald_first hk C G hi_6 hj_6 d_X_dropLast_38 ?_
      refine lv_topi (fun x2_39 ex2_39 => ?_)
      replace h := h x2_39 ex2_39
      refine lv_istore_n (lv' := [(2, .int x2_39), (0, .ref (ad 0)), (1, .int x1)]) hx hb d_X_dropLast_39 rfl hl (by decide) rfl (fun ls hl => ?_)
      obtain ⟨n_40, h⟩ := h
      exact wlp_X_dropLast_40 hk C hr Q _ _ _ _ h _ _ _ G (lv_sub hl [1, 2, 0] rfl)
set_option maxHeartbeats 4000000 in
set_option maxRecDepth 100000 in
theorem wlp_X_takeOff_72 {p : Program} {l : Launch} {e : Env} {s : State} {m : MethodId} {args : Array Value} {below : List Frame} {meth : Method} {c : Code} {D : va_G} {cA : ClassId} {A : Nat → Prop} {ad : Nat → Nat} {k : KX} (hk : kOK k) (C : wC p s m args c meth b_X_takeOff 4 R_X D cA A) (hr : meth.sig.returnType = none) (Q : StX → Prop) : ∀ (n : Nat) (x2 : Int32) (u : StX), lp_X_takeOff_72 k Q n x2 u → ∀ (H : Heap) (locs : List Loc) (ls : Array Slot), wG D A s (wX cA ad k u) H locs → lv_has ls 4 [(0, .ref (ad 0)), (2, .int x2)] → W p l e rm_X_takeOff s m args below meth c H locs 0 0 (zV D cA (wX cA ad k) A below args s Q) (F0 m 72 ls []) := by
  have hx := C.1
  have hb := C.2.1
  intro n
  induction n with
  | zero => intro x2 u h; exact absurd h (by unfold lp_X_takeOff_72; exact fun z => z)
  | succ n ih =>
    intro x2 u h H locs ls G hl
    unfold lp_X_takeOff_72 at h
    refine lv_iload_n hx hb d_X_takeOff_72 rfl (lv_at hl 1 rfl) ?_
    refine lv_iconst (v := (-1)) hx hb d_X_takeOff_73 (by decide) ?_
    refine lv_icmp_eq (tgt := 94) hx hb d_X_takeOff_74 (by decide) (fun hc_74 => ?_) (fun hc_74 => ?_)
    · replace h := h.1 hc_74
      exact g_vret C G hr h d_X_takeOff_94
    · replace h := h.2 hc_74
      refine lv_aload_n hx hb d_X_takeOff_77 rfl (lv_at hl 0 rfl) ?_
      refine xget_next C G d_X_takeOff_78 ?_
      refine lv_iload_n hx hb d_X_takeOff_81 rfl (lv_at hl 1 rfl) ?_
      obtain ⟨j82, hi_82, hj_82, h⟩ := h
      refine xald_next hk C G hi_82 hj_82 d_X_takeOff_82 ?_
      refine lv_topi (fun x3_83 ex3_83 => ?_)
      replace h := h x3_83 ex3_83
      refine lv_istore_n (lv' := [(3, .int x3_83), (0, .ref (ad 0)), (2, .int x2)]) hx hb d_X_takeOff_83 rfl hl (by decide) rfl (fun ls hl => ?_)
      refine lv_aload_n hx hb d_X_takeOff_84 rfl (lv_at hl 1 rfl) ?_
      refine lv_iload_n hx hb d_X_takeOff_85 rfl (lv_at hl 2 rfl) ?_
      refine g_callv [.int x2] C G (c_X_givePage l D cA ad k hk _ _ _ h) ok_X_givePage ml_X_77 rfl rfl ⟨Nat.le_of_ble_eq_true rfl, Nat.le_of_ble_eq_true rfl⟩ rfl rfl rfl hl.1 (rest := []) rfl (lv_room (Nat.le_of_ble_eq_true rfl)) ⟨Nat.zero_le _, Nat.zero_le _⟩ d_X_takeOff_86 (fun u86 H locs G h => ?_)
      refine lv_iload_n hx hb d_X_takeOff_89 rfl (lv_at hl 0 rfl) ?_
      refine lv_istore_n (lv' := [(2, .int x3_83), (3, .int x3_83), (0, .ref (ad 0))]) hx hb d_X_takeOff_90 rfl hl (by decide) rfl (fun ls hl => ?_)
      refine lv_goto (tgt := 72) hx hb d_X_takeOff_91 (by decide) ?_
      exact ih _ _ h _ _ _ G (lv_sub hl [2, 0] rfl)
set_option maxHeartbeats 4000000 in
set_option maxRecDepth 100000 in
theorem wlp_X_takeOff_2 {p : Program} {l : Launch} {e : Env} {s : State} {m : MethodId} {args : Array Value} {below : List Frame} {meth : Method} {c : Code} {D : va_G} {cA : ClassId} {A : Nat → Prop} {ad : Nat → Nat} {k : KX} (hk : kOK k) (C : wC p s m args c meth b_X_takeOff 4 R_X D cA A) (hr : meth.sig.returnType = none) (Q : StX → Prop) : ∀ (n : Nat) (x1 x2 : Int32) (u : StX), lp_X_takeOff_2 k Q n x1 x2 u → ∀ (H : Heap) (locs : List Loc) (ls : Array Slot), wG D A s (wX cA ad k u) H locs → lv_has ls 4 [(0, .ref (ad 0)), (1, .int x1), (2, .int x2)] → W p l e rm_X_takeOff s m args below meth c H locs 0 0 (zV D cA (wX cA ad k) A below args s Q) (F0 m 2 ls []) := by
  have hx := C.1
  have hb := C.2.1
  intro n
  induction n with
  | zero => intro x1 x2 u h; exact absurd h (by unfold lp_X_takeOff_2; exact fun z => z)
  | succ n ih =>
    intro x1 x2 u h H locs ls G hl
    unfold lp_X_takeOff_2 at h
    refine lv_iload_n hx hb d_X_takeOff_2 rfl (lv_at hl 2 rfl) ?_
    refine lv_aload_n hx hb d_X_takeOff_3 rfl (lv_at hl 0 rfl) ?_
    refine xget_counts C G d_X_takeOff_4 ?_
    refine lv_iload_n hx hb d_X_takeOff_7 rfl (lv_at hl 1 rfl) ?_
    obtain ⟨j8, hi_8, hj_8, h⟩ := h
    refine xald_counts hk C G hi_8 hj_8 d_X_takeOff_8 ?_
    refine lv_icmp_ge (tgt := 65) hx hb d_X_takeOff_9 (by decide) (fun hc_9 => ?_) (fun hc_9 => ?_)
    · replace h := h.1 hc_9
      refine lv_aload_n hx hb d_X_takeOff_65 rfl (lv_at hl 0 rfl) ?_
      refine xget_first C G d_X_takeOff_66 ?_
      refine lv_iload_n hx hb d_X_takeOff_69 rfl (lv_at hl 1 rfl) ?_
      refine xald_first hk C G hi_8 hj_8 d_X_takeOff_70 ?_
      refine lv_topi (fun x2_71 ex2_71 => ?_)
      replace h := h x2_71 ex2_71
      refine lv_istore_n (lv' := [(2, .int x2_71), (0, .ref (ad 0)), (1, .int x1)]) hx hb d_X_takeOff_71 rfl hl (by decide) rfl (fun ls hl => ?_)
      obtain ⟨n_72, h⟩ := h
      exact wlp_X_takeOff_72 hk C hr Q _ _ _ h _ _ _ G (lv_sub hl [1, 0] rfl)
    · replace h := h.2 hc_9
      refine lv_aload_n hx hb d_X_takeOff_12 rfl (lv_at hl 0 rfl) ?_
      refine lv_iload_n hx hb d_X_takeOff_13 rfl (lv_at hl 1 rfl) ?_
      refine lv_iload_n hx hb d_X_takeOff_14 rfl (lv_at hl 2 rfl) ?_
      refine g_calli [.int x1, .int x2] C G (c_X_place l D cA ad k hk _ _ _ _ h) ok_X_place ml_X_80 rfl rfl ⟨Nat.le_of_ble_eq_true rfl, Nat.le_of_ble_eq_true rfl⟩ rfl rfl rfl hl.1 (rest := []) rfl (lv_room (Nat.le_of_ble_eq_true rfl)) ⟨Nat.zero_le _, Nat.zero_le _⟩ d_X_takeOff_15 (fun r15 u15 H locs G h => ?_)
      refine lv_istore_n (lv' := [(3, .int r15), (0, .ref (ad 0)), (1, .int x1), (2, .int x2)]) hx hb d_X_takeOff_18 rfl hl (by decide) rfl (fun ls hl => ?_)
      refine lv_aload_n hx hb d_X_takeOff_19 rfl (lv_at hl 1 rfl) ?_
      refine xget_takenKeys C G d_X_takeOff_20 ?_
      refine lv_aload_n hx hb d_X_takeOff_23 rfl (lv_at hl 1 rfl) ?_
      refine xget_taken C G d_X_takeOff_24 ?_
      refine lv_aload_n hx hb d_X_takeOff_27 rfl (lv_at hl 1 rfl) ?_
      refine xget_keys C G d_X_takeOff_28 ?_
      refine lv_iload_n hx hb d_X_takeOff_31 rfl (lv_at hl 0 rfl) ?_
      obtain ⟨j32, hi_32, hj_32, h⟩ := h
      refine xald_keys hk C G hi_32 hj_32 d_X_takeOff_32 ?_
      obtain ⟨j33, hi_33, hj_33, h⟩ := h
      refine xast_takenKeys hk C G hi_33 hj_33 d_X_takeOff_33 (fun H locs G => ?_)
      have G : wG D A s (wX cA ad k (xSetTakenKeys (upd (xTakenKeys u15) j33 (xKeys u15 j32)) u15)) H locs := G
      refine lv_aload_n hx hb d_X_takeOff_34 rfl (lv_at hl 1 rfl) ?_
      refine xget_takenValues C G d_X_takeOff_35 ?_
      refine lv_aload_n hx hb d_X_takeOff_38 rfl (lv_at hl 1 rfl) ?_
      refine xget_taken C G d_X_takeOff_39 ?_
      refine lv_aload_n hx hb d_X_takeOff_42 rfl (lv_at hl 1 rfl) ?_
      refine xget_values C G d_X_takeOff_43 ?_
      refine lv_iload_n hx hb d_X_takeOff_46 rfl (lv_at hl 0 rfl) ?_
      refine xald_values hk C G hi_32 hj_32 d_X_takeOff_47 ?_
      refine xast_takenValues hk C G hi_33 hj_33 d_X_takeOff_48 (fun H locs G => ?_)
      have G : wG D A s (wX cA ad k (xSetTakenValues (upd (xTakenValues u15) j33 (xValues u15 j32)) (xSetTakenKeys (upd (xTakenKeys u15) j33 (xKeys u15 j32)) u15))) H locs := G
      refine lv_aload_n hx hb d_X_takeOff_49 rfl (lv_at hl 1 rfl) ?_
      refine lv_dup hx hb d_X_takeOff_50 rfl ?_
      refine xget_taken C G d_X_takeOff_51 ?_
      refine lv_iconst (v := 1) hx hb d_X_takeOff_54 (by decide) ?_
      refine lv_iadd hx hb d_X_takeOff_55 ?_
      refine xput_taken C G d_X_takeOff_56 (fun H locs G => ?_)
      have G : wG D A s (wX cA ad k (xSetTakenValues (upd (xTakenValues u15) j33 (xValues u15 j32)) (xSetTakenKeys (upd (xTakenKeys u15) j33 (xKeys u15 j32)) (xSetTaken ((xTaken u15) + 1) u15)))) H locs := G
      obtain ⟨x2_59, ex2_59⟩ : ∃ y : Int32, y = x2 + 1 := ⟨_, rfl⟩
      replace h := h x2_59 ex2_59
      refine lv_iinc (v := x2_59) (lv' := [(2, .int x2_59), (3, .int r15), (0, .ref (ad 0)), (1, .int x1)]) hx hb d_X_takeOff_59 hl (k := 3) rfl (by rw [ex2_59]; rfl) (by decide) rfl (fun ls hl => ?_)
      refine lv_goto (tgt := 2) hx hb d_X_takeOff_62 (by decide) ?_
      exact ih _ _ _ h _ _ _ G (lv_sub hl [2, 3, 0] rfl)
set_option maxHeartbeats 4000000 in
set_option maxRecDepth 100000 in
theorem c_X_takeOff (l : Launch) (D : va_G) (cA : ClassId) (ad : Nat → Nat) (k : KX) (hk : kOK k) (x1 : Int32) (u : StX) (Q : StX → Prop) (h : wp_X_takeOff k x1 u Q) : cMv l D cA (wX cA ad k) (ad 0) y_X_takeOff b_X_takeOff 4 none rm_X_takeOff [.int x1] u Q := by
  refine cMv.enter (by decide) (Nat.le_of_ble_eq_true rfl) ?_
  intro p e s m args below meth c A ls C hr G hl
  have hx := C.1
  have hb := C.2.1
  unfold wp_X_takeOff at h
  have hl : lv_has ls 4 [(0, .ref (ad 0)), (1, .int x1)] := hl
  refine lv_iconst (v := 0) hx hb d_X_takeOff_0 (by decide) ?_
  refine lv_istore_n (lv' := [(2, .int 0), (0, .ref (ad 0)), (1, .int x1)]) hx hb d_X_takeOff_1 rfl hl (by decide) rfl (fun ls hl => ?_)
  obtain ⟨n_2, h⟩ := h
  exact wlp_X_takeOff_2 hk C hr Q _ _ _ _ h _ _ _ G (lv_sub hl [1, 2, 0] rfl)
set_option maxHeartbeats 4000000 in
set_option maxRecDepth 100000 in
theorem c_X_buckets (l : Launch) (D : va_G) (cA : ClassId) (ad : Nat → Nat) (k : KX) (hk : kOK k) (u : StX) (Q : Int32 → StX → Prop) (h : wp_X_buckets k  u Q) : cMi l D cA (wX cA ad k) (ad 0) y_X_buckets b_X_buckets 1 (some .int) rm_X_buckets [] u Q := by
  refine cMi.enter (by decide) (Nat.le_of_ble_eq_true rfl) ?_
  intro p e s m args below meth c A ls C hr G hl
  have hx := C.1
  have hb := C.2.1
  unfold wp_X_buckets at h
  have hl : lv_has ls 1 [(0, .ref (ad 0))] := hl
  refine lv_aload_n hx hb d_X_buckets_0 rfl (lv_at hl 0 rfl) ?_
  refine xget_base C G d_X_buckets_1 ?_
  refine lv_aload_n hx hb d_X_buckets_4 rfl (lv_at hl 0 rfl) ?_
  refine xget_level C G d_X_buckets_5 ?_
  refine lv_ishl hx hb d_X_buckets_8 ?_
  refine lv_aload_n hx hb d_X_buckets_9 rfl (lv_at hl 0 rfl) ?_
  refine xget_pointer C G d_X_buckets_10 ?_
  refine lv_iadd hx hb d_X_buckets_13 ?_
  exact g_iret C G hr h d_X_buckets_14
set_option maxHeartbeats 4000000 in
set_option maxRecDepth 100000 in
theorem c_X_bucketOf2 (l : Launch) (D : va_G) (cA : ClassId) (ad : Nat → Nat) (k : KX) (hk : kOK k) (x1 x2 : Int32) (u : StX) (Q : Int32 → StX → Prop) (h : wp_X_bucketOf2 k x1 x2 u Q) : cMi l D cA (wX cA ad k) (ad 0) y_X_bucketOf2 b_X_bucketOf2 5 (some .int) rm_X_bucketOf2 [.int x1, .int x2] u Q := by
  refine cMi.enter (by decide) (Nat.le_of_ble_eq_true rfl) ?_
  intro p e s m args below meth c A ls C hr G hl
  have hx := C.1
  have hb := C.2.1
  unfold wp_X_bucketOf2 at h
  have hl : lv_has ls 5 [(0, .ref (ad 0)), (1, .int x1), (2, .int x2)] := hl
  refine lv_iload_n hx hb d_X_bucketOf2_0 rfl (lv_at hl 1 rfl) ?_
  refine lv_ldc (v := 2147483647) hx hb C.2.2.2.1 (C.2.2.2.2.1 _ (by decide +kernel)) d_X_bucketOf2_1 ?_
  refine lv_iand hx hb d_X_bucketOf2_3 ?_
  refine lv_topi (fun x3_4 ex3_4 => ?_)
  replace h := h x3_4 ex3_4
  refine lv_istore_n (lv' := [(3, .int x3_4), (0, .ref (ad 0)), (1, .int x1), (2, .int x2)]) hx hb d_X_bucketOf2_4 rfl hl (by decide) rfl (fun ls hl => ?_)
  refine lv_iload_n hx hb d_X_bucketOf2_5 rfl (lv_at hl 0 rfl) ?_
  refine lv_aload_n hx hb d_X_bucketOf2_6 rfl (lv_at hl 1 rfl) ?_
  refine xget_base C G d_X_bucketOf2_7 ?_
  refine lv_aload_n hx hb d_X_bucketOf2_10 rfl (lv_at hl 1 rfl) ?_
  refine xget_level C G d_X_bucketOf2_11 ?_
  refine lv_ishl hx hb d_X_bucketOf2_14 ?_
  obtain ⟨hd_15, h⟩ := h
  refine lv_irem hx hb d_X_bucketOf2_15 hd_15 ?_
  refine lv_topi (fun x4_16 ex4_16 => ?_)
  replace h := h x4_16 ex4_16
  refine lv_istore (lv' := [(4, .int x4_16), (3, .int x3_4), (0, .ref (ad 0)), (1, .int x1), (2, .int x2)]) hx hb d_X_bucketOf2_16 hl (by decide) rfl (fun ls hl => ?_)
  refine lv_iload hx hb d_X_bucketOf2_18 (lv_at hl 0 rfl) ?_
  refine lv_iload_n hx hb d_X_bucketOf2_20 rfl (lv_at hl 4 rfl) ?_
  refine lv_icmp_ge (tgt := 40) hx hb d_X_bucketOf2_21 (by decide) (fun hc_21 => ?_) (fun hc_21 => ?_)
  · replace h := h.1 hc_21
    refine lv_iload hx hb d_X_bucketOf2_40 (lv_at hl 0 rfl) ?_
    exact g_iret C G hr h d_X_bucketOf2_42
  · replace h := h.2 hc_21
    refine lv_iload_n hx hb d_X_bucketOf2_24 rfl (lv_at hl 1 rfl) ?_
    refine lv_aload_n hx hb d_X_bucketOf2_25 rfl (lv_at hl 2 rfl) ?_
    refine xget_base C G d_X_bucketOf2_26 ?_
    refine lv_aload_n hx hb d_X_bucketOf2_29 rfl (lv_at hl 2 rfl) ?_
    refine xget_level C G d_X_bucketOf2_30 ?_
    refine lv_iconst (v := 1) hx hb d_X_bucketOf2_33 (by decide) ?_
    refine lv_iadd hx hb d_X_bucketOf2_34 ?_
    refine lv_ishl hx hb d_X_bucketOf2_35 ?_
    obtain ⟨hd_36, h⟩ := h
    refine lv_irem hx hb d_X_bucketOf2_36 hd_36 ?_
    refine lv_goto (tgt := 42) hx hb d_X_bucketOf2_37 (by decide) ?_
    exact g_iret C G hr h d_X_bucketOf2_42
set_option maxHeartbeats 4000000 in
set_option maxRecDepth 100000 in
theorem c_X_bucketOf (l : Launch) (D : va_G) (cA : ClassId) (ad : Nat → Nat) (k : KX) (hk : kOK k) (x1 : Int32) (u : StX) (Q : Int32 → StX → Prop) (h : wp_X_bucketOf k x1 u Q) : cMi l D cA (wX cA ad k) (ad 0) y_X_bucketOf b_X_bucketOf 2 (some .int) rm_X_bucketOf [.int x1] u Q := by
  refine cMi.enter (by decide) (Nat.le_of_ble_eq_true rfl) ?_
  intro p e s m args below meth c A ls C hr G hl
  have hx := C.1
  have hb := C.2.1
  unfold wp_X_bucketOf at h
  have hl : lv_has ls 2 [(0, .ref (ad 0)), (1, .int x1)] := hl
  refine lv_aload_n hx hb d_X_bucketOf_0 rfl (lv_at hl 0 rfl) ?_
  refine lv_iload_n hx hb d_X_bucketOf_1 rfl (lv_at hl 1 rfl) ?_
  refine lv_aload_n hx hb d_X_bucketOf_2 rfl (lv_at hl 0 rfl) ?_
  refine xget_pointer C G d_X_bucketOf_3 ?_
  refine g_calli [.int x1, .int (xPointer u)] C G (c_X_bucketOf2 l D cA ad k hk _ _ _ _ h) ok_X_bucketOf2 ml_X_90 rfl rfl ⟨Nat.le_of_ble_eq_true rfl, Nat.le_of_ble_eq_true rfl⟩ rfl rfl rfl hl.1 (rest := []) rfl (lv_room (Nat.le_of_ble_eq_true rfl)) ⟨Nat.zero_le _, Nat.zero_le _⟩ d_X_bucketOf_6 (fun r6 u6 H locs G h => ?_)
  exact g_iret C G hr h d_X_bucketOf_9
set_option maxHeartbeats 4000000 in
set_option maxRecDepth 100000 in
theorem wlp_X_split_20 {p : Program} {l : Launch} {e : Env} {s : State} {m : MethodId} {args : Array Value} {below : List Frame} {meth : Method} {c : Code} {D : va_G} {cA : ClassId} {A : Nat → Prop} {ad : Nat → Nat} {k : KX} (hk : kOK k) (C : wC p s m args c meth b_X_split 3 R_X D cA A) (hr : meth.sig.returnType = none) (Q : StX → Prop) : ∀ (n : Nat) (x2 : Int32) (u : StX), lp_X_split_20 k Q n x2 u → ∀ (H : Heap) (locs : List Loc) (ls : Array Slot), wG D A s (wX cA ad k u) H locs → lv_has ls 3 [(0, .ref (ad 0)), (2, .int x2)] → W p l e rm_X_split s m args below meth c H locs 0 0 (zV D cA (wX cA ad k) A below args s Q) (F0 m 20 ls []) := by
  have hx := C.1
  have hb := C.2.1
  intro n
  induction n with
  | zero => intro x2 u h; exact absurd h (by unfold lp_X_split_20; exact fun z => z)
  | succ n ih =>
    intro x2 u h H locs ls G hl
    unfold lp_X_split_20 at h
    refine lv_iload_n hx hb d_X_split_20 rfl (lv_at hl 1 rfl) ?_
    refine lv_aload_n hx hb d_X_split_21 rfl (lv_at hl 0 rfl) ?_
    refine xget_taken C G d_X_split_22 ?_
    refine lv_icmp_ge (tgt := 66) hx hb d_X_split_25 (by decide) (fun hc_25 => ?_) (fun hc_25 => ?_)
    · replace h := h.1 hc_25
      refine lv_aload_n hx hb d_X_split_66 rfl (lv_at hl 0 rfl) ?_
      refine lv_dup hx hb d_X_split_67 rfl ?_
      refine xget_pointer C G d_X_split_68 ?_
      refine lv_iconst (v := 1) hx hb d_X_split_71 (by decide) ?_
      refine lv_iadd hx hb d_X_split_72 ?_
      refine xput_pointer C G d_X_split_73 (fun H locs G => ?_)
      have G : wG D A s (wX cA ad k (xSetPointer ((xPointer u) + 1) u)) H locs := G
      refine lv_aload_n hx hb d_X_split_76 rfl (lv_at hl 0 rfl) ?_
      refine xget_pointer C G d_X_split_77 ?_
      refine lv_aload_n hx hb d_X_split_80 rfl (lv_at hl 0 rfl) ?_
      refine xget_base C G d_X_split_81 ?_
      refine lv_aload_n hx hb d_X_split_84 rfl (lv_at hl 0 rfl) ?_
      refine xget_level C G d_X_split_85 ?_
      refine lv_ishl hx hb d_X_split_88 ?_
      refine lv_icmp_ne (tgt := 107) hx hb d_X_split_89 (by decide) (fun hc_89 => ?_) (fun hc_89 => ?_)
      · replace h := h.2 hc_89
        exact g_vret C G hr h d_X_split_107
      · replace h := h.1 hc_89
        refine lv_aload_n hx hb d_X_split_92 rfl (lv_at hl 0 rfl) ?_
        refine lv_iconst (v := 0) hx hb d_X_split_93 (by decide) ?_
        refine xput_pointer C G d_X_split_94 (fun H locs G => ?_)
        have G : wG D A s (wX cA ad k (xSetPointer 0 u)) H locs := G
        refine lv_aload_n hx hb d_X_split_97 rfl (lv_at hl 0 rfl) ?_
        refine lv_dup hx hb d_X_split_98 rfl ?_
        refine xget_level C G d_X_split_99 ?_
        refine lv_iconst (v := 1) hx hb d_X_split_102 (by decide) ?_
        refine lv_iadd hx hb d_X_split_103 ?_
        refine xput_level C G d_X_split_104 (fun H locs G => ?_)
        have G : wG D A s (wX cA ad k (xSetPointer 0 (xSetLevel ((xLevel u) + 1) u))) H locs := G
        exact g_vret C G hr h d_X_split_107
    · replace h := h.2 hc_25
      refine lv_aload_n hx hb d_X_split_28 rfl (lv_at hl 0 rfl) ?_
      refine lv_aload_n hx hb d_X_split_29 rfl (lv_at hl 0 rfl) ?_
      refine lv_aload_n hx hb d_X_split_30 rfl (lv_at hl 0 rfl) ?_
      refine xget_takenKeys C G d_X_split_31 ?_
      refine lv_iload_n hx hb d_X_split_34 rfl (lv_at hl 1 rfl) ?_
      obtain ⟨j35, hi_35, hj_35, h⟩ := h
      refine xald_takenKeys hk C G hi_35 hj_35 d_X_split_35 ?_
      refine lv_aload_n hx hb d_X_split_36 rfl (lv_at hl 0 rfl) ?_
      refine xget_pointer C G d_X_split_37 ?_
      refine lv_iconst (v := 1) hx hb d_X_split_40 (by decide) ?_
      refine lv_iadd hx hb d_X_split_41 ?_
      refine g_calli [.int (xTakenKeys u j35), .int ((xPointer u) + 1)] C G (c_X_bucketOf2 l D cA ad k hk _ _ _ _ h) ok_X_bucketOf2 ml_X_90 rfl rfl ⟨Nat.le_of_ble_eq_true rfl, Nat.le_of_ble_eq_true rfl⟩ rfl rfl rfl hl.1 (rest := [.ref (ad 0)]) rfl (lv_room (Nat.le_of_ble_eq_true rfl)) ⟨Nat.zero_le _, Nat.zero_le _⟩ d_X_split_42 (fun r42 u42 H locs G h => ?_)
      refine lv_aload_n hx hb d_X_split_45 rfl (lv_at hl 0 rfl) ?_
      refine xget_takenKeys C G d_X_split_46 ?_
      refine lv_iload_n hx hb d_X_split_49 rfl (lv_at hl 1 rfl) ?_
      refine xald_takenKeys hk C G hi_35 hj_35 d_X_split_50 ?_
      refine lv_aload_n hx hb d_X_split_51 rfl (lv_at hl 0 rfl) ?_
      refine xget_takenValues C G d_X_split_52 ?_
      refine lv_iload_n hx hb d_X_split_55 rfl (lv_at hl 1 rfl) ?_
      refine xald_takenValues hk C G hi_35 hj_35 d_X_split_56 ?_
      refine g_callv [.int r42, .int (xTakenKeys u42 j35), .int (xTakenValues u42 j35)] C G (c_X_add l D cA ad k hk _ _ _ _ _ h) ok_X_add ml_X_96 rfl rfl ⟨Nat.le_of_ble_eq_true rfl, Nat.le_of_ble_eq_true rfl⟩ rfl rfl rfl hl.1 (rest := []) rfl (lv_room (Nat.le_of_ble_eq_true rfl)) ⟨Nat.zero_le _, Nat.zero_le _⟩ d_X_split_57 (fun u57 H locs G h => ?_)
      obtain ⟨x2_60, ex2_60⟩ : ∃ y : Int32, y = x2 + 1 := ⟨_, rfl⟩
      replace h := h x2_60 ex2_60
      refine lv_iinc (v := x2_60) (lv' := [(2, .int x2_60), (0, .ref (ad 0))]) hx hb d_X_split_60 hl (k := 1) rfl (by rw [ex2_60]; rfl) (by decide) rfl (fun ls hl => ?_)
      refine lv_goto (tgt := 20) hx hb d_X_split_63 (by decide) ?_
      exact ih _ _ h _ _ _ G (lv_sub hl [1, 0] rfl)
set_option maxHeartbeats 4000000 in
set_option maxRecDepth 100000 in
theorem c_X_split (l : Launch) (D : va_G) (cA : ClassId) (ad : Nat → Nat) (k : KX) (hk : kOK k) (u : StX) (Q : StX → Prop) (h : wp_X_split k  u Q) : cMv l D cA (wX cA ad k) (ad 0) y_X_split b_X_split 3 none rm_X_split [] u Q := by
  refine cMv.enter (by decide) (Nat.le_of_ble_eq_true rfl) ?_
  intro p e s m args below meth c A ls C hr G hl
  have hx := C.1
  have hb := C.2.1
  unfold wp_X_split at h
  have hl : lv_has ls 3 [(0, .ref (ad 0))] := hl
  refine lv_aload_n hx hb d_X_split_0 rfl (lv_at hl 0 rfl) ?_
  refine g_calli [] C G (c_X_buckets l D cA ad k hk _ _ h) ok_X_buckets ml_X_93 rfl rfl ⟨Nat.le_of_ble_eq_true rfl, Nat.le_of_ble_eq_true rfl⟩ rfl rfl rfl hl.1 (rest := []) rfl (lv_room (Nat.le_of_ble_eq_true rfl)) ⟨Nat.zero_le _, Nat.zero_le _⟩ d_X_split_1 (fun r1 u1 H locs G h => ?_)
  refine lv_istore_n (lv' := [(1, .int r1), (0, .ref (ad 0))]) hx hb d_X_split_4 rfl hl (by decide) rfl (fun ls hl => ?_)
  refine lv_aload_n hx hb d_X_split_5 rfl (lv_at hl 1 rfl) ?_
  refine lv_aload_n hx hb d_X_split_6 rfl (lv_at hl 1 rfl) ?_
  refine xget_pointer C G d_X_split_7 ?_
  refine g_callv [.int (xPointer u1)] C G (c_X_open l D cA ad k hk _ _ _ h) ok_X_open ml_X_69 rfl rfl ⟨Nat.le_of_ble_eq_true rfl, Nat.le_of_ble_eq_true rfl⟩ rfl rfl rfl hl.1 (rest := []) rfl (lv_room (Nat.le_of_ble_eq_true rfl)) ⟨Nat.zero_le _, Nat.zero_le _⟩ d_X_split_10 (fun u10 H locs G h => ?_)
  refine lv_aload_n hx hb d_X_split_13 rfl (lv_at hl 1 rfl) ?_
  refine lv_iload_n hx hb d_X_split_14 rfl (lv_at hl 0 rfl) ?_
  refine g_callv [.int r1] C G (c_X_open l D cA ad k hk _ _ _ h) ok_X_open ml_X_69 rfl rfl ⟨Nat.le_of_ble_eq_true rfl, Nat.le_of_ble_eq_true rfl⟩ rfl rfl rfl hl.1 (rest := []) rfl (lv_room (Nat.le_of_ble_eq_true rfl)) ⟨Nat.zero_le _, Nat.zero_le _⟩ d_X_split_15 (fun u15 H locs G h => ?_)
  refine lv_iconst (v := 0) hx hb d_X_split_18 (by decide) ?_
  refine lv_istore_n (lv' := [(2, .int 0), (1, .int r1), (0, .ref (ad 0))]) hx hb d_X_split_19 rfl hl (by decide) rfl (fun ls hl => ?_)
  obtain ⟨n_20, h⟩ := h
  exact wlp_X_split_20 hk C hr Q _ _ _ h _ _ _ G (lv_sub hl [2, 0] rfl)
set_option maxHeartbeats 4000000 in
set_option maxRecDepth 100000 in
theorem wlp_X_join_87 {p : Program} {l : Launch} {e : Env} {s : State} {m : MethodId} {args : Array Value} {below : List Frame} {meth : Method} {c : Code} {D : va_G} {cA : ClassId} {A : Nat → Prop} {ad : Nat → Nat} {k : KX} (hk : kOK k) (C : wC p s m args c meth b_X_join 3 R_X D cA A) (hr : meth.sig.returnType = none) (Q : StX → Prop) : ∀ (n : Nat) (x2 : Int32) (u : StX), lp_X_join_87 k Q n x2 u → ∀ (H : Heap) (locs : List Loc) (ls : Array Slot), wG D A s (wX cA ad k u) H locs → lv_has ls 3 [(0, .ref (ad 0)), (2, .int x2)] → W p l e rm_X_join s m args below meth c H locs 0 0 (zV D cA (wX cA ad k) A below args s Q) (F0 m 87 ls []) := by
  have hx := C.1
  have hb := C.2.1
  intro n
  induction n with
  | zero => intro x2 u h; exact absurd h (by unfold lp_X_join_87; exact fun z => z)
  | succ n ih =>
    intro x2 u h H locs ls G hl
    unfold lp_X_join_87 at h
    refine lv_iload_n hx hb d_X_join_87 rfl (lv_at hl 1 rfl) ?_
    refine lv_aload_n hx hb d_X_join_88 rfl (lv_at hl 0 rfl) ?_
    refine xget_taken C G d_X_join_89 ?_
    refine lv_icmp_ge (tgt := 121) hx hb d_X_join_92 (by decide) (fun hc_92 => ?_) (fun hc_92 => ?_)
    · replace h := h.1 hc_92
      exact g_vret C G hr h d_X_join_121
    · replace h := h.2 hc_92
      refine lv_aload_n hx hb d_X_join_95 rfl (lv_at hl 0 rfl) ?_
      refine lv_aload_n hx hb d_X_join_96 rfl (lv_at hl 0 rfl) ?_
      refine xget_pointer C G d_X_join_97 ?_
      refine lv_aload_n hx hb d_X_join_100 rfl (lv_at hl 0 rfl) ?_
      refine xget_takenKeys C G d_X_join_101 ?_
      refine lv_iload_n hx hb d_X_join_104 rfl (lv_at hl 1 rfl) ?_
      obtain ⟨j105, hi_105, hj_105, h⟩ := h
      refine xald_takenKeys hk C G hi_105 hj_105 d_X_join_105 ?_
      refine lv_aload_n hx hb d_X_join_106 rfl (lv_at hl 0 rfl) ?_
      refine xget_takenValues C G d_X_join_107 ?_
      refine lv_iload_n hx hb d_X_join_110 rfl (lv_at hl 1 rfl) ?_
      refine xald_takenValues hk C G hi_105 hj_105 d_X_join_111 ?_
      refine g_callv [.int (xPointer u), .int (xTakenKeys u j105), .int (xTakenValues u j105)] C G (c_X_add l D cA ad k hk _ _ _ _ _ h) ok_X_add ml_X_96 rfl rfl ⟨Nat.le_of_ble_eq_true rfl, Nat.le_of_ble_eq_true rfl⟩ rfl rfl rfl hl.1 (rest := []) rfl (lv_room (Nat.le_of_ble_eq_true rfl)) ⟨Nat.zero_le _, Nat.zero_le _⟩ d_X_join_112 (fun u112 H locs G h => ?_)
      obtain ⟨x2_115, ex2_115⟩ : ∃ y : Int32, y = x2 + 1 := ⟨_, rfl⟩
      replace h := h x2_115 ex2_115
      refine lv_iinc (v := x2_115) (lv' := [(2, .int x2_115), (0, .ref (ad 0))]) hx hb d_X_join_115 hl (k := 1) rfl (by rw [ex2_115]; rfl) (by decide) rfl (fun ls hl => ?_)
      refine lv_goto (tgt := 87) hx hb d_X_join_118 (by decide) ?_
      exact ih _ _ h _ _ _ G (lv_sub hl [1, 0] rfl)
set_option maxHeartbeats 4000000 in
set_option maxRecDepth 100000 in
theorem wjn_X_join_56 {p : Program} {l : Launch} {e : Env} {s : State} {m : MethodId} {args : Array Value} {below : List Frame} {meth : Method} {c : Code} {D : va_G} {cA : ClassId} {A : Nat → Prop} {ad : Nat → Nat} {k : KX} (hk : kOK k) (C : wC p s m args c meth b_X_join 3 R_X D cA A) (hr : meth.sig.returnType = none) (Q : StX → Prop) (x1 t0 : Int32) (u : StX) (h : jn_X_join_56 k Q x1 t0 u) : ∀ (H : Heap) (locs : List Loc) (ls : Array Slot), wG D A s (wX cA ad k u) H locs → lv_has ls 3 [(0, .ref (ad 0)), (1, .int x1)] → W p l e rm_X_join s m args below meth c H locs 0 0 (zV D cA (wX cA ad k) A below args s Q) (F0 m 56 ls [.int t0, .ref (ad 0)]) := by
  have hx := C.1
  have hb := C.2.1
  intro H locs ls G hl
  unfold jn_X_join_56 at h
  refine xput_pointer C G d_X_join_56 (fun H locs G => ?_)
  have G : wG D A s (wX cA ad k (xSetPointer t0 u)) H locs := G
  refine lv_aload_n hx hb d_X_join_59 rfl (lv_at hl 0 rfl) ?_
  refine lv_iconst (v := 0) hx hb d_X_join_60 (by decide) ?_
  refine xput_taken C G d_X_join_61 (fun H locs G => ?_)
  have G : wG D A s (wX cA ad k (xSetPointer t0 (xSetTaken 0 u))) H locs := G
  refine lv_aload_n hx hb d_X_join_64 rfl (lv_at hl 0 rfl) ?_
  refine lv_aload_n hx hb d_X_join_65 rfl (lv_at hl 0 rfl) ?_
  refine xget_pointer C G d_X_join_66 ?_
  refine g_callv [.int t0] C G (c_X_takeOff l D cA ad k hk _ _ _ h) ok_X_takeOff ml_X_100 rfl rfl ⟨Nat.le_of_ble_eq_true rfl, Nat.le_of_ble_eq_true rfl⟩ rfl rfl rfl hl.1 (rest := []) rfl (lv_room (Nat.le_of_ble_eq_true rfl)) ⟨Nat.zero_le _, Nat.zero_le _⟩ d_X_join_69 (fun u69 H locs G h => ?_)
  refine lv_aload_n hx hb d_X_join_72 rfl (lv_at hl 0 rfl) ?_
  refine lv_iload_n hx hb d_X_join_73 rfl (lv_at hl 1 rfl) ?_
  refine g_callv [.int x1] C G (c_X_takeOff l D cA ad k hk _ _ _ h) ok_X_takeOff ml_X_100 rfl rfl ⟨Nat.le_of_ble_eq_true rfl, Nat.le_of_ble_eq_true rfl⟩ rfl rfl rfl hl.1 (rest := []) rfl (lv_room (Nat.le_of_ble_eq_true rfl)) ⟨Nat.zero_le _, Nat.zero_le _⟩ d_X_join_74 (fun u74 H locs G h => ?_)
  refine lv_aload_n hx hb d_X_join_77 rfl (lv_at hl 0 rfl) ?_
  refine lv_aload_n hx hb d_X_join_78 rfl (lv_at hl 0 rfl) ?_
  refine xget_pointer C G d_X_join_79 ?_
  refine g_callv [.int (xPointer u74)] C G (c_X_open l D cA ad k hk _ _ _ h) ok_X_open ml_X_69 rfl rfl ⟨Nat.le_of_ble_eq_true rfl, Nat.le_of_ble_eq_true rfl⟩ rfl rfl rfl hl.1 (rest := []) rfl (lv_room (Nat.le_of_ble_eq_true rfl)) ⟨Nat.zero_le _, Nat.zero_le _⟩ d_X_join_82 (fun u82 H locs G h => ?_)
  refine lv_iconst (v := 0) hx hb d_X_join_85 (by decide) ?_
  refine lv_istore_n (lv' := [(2, .int 0), (0, .ref (ad 0)), (1, .int x1)]) hx hb d_X_join_86 rfl hl (by decide) rfl (fun ls hl => ?_)
  obtain ⟨n_87, h⟩ := h
  exact wlp_X_join_87 hk C hr Q _ _ _ h _ _ _ G (lv_sub hl [1, 0] rfl)
set_option maxHeartbeats 4000000 in
set_option maxRecDepth 100000 in
theorem wjn_X_join_24 {p : Program} {l : Launch} {e : Env} {s : State} {m : MethodId} {args : Array Value} {below : List Frame} {meth : Method} {c : Code} {D : va_G} {cA : ClassId} {A : Nat → Prop} {ad : Nat → Nat} {k : KX} (hk : kOK k) (C : wC p s m args c meth b_X_join 3 R_X D cA A) (hr : meth.sig.returnType = none) (Q : StX → Prop) (x1 t0 t1 : Int32) (u : StX) (h : jn_X_join_24 k Q x1 t0 t1 u) : ∀ (H : Heap) (locs : List Loc) (ls : Array Slot), wG D A s (wX cA ad k u) H locs → lv_has ls 3 [(0, .ref (ad 0)), (1, .int x1)] → W p l e rm_X_join s m args below meth c H locs 0 0 (zV D cA (wX cA ad k) A below args s Q) (F0 m 24 ls [.int t0, .int t1, .ref (ad 0)]) := by
  have hx := C.1
  have hb := C.2.1
  intro H locs ls G hl
  unfold jn_X_join_24 at h
  refine lv_isub hx hb d_X_join_24 ?_
  refine xput_level C G d_X_join_25 (fun H locs G => ?_)
  have G : wG D A s (wX cA ad k (xSetLevel (t1 - t0) u)) H locs := G
  refine lv_aload_n hx hb d_X_join_28 rfl (lv_at hl 0 rfl) ?_
  refine lv_aload_n hx hb d_X_join_29 rfl (lv_at hl 0 rfl) ?_
  refine xget_pointer C G d_X_join_30 ?_
  refine lv_if_ne (tgt := 50) hx hb d_X_join_33 (by decide) (fun hc_33 => ?_) (fun hc_33 => ?_)
  · replace h := h.2 hc_33
    refine lv_aload_n hx hb d_X_join_50 rfl (lv_at hl 0 rfl) ?_
    refine xget_pointer C G d_X_join_51 ?_
    refine lv_iconst (v := 1) hx hb d_X_join_54 (by decide) ?_
    refine lv_isub hx hb d_X_join_55 ?_
    exact wjn_X_join_56 hk C hr Q _ _ _ h _ _ _ G (lv_sub hl [0, 1] rfl)
  · replace h := h.1 hc_33
    refine lv_aload_n hx hb d_X_join_36 rfl (lv_at hl 0 rfl) ?_
    refine xget_base C G d_X_join_37 ?_
    refine lv_aload_n hx hb d_X_join_40 rfl (lv_at hl 0 rfl) ?_
    refine xget_level C G d_X_join_41 ?_
    refine lv_ishl hx hb d_X_join_44 ?_
    refine lv_iconst (v := 1) hx hb d_X_join_45 (by decide) ?_
    refine lv_isub hx hb d_X_join_46 ?_
    refine lv_goto (tgt := 56) hx hb d_X_join_47 (by decide) ?_
    exact wjn_X_join_56 hk C hr Q _ _ _ h _ _ _ G (lv_sub hl [0, 1] rfl)
set_option maxHeartbeats 4000000 in
set_option maxRecDepth 100000 in
theorem c_X_join (l : Launch) (D : va_G) (cA : ClassId) (ad : Nat → Nat) (k : KX) (hk : kOK k) (u : StX) (Q : StX → Prop) (h : wp_X_join k  u Q) : cMv l D cA (wX cA ad k) (ad 0) y_X_join b_X_join 3 none rm_X_join [] u Q := by
  refine cMv.enter (by decide) (Nat.le_of_ble_eq_true rfl) ?_
  intro p e s m args below meth c A ls C hr G hl
  have hx := C.1
  have hb := C.2.1
  unfold wp_X_join at h
  have hl : lv_has ls 3 [(0, .ref (ad 0))] := hl
  refine lv_aload_n hx hb d_X_join_0 rfl (lv_at hl 0 rfl) ?_
  refine g_calli [] C G (c_X_buckets l D cA ad k hk _ _ h) ok_X_buckets ml_X_93 rfl rfl ⟨Nat.le_of_ble_eq_true rfl, Nat.le_of_ble_eq_true rfl⟩ rfl rfl rfl hl.1 (rest := []) rfl (lv_room (Nat.le_of_ble_eq_true rfl)) ⟨Nat.zero_le _, Nat.zero_le _⟩ d_X_join_1 (fun r1 u1 H locs G h => ?_)
  refine lv_iconst (v := 1) hx hb d_X_join_4 (by decide) ?_
  refine lv_isub hx hb d_X_join_5 ?_
  refine lv_topi (fun x1_6 ex1_6 => ?_)
  replace h := h x1_6 ex1_6
  refine lv_istore_n (lv' := [(1, .int x1_6), (0, .ref (ad 0))]) hx hb d_X_join_6 rfl hl (by decide) rfl (fun ls hl => ?_)
  refine lv_aload_n hx hb d_X_join_7 rfl (lv_at hl 1 rfl) ?_
  refine lv_dup hx hb d_X_join_8 rfl ?_
  refine xget_level C G d_X_join_9 ?_
  refine lv_aload_n hx hb d_X_join_12 rfl (lv_at hl 1 rfl) ?_
  refine xget_pointer C G d_X_join_13 ?_
  refine lv_if_ne (tgt := 23) hx hb d_X_join_16 (by decide) (fun hc_16 => ?_) (fun hc_16 => ?_)
  · replace h := h.2 hc_16
    refine lv_iconst (v := 0) hx hb d_X_join_23 (by decide) ?_
    exact wjn_X_join_24 hk C hr Q _ _ _ _ h _ _ _ G (lv_sub hl [1, 0] rfl)
  · replace h := h.1 hc_16
    refine lv_iconst (v := 1) hx hb d_X_join_19 (by decide) ?_
    refine lv_goto (tgt := 24) hx hb d_X_join_20 (by decide) ?_
    exact wjn_X_join_24 hk C hr Q _ _ _ _ h _ _ _ G (lv_sub hl [1, 0] rfl)
end
section
/-! walks -/
abbrev rm_X_pagesOf : Room := { frames := 0, cells := 0, slots := 0, locals := 0 }
abbrev rm_X_parts : Room := { frames := 1, cells := 0, slots := 0, locals := 20 }
abbrev rm_X_fits : Room := { frames := 2, cells := 0, slots := 0, locals := 41 }
abbrev rm_X_put : Room := { frames := 3, cells := 0, slots := 0, locals := 67 }
abbrev rm_X_get : Room := { frames := 2, cells := 0, slots := 0, locals := 45 }
abbrev rm_X_has : Room := { frames := 2, cells := 0, slots := 0, locals := 45 }
abbrev rm_X_remove : Room := { frames := 3, cells := 0, slots := 0, locals := 69 }
abbrev rm_X_size : Room := { frames := 0, cells := 0, slots := 0, locals := 0 }
abbrev rm_X_level : Room := { frames := 0, cells := 0, slots := 0, locals := 0 }
abbrev rm_X_pointer : Room := { frames := 0, cells := 0, slots := 0, locals := 0 }
abbrev rm_X_isBucket : Room := { frames := 1, cells := 0, slots := 0, locals := 20 }
abbrev rm_X_pages : Room := { frames := 2, cells := 0, slots := 0, locals := 41 }
abbrev rm_X_free : Room := { frames := 0, cells := 0, slots := 0, locals := 0 }
abbrev rm_X_key : Room := { frames := 2, cells := 0, slots := 0, locals := 41 }
set_option maxHeartbeats 4000000 in
set_option maxRecDepth 100000 in
theorem c_X_pagesOf (l : Launch) (D : va_G) (cA : ClassId) (ad : Nat → Nat) (k : KX) (hk : kOK k) (x1 : Int32) (u : StX) (Q : Int32 → StX → Prop) (h : wp_X_pagesOf k x1 u Q) : cMi l D cA (wX cA ad k) (ad 0) y_X_pagesOf b_X_pagesOf 2 (some .int) rm_X_pagesOf [.int x1] u Q := by
  refine cMi.enter (by decide) (Nat.le_of_ble_eq_true rfl) ?_
  intro p e s m args below meth c A ls C hr G hl
  have hx := C.1
  have hb := C.2.1
  unfold wp_X_pagesOf at h
  have hl : lv_has ls 2 [(0, .ref (ad 0)), (1, .int x1)] := hl
  refine lv_iload_n hx hb d_X_pagesOf_0 rfl (lv_at hl 1 rfl) ?_
  refine lv_if_ne (tgt := 8) hx hb d_X_pagesOf_1 (by decide) (fun hc_1 => ?_) (fun hc_1 => ?_)
  · replace h := h.2 hc_1
    refine lv_iload_n hx hb d_X_pagesOf_8 rfl (lv_at hl 1 rfl) ?_
    refine lv_aload_n hx hb d_X_pagesOf_9 rfl (lv_at hl 0 rfl) ?_
    refine xget_cap C G d_X_pagesOf_10 ?_
    refine lv_iadd hx hb d_X_pagesOf_13 ?_
    refine lv_iconst (v := 1) hx hb d_X_pagesOf_14 (by decide) ?_
    refine lv_isub hx hb d_X_pagesOf_15 ?_
    refine lv_aload_n hx hb d_X_pagesOf_16 rfl (lv_at hl 0 rfl) ?_
    refine xget_cap C G d_X_pagesOf_17 ?_
    obtain ⟨hd_20, h⟩ := h
    refine lv_idiv hx hb d_X_pagesOf_20 hd_20 ?_
    exact g_iret C G hr h d_X_pagesOf_21
  · replace h := h.1 hc_1
    refine lv_iconst (v := 1) hx hb d_X_pagesOf_4 (by decide) ?_
    refine lv_goto (tgt := 21) hx hb d_X_pagesOf_5 (by decide) ?_
    exact g_iret C G hr h d_X_pagesOf_21
set_option maxHeartbeats 4000000 in
set_option maxRecDepth 100000 in
theorem c_X_parts (l : Launch) (D : va_G) (cA : ClassId) (ad : Nat → Nat) (k : KX) (hk : kOK k) (x1 : Int32) (u : StX) (Q : Int32 → StX → Prop) (h : wp_X_parts k x1 u Q) : cMi l D cA (wX cA ad k) (ad 0) y_X_parts b_X_parts 2 (some .boolean) rm_X_parts [.int x1] u Q := by
  refine cMi.enter (by decide) (Nat.le_of_ble_eq_true rfl) ?_
  intro p e s m args below meth c A ls C hr G hl
  have hx := C.1
  have hb := C.2.1
  unfold wp_X_parts at h
  have hl : lv_has ls 2 [(0, .ref (ad 0)), (1, .int x1)] := hl
  refine lv_ldc2 (v := 4) hx hb C.2.2.2.1 (C.2.2.2.2.1 _ (by decide +kernel)) d_X_parts_0 ?_
  refine lv_iload_n hx hb d_X_parts_3 rfl (lv_at hl 1 rfl) ?_
  refine lv_i2l hx hb d_X_parts_4 rfl ?_
  refine lv_lmul hx hb d_X_parts_5 ?_
  refine lv_ldc2 (v := 3) hx hb C.2.2.2.1 (C.2.2.2.2.1 _ (by decide +kernel)) d_X_parts_6 ?_
  refine lv_aload_n hx hb d_X_parts_9 rfl (lv_at hl 0 rfl) ?_
  refine xget_cap C G d_X_parts_10 ?_
  refine lv_i2l hx hb d_X_parts_13 rfl ?_
  refine lv_lmul hx hb d_X_parts_14 ?_
  refine lv_aload_n hx hb d_X_parts_15 rfl (lv_at hl 0 rfl) ?_
  refine g_calli [] C G (c_X_buckets l D cA ad k hk _ _ h) ok_X_buckets ml_X_93 rfl rfl ⟨Nat.le_of_ble_eq_true rfl, Nat.le_of_ble_eq_true rfl⟩ rfl rfl rfl hl.1 (rest := [.long ((3 : Int64) * ((xCap k)).toInt64), .long ((4 : Int64) * (x1).toInt64)]) rfl (lv_room (Nat.le_of_ble_eq_true rfl)) ⟨Nat.zero_le _, Nat.zero_le _⟩ d_X_parts_16 (fun r16 u16 H locs G h => ?_)
  refine lv_i2l hx hb d_X_parts_19 rfl ?_
  refine lv_lmul hx hb d_X_parts_20 ?_
  refine W.lcmp hx hb d_X_parts_21 ?_
  refine lv_if_le (tgt := 40) hx hb d_X_parts_22 (by decide) (fun hc_22 => ?_) (fun hc_22 => ?_)
  · replace h := h.1 hc_22
    refine lv_iconst (v := 0) hx hb d_X_parts_40 (by decide) ?_
    exact g_zret C G hr rfl h d_X_parts_41
  · replace h := h.2 hc_22
    refine lv_aload_n hx hb d_X_parts_25 rfl (lv_at hl 0 rfl) ?_
    refine g_calli [] C G (c_X_buckets l D cA ad k hk _ _ h) ok_X_buckets ml_X_93 rfl rfl ⟨Nat.le_of_ble_eq_true rfl, Nat.le_of_ble_eq_true rfl⟩ rfl rfl rfl hl.1 (rest := []) rfl (lv_room (Nat.le_of_ble_eq_true rfl)) ⟨Nat.zero_le _, Nat.zero_le _⟩ d_X_parts_26 (fun r26 u26 H locs G h => ?_)
    refine lv_aload_n hx hb d_X_parts_29 rfl (lv_at hl 0 rfl) ?_
    refine xget_mostBuckets C G d_X_parts_30 ?_
    refine lv_icmp_ge (tgt := 40) hx hb d_X_parts_33 (by decide) (fun hc_33 => ?_) (fun hc_33 => ?_)
    · replace h := h.1 hc_33
      refine lv_iconst (v := 0) hx hb d_X_parts_40 (by decide) ?_
      exact g_zret C G hr rfl h d_X_parts_41
    · replace h := h.2 hc_33
      refine lv_iconst (v := 1) hx hb d_X_parts_36 (by decide) ?_
      refine lv_goto (tgt := 41) hx hb d_X_parts_37 (by decide) ?_
      exact g_zret C G hr rfl h d_X_parts_41
set_option maxHeartbeats 4000000 in
set_option maxRecDepth 100000 in
theorem wjn_X_fits_171 {p : Program} {l : Launch} {e : Env} {s : State} {m : MethodId} {args : Array Value} {below : List Frame} {meth : Method} {c : Code} {D : va_G} {cA : ClassId} {A : Nat → Prop} {ad : Nat → Nat} {k : KX} (hk : kOK k) (C : wC p s m args c meth b_X_fits 6 R_X D cA A) (hr : meth.sig.returnType = (some .boolean)) (Q : Int32 → StX → Prop) (x3 x4 x5 : Int32) (u : StX) (h : jn_X_fits_171 k Q x3 x4 x5 u) : ∀ (H : Heap) (locs : List Loc) (ls : Array Slot), wG D A s (wX cA ad k u) H locs → lv_has ls 6 [(0, .ref (ad 0)), (3, .int x3), (4, .int x4), (5, .int x5)] → W p l e rm_X_fits s m args below meth c H locs 0 0 (zI D cA (wX cA ad k) A below args s Q) (F0 m 171 ls []) := by
  have hx := C.1
  have hb := C.2.1
  intro H locs ls G hl
  unfold jn_X_fits_171 at h
  refine lv_iload_n hx hb d_X_fits_171 rfl (lv_at hl 1 rfl) ?_
  refine lv_aload_n hx hb d_X_fits_172 rfl (lv_at hl 0 rfl) ?_
  refine lv_iload hx hb d_X_fits_173 (lv_at hl 2 rfl) ?_
  refine g_calli [.int x4] C G (c_X_pagesOf l D cA ad k hk _ _ _ h) ok_X_pagesOf ml_X_107 rfl rfl ⟨Nat.le_of_ble_eq_true rfl, Nat.le_of_ble_eq_true rfl⟩ rfl rfl rfl hl.1 (rest := [.int x3]) rfl (lv_room (Nat.le_of_ble_eq_true rfl)) ⟨Nat.zero_le _, Nat.zero_le _⟩ d_X_fits_175 (fun r175 u175 H locs G h => ?_)
  refine lv_iadd hx hb d_X_fits_178 ?_
  refine lv_aload_n hx hb d_X_fits_179 rfl (lv_at hl 0 rfl) ?_
  refine lv_iload hx hb d_X_fits_180 (lv_at hl 3 rfl) ?_
  refine lv_iload hx hb d_X_fits_182 (lv_at hl 2 rfl) ?_
  refine lv_isub hx hb d_X_fits_184 ?_
  refine g_calli [.int (x5 - x4)] C G (c_X_pagesOf l D cA ad k hk _ _ _ h) ok_X_pagesOf ml_X_107 rfl rfl ⟨Nat.le_of_ble_eq_true rfl, Nat.le_of_ble_eq_true rfl⟩ rfl rfl rfl hl.1 (rest := [.int (x3 + r175)]) rfl (lv_room (Nat.le_of_ble_eq_true rfl)) ⟨Nat.zero_le _, Nat.zero_le _⟩ d_X_fits_185 (fun r185 u185 H locs G h => ?_)
  refine lv_iadd hx hb d_X_fits_188 ?_
  refine lv_aload_n hx hb d_X_fits_189 rfl (lv_at hl 0 rfl) ?_
  refine lv_aload_n hx hb d_X_fits_190 rfl (lv_at hl 0 rfl) ?_
  refine xget_counts C G d_X_fits_191 ?_
  refine lv_aload_n hx hb d_X_fits_194 rfl (lv_at hl 0 rfl) ?_
  refine xget_pointer C G d_X_fits_195 ?_
  obtain ⟨j198, hi_198, hj_198, h⟩ := h
  refine xald_counts hk C G hi_198 hj_198 d_X_fits_198 ?_
  refine g_calli [.int (xCounts u185 j198)] C G (c_X_pagesOf l D cA ad k hk _ _ _ h) ok_X_pagesOf ml_X_107 rfl rfl ⟨Nat.le_of_ble_eq_true rfl, Nat.le_of_ble_eq_true rfl⟩ rfl rfl rfl hl.1 (rest := [.int ((x3 + r175) + r185)]) rfl (lv_room (Nat.le_of_ble_eq_true rfl)) ⟨Nat.zero_le _, Nat.zero_le _⟩ d_X_fits_199 (fun r199 u199 H locs G h => ?_)
  refine lv_isub hx hb d_X_fits_202 ?_
  refine lv_aload_n hx hb d_X_fits_203 rfl (lv_at hl 0 rfl) ?_
  refine xget_free C G d_X_fits_204 ?_
  refine lv_icmp_gt (tgt := 214) hx hb d_X_fits_207 (by decide) (fun hc_207 => ?_) (fun hc_207 => ?_)
  · replace h := h.1 hc_207
    refine lv_iconst (v := 0) hx hb d_X_fits_214 (by decide) ?_
    exact g_zret C G hr rfl h d_X_fits_215
  · replace h := h.2 hc_207
    refine lv_iconst (v := 1) hx hb d_X_fits_210 (by decide) ?_
    refine lv_goto (tgt := 215) hx hb d_X_fits_211 (by decide) ?_
    exact g_zret C G hr rfl h d_X_fits_215
set_option maxHeartbeats 4000000 in
set_option maxRecDepth 100000 in
theorem wlp_X_fits_57 {p : Program} {l : Launch} {e : Env} {s : State} {m : MethodId} {args : Array Value} {below : List Frame} {meth : Method} {c : Code} {D : va_G} {cA : ClassId} {A : Nat → Prop} {ad : Nat → Nat} {k : KX} (hk : kOK k) (C : wC p s m args c meth b_X_fits 6 R_X D cA A) (hr : meth.sig.returnType = (some .boolean)) (Q : Int32 → StX → Prop) : ∀ (n : Nat) (x1 x2 x3 x4 x5 : Int32) (u : StX), lp_X_fits_57 k Q n x1 x2 x3 x4 x5 u → ∀ (H : Heap) (locs : List Loc) (ls : Array Slot), wG D A s (wX cA ad k u) H locs → lv_has ls 6 [(0, .ref (ad 0)), (1, .int x1), (2, .int x2), (3, .int x3), (4, .int x4), (5, .int x5)] → W p l e rm_X_fits s m args below meth c H locs 0 0 (zI D cA (wX cA ad k) A below args s Q) (F0 m 57 ls []) := by
  have hx := C.1
  have hb := C.2.1
  intro n
  induction n with
  | zero => intro x1 x2 x3 x4 x5 u h; exact absurd h (by unfold lp_X_fits_57; exact fun z => z)
  | succ n ih =>
    intro x1 x2 x3 x4 x5 u h H locs ls G hl
    unfold lp_X_fits_57 at h
    refine lv_iload hx hb d_X_fits_57 (lv_at hl 5 rfl) ?_
    refine lv_aload_n hx hb d_X_fits_59 rfl (lv_at hl 0 rfl) ?_
    refine xget_counts C G d_X_fits_60 ?_
    refine lv_aload_n hx hb d_X_fits_63 rfl (lv_at hl 0 rfl) ?_
    refine xget_pointer C G d_X_fits_64 ?_
    obtain ⟨j67, hi_67, hj_67, h⟩ := h
    refine xald_counts hk C G hi_67 hj_67 d_X_fits_67 ?_
    refine lv_icmp_ge (tgt := 119) hx hb d_X_fits_68 (by decide) (fun hc_68 => ?_) (fun hc_68 => ?_)
    · replace h := h.1 hc_68
      refine lv_aload_n hx hb d_X_fits_119 rfl (lv_at hl 0 rfl) ?_
      refine xget_counts C G d_X_fits_120 ?_
      refine lv_aload_n hx hb d_X_fits_123 rfl (lv_at hl 0 rfl) ?_
      refine xget_pointer C G d_X_fits_124 ?_
      refine xald_counts hk C G hi_67 hj_67 d_X_fits_127 ?_
      refine lv_topi (fun x5_128 ex5_128 => ?_)
      replace h := h x5_128 ex5_128
      refine lv_istore (lv' := [(5, .int x5_128), (0, .ref (ad 0)), (1, .int x1), (2, .int x2), (3, .int x3), (4, .int x4)]) hx hb d_X_fits_128 hl (by decide) rfl (fun ls hl => ?_)
      refine lv_iload_n hx hb d_X_fits_130 rfl (lv_at hl 2 rfl) ?_
      refine lv_aload_n hx hb d_X_fits_131 rfl (lv_at hl 1 rfl) ?_
      refine xget_pointer C G d_X_fits_132 ?_
      refine lv_icmp_ne (tgt := 171) hx hb d_X_fits_135 (by decide) (fun hc_135 => ?_) (fun hc_135 => ?_)
      · replace h := h.2 hc_135
        exact wjn_X_fits_171 hk C hr Q _ _ _ _ h _ _ _ G (lv_sub hl [1, 4, 5, 0] rfl)
      · replace h := h.1 hc_135
        refine lv_iload hx hb d_X_fits_138 (lv_at hl 5 rfl) ?_
        refine lv_aload_n hx hb d_X_fits_140 rfl (lv_at hl 1 rfl) ?_
        refine lv_iload_n hx hb d_X_fits_141 rfl (lv_at hl 3 rfl) ?_
        refine lv_aload_n hx hb d_X_fits_142 rfl (lv_at hl 1 rfl) ?_
        refine xget_pointer C G d_X_fits_143 ?_
        refine lv_iconst (v := 1) hx hb d_X_fits_146 (by decide) ?_
        refine lv_iadd hx hb d_X_fits_147 ?_
        refine g_calli [.int x2, .int ((xPointer u) + 1)] C G (c_X_bucketOf2 l D cA ad k hk _ _ _ _ h) ok_X_bucketOf2 ml_X_90 rfl rfl ⟨Nat.le_of_ble_eq_true rfl, Nat.le_of_ble_eq_true rfl⟩ rfl rfl rfl hl.1 (rest := [.int x4]) rfl (lv_room (Nat.le_of_ble_eq_true rfl)) ⟨Nat.zero_le _, Nat.zero_le _⟩ d_X_fits_148 (fun r148 u148 H locs G h => ?_)
        refine lv_aload_n hx hb d_X_fits_151 rfl (lv_at hl 1 rfl) ?_
        refine xget_pointer C G d_X_fits_152 ?_
        refine lv_icmp_ne (tgt := 162) hx hb d_X_fits_155 (by decide) (fun hc_155 => ?_) (fun hc_155 => ?_)
        · replace h := h.2 hc_155
          refine lv_iconst (v := 1) hx hb d_X_fits_162 (by decide) ?_
          refine lv_iadd hx hb d_X_fits_163 ?_
          refine lv_topi (fun x4_164 ex4_164 => ?_)
          replace h := h x4_164 ex4_164
          refine lv_istore (lv' := [(4, .int x4_164), (5, .int x5_128), (0, .ref (ad 0)), (1, .int x1), (2, .int x2), (3, .int x3)]) hx hb d_X_fits_164 hl (by decide) rfl (fun ls hl => ?_)
          obtain ⟨x5_166, ex5_166⟩ : ∃ y : Int32, y = x5_128 + 1 := ⟨_, rfl⟩
          replace h := h x5_166 ex5_166
          refine lv_iinc (v := x5_166) (lv' := [(5, .int x5_166), (4, .int x4_164), (0, .ref (ad 0)), (1, .int x1), (2, .int x2), (3, .int x3)]) hx hb d_X_fits_166 hl (k := 1) rfl (by rw [ex5_166]; rfl) (by decide) rfl (fun ls hl => ?_)
          refine lv_iconst (v := 0) hx hb d_X_fits_169 (by decide) ?_
          refine lv_istore_n (lv' := [(3, .int 0), (5, .int x5_166), (4, .int x4_164), (0, .ref (ad 0)), (1, .int x1), (2, .int x2)]) hx hb d_X_fits_170 rfl hl (by decide) rfl (fun ls hl => ?_)
          exact wjn_X_fits_171 hk C hr Q _ _ _ _ h _ _ _ G (lv_sub hl [3, 0, 2, 1] rfl)
        · replace h := h.1 hc_155
          refine lv_iconst (v := 0) hx hb d_X_fits_158 (by decide) ?_
          refine lv_goto (tgt := 163) hx hb d_X_fits_159 (by decide) ?_
          refine lv_iadd hx hb d_X_fits_163 ?_
          refine lv_topi (fun x4_164 ex4_164 => ?_)
          replace h := h x4_164 ex4_164
          refine lv_istore (lv' := [(4, .int x4_164), (5, .int x5_128), (0, .ref (ad 0)), (1, .int x1), (2, .int x2), (3, .int x3)]) hx hb d_X_fits_164 hl (by decide) rfl (fun ls hl => ?_)
          obtain ⟨x5_166, ex5_166⟩ : ∃ y : Int32, y = x5_128 + 1 := ⟨_, rfl⟩
          replace h := h x5_166 ex5_166
          refine lv_iinc (v := x5_166) (lv' := [(5, .int x5_166), (4, .int x4_164), (0, .ref (ad 0)), (1, .int x1), (2, .int x2), (3, .int x3)]) hx hb d_X_fits_166 hl (k := 1) rfl (by rw [ex5_166]; rfl) (by decide) rfl (fun ls hl => ?_)
          refine lv_iconst (v := 0) hx hb d_X_fits_169 (by decide) ?_
          refine lv_istore_n (lv' := [(3, .int 0), (5, .int x5_166), (4, .int x4_164), (0, .ref (ad 0)), (1, .int x1), (2, .int x2)]) hx hb d_X_fits_170 rfl hl (by decide) rfl (fun ls hl => ?_)
          exact wjn_X_fits_171 hk C hr Q _ _ _ _ h _ _ _ G (lv_sub hl [3, 0, 2, 1] rfl)
    · replace h := h.2 hc_68
      refine lv_iload hx hb d_X_fits_71 (lv_at hl 4 rfl) ?_
      refine lv_aload_n hx hb d_X_fits_73 rfl (lv_at hl 0 rfl) ?_
      refine lv_aload_n hx hb d_X_fits_74 rfl (lv_at hl 0 rfl) ?_
      refine xget_keys C G d_X_fits_75 ?_
      refine lv_aload_n hx hb d_X_fits_78 rfl (lv_at hl 0 rfl) ?_
      refine lv_aload_n hx hb d_X_fits_79 rfl (lv_at hl 0 rfl) ?_
      refine xget_pointer C G d_X_fits_80 ?_
      refine lv_iload hx hb d_X_fits_83 (lv_at hl 5 rfl) ?_
      refine g_calli [.int (xPointer u), .int x5] C G (c_X_place l D cA ad k hk _ _ _ _ h) ok_X_place ml_X_80 rfl rfl ⟨Nat.le_of_ble_eq_true rfl, Nat.le_of_ble_eq_true rfl⟩ rfl rfl rfl hl.1 (rest := [.ref (ad 1), .ref (ad 0), .int x4]) rfl (lv_room (Nat.le_of_ble_eq_true rfl)) ⟨Nat.zero_le _, Nat.zero_le _⟩ d_X_fits_85 (fun r85 u85 H locs G h => ?_)
      obtain ⟨j88, hi_88, hj_88, h⟩ := h
      refine xald_keys hk C G hi_88 hj_88 d_X_fits_88 ?_
      refine lv_aload_n hx hb d_X_fits_89 rfl (lv_at hl 0 rfl) ?_
      refine xget_pointer C G d_X_fits_90 ?_
      refine lv_iconst (v := 1) hx hb d_X_fits_93 (by decide) ?_
      refine lv_iadd hx hb d_X_fits_94 ?_
      refine g_calli [.int (xKeys u85 j88), .int ((xPointer u85) + 1)] C G (c_X_bucketOf2 l D cA ad k hk _ _ _ _ h) ok_X_bucketOf2 ml_X_90 rfl rfl ⟨Nat.le_of_ble_eq_true rfl, Nat.le_of_ble_eq_true rfl⟩ rfl rfl rfl hl.1 (rest := [.int x4]) rfl (lv_room (Nat.le_of_ble_eq_true rfl)) ⟨Nat.zero_le _, Nat.zero_le _⟩ d_X_fits_95 (fun r95 u95 H locs G h => ?_)
      refine lv_aload_n hx hb d_X_fits_98 rfl (lv_at hl 0 rfl) ?_
      refine xget_pointer C G d_X_fits_99 ?_
      refine lv_icmp_ne (tgt := 109) hx hb d_X_fits_102 (by decide) (fun hc_102 => ?_) (fun hc_102 => ?_)
      · replace h := h.2 hc_102
        refine lv_iconst (v := 1) hx hb d_X_fits_109 (by decide) ?_
        refine lv_iadd hx hb d_X_fits_110 ?_
        refine lv_topi (fun x4_111 ex4_111 => ?_)
        replace h := h x4_111 ex4_111
        refine lv_istore (lv' := [(4, .int x4_111), (0, .ref (ad 0)), (1, .int x1), (2, .int x2), (3, .int x3), (5, .int x5)]) hx hb d_X_fits_111 hl (by decide) rfl (fun ls hl => ?_)
        obtain ⟨x5_113, ex5_113⟩ : ∃ y : Int32, y = x5 + 1 := ⟨_, rfl⟩
        replace h := h x5_113 ex5_113
        refine lv_iinc (v := x5_113) (lv' := [(5, .int x5_113), (4, .int x4_111), (0, .ref (ad 0)), (1, .int x1), (2, .int x2), (3, .int x3)]) hx hb d_X_fits_113 hl (k := 5) rfl (by rw [ex5_113]; rfl) (by decide) rfl (fun ls hl => ?_)
        refine lv_goto (tgt := 57) hx hb d_X_fits_116 (by decide) ?_
        exact ih _ _ _ _ _ _ h _ _ _ G (lv_sub hl [2, 3, 4, 5, 1, 0] rfl)
      · replace h := h.1 hc_102
        refine lv_iconst (v := 0) hx hb d_X_fits_105 (by decide) ?_
        refine lv_goto (tgt := 110) hx hb d_X_fits_106 (by decide) ?_
        refine lv_iadd hx hb d_X_fits_110 ?_
        refine lv_topi (fun x4_111 ex4_111 => ?_)
        replace h := h x4_111 ex4_111
        refine lv_istore (lv' := [(4, .int x4_111), (0, .ref (ad 0)), (1, .int x1), (2, .int x2), (3, .int x3), (5, .int x5)]) hx hb d_X_fits_111 hl (by decide) rfl (fun ls hl => ?_)
        obtain ⟨x5_113, ex5_113⟩ : ∃ y : Int32, y = x5 + 1 := ⟨_, rfl⟩
        replace h := h x5_113 ex5_113
        refine lv_iinc (v := x5_113) (lv' := [(5, .int x5_113), (4, .int x4_111), (0, .ref (ad 0)), (1, .int x1), (2, .int x2), (3, .int x3)]) hx hb d_X_fits_113 hl (k := 5) rfl (by rw [ex5_113]; rfl) (by decide) rfl (fun ls hl => ?_)
        refine lv_goto (tgt := 57) hx hb d_X_fits_116 (by decide) ?_
        exact ih _ _ _ _ _ _ h _ _ _ G (lv_sub hl [2, 3, 4, 5, 1, 0] rfl)
set_option maxHeartbeats 4000000 in
set_option maxRecDepth 100000 in
theorem c_X_fits (l : Launch) (D : va_G) (cA : ClassId) (ad : Nat → Nat) (k : KX) (hk : kOK k) (x1 x2 : Int32) (u : StX) (Q : Int32 → StX → Prop) (h : wp_X_fits k x1 x2 u Q) : cMi l D cA (wX cA ad k) (ad 0) y_X_fits b_X_fits 6 (some .boolean) rm_X_fits [.int x1, .int x2] u Q := by
  refine cMi.enter (by decide) (Nat.le_of_ble_eq_true rfl) ?_
  intro p e s m args below meth c A ls C hr G hl
  have hx := C.1
  have hb := C.2.1
  unfold wp_X_fits at h
  have hl : lv_has ls 6 [(0, .ref (ad 0)), (1, .int x1), (2, .int x2)] := hl
  refine lv_aload_n hx hb d_X_fits_0 rfl (lv_at hl 0 rfl) ?_
  refine lv_aload_n hx hb d_X_fits_1 rfl (lv_at hl 0 rfl) ?_
  refine xget_counts C G d_X_fits_2 ?_
  refine lv_iload_n hx hb d_X_fits_5 rfl (lv_at hl 1 rfl) ?_
  obtain ⟨j6, hi_6, hj_6, h⟩ := h
  refine xald_counts hk C G hi_6 hj_6 d_X_fits_6 ?_
  refine lv_iconst (v := 1) hx hb d_X_fits_7 (by decide) ?_
  refine lv_iadd hx hb d_X_fits_8 ?_
  refine g_calli [.int ((xCounts u j6) + 1)] C G (c_X_pagesOf l D cA ad k hk _ _ _ h) ok_X_pagesOf ml_X_107 rfl rfl ⟨Nat.le_of_ble_eq_true rfl, Nat.le_of_ble_eq_true rfl⟩ rfl rfl rfl hl.1 (rest := []) rfl (lv_room (Nat.le_of_ble_eq_true rfl)) ⟨Nat.zero_le _, Nat.zero_le _⟩ d_X_fits_9 (fun r9 u9 H locs G h => ?_)
  refine lv_aload_n hx hb d_X_fits_12 rfl (lv_at hl 0 rfl) ?_
  refine lv_aload_n hx hb d_X_fits_13 rfl (lv_at hl 0 rfl) ?_
  refine xget_counts C G d_X_fits_14 ?_
  refine lv_iload_n hx hb d_X_fits_17 rfl (lv_at hl 1 rfl) ?_
  refine xald_counts hk C G hi_6 hj_6 d_X_fits_18 ?_
  refine g_calli [.int (xCounts u9 j6)] C G (c_X_pagesOf l D cA ad k hk _ _ _ h) ok_X_pagesOf ml_X_107 rfl rfl ⟨Nat.le_of_ble_eq_true rfl, Nat.le_of_ble_eq_true rfl⟩ rfl rfl rfl hl.1 (rest := [.int r9]) rfl (lv_room (Nat.le_of_ble_eq_true rfl)) ⟨Nat.zero_le _, Nat.zero_le _⟩ d_X_fits_19 (fun r19 u19 H locs G h => ?_)
  refine lv_isub hx hb d_X_fits_22 ?_
  refine lv_topi (fun x3_23 ex3_23 => ?_)
  replace h := h x3_23 ex3_23
  refine lv_istore_n (lv' := [(3, .int x3_23), (0, .ref (ad 0)), (1, .int x1), (2, .int x2)]) hx hb d_X_fits_23 rfl hl (by decide) rfl (fun ls hl => ?_)
  refine lv_aload_n hx hb d_X_fits_24 rfl (lv_at hl 1 rfl) ?_
  refine lv_aload_n hx hb d_X_fits_25 rfl (lv_at hl 1 rfl) ?_
  refine xget_size C G d_X_fits_26 ?_
  refine lv_iconst (v := 1) hx hb d_X_fits_29 (by decide) ?_
  refine lv_iadd hx hb d_X_fits_30 ?_
  refine g_calli [.int ((xSize u19) + 1)] C G (c_X_parts l D cA ad k hk _ _ _ h) ok_X_parts ml_X_111 rfl rfl ⟨Nat.le_of_ble_eq_true rfl, Nat.le_of_ble_eq_true rfl⟩ rfl rfl rfl hl.1 (rest := []) rfl (lv_room (Nat.le_of_ble_eq_true rfl)) ⟨Nat.zero_le _, Nat.zero_le _⟩ d_X_fits_31 (fun r31 u31 H locs G h => ?_)
  refine lv_if_ne (tgt := 51) hx hb d_X_fits_34 (by decide) (fun hc_34 => ?_) (fun hc_34 => ?_)
  · replace h := h.2 hc_34
    refine lv_iconst (v := 0) hx hb d_X_fits_51 (by decide) ?_
    refine lv_istore (lv' := [(4, .int 0), (3, .int x3_23), (0, .ref (ad 0)), (1, .int x1), (2, .int x2)]) hx hb d_X_fits_52 hl (by decide) rfl (fun ls hl => ?_)
    refine lv_iconst (v := 0) hx hb d_X_fits_54 (by decide) ?_
    refine lv_istore (lv' := [(5, .int 0), (4, .int 0), (3, .int x3_23), (0, .ref (ad 0)), (1, .int x1), (2, .int x2)]) hx hb d_X_fits_55 hl (by decide) rfl (fun ls hl => ?_)
    obtain ⟨n_57, h⟩ := h
    exact wlp_X_fits_57 hk C hr Q _ _ _ _ _ _ _ h _ _ _ G (lv_sub hl [3, 4, 5, 2, 1, 0] rfl)
  · replace h := h.1 hc_34
    refine lv_iload_n hx hb d_X_fits_37 rfl (lv_at hl 0 rfl) ?_
    refine lv_aload_n hx hb d_X_fits_38 rfl (lv_at hl 1 rfl) ?_
    refine xget_free C G d_X_fits_39 ?_
    refine lv_icmp_gt (tgt := 49) hx hb d_X_fits_42 (by decide) (fun hc_42 => ?_) (fun hc_42 => ?_)
    · replace h := h.1 hc_42
      refine lv_iconst (v := 0) hx hb d_X_fits_49 (by decide) ?_
      exact g_zret C G hr rfl h d_X_fits_50
    · replace h := h.2 hc_42
      refine lv_iconst (v := 1) hx hb d_X_fits_45 (by decide) ?_
      refine lv_goto (tgt := 50) hx hb d_X_fits_46 (by decide) ?_
      exact g_zret C G hr rfl h d_X_fits_50
set_option maxHeartbeats 4000000 in
set_option maxRecDepth 100000 in
theorem wjn_X_put_153 {p : Program} {l : Launch} {e : Env} {s : State} {m : MethodId} {args : Array Value} {below : List Frame} {meth : Method} {c : Code} {D : va_G} {cA : ClassId} {A : Nat → Prop} {ad : Nat → Nat} {k : KX} (hk : kOK k) (C : wC p s m args c meth b_X_put 7 R_X D cA A) (hr : meth.sig.returnType = (some .int)) (Q : Int32 → StX → Prop) (x5 : Int32) (u : StX) (h : jn_X_put_153 k Q x5 u) : ∀ (H : Heap) (locs : List Loc) (ls : Array Slot), wG D A s (wX cA ad k u) H locs → lv_has ls 7 [(0, .ref (ad 0)), (5, .int x5)] → W p l e rm_X_put s m args below meth c H locs 0 0 (zI D cA (wX cA ad k) A below args s Q) (F0 m 153 ls []) := by
  have hx := C.1
  have hb := C.2.1
  intro H locs ls G hl
  unfold jn_X_put_153 at h
  refine lv_iload hx hb d_X_put_153 (lv_at hl 1 rfl) ?_
  refine lv_if_eq (tgt := 162) hx hb d_X_put_155 (by decide) (fun hc_155 => ?_) (fun hc_155 => ?_)
  · replace h := h.1 hc_155
    refine lv_iconst (v := 0) hx hb d_X_put_162 (by decide) ?_
    exact g_iret C G hr h d_X_put_163
  · replace h := h.2 hc_155
    refine lv_aload_n hx hb d_X_put_158 rfl (lv_at hl 0 rfl) ?_
    refine g_callv [] C G (c_X_split l D cA ad k hk _ _ h) ok_X_split ml_X_124 rfl rfl ⟨Nat.le_of_ble_eq_true rfl, Nat.le_of_ble_eq_true rfl⟩ rfl rfl rfl hl.1 (rest := []) rfl (lv_room (Nat.le_of_ble_eq_true rfl)) ⟨Nat.zero_le _, Nat.zero_le _⟩ d_X_put_159 (fun u159 H locs G h => ?_)
    refine lv_iconst (v := 0) hx hb d_X_put_162 (by decide) ?_
    exact g_iret C G hr h d_X_put_163
set_option maxHeartbeats 4000000 in
set_option maxRecDepth 100000 in
theorem wjn_X_put_118 {p : Program} {l : Launch} {e : Env} {s : State} {m : MethodId} {args : Array Value} {below : List Frame} {meth : Method} {c : Code} {D : va_G} {cA : ClassId} {A : Nat → Prop} {ad : Nat → Nat} {k : KX} (hk : kOK k) (C : wC p s m args c meth b_X_put 7 R_X D cA A) (hr : meth.sig.returnType = (some .int)) (Q : Int32 → StX → Prop) (x1 x2 x5 x6 : Int32) (u : StX) (h : jn_X_put_118 k Q x1 x2 x5 x6 u) : ∀ (H : Heap) (locs : List Loc) (ls : Array Slot), wG D A s (wX cA ad k u) H locs → lv_has ls 7 [(0, .ref (ad 0)), (1, .int x1), (2, .int x2), (5, .int x5), (6, .int x6)] → W p l e rm_X_put s m args below meth c H locs 0 0 (zI D cA (wX cA ad k) A below args s Q) (F0 m 118 ls []) := by
  have hx := C.1
  have hb := C.2.1
  intro H locs ls G hl
  unfold jn_X_put_118 at h
  refine lv_iload hx hb d_X_put_118 (lv_at hl 4 rfl) ?_
  refine lv_if_eq (tgt := 153) hx hb d_X_put_120 (by decide) (fun hc_120 => ?_) (fun hc_120 => ?_)
  · replace h := h.1 hc_120
    exact wjn_X_put_153 hk C hr Q _ _ h _ _ _ G (lv_sub hl [0, 3] rfl)
  · replace h := h.2 hc_120
    refine lv_aload_n hx hb d_X_put_123 rfl (lv_at hl 0 rfl) ?_
    refine xget_takenKeys C G d_X_put_124 ?_
    refine lv_aload_n hx hb d_X_put_127 rfl (lv_at hl 0 rfl) ?_
    refine xget_taken C G d_X_put_128 ?_
    refine lv_iload_n hx hb d_X_put_131 rfl (lv_at hl 1 rfl) ?_
    obtain ⟨j132, hi_132, hj_132, h⟩ := h
    refine xast_takenKeys hk C G hi_132 hj_132 d_X_put_132 (fun H locs G => ?_)
    have G : wG D A s (wX cA ad k (xSetTakenKeys (upd (xTakenKeys u) j132 x1) u)) H locs := G
    refine lv_aload_n hx hb d_X_put_133 rfl (lv_at hl 0 rfl) ?_
    refine xget_takenValues C G d_X_put_134 ?_
    refine lv_aload_n hx hb d_X_put_137 rfl (lv_at hl 0 rfl) ?_
    refine xget_taken C G d_X_put_138 ?_
    refine lv_iload_n hx hb d_X_put_141 rfl (lv_at hl 2 rfl) ?_
    refine xast_takenValues hk C G hi_132 hj_132 d_X_put_142 (fun H locs G => ?_)
    have G : wG D A s (wX cA ad k (xSetTakenValues (upd (xTakenValues u) j132 x2) (xSetTakenKeys (upd (xTakenKeys u) j132 x1) u))) H locs := G
    refine lv_aload_n hx hb d_X_put_143 rfl (lv_at hl 0 rfl) ?_
    refine lv_dup hx hb d_X_put_144 rfl ?_
    refine xget_taken C G d_X_put_145 ?_
    refine lv_iconst (v := 1) hx hb d_X_put_148 (by decide) ?_
    refine lv_iadd hx hb d_X_put_149 ?_
    refine xput_taken C G d_X_put_150 (fun H locs G => ?_)
    have G : wG D A s (wX cA ad k (xSetTakenValues (upd (xTakenValues u) j132 x2) (xSetTakenKeys (upd (xTakenKeys u) j132 x1) (xSetTaken ((xTaken u) + 1) u)))) H locs := G
    exact wjn_X_put_153 hk C hr Q _ _ h _ _ _ G (lv_sub hl [0, 3] rfl)
set_option maxHeartbeats 4000000 in
set_option maxRecDepth 100000 in
theorem wjn_X_put_105 {p : Program} {l : Launch} {e : Env} {s : State} {m : MethodId} {args : Array Value} {below : List Frame} {meth : Method} {c : Code} {D : va_G} {cA : ClassId} {A : Nat → Prop} {ad : Nat → Nat} {k : KX} (hk : kOK k) (C : wC p s m args c meth b_X_put 7 R_X D cA A) (hr : meth.sig.returnType = (some .int)) (Q : Int32 → StX → Prop) (x1 x2 x5 x6 : Int32) (u : StX) (h : jn_X_put_105 k Q x1 x2 x5 x6 u) : ∀ (H : Heap) (locs : List Loc) (ls : Array Slot), wG D A s (wX cA ad k u) H locs → lv_has ls 7 [(0, .ref (ad 0)), (1, .int x1), (2, .int x2), (5, .int x5), (6, .int x6)] → W p l e rm_X_put s m args below meth c H locs 0 0 (zI D cA (wX cA ad k) A below args s Q) (F0 m 105 ls []) := by
  have hx := C.1
  have hb := C.2.1
  intro H locs ls G hl
  unfold jn_X_put_105 at h
  refine lv_iload hx hb d_X_put_105 (lv_at hl 3 rfl) ?_
  refine lv_if_eq (tgt := 118) hx hb d_X_put_107 (by decide) (fun hc_107 => ?_) (fun hc_107 => ?_)
  · replace h := h.1 hc_107
    exact wjn_X_put_118 hk C hr Q _ _ _ _ _ h _ _ _ G (lv_sub hl [0, 1, 2, 3, 4] rfl)
  · replace h := h.2 hc_107
    refine lv_aload_n hx hb d_X_put_110 rfl (lv_at hl 0 rfl) ?_
    refine lv_aload_n hx hb d_X_put_111 rfl (lv_at hl 0 rfl) ?_
    refine xget_pointer C G d_X_put_112 ?_
    refine g_callv [.int (xPointer u)] C G (c_X_takeOff l D cA ad k hk _ _ _ h) ok_X_takeOff ml_X_100 rfl rfl ⟨Nat.le_of_ble_eq_true rfl, Nat.le_of_ble_eq_true rfl⟩ rfl rfl rfl hl.1 (rest := []) rfl (lv_room (Nat.le_of_ble_eq_true rfl)) ⟨Nat.zero_le _, Nat.zero_le _⟩ d_X_put_115 (fun u115 H locs G h => ?_)
    exact wjn_X_put_118 hk C hr Q _ _ _ _ _ h _ _ _ G (lv_sub hl [0, 1, 2, 3, 4] rfl)
set_option maxHeartbeats 4000000 in
set_option maxRecDepth 100000 in
theorem wjn_X_put_76 {p : Program} {l : Launch} {e : Env} {s : State} {m : MethodId} {args : Array Value} {below : List Frame} {meth : Method} {c : Code} {D : va_G} {cA : ClassId} {A : Nat → Prop} {ad : Nat → Nat} {k : KX} (hk : kOK k) (C : wC p s m args c meth b_X_put 7 R_X D cA A) (hr : meth.sig.returnType = (some .int)) (Q : Int32 → StX → Prop) (x1 x2 x3 x5 t0 : Int32) (u : StX) (h : jn_X_put_76 k Q x1 x2 x3 x5 t0 u) : ∀ (H : Heap) (locs : List Loc) (ls : Array Slot), wG D A s (wX cA ad k u) H locs → lv_has ls 7 [(0, .ref (ad 0)), (1, .int x1), (2, .int x2), (3, .int x3), (5, .int x5)] → W p l e rm_X_put s m args below meth c H locs 0 0 (zI D cA (wX cA ad k) A below args s Q) (F0 m 76 ls [.int t0]) := by
  have hx := C.1
  have hb := C.2.1
  intro H locs ls G hl
  unfold jn_X_put_76 at h
  refine lv_istore (lv' := [(6, .int t0), (0, .ref (ad 0)), (1, .int x1), (2, .int x2), (3, .int x3), (5, .int x5)]) hx hb d_X_put_76 hl (by decide) rfl (fun ls hl => ?_)
  refine lv_aload_n hx hb d_X_put_78 rfl (lv_at hl 1 rfl) ?_
  refine lv_dup hx hb d_X_put_79 rfl ?_
  refine xget_size C G d_X_put_80 ?_
  refine lv_iconst (v := 1) hx hb d_X_put_83 (by decide) ?_
  refine lv_iadd hx hb d_X_put_84 ?_
  refine xput_size C G d_X_put_85 (fun H locs G => ?_)
  have G : wG D A s (wX cA ad k (xSetSize ((xSize u) + 1) u)) H locs := G
  refine lv_aload_n hx hb d_X_put_88 rfl (lv_at hl 1 rfl) ?_
  refine lv_iconst (v := 0) hx hb d_X_put_89 (by decide) ?_
  refine xput_taken C G d_X_put_90 (fun H locs G => ?_)
  have G : wG D A s (wX cA ad k (xSetSize ((xSize u) + 1) (xSetTaken 0 u))) H locs := G
  refine lv_iload hx hb d_X_put_93 (lv_at hl 0 rfl) ?_
  refine lv_if_ne (tgt := 105) hx hb d_X_put_95 (by decide) (fun hc_95 => ?_) (fun hc_95 => ?_)
  · replace h := h.2 hc_95
    exact wjn_X_put_105 hk C hr Q _ _ _ _ _ h _ _ _ G (lv_sub hl [1, 2, 3, 5, 0] rfl)
  · replace h := h.1 hc_95
    refine lv_aload_n hx hb d_X_put_98 rfl (lv_at hl 1 rfl) ?_
    refine lv_iload_n hx hb d_X_put_99 rfl (lv_at hl 4 rfl) ?_
    refine lv_iload_n hx hb d_X_put_100 rfl (lv_at hl 2 rfl) ?_
    refine lv_iload_n hx hb d_X_put_101 rfl (lv_at hl 3 rfl) ?_
    refine g_callv [.int x3, .int x1, .int x2] C G (c_X_add l D cA ad k hk _ _ _ _ _ h) ok_X_add ml_X_96 rfl rfl ⟨Nat.le_of_ble_eq_true rfl, Nat.le_of_ble_eq_true rfl⟩ rfl rfl rfl hl.1 (rest := []) rfl (lv_room (Nat.le_of_ble_eq_true rfl)) ⟨Nat.zero_le _, Nat.zero_le _⟩ d_X_put_102 (fun u102 H locs G h => ?_)
    exact wjn_X_put_105 hk C hr Q _ _ _ _ _ h _ _ _ G (lv_sub hl [1, 2, 3, 5, 0] rfl)
set_option maxHeartbeats 4000000 in
set_option maxRecDepth 100000 in
theorem c_X_put (l : Launch) (D : va_G) (cA : ClassId) (ad : Nat → Nat) (k : KX) (hk : kOK k) (x1 x2 : Int32) (u : StX) (Q : Int32 → StX → Prop) (h : wp_X_put k x1 x2 u Q) : cMi l D cA (wX cA ad k) (ad 0) y_X_put b_X_put 7 (some .int) rm_X_put [.int x1, .int x2] u Q := by
  refine cMi.enter (by decide) (Nat.le_of_ble_eq_true rfl) ?_
  intro p e s m args below meth c A ls C hr G hl
  have hx := C.1
  have hb := C.2.1
  unfold wp_X_put at h
  have hl : lv_has ls 7 [(0, .ref (ad 0)), (1, .int x1), (2, .int x2)] := hl
  refine lv_aload_n hx hb d_X_put_0 rfl (lv_at hl 0 rfl) ?_
  refine lv_iload_n hx hb d_X_put_1 rfl (lv_at hl 1 rfl) ?_
  refine g_calli [.int x1] C G (c_X_bucketOf l D cA ad k hk _ _ _ h) ok_X_bucketOf ml_X_115 rfl rfl ⟨Nat.le_of_ble_eq_true rfl, Nat.le_of_ble_eq_true rfl⟩ rfl rfl rfl hl.1 (rest := []) rfl (lv_room (Nat.le_of_ble_eq_true rfl)) ⟨Nat.zero_le _, Nat.zero_le _⟩ d_X_put_2 (fun r2 u2 H locs G h => ?_)
  refine lv_istore_n (lv' := [(3, .int r2), (0, .ref (ad 0)), (1, .int x1), (2, .int x2)]) hx hb d_X_put_5 rfl hl (by decide) rfl (fun ls hl => ?_)
  refine lv_aload_n hx hb d_X_put_6 rfl (lv_at hl 1 rfl) ?_
  refine lv_iload_n hx hb d_X_put_7 rfl (lv_at hl 0 rfl) ?_
  refine lv_iload_n hx hb d_X_put_8 rfl (lv_at hl 2 rfl) ?_
  refine g_calli [.int r2, .int x1] C G (c_X_find l D cA ad k hk _ _ _ _ h) ok_X_find ml_X_117 rfl rfl ⟨Nat.le_of_ble_eq_true rfl, Nat.le_of_ble_eq_true rfl⟩ rfl rfl rfl hl.1 (rest := []) rfl (lv_room (Nat.le_of_ble_eq_true rfl)) ⟨Nat.zero_le _, Nat.zero_le _⟩ d_X_put_9 (fun r9 u9 H locs G h => ?_)
  refine lv_istore (lv' := [(4, .int r9), (3, .int r2), (0, .ref (ad 0)), (1, .int x1), (2, .int x2)]) hx hb d_X_put_12 hl (by decide) rfl (fun ls hl => ?_)
  refine lv_iload hx hb d_X_put_14 (lv_at hl 0 rfl) ?_
  refine lv_iconst (v := (-1)) hx hb d_X_put_16 (by decide) ?_
  refine lv_icmp_eq (tgt := 35) hx hb d_X_put_17 (by decide) (fun hc_17 => ?_) (fun hc_17 => ?_)
  · replace h := h.1 hc_17
    refine lv_aload_n hx hb d_X_put_35 rfl (lv_at hl 2 rfl) ?_
    refine lv_iload_n hx hb d_X_put_36 rfl (lv_at hl 1 rfl) ?_
    refine lv_iload_n hx hb d_X_put_37 rfl (lv_at hl 3 rfl) ?_
    refine g_calli [.int r2, .int x1] C G (c_X_fits l D cA ad k hk _ _ _ _ h) ok_X_fits ml_X_120 rfl rfl ⟨Nat.le_of_ble_eq_true rfl, Nat.le_of_ble_eq_true rfl⟩ rfl rfl rfl hl.1 (rest := []) rfl (lv_room (Nat.le_of_ble_eq_true rfl)) ⟨Nat.zero_le _, Nat.zero_le _⟩ d_X_put_38 (fun r38 u38 H locs G h => ?_)
    refine lv_if_ne (tgt := 46) hx hb d_X_put_41 (by decide) (fun hc_41 => ?_) (fun hc_41 => ?_)
    · replace h := h.2 hc_41
      refine lv_aload_n hx hb d_X_put_46 rfl (lv_at hl 2 rfl) ?_
      refine lv_aload_n hx hb d_X_put_47 rfl (lv_at hl 2 rfl) ?_
      refine xget_size C G d_X_put_48 ?_
      refine lv_iconst (v := 1) hx hb d_X_put_51 (by decide) ?_
      refine lv_iadd hx hb d_X_put_52 ?_
      refine g_calli [.int ((xSize u38) + 1)] C G (c_X_parts l D cA ad k hk _ _ _ h) ok_X_parts ml_X_111 rfl rfl ⟨Nat.le_of_ble_eq_true rfl, Nat.le_of_ble_eq_true rfl⟩ rfl rfl rfl hl.1 (rest := []) rfl (lv_room (Nat.le_of_ble_eq_true rfl)) ⟨Nat.zero_le _, Nat.zero_le _⟩ d_X_put_53 (fun r53 u53 H locs G h => ?_)
      refine lv_istore (lv' := [(5, .int r53), (4, .int r9), (3, .int r2), (0, .ref (ad 0)), (1, .int x1), (2, .int x2)]) hx hb d_X_put_56 hl (by decide) rfl (fun ls hl => ?_)
      refine lv_iload hx hb d_X_put_58 (lv_at hl 0 rfl) ?_
      refine lv_if_eq (tgt := 75) hx hb d_X_put_60 (by decide) (fun hc_60 => ?_) (fun hc_60 => ?_)
      · replace h := h.1 hc_60
        refine lv_iconst (v := 0) hx hb d_X_put_75 (by decide) ?_
        exact wjn_X_put_76 hk C hr Q _ _ _ _ _ _ h _ _ _ G (lv_sub hl [3, 4, 5, 2, 0] rfl)
      · replace h := h.2 hc_60
        refine lv_iload_n hx hb d_X_put_63 rfl (lv_at hl 2 rfl) ?_
        refine lv_aload_n hx hb d_X_put_64 rfl (lv_at hl 3 rfl) ?_
        refine xget_pointer C G d_X_put_65 ?_
        refine lv_icmp_ne (tgt := 75) hx hb d_X_put_68 (by decide) (fun hc_68 => ?_) (fun hc_68 => ?_)
        · replace h := h.2 hc_68
          refine lv_iconst (v := 0) hx hb d_X_put_75 (by decide) ?_
          exact wjn_X_put_76 hk C hr Q _ _ _ _ _ _ h _ _ _ G (lv_sub hl [3, 4, 5, 2, 0] rfl)
        · replace h := h.1 hc_68
          refine lv_iconst (v := 1) hx hb d_X_put_71 (by decide) ?_
          refine lv_goto (tgt := 76) hx hb d_X_put_72 (by decide) ?_
          exact wjn_X_put_76 hk C hr Q _ _ _ _ _ _ h _ _ _ G (lv_sub hl [3, 4, 5, 2, 0] rfl)
    · replace h := h.1 hc_41
      refine lv_iconst (v := 2) hx hb d_X_put_44 (by decide) ?_
      exact g_iret C G hr h d_X_put_45
  · replace h := h.2 hc_17
    refine lv_aload_n hx hb d_X_put_20 rfl (lv_at hl 2 rfl) ?_
    refine xget_values C G d_X_put_21 ?_
    refine lv_aload_n hx hb d_X_put_24 rfl (lv_at hl 2 rfl) ?_
    refine lv_iload_n hx hb d_X_put_25 rfl (lv_at hl 1 rfl) ?_
    refine lv_iload hx hb d_X_put_26 (lv_at hl 0 rfl) ?_
    refine g_calli [.int r2, .int r9] C G (c_X_place l D cA ad k hk _ _ _ _ h) ok_X_place ml_X_80 rfl rfl ⟨Nat.le_of_ble_eq_true rfl, Nat.le_of_ble_eq_true rfl⟩ rfl rfl rfl hl.1 (rest := [.ref (ad 2)]) rfl (lv_room (Nat.le_of_ble_eq_true rfl)) ⟨Nat.zero_le _, Nat.zero_le _⟩ d_X_put_28 (fun r28 u28 H locs G h => ?_)
    refine lv_iload_n hx hb d_X_put_31 rfl (lv_at hl 4 rfl) ?_
    obtain ⟨j32, hi_32, hj_32, h⟩ := h
    refine xast_values hk C G hi_32 hj_32 d_X_put_32 (fun H locs G => ?_)
    have G : wG D A s (wX cA ad k (xSetValues (upd (xValues u28) j32 x2) u28)) H locs := G
    refine lv_iconst (v := 1) hx hb d_X_put_33 (by decide) ?_
    exact g_iret C G hr h d_X_put_34
set_option maxHeartbeats 4000000 in
set_option maxRecDepth 100000 in
theorem c_X_get (l : Launch) (D : va_G) (cA : ClassId) (ad : Nat → Nat) (k : KX) (hk : kOK k) (x1 : Int32) (u : StX) (Q : Int32 → StX → Prop) (h : wp_X_get k x1 u Q) : cMi l D cA (wX cA ad k) (ad 0) y_X_get b_X_get 4 (some .int) rm_X_get [.int x1] u Q := by
  refine cMi.enter (by decide) (Nat.le_of_ble_eq_true rfl) ?_
  intro p e s m args below meth c A ls C hr G hl
  have hx := C.1
  have hb := C.2.1
  unfold wp_X_get at h
  have hl : lv_has ls 4 [(0, .ref (ad 0)), (1, .int x1)] := hl
  refine lv_aload_n hx hb d_X_get_0 rfl (lv_at hl 0 rfl) ?_
  refine lv_iload_n hx hb d_X_get_1 rfl (lv_at hl 1 rfl) ?_
  refine g_calli [.int x1] C G (c_X_bucketOf l D cA ad k hk _ _ _ h) ok_X_bucketOf ml_X_115 rfl rfl ⟨Nat.le_of_ble_eq_true rfl, Nat.le_of_ble_eq_true rfl⟩ rfl rfl rfl hl.1 (rest := []) rfl (lv_room (Nat.le_of_ble_eq_true rfl)) ⟨Nat.zero_le _, Nat.zero_le _⟩ d_X_get_2 (fun r2 u2 H locs G h => ?_)
  refine lv_istore_n (lv' := [(2, .int r2), (0, .ref (ad 0)), (1, .int x1)]) hx hb d_X_get_5 rfl hl (by decide) rfl (fun ls hl => ?_)
  refine lv_aload_n hx hb d_X_get_6 rfl (lv_at hl 1 rfl) ?_
  refine lv_iload_n hx hb d_X_get_7 rfl (lv_at hl 0 rfl) ?_
  refine lv_iload_n hx hb d_X_get_8 rfl (lv_at hl 2 rfl) ?_
  refine g_calli [.int r2, .int x1] C G (c_X_find l D cA ad k hk _ _ _ _ h) ok_X_find ml_X_117 rfl rfl ⟨Nat.le_of_ble_eq_true rfl, Nat.le_of_ble_eq_true rfl⟩ rfl rfl rfl hl.1 (rest := []) rfl (lv_room (Nat.le_of_ble_eq_true rfl)) ⟨Nat.zero_le _, Nat.zero_le _⟩ d_X_get_9 (fun r9 u9 H locs G h => ?_)
  refine lv_istore_n (lv' := [(3, .int r9), (2, .int r2), (0, .ref (ad 0)), (1, .int x1)]) hx hb d_X_get_12 rfl hl (by decide) rfl (fun ls hl => ?_)
  refine lv_iload_n hx hb d_X_get_13 rfl (lv_at hl 0 rfl) ?_
  refine lv_iconst (v := (-1)) hx hb d_X_get_14 (by decide) ?_
  refine lv_icmp_ne (tgt := 22) hx hb d_X_get_15 (by decide) (fun hc_15 => ?_) (fun hc_15 => ?_)
  · replace h := h.2 hc_15
    refine lv_aload_n hx hb d_X_get_22 rfl (lv_at hl 2 rfl) ?_
    refine xget_values C G d_X_get_23 ?_
    refine lv_aload_n hx hb d_X_get_26 rfl (lv_at hl 2 rfl) ?_
    refine lv_iload_n hx hb d_X_get_27 rfl (lv_at hl 1 rfl) ?_
    refine lv_iload_n hx hb d_X_get_28 rfl (lv_at hl 0 rfl) ?_
    refine g_calli [.int r2, .int r9] C G (c_X_place l D cA ad k hk _ _ _ _ h) ok_X_place ml_X_80 rfl rfl ⟨Nat.le_of_ble_eq_true rfl, Nat.le_of_ble_eq_true rfl⟩ rfl rfl rfl hl.1 (rest := [.ref (ad 2)]) rfl (lv_room (Nat.le_of_ble_eq_true rfl)) ⟨Nat.zero_le _, Nat.zero_le _⟩ d_X_get_29 (fun r29 u29 H locs G h => ?_)
    obtain ⟨j32, hi_32, hj_32, h⟩ := h
    refine xald_values hk C G hi_32 hj_32 d_X_get_32 ?_
    exact g_iret C G hr h d_X_get_33
  · replace h := h.1 hc_15
    refine lv_iconst (v := 0) hx hb d_X_get_18 (by decide) ?_
    refine lv_goto (tgt := 33) hx hb d_X_get_19 (by decide) ?_
    exact g_iret C G hr h d_X_get_33
set_option maxHeartbeats 4000000 in
set_option maxRecDepth 100000 in
theorem c_X_has (l : Launch) (D : va_G) (cA : ClassId) (ad : Nat → Nat) (k : KX) (hk : kOK k) (x1 : Int32) (u : StX) (Q : Int32 → StX → Prop) (h : wp_X_has k x1 u Q) : cMi l D cA (wX cA ad k) (ad 0) y_X_has b_X_has 2 (some .boolean) rm_X_has [.int x1] u Q := by
  refine cMi.enter (by decide) (Nat.le_of_ble_eq_true rfl) ?_
  intro p e s m args below meth c A ls C hr G hl
  have hx := C.1
  have hb := C.2.1
  unfold wp_X_has at h
  have hl : lv_has ls 2 [(0, .ref (ad 0)), (1, .int x1)] := hl
  refine lv_aload_n hx hb d_X_has_0 rfl (lv_at hl 0 rfl) ?_
  refine lv_aload_n hx hb d_X_has_1 rfl (lv_at hl 0 rfl) ?_
  refine lv_iload_n hx hb d_X_has_2 rfl (lv_at hl 1 rfl) ?_
  refine g_calli [.int x1] C G (c_X_bucketOf l D cA ad k hk _ _ _ h) ok_X_bucketOf ml_X_115 rfl rfl ⟨Nat.le_of_ble_eq_true rfl, Nat.le_of_ble_eq_true rfl⟩ rfl rfl rfl hl.1 (rest := [.ref (ad 0)]) rfl (lv_room (Nat.le_of_ble_eq_true rfl)) ⟨Nat.zero_le _, Nat.zero_le _⟩ d_X_has_3 (fun r3 u3 H locs G h => ?_)
  refine lv_iload_n hx hb d_X_has_6 rfl (lv_at hl 1 rfl) ?_
  refine g_calli [.int r3, .int x1] C G (c_X_find l D cA ad k hk _ _ _ _ h) ok_X_find ml_X_117 rfl rfl ⟨Nat.le_of_ble_eq_true rfl, Nat.le_of_ble_eq_true rfl⟩ rfl rfl rfl hl.1 (rest := []) rfl (lv_room (Nat.le_of_ble_eq_true rfl)) ⟨Nat.zero_le _, Nat.zero_le _⟩ d_X_has_7 (fun r7 u7 H locs G h => ?_)
  refine lv_iconst (v := (-1)) hx hb d_X_has_10 (by decide) ?_
  refine lv_icmp_eq (tgt := 18) hx hb d_X_has_11 (by decide) (fun hc_11 => ?_) (fun hc_11 => ?_)
  · replace h := h.1 hc_11
    refine lv_iconst (v := 0) hx hb d_X_has_18 (by decide) ?_
    exact g_zret C G hr rfl h d_X_has_19
  · replace h := h.2 hc_11
    refine lv_iconst (v := 1) hx hb d_X_has_14 (by decide) ?_
    refine lv_goto (tgt := 19) hx hb d_X_has_15 (by decide) ?_
    exact g_zret C G hr rfl h d_X_has_19
set_option maxHeartbeats 4000000 in
set_option maxRecDepth 100000 in
theorem c_X_remove (l : Launch) (D : va_G) (cA : ClassId) (ad : Nat → Nat) (k : KX) (hk : kOK k) (x1 : Int32) (u : StX) (Q : Int32 → StX → Prop) (h : wp_X_remove k x1 u Q) : cMi l D cA (wX cA ad k) (ad 0) y_X_remove b_X_remove 6 (some .boolean) rm_X_remove [.int x1] u Q := by
  refine cMi.enter (by decide) (Nat.le_of_ble_eq_true rfl) ?_
  intro p e s m args below meth c A ls C hr G hl
  have hx := C.1
  have hb := C.2.1
  unfold wp_X_remove at h
  have hl : lv_has ls 6 [(0, .ref (ad 0)), (1, .int x1)] := hl
  refine lv_aload_n hx hb d_X_remove_0 rfl (lv_at hl 0 rfl) ?_
  refine lv_iload_n hx hb d_X_remove_1 rfl (lv_at hl 1 rfl) ?_
  refine g_calli [.int x1] C G (c_X_bucketOf l D cA ad k hk _ _ _ h) ok_X_bucketOf ml_X_115 rfl rfl ⟨Nat.le_of_ble_eq_true rfl, Nat.le_of_ble_eq_true rfl⟩ rfl rfl rfl hl.1 (rest := []) rfl (lv_room (Nat.le_of_ble_eq_true rfl)) ⟨Nat.zero_le _, Nat.zero_le _⟩ d_X_remove_2 (fun r2 u2 H locs G h => ?_)
  refine lv_istore_n (lv' := [(2, .int r2), (0, .ref (ad 0)), (1, .int x1)]) hx hb d_X_remove_5 rfl hl (by decide) rfl (fun ls hl => ?_)
  refine lv_aload_n hx hb d_X_remove_6 rfl (lv_at hl 1 rfl) ?_
  refine lv_iload_n hx hb d_X_remove_7 rfl (lv_at hl 0 rfl) ?_
  refine lv_iload_n hx hb d_X_remove_8 rfl (lv_at hl 2 rfl) ?_
  refine g_calli [.int r2, .int x1] C G (c_X_find l D cA ad k hk _ _ _ _ h) ok_X_find ml_X_117 rfl rfl ⟨Nat.le_of_ble_eq_true rfl, Nat.le_of_ble_eq_true rfl⟩ rfl rfl rfl hl.1 (rest := []) rfl (lv_room (Nat.le_of_ble_eq_true rfl)) ⟨Nat.zero_le _, Nat.zero_le _⟩ d_X_remove_9 (fun r9 u9 H locs G h => ?_)
  refine lv_istore_n (lv' := [(3, .int r9), (2, .int r2), (0, .ref (ad 0)), (1, .int x1)]) hx hb d_X_remove_12 rfl hl (by decide) rfl (fun ls hl => ?_)
  refine lv_iload_n hx hb d_X_remove_13 rfl (lv_at hl 0 rfl) ?_
  refine lv_iconst (v := (-1)) hx hb d_X_remove_14 (by decide) ?_
  refine lv_icmp_ne (tgt := 20) hx hb d_X_remove_15 (by decide) (fun hc_15 => ?_) (fun hc_15 => ?_)
  · replace h := h.2 hc_15
    refine lv_aload_n hx hb d_X_remove_20 rfl (lv_at hl 2 rfl) ?_
    refine lv_iload_n hx hb d_X_remove_21 rfl (lv_at hl 1 rfl) ?_
    refine lv_iload_n hx hb d_X_remove_22 rfl (lv_at hl 0 rfl) ?_
    refine g_calli [.int r2, .int r9] C G (c_X_place l D cA ad k hk _ _ _ _ h) ok_X_place ml_X_80 rfl rfl ⟨Nat.le_of_ble_eq_true rfl, Nat.le_of_ble_eq_true rfl⟩ rfl rfl rfl hl.1 (rest := []) rfl (lv_room (Nat.le_of_ble_eq_true rfl)) ⟨Nat.zero_le _, Nat.zero_le _⟩ d_X_remove_23 (fun r23 u23 H locs G h => ?_)
    refine lv_istore (lv' := [(4, .int r23), (3, .int r9), (2, .int r2), (0, .ref (ad 0)), (1, .int x1)]) hx hb d_X_remove_26 hl (by decide) rfl (fun ls hl => ?_)
    refine lv_aload_n hx hb d_X_remove_28 rfl (lv_at hl 3 rfl) ?_
    refine lv_iload_n hx hb d_X_remove_29 rfl (lv_at hl 2 rfl) ?_
    refine lv_aload_n hx hb d_X_remove_30 rfl (lv_at hl 3 rfl) ?_
    refine xget_counts C G d_X_remove_31 ?_
    refine lv_iload_n hx hb d_X_remove_34 rfl (lv_at hl 2 rfl) ?_
    obtain ⟨j35, hi_35, hj_35, h⟩ := h
    refine xald_counts hk C G hi_35 hj_35 d_X_remove_35 ?_
    refine lv_iconst (v := 1) hx hb d_X_remove_36 (by decide) ?_
    refine lv_isub hx hb d_X_remove_37 ?_
    refine g_calli [.int r2, .int ((xCounts u23 j35) - 1)] C G (c_X_place l D cA ad k hk _ _ _ _ h) ok_X_place ml_X_80 rfl rfl ⟨Nat.le_of_ble_eq_true rfl, Nat.le_of_ble_eq_true rfl⟩ rfl rfl rfl hl.1 (rest := []) rfl (lv_room (Nat.le_of_ble_eq_true rfl)) ⟨Nat.zero_le _, Nat.zero_le _⟩ d_X_remove_38 (fun r38 u38 H locs G h => ?_)
    refine lv_istore (lv' := [(5, .int r38), (4, .int r23), (3, .int r9), (2, .int r2), (0, .ref (ad 0)), (1, .int x1)]) hx hb d_X_remove_41 hl (by decide) rfl (fun ls hl => ?_)
    refine lv_aload_n hx hb d_X_remove_43 rfl (lv_at hl 4 rfl) ?_
    refine xget_keys C G d_X_remove_44 ?_
    refine lv_iload hx hb d_X_remove_47 (lv_at hl 1 rfl) ?_
    refine lv_aload_n hx hb d_X_remove_49 rfl (lv_at hl 4 rfl) ?_
    refine xget_keys C G d_X_remove_50 ?_
    refine lv_iload hx hb d_X_remove_53 (lv_at hl 0 rfl) ?_
    obtain ⟨j55, hi_55, hj_55, h⟩ := h
    refine xald_keys hk C G hi_55 hj_55 d_X_remove_55 ?_
    obtain ⟨j56, hi_56, hj_56, h⟩ := h
    refine xast_keys hk C G hi_56 hj_56 d_X_remove_56 (fun H locs G => ?_)
    have G : wG D A s (wX cA ad k (xSetKeys (upd (xKeys u38) j56 (xKeys u38 j55)) u38)) H locs := G
    refine lv_aload_n hx hb d_X_remove_57 rfl (lv_at hl 4 rfl) ?_
    refine xget_values C G d_X_remove_58 ?_
    refine lv_iload hx hb d_X_remove_61 (lv_at hl 1 rfl) ?_
    refine lv_aload_n hx hb d_X_remove_63 rfl (lv_at hl 4 rfl) ?_
    refine xget_values C G d_X_remove_64 ?_
    refine lv_iload hx hb d_X_remove_67 (lv_at hl 0 rfl) ?_
    refine xald_values hk C G hi_55 hj_55 d_X_remove_69 ?_
    refine xast_values hk C G hi_56 hj_56 d_X_remove_70 (fun H locs G => ?_)
    have G : wG D A s (wX cA ad k (xSetValues (upd (xValues u38) j56 (xValues u38 j55)) (xSetKeys (upd (xKeys u38) j56 (xKeys u38 j55)) u38))) H locs := G
    refine lv_aload_n hx hb d_X_remove_71 rfl (lv_at hl 4 rfl) ?_
    refine lv_iload_n hx hb d_X_remove_72 rfl (lv_at hl 3 rfl) ?_
    refine g_callv [.int r2] C G (c_X_dropLast l D cA ad k hk _ _ _ h) ok_X_dropLast ml_X_127 rfl rfl ⟨Nat.le_of_ble_eq_true rfl, Nat.le_of_ble_eq_true rfl⟩ rfl rfl rfl hl.1 (rest := []) rfl (lv_room (Nat.le_of_ble_eq_true rfl)) ⟨Nat.zero_le _, Nat.zero_le _⟩ d_X_remove_73 (fun u73 H locs G h => ?_)
    refine lv_aload_n hx hb d_X_remove_76 rfl (lv_at hl 4 rfl) ?_
    refine lv_dup hx hb d_X_remove_77 rfl ?_
    refine xget_size C G d_X_remove_78 ?_
    refine lv_iconst (v := 1) hx hb d_X_remove_81 (by decide) ?_
    refine lv_isub hx hb d_X_remove_82 ?_
    refine xput_size C G d_X_remove_83 (fun H locs G => ?_)
    have G : wG D A s (wX cA ad k (xSetSize ((xSize u73) - 1) u73)) H locs := G
    refine lv_ldc2 (v := 4) hx hb C.2.2.2.1 (C.2.2.2.2.1 _ (by decide +kernel)) d_X_remove_86 ?_
    refine lv_aload_n hx hb d_X_remove_89 rfl (lv_at hl 4 rfl) ?_
    refine xget_size C G d_X_remove_90 ?_
    refine lv_i2l hx hb d_X_remove_93 rfl ?_
    refine lv_lmul hx hb d_X_remove_94 ?_
    refine lv_aload_n hx hb d_X_remove_95 rfl (lv_at hl 4 rfl) ?_
    refine xget_cap C G d_X_remove_96 ?_
    refine lv_i2l hx hb d_X_remove_99 rfl ?_
    refine lv_aload_n hx hb d_X_remove_100 rfl (lv_at hl 4 rfl) ?_
    refine g_calli [] C G (c_X_buckets l D cA ad k hk _ _ h) ok_X_buckets ml_X_93 rfl rfl ⟨Nat.le_of_ble_eq_true rfl, Nat.le_of_ble_eq_true rfl⟩ rfl rfl rfl hl.1 (rest := [.long (((xCap k)).toInt64), .long ((4 : Int64) * (((xSize u73) - 1)).toInt64)]) rfl (lv_room (Nat.le_of_ble_eq_true rfl)) ⟨Nat.zero_le _, Nat.zero_le _⟩ d_X_remove_101 (fun r101 u101 H locs G h => ?_)
    refine lv_i2l hx hb d_X_remove_104 rfl ?_
    refine lv_lmul hx hb d_X_remove_105 ?_
    refine W.lcmp hx hb d_X_remove_106 ?_
    refine lv_if_ge (tgt := 125) hx hb d_X_remove_107 (by decide) (fun hc_107 => ?_) (fun hc_107 => ?_)
    · replace h := h.1 hc_107
      refine lv_iconst (v := 1) hx hb d_X_remove_125 (by decide) ?_
      exact g_zret C G hr rfl h d_X_remove_126
    · replace h := h.2 hc_107
      refine lv_aload_n hx hb d_X_remove_110 rfl (lv_at hl 4 rfl) ?_
      refine g_calli [] C G (c_X_buckets l D cA ad k hk _ _ h) ok_X_buckets ml_X_93 rfl rfl ⟨Nat.le_of_ble_eq_true rfl, Nat.le_of_ble_eq_true rfl⟩ rfl rfl rfl hl.1 (rest := []) rfl (lv_room (Nat.le_of_ble_eq_true rfl)) ⟨Nat.zero_le _, Nat.zero_le _⟩ d_X_remove_111 (fun r111 u111 H locs G h => ?_)
      refine lv_aload_n hx hb d_X_remove_114 rfl (lv_at hl 4 rfl) ?_
      refine xget_base C G d_X_remove_115 ?_
      refine lv_icmp_le (tgt := 125) hx hb d_X_remove_118 (by decide) (fun hc_118 => ?_) (fun hc_118 => ?_)
      · replace h := h.1 hc_118
        refine lv_iconst (v := 1) hx hb d_X_remove_125 (by decide) ?_
        exact g_zret C G hr rfl h d_X_remove_126
      · replace h := h.2 hc_118
        refine lv_aload_n hx hb d_X_remove_121 rfl (lv_at hl 4 rfl) ?_
        refine g_callv [] C G (c_X_join l D cA ad k hk _ _ h) ok_X_join ml_X_130 rfl rfl ⟨Nat.le_of_ble_eq_true rfl, Nat.le_of_ble_eq_true rfl⟩ rfl rfl rfl hl.1 (rest := []) rfl (lv_room (Nat.le_of_ble_eq_true rfl)) ⟨Nat.zero_le _, Nat.zero_le _⟩ d_X_remove_122 (fun u122 H locs G h => ?_)
        refine lv_iconst (v := 1) hx hb d_X_remove_125 (by decide) ?_
        exact g_zret C G hr rfl h d_X_remove_126
  · replace h := h.1 hc_15
    refine lv_iconst (v := 0) hx hb d_X_remove_18 (by decide) ?_
    exact g_zret C G hr rfl h d_X_remove_19
set_option maxHeartbeats 4000000 in
set_option maxRecDepth 100000 in
theorem c_X_size (l : Launch) (D : va_G) (cA : ClassId) (ad : Nat → Nat) (k : KX) (hk : kOK k) (u : StX) (Q : Int32 → StX → Prop) (h : wp_X_size k  u Q) : cMi l D cA (wX cA ad k) (ad 0) y_X_size b_X_size 1 (some .int) rm_X_size [] u Q := by
  refine cMi.enter (by decide) (Nat.le_of_ble_eq_true rfl) ?_
  intro p e s m args below meth c A ls C hr G hl
  have hx := C.1
  have hb := C.2.1
  unfold wp_X_size at h
  have hl : lv_has ls 1 [(0, .ref (ad 0))] := hl
  refine lv_aload_n hx hb d_X_size_0 rfl (lv_at hl 0 rfl) ?_
  refine xget_size C G d_X_size_1 ?_
  exact g_iret C G hr h d_X_size_4
set_option maxHeartbeats 4000000 in
set_option maxRecDepth 100000 in
theorem c_X_level (l : Launch) (D : va_G) (cA : ClassId) (ad : Nat → Nat) (k : KX) (hk : kOK k) (u : StX) (Q : Int32 → StX → Prop) (h : wp_X_level k  u Q) : cMi l D cA (wX cA ad k) (ad 0) y_X_level b_X_level 1 (some .int) rm_X_level [] u Q := by
  refine cMi.enter (by decide) (Nat.le_of_ble_eq_true rfl) ?_
  intro p e s m args below meth c A ls C hr G hl
  have hx := C.1
  have hb := C.2.1
  unfold wp_X_level at h
  have hl : lv_has ls 1 [(0, .ref (ad 0))] := hl
  refine lv_aload_n hx hb d_X_level_0 rfl (lv_at hl 0 rfl) ?_
  refine xget_level C G d_X_level_1 ?_
  exact g_iret C G hr h d_X_level_4
set_option maxHeartbeats 4000000 in
set_option maxRecDepth 100000 in
theorem c_X_pointer (l : Launch) (D : va_G) (cA : ClassId) (ad : Nat → Nat) (k : KX) (hk : kOK k) (u : StX) (Q : Int32 → StX → Prop) (h : wp_X_pointer k  u Q) : cMi l D cA (wX cA ad k) (ad 0) y_X_pointer b_X_pointer 1 (some .int) rm_X_pointer [] u Q := by
  refine cMi.enter (by decide) (Nat.le_of_ble_eq_true rfl) ?_
  intro p e s m args below meth c A ls C hr G hl
  have hx := C.1
  have hb := C.2.1
  unfold wp_X_pointer at h
  have hl : lv_has ls 1 [(0, .ref (ad 0))] := hl
  refine lv_aload_n hx hb d_X_pointer_0 rfl (lv_at hl 0 rfl) ?_
  refine xget_pointer C G d_X_pointer_1 ?_
  exact g_iret C G hr h d_X_pointer_4
set_option maxHeartbeats 4000000 in
set_option maxRecDepth 100000 in
theorem c_X_isBucket (l : Launch) (D : va_G) (cA : ClassId) (ad : Nat → Nat) (k : KX) (hk : kOK k) (x1 : Int32) (u : StX) (Q : Int32 → StX → Prop) (h : wp_X_isBucket k x1 u Q) : cMi l D cA (wX cA ad k) (ad 0) y_X_isBucket b_X_isBucket 2 (some .boolean) rm_X_isBucket [.int x1] u Q := by
  refine cMi.enter (by decide) (Nat.le_of_ble_eq_true rfl) ?_
  intro p e s m args below meth c A ls C hr G hl
  have hx := C.1
  have hb := C.2.1
  unfold wp_X_isBucket at h
  have hl : lv_has ls 2 [(0, .ref (ad 0)), (1, .int x1)] := hl
  refine lv_iload_n hx hb d_X_isBucket_0 rfl (lv_at hl 1 rfl) ?_
  refine lv_if_lt (tgt := 16) hx hb d_X_isBucket_1 (by decide) (fun hc_1 => ?_) (fun hc_1 => ?_)
  · replace h := h.1 hc_1
    refine lv_iconst (v := 0) hx hb d_X_isBucket_16 (by decide) ?_
    exact g_zret C G hr rfl h d_X_isBucket_17
  · replace h := h.2 hc_1
    refine lv_iload_n hx hb d_X_isBucket_4 rfl (lv_at hl 1 rfl) ?_
    refine lv_aload_n hx hb d_X_isBucket_5 rfl (lv_at hl 0 rfl) ?_
    refine g_calli [] C G (c_X_buckets l D cA ad k hk _ _ h) ok_X_buckets ml_X_93 rfl rfl ⟨Nat.le_of_ble_eq_true rfl, Nat.le_of_ble_eq_true rfl⟩ rfl rfl rfl hl.1 (rest := [.int x1]) rfl (lv_room (Nat.le_of_ble_eq_true rfl)) ⟨Nat.zero_le _, Nat.zero_le _⟩ d_X_isBucket_6 (fun r6 u6 H locs G h => ?_)
    refine lv_icmp_ge (tgt := 16) hx hb d_X_isBucket_9 (by decide) (fun hc_9 => ?_) (fun hc_9 => ?_)
    · replace h := h.1 hc_9
      refine lv_iconst (v := 0) hx hb d_X_isBucket_16 (by decide) ?_
      exact g_zret C G hr rfl h d_X_isBucket_17
    · replace h := h.2 hc_9
      refine lv_iconst (v := 1) hx hb d_X_isBucket_12 (by decide) ?_
      refine lv_goto (tgt := 17) hx hb d_X_isBucket_13 (by decide) ?_
      exact g_zret C G hr rfl h d_X_isBucket_17
set_option maxHeartbeats 4000000 in
set_option maxRecDepth 100000 in
theorem c_X_pages (l : Launch) (D : va_G) (cA : ClassId) (ad : Nat → Nat) (k : KX) (hk : kOK k) (x1 : Int32) (u : StX) (Q : Int32 → StX → Prop) (h : wp_X_pages k x1 u Q) : cMi l D cA (wX cA ad k) (ad 0) y_X_pages b_X_pages 2 (some .int) rm_X_pages [.int x1] u Q := by
  refine cMi.enter (by decide) (Nat.le_of_ble_eq_true rfl) ?_
  intro p e s m args below meth c A ls C hr G hl
  have hx := C.1
  have hb := C.2.1
  unfold wp_X_pages at h
  have hl : lv_has ls 2 [(0, .ref (ad 0)), (1, .int x1)] := hl
  refine lv_aload_n hx hb d_X_pages_0 rfl (lv_at hl 0 rfl) ?_
  refine lv_iload_n hx hb d_X_pages_1 rfl (lv_at hl 1 rfl) ?_
  refine g_calli [.int x1] C G (c_X_isBucket l D cA ad k hk _ _ _ h) ok_X_isBucket ml_X_133 rfl rfl ⟨Nat.le_of_ble_eq_true rfl, Nat.le_of_ble_eq_true rfl⟩ rfl rfl rfl hl.1 (rest := []) rfl (lv_room (Nat.le_of_ble_eq_true rfl)) ⟨Nat.zero_le _, Nat.zero_le _⟩ d_X_pages_2 (fun r2 u2 H locs G h => ?_)
  refine lv_if_eq (tgt := 21) hx hb d_X_pages_5 (by decide) (fun hc_5 => ?_) (fun hc_5 => ?_)
  · replace h := h.1 hc_5
    refine lv_iconst (v := (-1)) hx hb d_X_pages_21 (by decide) ?_
    exact g_iret C G hr h d_X_pages_22
  · replace h := h.2 hc_5
    refine lv_aload_n hx hb d_X_pages_8 rfl (lv_at hl 0 rfl) ?_
    refine lv_aload_n hx hb d_X_pages_9 rfl (lv_at hl 0 rfl) ?_
    refine xget_counts C G d_X_pages_10 ?_
    refine lv_iload_n hx hb d_X_pages_13 rfl (lv_at hl 1 rfl) ?_
    obtain ⟨j14, hi_14, hj_14, h⟩ := h
    refine xald_counts hk C G hi_14 hj_14 d_X_pages_14 ?_
    refine g_calli [.int (xCounts u2 j14)] C G (c_X_pagesOf l D cA ad k hk _ _ _ h) ok_X_pagesOf ml_X_107 rfl rfl ⟨Nat.le_of_ble_eq_true rfl, Nat.le_of_ble_eq_true rfl⟩ rfl rfl rfl hl.1 (rest := []) rfl (lv_room (Nat.le_of_ble_eq_true rfl)) ⟨Nat.zero_le _, Nat.zero_le _⟩ d_X_pages_15 (fun r15 u15 H locs G h => ?_)
    refine lv_goto (tgt := 22) hx hb d_X_pages_18 (by decide) ?_
    exact g_iret C G hr h d_X_pages_22
set_option maxHeartbeats 4000000 in
set_option maxRecDepth 100000 in
theorem c_X_free (l : Launch) (D : va_G) (cA : ClassId) (ad : Nat → Nat) (k : KX) (hk : kOK k) (u : StX) (Q : Int32 → StX → Prop) (h : wp_X_free k  u Q) : cMi l D cA (wX cA ad k) (ad 0) y_X_free b_X_free 1 (some .int) rm_X_free [] u Q := by
  refine cMi.enter (by decide) (Nat.le_of_ble_eq_true rfl) ?_
  intro p e s m args below meth c A ls C hr G hl
  have hx := C.1
  have hb := C.2.1
  unfold wp_X_free at h
  have hl : lv_has ls 1 [(0, .ref (ad 0))] := hl
  refine lv_aload_n hx hb d_X_free_0 rfl (lv_at hl 0 rfl) ?_
  refine xget_free C G d_X_free_1 ?_
  exact g_iret C G hr h d_X_free_4
set_option maxHeartbeats 4000000 in
set_option maxRecDepth 100000 in
theorem c_X_key (l : Launch) (D : va_G) (cA : ClassId) (ad : Nat → Nat) (k : KX) (hk : kOK k) (x1 x2 : Int32) (u : StX) (Q : Int32 → StX → Prop) (h : wp_X_key k x1 x2 u Q) : cMi l D cA (wX cA ad k) (ad 0) y_X_key b_X_key 3 (some .int) rm_X_key [.int x1, .int x2] u Q := by
  refine cMi.enter (by decide) (Nat.le_of_ble_eq_true rfl) ?_
  intro p e s m args below meth c A ls C hr G hl
  have hx := C.1
  have hb := C.2.1
  unfold wp_X_key at h
  have hl : lv_has ls 3 [(0, .ref (ad 0)), (1, .int x1), (2, .int x2)] := hl
  refine lv_aload_n hx hb d_X_key_0 rfl (lv_at hl 0 rfl) ?_
  refine lv_iload_n hx hb d_X_key_1 rfl (lv_at hl 1 rfl) ?_
  refine g_calli [.int x1] C G (c_X_isBucket l D cA ad k hk _ _ _ h) ok_X_isBucket ml_X_133 rfl rfl ⟨Nat.le_of_ble_eq_true rfl, Nat.le_of_ble_eq_true rfl⟩ rfl rfl rfl hl.1 (rest := []) rfl (lv_room (Nat.le_of_ble_eq_true rfl)) ⟨Nat.zero_le _, Nat.zero_le _⟩ d_X_key_2 (fun r2 u2 H locs G h => ?_)
  refine lv_if_eq (tgt := 36) hx hb d_X_key_5 (by decide) (fun hc_5 => ?_) (fun hc_5 => ?_)
  · replace h := h.1 hc_5
    refine lv_iconst (v := (-1)) hx hb d_X_key_36 (by decide) ?_
    exact g_iret C G hr h d_X_key_37
  · replace h := h.2 hc_5
    refine lv_iload_n hx hb d_X_key_8 rfl (lv_at hl 2 rfl) ?_
    refine lv_if_lt (tgt := 36) hx hb d_X_key_9 (by decide) (fun hc_9 => ?_) (fun hc_9 => ?_)
    · replace h := h.1 hc_9
      refine lv_iconst (v := (-1)) hx hb d_X_key_36 (by decide) ?_
      exact g_iret C G hr h d_X_key_37
    · replace h := h.2 hc_9
      refine lv_iload_n hx hb d_X_key_12 rfl (lv_at hl 2 rfl) ?_
      refine lv_aload_n hx hb d_X_key_13 rfl (lv_at hl 0 rfl) ?_
      refine xget_counts C G d_X_key_14 ?_
      refine lv_iload_n hx hb d_X_key_17 rfl (lv_at hl 1 rfl) ?_
      obtain ⟨j18, hi_18, hj_18, h⟩ := h
      refine xald_counts hk C G hi_18 hj_18 d_X_key_18 ?_
      refine lv_icmp_ge (tgt := 36) hx hb d_X_key_19 (by decide) (fun hc_19 => ?_) (fun hc_19 => ?_)
      · replace h := h.1 hc_19
        refine lv_iconst (v := (-1)) hx hb d_X_key_36 (by decide) ?_
        exact g_iret C G hr h d_X_key_37
      · replace h := h.2 hc_19
        refine lv_aload_n hx hb d_X_key_22 rfl (lv_at hl 0 rfl) ?_
        refine xget_keys C G d_X_key_23 ?_
        refine lv_aload_n hx hb d_X_key_26 rfl (lv_at hl 0 rfl) ?_
        refine lv_iload_n hx hb d_X_key_27 rfl (lv_at hl 1 rfl) ?_
        refine lv_iload_n hx hb d_X_key_28 rfl (lv_at hl 2 rfl) ?_
        refine g_calli [.int x1, .int x2] C G (c_X_place l D cA ad k hk _ _ _ _ h) ok_X_place ml_X_80 rfl rfl ⟨Nat.le_of_ble_eq_true rfl, Nat.le_of_ble_eq_true rfl⟩ rfl rfl rfl hl.1 (rest := [.ref (ad 1)]) rfl (lv_room (Nat.le_of_ble_eq_true rfl)) ⟨Nat.zero_le _, Nat.zero_le _⟩ d_X_key_29 (fun r29 u29 H locs G h => ?_)
        obtain ⟨j32, hi_32, hj_32, h⟩ := h
        refine xald_keys hk C G hi_32 hj_32 d_X_key_32 ?_
        refine lv_goto (tgt := 37) hx hb d_X_key_33 (by decide) ?_
        exact g_iret C G hr h d_X_key_37
end
section
/-! walks -/
abbrev rm_M_round : Room := { frames := 0, cells := 0, slots := 0, locals := 0 }
abbrev rm_M_buckets : Room := { frames := 1, cells := 0, slots := 0, locals := 22 }
abbrev rm_M_bucketOf : Room := { frames := 1, cells := 0, slots := 0, locals := 22 }
abbrev rm_M_find : Room := { frames := 0, cells := 0, slots := 0, locals := 0 }
abbrev rm_M_count : Room := { frames := 0, cells := 0, slots := 0, locals := 0 }
abbrev rm_M_pagesFor : Room := { frames := 0, cells := 0, slots := 0, locals := 0 }
abbrev rm_M_needed : Room := { frames := 2, cells := 0, slots := 0, locals := 42 }
abbrev rm_M_settle : Room := { frames := 2, cells := 0, slots := 0, locals := 45 }
abbrev rm_M_forth : Room := { frames := 1, cells := 0, slots := 0, locals := 22 }
abbrev rm_M_back : Room := { frames := 1, cells := 0, slots := 0, locals := 22 }
set_option maxHeartbeats 4000000 in
set_option maxRecDepth 100000 in
theorem wlp_M_round_7 {p : Program} {l : Launch} {e : Env} {s : State} {m : MethodId} {args : Array Value} {below : List Frame} {meth : Method} {c : Code} {D : va_G} {cA : ClassId} {A : Nat → Prop} {ad : Nat → Nat} {k : KM} (C : wC p s m args c meth b_M_round 3 R_M D cA A) (hr : meth.sig.returnType = (some .int)) (Q : Int32 → StM → Prop) : ∀ (n : Nat) (x1 x2 : Int32) (u : StM), lp_M_round_7 k Q n x1 x2 u → ∀ (H : Heap) (locs : List Loc) (ls : Array Slot), wG D A s (wM cA ad k u) H locs → lv_has ls 3 [(0, .ref (ad 0)), (1, .int x1), (2, .int x2)] → W p l e rm_M_round s m args below meth c H locs 0 0 (zI D cA (wM cA ad k) A below args s Q) (F0 m 7 ls []) := by
  have hx := C.1
  have hb := C.2.1
  intro n
  induction n with
  | zero => intro x1 x2 u h; exact absurd h (by unfold lp_M_round_7; exact fun z => z)
  | succ n ih =>
    intro x1 x2 u h H locs ls G hl
    unfold lp_M_round_7 at h
    refine lv_iload_n hx hb d_M_round_7 rfl (lv_at hl 2 rfl) ?_
    refine lv_aload_n hx hb d_M_round_8 rfl (lv_at hl 0 rfl) ?_
    refine mget_level C G d_M_round_9 ?_
    refine lv_icmp_ge (tgt := 25) hx hb d_M_round_12 (by decide) (fun hc_12 => ?_) (fun hc_12 => ?_)
    · replace h := h.1 hc_12
      refine lv_iload_n hx hb d_M_round_25 rfl (lv_at hl 1 rfl) ?_
      exact g_iret C G hr h d_M_round_26
    · replace h := h.2 hc_12
      refine lv_iconst (v := 2) hx hb d_M_round_15 (by decide) ?_
      refine lv_iload_n hx hb d_M_round_16 rfl (lv_at hl 1 rfl) ?_
      refine lv_imul hx hb d_M_round_17 ?_
      refine lv_topi (fun x1_18 ex1_18 => ?_)
      replace h := h x1_18 ex1_18
      refine lv_istore_n (lv' := [(1, .int x1_18), (0, .ref (ad 0)), (2, .int x2)]) hx hb d_M_round_18 rfl hl (by decide) rfl (fun ls hl => ?_)
      obtain ⟨x2_19, ex2_19⟩ : ∃ y : Int32, y = x2 + 1 := ⟨_, rfl⟩
      replace h := h x2_19 ex2_19
      refine lv_iinc (v := x2_19) (lv' := [(2, .int x2_19), (1, .int x1_18), (0, .ref (ad 0))]) hx hb d_M_round_19 hl (k := 2) rfl (by rw [ex2_19]; rfl) (by decide) rfl (fun ls hl => ?_)
      refine lv_goto (tgt := 7) hx hb d_M_round_22 (by decide) ?_
      exact ih _ _ _ h _ _ _ G (lv_sub hl [2, 1, 0] rfl)
set_option maxHeartbeats 4000000 in
set_option maxRecDepth 100000 in
theorem c_M_round (l : Launch) (D : va_G) (cA : ClassId) (ad : Nat → Nat) (k : KM) (u : StM) (Q : Int32 → StM → Prop) (h : wp_M_round k  u Q) : cMi l D cA (wM cA ad k) (ad 0) y_M_round b_M_round 3 (some .int) rm_M_round [] u Q := by
  refine cMi.enter (by decide) (Nat.le_of_ble_eq_true rfl) ?_
  intro p e s m args below meth c A ls C hr G hl
  have hx := C.1
  have hb := C.2.1
  unfold wp_M_round at h
  have hl : lv_has ls 3 [(0, .ref (ad 0))] := hl
  refine lv_aload_n hx hb d_M_round_0 rfl (lv_at hl 0 rfl) ?_
  refine mget_base C G d_M_round_1 ?_
  refine lv_topi (fun x1_4 ex1_4 => ?_)
  replace h := h x1_4 ex1_4
  refine lv_istore_n (lv' := [(1, .int x1_4), (0, .ref (ad 0))]) hx hb d_M_round_4 rfl hl (by decide) rfl (fun ls hl => ?_)
  refine lv_iconst (v := 0) hx hb d_M_round_5 (by decide) ?_
  refine lv_istore_n (lv' := [(2, .int 0), (1, .int x1_4), (0, .ref (ad 0))]) hx hb d_M_round_6 rfl hl (by decide) rfl (fun ls hl => ?_)
  obtain ⟨n_7, h⟩ := h
  exact wlp_M_round_7 C hr Q _ _ _ _ h _ _ _ G (lv_sub hl [2, 1, 0] rfl)
set_option maxHeartbeats 4000000 in
set_option maxRecDepth 100000 in
theorem c_M_buckets (l : Launch) (D : va_G) (cA : ClassId) (ad : Nat → Nat) (k : KM) (u : StM) (Q : Int32 → StM → Prop) (h : wp_M_buckets k  u Q) : cMi l D cA (wM cA ad k) (ad 0) y_M_buckets b_M_buckets 1 (some .int) rm_M_buckets [] u Q := by
  refine cMi.enter (by decide) (Nat.le_of_ble_eq_true rfl) ?_
  intro p e s m args below meth c A ls C hr G hl
  have hx := C.1
  have hb := C.2.1
  unfold wp_M_buckets at h
  have hl : lv_has ls 1 [(0, .ref (ad 0))] := hl
  refine lv_aload_n hx hb d_M_buckets_0 rfl (lv_at hl 0 rfl) ?_
  refine g_calli [] C G (c_M_round l D cA ad k _ _ h) ok_M_round ml_M_38 rfl rfl ⟨Nat.le_of_ble_eq_true rfl, Nat.le_of_ble_eq_true rfl⟩ rfl rfl rfl hl.1 (rest := []) rfl (lv_room (Nat.le_of_ble_eq_true rfl)) ⟨Nat.zero_le _, Nat.zero_le _⟩ d_M_buckets_1 (fun r1 u1 H locs G h => ?_)
  refine lv_aload_n hx hb d_M_buckets_4 rfl (lv_at hl 0 rfl) ?_
  refine mget_pointer C G d_M_buckets_5 ?_
  refine lv_iadd hx hb d_M_buckets_8 ?_
  exact g_iret C G hr h d_M_buckets_9
set_option maxHeartbeats 4000000 in
set_option maxRecDepth 100000 in
theorem c_M_bucketOf (l : Launch) (D : va_G) (cA : ClassId) (ad : Nat → Nat) (k : KM) (x1 : Int32) (u : StM) (Q : Int32 → StM → Prop) (h : wp_M_bucketOf k x1 u Q) : cMi l D cA (wM cA ad k) (ad 0) y_M_bucketOf b_M_bucketOf 4 (some .int) rm_M_bucketOf [.int x1] u Q := by
  refine cMi.enter (by decide) (Nat.le_of_ble_eq_true rfl) ?_
  intro p e s m args below meth c A ls C hr G hl
  have hx := C.1
  have hb := C.2.1
  unfold wp_M_bucketOf at h
  have hl : lv_has ls 4 [(0, .ref (ad 0)), (1, .int x1)] := hl
  refine lv_iload_n hx hb d_M_bucketOf_0 rfl (lv_at hl 1 rfl) ?_
  refine lv_ldc (v := 2147483647) hx hb C.2.2.2.1 (C.2.2.2.2.1 _ (by decide +kernel)) d_M_bucketOf_1 ?_
  refine lv_iand hx hb d_M_bucketOf_3 ?_
  refine lv_topi (fun x2_4 ex2_4 => ?_)
  replace h := h x2_4 ex2_4
  refine lv_istore_n (lv' := [(2, .int x2_4), (0, .ref (ad 0)), (1, .int x1)]) hx hb d_M_bucketOf_4 rfl hl (by decide) rfl (fun ls hl => ?_)
  refine lv_iload_n hx hb d_M_bucketOf_5 rfl (lv_at hl 0 rfl) ?_
  refine lv_aload_n hx hb d_M_bucketOf_6 rfl (lv_at hl 1 rfl) ?_
  refine g_calli [] C G (c_M_round l D cA ad k _ _ h) ok_M_round ml_M_38 rfl rfl ⟨Nat.le_of_ble_eq_true rfl, Nat.le_of_ble_eq_true rfl⟩ rfl rfl rfl hl.1 (rest := [.int x2_4]) rfl (lv_room (Nat.le_of_ble_eq_true rfl)) ⟨Nat.zero_le _, Nat.zero_le _⟩ d_M_bucketOf_7 (fun r7 u7 H locs G h => ?_)
  obtain ⟨hd_10, h⟩ := h
  refine lv_irem hx hb d_M_bucketOf_10 hd_10 ?_
  refine lv_topi (fun x3_11 ex3_11 => ?_)
  replace h := h x3_11 ex3_11
  refine lv_istore_n (lv' := [(3, .int x3_11), (2, .int x2_4), (0, .ref (ad 0)), (1, .int x1)]) hx hb d_M_bucketOf_11 rfl hl (by decide) rfl (fun ls hl => ?_)
  refine lv_iload_n hx hb d_M_bucketOf_12 rfl (lv_at hl 0 rfl) ?_
  refine lv_aload_n hx hb d_M_bucketOf_13 rfl (lv_at hl 2 rfl) ?_
  refine mget_pointer C G d_M_bucketOf_14 ?_
  refine lv_icmp_ge (tgt := 31) hx hb d_M_bucketOf_17 (by decide) (fun hc_17 => ?_) (fun hc_17 => ?_)
  · replace h := h.1 hc_17
    refine lv_iload_n hx hb d_M_bucketOf_31 rfl (lv_at hl 0 rfl) ?_
    exact g_iret C G hr h d_M_bucketOf_32
  · replace h := h.2 hc_17
    refine lv_iload_n hx hb d_M_bucketOf_20 rfl (lv_at hl 1 rfl) ?_
    refine lv_iconst (v := 2) hx hb d_M_bucketOf_21 (by decide) ?_
    refine lv_aload_n hx hb d_M_bucketOf_22 rfl (lv_at hl 2 rfl) ?_
    refine g_calli [] C G (c_M_round l D cA ad k _ _ h) ok_M_round ml_M_38 rfl rfl ⟨Nat.le_of_ble_eq_true rfl, Nat.le_of_ble_eq_true rfl⟩ rfl rfl rfl hl.1 (rest := [.int 2, .int x2_4]) rfl (lv_room (Nat.le_of_ble_eq_true rfl)) ⟨Nat.zero_le _, Nat.zero_le _⟩ d_M_bucketOf_23 (fun r23 u23 H locs G h => ?_)
    refine lv_imul hx hb d_M_bucketOf_26 ?_
    obtain ⟨hd_27, h⟩ := h
    refine lv_irem hx hb d_M_bucketOf_27 hd_27 ?_
    refine lv_goto (tgt := 32) hx hb d_M_bucketOf_28 (by decide) ?_
    exact g_iret C G hr h d_M_bucketOf_32
set_option maxHeartbeats 4000000 in
set_option maxRecDepth 100000 in
theorem wlp_M_find_4 {p : Program} {l : Launch} {e : Env} {s : State} {m : MethodId} {args : Array Value} {below : List Frame} {meth : Method} {c : Code} {D : va_G} {cA : ClassId} {A : Nat → Prop} {ad : Nat → Nat} {k : KM} (C : wC p s m args c meth b_M_find 4 R_M D cA A) (hr : meth.sig.returnType = (some .int)) (Q : Int32 → StM → Prop) : ∀ (n : Nat) (x1 x2 x3 : Int32) (u : StM), lp_M_find_4 k Q n x1 x2 x3 u → ∀ (H : Heap) (locs : List Loc) (ls : Array Slot), wG D A s (wM cA ad k u) H locs → lv_has ls 4 [(0, .ref (ad 0)), (1, .int x1), (2, .int x2), (3, .int x3)] → W p l e rm_M_find s m args below meth c H locs 0 0 (zI D cA (wM cA ad k) A below args s Q) (F0 m 4 ls []) := by
  have hx := C.1
  have hb := C.2.1
  intro n
  induction n with
  | zero => intro x1 x2 x3 u h; exact absurd h (by unfold lp_M_find_4; exact fun z => z)
  | succ n ih =>
    intro x1 x2 x3 u h H locs ls G hl
    unfold lp_M_find_4 at h
    refine lv_iload_n hx hb d_M_find_4 rfl (lv_at hl 3 rfl) ?_
    refine lv_aload_n hx hb d_M_find_5 rfl (lv_at hl 0 rfl) ?_
    refine mget_size C G d_M_find_6 ?_
    refine lv_icmp_ge (tgt := 34) hx hb d_M_find_9 (by decide) (fun hc_9 => ?_) (fun hc_9 => ?_)
    · replace h := h.1 hc_9
      refine lv_iload_n hx hb d_M_find_34 rfl (lv_at hl 2 rfl) ?_
      exact g_iret C G hr h d_M_find_35
    · replace h := h.2 hc_9
      refine lv_aload_n hx hb d_M_find_12 rfl (lv_at hl 0 rfl) ?_
      refine mget_keys C G d_M_find_13 ?_
      refine lv_iload_n hx hb d_M_find_16 rfl (lv_at hl 3 rfl) ?_
      obtain ⟨j17, hi_17, hj_17, h⟩ := h
      refine mald_keys C G hi_17 hj_17 d_M_find_17 ?_
      refine lv_iload_n hx hb d_M_find_18 rfl (lv_at hl 1 rfl) ?_
      refine lv_icmp_ne (tgt := 26) hx hb d_M_find_19 (by decide) (fun hc_19 => ?_) (fun hc_19 => ?_)
      · replace h := h.2 hc_19
        refine lv_iload_n hx hb d_M_find_26 rfl (lv_at hl 2 rfl) ?_
        refine lv_istore_n (lv' := [(2, .int x2), (0, .ref (ad 0)), (1, .int x1), (3, .int x3)]) hx hb d_M_find_27 rfl hl (by decide) rfl (fun ls hl => ?_)
        obtain ⟨x3_28, ex3_28⟩ : ∃ y : Int32, y = x3 + 1 := ⟨_, rfl⟩
        replace h := h x3_28 ex3_28
        refine lv_iinc (v := x3_28) (lv' := [(3, .int x3_28), (2, .int x2), (0, .ref (ad 0)), (1, .int x1)]) hx hb d_M_find_28 hl (k := 3) rfl (by rw [ex3_28]; rfl) (by decide) rfl (fun ls hl => ?_)
        refine lv_goto (tgt := 4) hx hb d_M_find_31 (by decide) ?_
        exact ih _ _ _ _ h _ _ _ G (lv_sub hl [2, 3, 1, 0] rfl)
      · replace h := h.1 hc_19
        refine lv_iload_n hx hb d_M_find_22 rfl (lv_at hl 3 rfl) ?_
        refine lv_goto (tgt := 27) hx hb d_M_find_23 (by decide) ?_
        refine lv_istore_n (lv' := [(2, .int x3), (0, .ref (ad 0)), (1, .int x1), (3, .int x3)]) hx hb d_M_find_27 rfl hl (by decide) rfl (fun ls hl => ?_)
        obtain ⟨x3_28, ex3_28⟩ : ∃ y : Int32, y = x3 + 1 := ⟨_, rfl⟩
        replace h := h x3_28 ex3_28
        refine lv_iinc (v := x3_28) (lv' := [(3, .int x3_28), (2, .int x3), (0, .ref (ad 0)), (1, .int x1)]) hx hb d_M_find_28 hl (k := 3) rfl (by rw [ex3_28]; rfl) (by decide) rfl (fun ls hl => ?_)
        refine lv_goto (tgt := 4) hx hb d_M_find_31 (by decide) ?_
        exact ih _ _ _ _ h _ _ _ G (lv_sub hl [2, 3, 1, 0] rfl)
set_option maxHeartbeats 4000000 in
set_option maxRecDepth 100000 in
theorem c_M_find (l : Launch) (D : va_G) (cA : ClassId) (ad : Nat → Nat) (k : KM) (x1 : Int32) (u : StM) (Q : Int32 → StM → Prop) (h : wp_M_find k x1 u Q) : cMi l D cA (wM cA ad k) (ad 0) y_M_find b_M_find 4 (some .int) rm_M_find [.int x1] u Q := by
  refine cMi.enter (by decide) (Nat.le_of_ble_eq_true rfl) ?_
  intro p e s m args below meth c A ls C hr G hl
  have hx := C.1
  have hb := C.2.1
  unfold wp_M_find at h
  have hl : lv_has ls 4 [(0, .ref (ad 0)), (1, .int x1)] := hl
  refine lv_iconst (v := (-1)) hx hb d_M_find_0 (by decide) ?_
  refine lv_istore_n (lv' := [(2, .int (-1)), (0, .ref (ad 0)), (1, .int x1)]) hx hb d_M_find_1 rfl hl (by decide) rfl (fun ls hl => ?_)
  refine lv_iconst (v := 0) hx hb d_M_find_2 (by decide) ?_
  refine lv_istore_n (lv' := [(3, .int 0), (2, .int (-1)), (0, .ref (ad 0)), (1, .int x1)]) hx hb d_M_find_3 rfl hl (by decide) rfl (fun ls hl => ?_)
  obtain ⟨n_4, h⟩ := h
  exact wlp_M_find_4 C hr Q _ _ _ _ _ h _ _ _ G (lv_sub hl [2, 3, 1, 0] rfl)
set_option maxHeartbeats 4000000 in
set_option maxRecDepth 100000 in
theorem wlp_M_count_24 {p : Program} {l : Launch} {e : Env} {s : State} {m : MethodId} {args : Array Value} {below : List Frame} {meth : Method} {c : Code} {D : va_G} {cA : ClassId} {A : Nat → Prop} {ad : Nat → Nat} {k : KM} (C : wC p s m args c meth b_M_count 2 R_M D cA A) (hr : meth.sig.returnType = none) (Q : StM → Prop) : ∀ (n : Nat) (x1 : Int32) (u : StM), lp_M_count_24 k Q n x1 u → ∀ (H : Heap) (locs : List Loc) (ls : Array Slot), wG D A s (wM cA ad k u) H locs → lv_has ls 2 [(0, .ref (ad 0)), (1, .int x1)] → W p l e rm_M_count s m args below meth c H locs 0 0 (zV D cA (wM cA ad k) A below args s Q) (F0 m 24 ls []) := by
  have hx := C.1
  have hb := C.2.1
  intro n
  induction n with
  | zero => intro x1 u h; exact absurd h (by unfold lp_M_count_24; exact fun z => z)
  | succ n ih =>
    intro x1 u h H locs ls G hl
    unfold lp_M_count_24 at h
    refine lv_iload_n hx hb d_M_count_24 rfl (lv_at hl 1 rfl) ?_
    refine lv_aload_n hx hb d_M_count_25 rfl (lv_at hl 0 rfl) ?_
    refine mget_size C G d_M_count_26 ?_
    refine lv_icmp_ge (tgt := 53) hx hb d_M_count_29 (by decide) (fun hc_29 => ?_) (fun hc_29 => ?_)
    · replace h := h.1 hc_29
      exact g_vret C G hr h d_M_count_53
    · replace h := h.2 hc_29
      refine lv_aload_n hx hb d_M_count_32 rfl (lv_at hl 0 rfl) ?_
      refine mget_counts C G d_M_count_33 ?_
      refine lv_aload_n hx hb d_M_count_36 rfl (lv_at hl 0 rfl) ?_
      refine mget_homes C G d_M_count_37 ?_
      refine lv_iload_n hx hb d_M_count_40 rfl (lv_at hl 1 rfl) ?_
      obtain ⟨j41, hi_41, hj_41, h⟩ := h
      refine mald_homes C G hi_41 hj_41 d_M_count_41 ?_
      refine lv_dup2_11 hx hb d_M_count_42 rfl rfl ?_
      obtain ⟨j43, hi_43, hj_43, h⟩ := h
      refine mald_counts C G hi_43 hj_43 d_M_count_43 ?_
      refine lv_iconst (v := 1) hx hb d_M_count_44 (by decide) ?_
      refine lv_iadd hx hb d_M_count_45 ?_
      refine mast_counts C G hi_43 hj_43 d_M_count_46 (fun H locs G => ?_)
      have G : wG D A s (wM cA ad k (mSetCounts (upd (mCounts u) j43 ((mCounts u j43) + 1)) u)) H locs := G
      obtain ⟨x1_47, ex1_47⟩ : ∃ y : Int32, y = x1 + 1 := ⟨_, rfl⟩
      replace h := h x1_47 ex1_47
      refine lv_iinc (v := x1_47) (lv' := [(1, .int x1_47), (0, .ref (ad 0))]) hx hb d_M_count_47 hl (k := 1) rfl (by rw [ex1_47]; rfl) (by decide) rfl (fun ls hl => ?_)
      refine lv_goto (tgt := 24) hx hb d_M_count_50 (by decide) ?_
      exact ih _ _ h _ _ _ G (lv_sub hl [1, 0] rfl)
set_option maxHeartbeats 4000000 in
set_option maxRecDepth 100000 in
theorem wlp_M_count_2 {p : Program} {l : Launch} {e : Env} {s : State} {m : MethodId} {args : Array Value} {below : List Frame} {meth : Method} {c : Code} {D : va_G} {cA : ClassId} {A : Nat → Prop} {ad : Nat → Nat} {k : KM} (C : wC p s m args c meth b_M_count 2 R_M D cA A) (hr : meth.sig.returnType = none) (Q : StM → Prop) : ∀ (n : Nat) (x1 : Int32) (u : StM), lp_M_count_2 k Q n x1 u → ∀ (H : Heap) (locs : List Loc) (ls : Array Slot), wG D A s (wM cA ad k u) H locs → lv_has ls 2 [(0, .ref (ad 0)), (1, .int x1)] → W p l e rm_M_count s m args below meth c H locs 0 0 (zV D cA (wM cA ad k) A below args s Q) (F0 m 2 ls []) := by
  have hx := C.1
  have hb := C.2.1
  intro n
  induction n with
  | zero => intro x1 u h; exact absurd h (by unfold lp_M_count_2; exact fun z => z)
  | succ n ih =>
    intro x1 u h H locs ls G hl
    unfold lp_M_count_2 at h
    refine lv_iload_n hx hb d_M_count_2 rfl (lv_at hl 1 rfl) ?_
    refine lv_sipush (v := 200) hx hb d_M_count_3 (by decide) ?_
    refine lv_icmp_ge (tgt := 22) hx hb d_M_count_6 (by decide) (fun hc_6 => ?_) (fun hc_6 => ?_)
    · replace h := h.1 hc_6
      refine lv_iconst (v := 0) hx hb d_M_count_22 (by decide) ?_
      refine lv_istore_n (lv' := [(1, .int 0), (0, .ref (ad 0))]) hx hb d_M_count_23 rfl hl (by decide) rfl (fun ls hl => ?_)
      obtain ⟨n_24, h⟩ := h
      exact wlp_M_count_24 C hr Q _ _ _ h _ _ _ G (lv_sub hl [1, 0] rfl)
    · replace h := h.2 hc_6
      refine lv_aload_n hx hb d_M_count_9 rfl (lv_at hl 0 rfl) ?_
      refine mget_counts C G d_M_count_10 ?_
      refine lv_iload_n hx hb d_M_count_13 rfl (lv_at hl 1 rfl) ?_
      refine lv_iconst (v := 0) hx hb d_M_count_14 (by decide) ?_
      obtain ⟨j15, hi_15, hj_15, h⟩ := h
      refine mast_counts C G hi_15 hj_15 d_M_count_15 (fun H locs G => ?_)
      have G : wG D A s (wM cA ad k (mSetCounts (upd (mCounts u) j15 0) u)) H locs := G
      obtain ⟨x1_16, ex1_16⟩ : ∃ y : Int32, y = x1 + 1 := ⟨_, rfl⟩
      replace h := h x1_16 ex1_16
      refine lv_iinc (v := x1_16) (lv' := [(1, .int x1_16), (0, .ref (ad 0))]) hx hb d_M_count_16 hl (k := 1) rfl (by rw [ex1_16]; rfl) (by decide) rfl (fun ls hl => ?_)
      refine lv_goto (tgt := 2) hx hb d_M_count_19 (by decide) ?_
      exact ih _ _ h _ _ _ G (lv_sub hl [1, 0] rfl)
set_option maxHeartbeats 4000000 in
set_option maxRecDepth 100000 in
theorem c_M_count (l : Launch) (D : va_G) (cA : ClassId) (ad : Nat → Nat) (k : KM) (u : StM) (Q : StM → Prop) (h : wp_M_count k  u Q) : cMv l D cA (wM cA ad k) (ad 0) y_M_count b_M_count 2 none rm_M_count [] u Q := by
  refine cMv.enter (by decide) (Nat.le_of_ble_eq_true rfl) ?_
  intro p e s m args below meth c A ls C hr G hl
  have hx := C.1
  have hb := C.2.1
  unfold wp_M_count at h
  have hl : lv_has ls 2 [(0, .ref (ad 0))] := hl
  refine lv_iconst (v := 0) hx hb d_M_count_0 (by decide) ?_
  refine lv_istore_n (lv' := [(1, .int 0), (0, .ref (ad 0))]) hx hb d_M_count_1 rfl hl (by decide) rfl (fun ls hl => ?_)
  obtain ⟨n_2, h⟩ := h
  exact wlp_M_count_2 C hr Q _ _ _ h _ _ _ G (lv_sub hl [1, 0] rfl)
set_option maxHeartbeats 4000000 in
set_option maxRecDepth 100000 in
theorem c_M_pagesFor (l : Launch) (D : va_G) (cA : ClassId) (ad : Nat → Nat) (k : KM) (x1 : Int32) (u : StM) (Q : Int32 → StM → Prop) (h : wp_M_pagesFor k x1 u Q) : cMi l D cA (wM cA ad k) (ad 0) y_M_pagesFor b_M_pagesFor 2 (some .int) rm_M_pagesFor [.int x1] u Q := by
  refine cMi.enter (by decide) (Nat.le_of_ble_eq_true rfl) ?_
  intro p e s m args below meth c A ls C hr G hl
  have hx := C.1
  have hb := C.2.1
  unfold wp_M_pagesFor at h
  have hl : lv_has ls 2 [(0, .ref (ad 0)), (1, .int x1)] := hl
  refine lv_iload_n hx hb d_M_pagesFor_0 rfl (lv_at hl 1 rfl) ?_
  refine lv_if_ne (tgt := 8) hx hb d_M_pagesFor_1 (by decide) (fun hc_1 => ?_) (fun hc_1 => ?_)
  · replace h := h.2 hc_1
    refine lv_iload_n hx hb d_M_pagesFor_8 rfl (lv_at hl 1 rfl) ?_
    refine lv_aload_n hx hb d_M_pagesFor_9 rfl (lv_at hl 0 rfl) ?_
    refine mget_cap C G d_M_pagesFor_10 ?_
    refine lv_iadd hx hb d_M_pagesFor_13 ?_
    refine lv_iconst (v := 1) hx hb d_M_pagesFor_14 (by decide) ?_
    refine lv_isub hx hb d_M_pagesFor_15 ?_
    refine lv_aload_n hx hb d_M_pagesFor_16 rfl (lv_at hl 0 rfl) ?_
    refine mget_cap C G d_M_pagesFor_17 ?_
    obtain ⟨hd_20, h⟩ := h
    refine lv_idiv hx hb d_M_pagesFor_20 hd_20 ?_
    exact g_iret C G hr h d_M_pagesFor_21
  · replace h := h.1 hc_1
    refine lv_iconst (v := 1) hx hb d_M_pagesFor_4 (by decide) ?_
    refine lv_goto (tgt := 21) hx hb d_M_pagesFor_5 (by decide) ?_
    exact g_iret C G hr h d_M_pagesFor_21
set_option maxHeartbeats 4000000 in
set_option maxRecDepth 100000 in
theorem wlp_M_needed_8 {p : Program} {l : Launch} {e : Env} {s : State} {m : MethodId} {args : Array Value} {below : List Frame} {meth : Method} {c : Code} {D : va_G} {cA : ClassId} {A : Nat → Prop} {ad : Nat → Nat} {k : KM} (C : wC p s m args c meth b_M_needed 3 R_M D cA A) (hr : meth.sig.returnType = (some .int)) (Q : Int32 → StM → Prop) : ∀ (n : Nat) (x1 x2 : Int32) (u : StM), lp_M_needed_8 k Q n x1 x2 u → ∀ (H : Heap) (locs : List Loc) (ls : Array Slot), wG D A s (wM cA ad k u) H locs → lv_has ls 3 [(0, .ref (ad 0)), (1, .int x1), (2, .int x2)] → W p l e rm_M_needed s m args below meth c H locs 0 0 (zI D cA (wM cA ad k) A below args s Q) (F0 m 8 ls []) := by
  have hx := C.1
  have hb := C.2.1
  intro n
  induction n with
  | zero => intro x1 x2 u h; exact absurd h (by unfold lp_M_needed_8; exact fun z => z)
  | succ n ih =>
    intro x1 x2 u h H locs ls G hl
    unfold lp_M_needed_8 at h
    refine lv_iload_n hx hb d_M_needed_8 rfl (lv_at hl 2 rfl) ?_
    refine lv_aload_n hx hb d_M_needed_9 rfl (lv_at hl 0 rfl) ?_
    refine g_calli [] C G (c_M_buckets l D cA ad k _ _ h) ok_M_buckets ml_M_52 rfl rfl ⟨Nat.le_of_ble_eq_true rfl, Nat.le_of_ble_eq_true rfl⟩ rfl rfl rfl hl.1 (rest := [.int x2]) rfl (lv_room (Nat.le_of_ble_eq_true rfl)) ⟨Nat.zero_le _, Nat.zero_le _⟩ d_M_needed_10 (fun r10 u10 H locs G h => ?_)
    refine lv_icmp_ge (tgt := 35) hx hb d_M_needed_13 (by decide) (fun hc_13 => ?_) (fun hc_13 => ?_)
    · replace h := h.1 hc_13
      refine lv_iload_n hx hb d_M_needed_35 rfl (lv_at hl 1 rfl) ?_
      exact g_iret C G hr h d_M_needed_36
    · replace h := h.2 hc_13
      refine lv_iload_n hx hb d_M_needed_16 rfl (lv_at hl 1 rfl) ?_
      refine lv_aload_n hx hb d_M_needed_17 rfl (lv_at hl 0 rfl) ?_
      refine lv_aload_n hx hb d_M_needed_18 rfl (lv_at hl 0 rfl) ?_
      refine mget_counts C G d_M_needed_19 ?_
      refine lv_iload_n hx hb d_M_needed_22 rfl (lv_at hl 2 rfl) ?_
      obtain ⟨j23, hi_23, hj_23, h⟩ := h
      refine mald_counts C G hi_23 hj_23 d_M_needed_23 ?_
      refine g_calli [.int (mCounts u10 j23)] C G (c_M_pagesFor l D cA ad k _ _ _ h) ok_M_pagesFor ml_M_55 rfl rfl ⟨Nat.le_of_ble_eq_true rfl, Nat.le_of_ble_eq_true rfl⟩ rfl rfl rfl hl.1 (rest := [.int x1]) rfl (lv_room (Nat.le_of_ble_eq_true rfl)) ⟨Nat.zero_le _, Nat.zero_le _⟩ d_M_needed_24 (fun r24 u24 H locs G h => ?_)
      refine lv_iadd hx hb d_M_needed_27 ?_
      refine lv_topi (fun x1_28 ex1_28 => ?_)
      replace h := h x1_28 ex1_28
      refine lv_istore_n (lv' := [(1, .int x1_28), (0, .ref (ad 0)), (2, .int x2)]) hx hb d_M_needed_28 rfl hl (by decide) rfl (fun ls hl => ?_)
      obtain ⟨x2_29, ex2_29⟩ : ∃ y : Int32, y = x2 + 1 := ⟨_, rfl⟩
      replace h := h x2_29 ex2_29
      refine lv_iinc (v := x2_29) (lv' := [(2, .int x2_29), (1, .int x1_28), (0, .ref (ad 0))]) hx hb d_M_needed_29 hl (k := 2) rfl (by rw [ex2_29]; rfl) (by decide) rfl (fun ls hl => ?_)
      refine lv_goto (tgt := 8) hx hb d_M_needed_32 (by decide) ?_
      exact ih _ _ _ h _ _ _ G (lv_sub hl [2, 1, 0] rfl)
set_option maxHeartbeats 4000000 in
set_option maxRecDepth 100000 in
theorem c_M_needed (l : Launch) (D : va_G) (cA : ClassId) (ad : Nat → Nat) (k : KM) (u : StM) (Q : Int32 → StM → Prop) (h : wp_M_needed k  u Q) : cMi l D cA (wM cA ad k) (ad 0) y_M_needed b_M_needed 3 (some .int) rm_M_needed [] u Q := by
  refine cMi.enter (by decide) (Nat.le_of_ble_eq_true rfl) ?_
  intro p e s m args below meth c A ls C hr G hl
  have hx := C.1
  have hb := C.2.1
  unfold wp_M_needed at h
  have hl : lv_has ls 3 [(0, .ref (ad 0))] := hl
  refine lv_aload_n hx hb d_M_needed_0 rfl (lv_at hl 0 rfl) ?_
  refine g_callv [] C G (c_M_count l D cA ad k _ _ h) ok_M_count ml_M_49 rfl rfl ⟨Nat.le_of_ble_eq_true rfl, Nat.le_of_ble_eq_true rfl⟩ rfl rfl rfl hl.1 (rest := []) rfl (lv_room (Nat.le_of_ble_eq_true rfl)) ⟨Nat.zero_le _, Nat.zero_le _⟩ d_M_needed_1 (fun u1 H locs G h => ?_)
  refine lv_iconst (v := 0) hx hb d_M_needed_4 (by decide) ?_
  refine lv_istore_n (lv' := [(1, .int 0), (0, .ref (ad 0))]) hx hb d_M_needed_5 rfl hl (by decide) rfl (fun ls hl => ?_)
  refine lv_iconst (v := 0) hx hb d_M_needed_6 (by decide) ?_
  refine lv_istore_n (lv' := [(2, .int 0), (1, .int 0), (0, .ref (ad 0))]) hx hb d_M_needed_7 rfl hl (by decide) rfl (fun ls hl => ?_)
  obtain ⟨n_8, h⟩ := h
  exact wlp_M_needed_8 C hr Q _ _ _ _ h _ _ _ G (lv_sub hl [2, 1, 0] rfl)
set_option maxHeartbeats 4000000 in
set_option maxRecDepth 100000 in
theorem wlp_M_settle_2 {p : Program} {l : Launch} {e : Env} {s : State} {m : MethodId} {args : Array Value} {below : List Frame} {meth : Method} {c : Code} {D : va_G} {cA : ClassId} {A : Nat → Prop} {ad : Nat → Nat} {k : KM} (C : wC p s m args c meth b_M_settle 2 R_M D cA A) (hr : meth.sig.returnType = none) (Q : StM → Prop) : ∀ (n : Nat) (x1 : Int32) (u : StM), lp_M_settle_2 k Q n x1 u → ∀ (H : Heap) (locs : List Loc) (ls : Array Slot), wG D A s (wM cA ad k u) H locs → lv_has ls 2 [(0, .ref (ad 0)), (1, .int x1)] → W p l e rm_M_settle s m args below meth c H locs 0 0 (zV D cA (wM cA ad k) A below args s Q) (F0 m 2 ls []) := by
  have hx := C.1
  have hb := C.2.1
  intro n
  induction n with
  | zero => intro x1 u h; exact absurd h (by unfold lp_M_settle_2; exact fun z => z)
  | succ n ih =>
    intro x1 u h H locs ls G hl
    unfold lp_M_settle_2 at h
    refine lv_iload_n hx hb d_M_settle_2 rfl (lv_at hl 1 rfl) ?_
    refine lv_aload_n hx hb d_M_settle_3 rfl (lv_at hl 0 rfl) ?_
    refine mget_size C G d_M_settle_4 ?_
    refine lv_icmp_ge (tgt := 32) hx hb d_M_settle_7 (by decide) (fun hc_7 => ?_) (fun hc_7 => ?_)
    · replace h := h.1 hc_7
      exact g_vret C G hr h d_M_settle_32
    · replace h := h.2 hc_7
      refine lv_aload_n hx hb d_M_settle_10 rfl (lv_at hl 0 rfl) ?_
      refine mget_homes C G d_M_settle_11 ?_
      refine lv_iload_n hx hb d_M_settle_14 rfl (lv_at hl 1 rfl) ?_
      refine lv_aload_n hx hb d_M_settle_15 rfl (lv_at hl 0 rfl) ?_
      refine lv_aload_n hx hb d_M_settle_16 rfl (lv_at hl 0 rfl) ?_
      refine mget_keys C G d_M_settle_17 ?_
      refine lv_iload_n hx hb d_M_settle_20 rfl (lv_at hl 1 rfl) ?_
      obtain ⟨j21, hi_21, hj_21, h⟩ := h
      refine mald_keys C G hi_21 hj_21 d_M_settle_21 ?_
      refine g_calli [.int (mKeys u j21)] C G (c_M_bucketOf l D cA ad k _ _ _ h) ok_M_bucketOf ml_M_59 rfl rfl ⟨Nat.le_of_ble_eq_true rfl, Nat.le_of_ble_eq_true rfl⟩ rfl rfl rfl hl.1 (rest := [.int x1, .ref (ad 3)]) rfl (lv_room (Nat.le_of_ble_eq_true rfl)) ⟨Nat.zero_le _, Nat.zero_le _⟩ d_M_settle_22 (fun r22 u22 H locs G h => ?_)
      refine mast_homes C G hi_21 hj_21 d_M_settle_25 (fun H locs G => ?_)
      have G : wG D A s (wM cA ad k (mSetHomes (upd (mHomes u22) j21 r22) u22)) H locs := G
      obtain ⟨x1_26, ex1_26⟩ : ∃ y : Int32, y = x1 + 1 := ⟨_, rfl⟩
      replace h := h x1_26 ex1_26
      refine lv_iinc (v := x1_26) (lv' := [(1, .int x1_26), (0, .ref (ad 0))]) hx hb d_M_settle_26 hl (k := 1) rfl (by rw [ex1_26]; rfl) (by decide) rfl (fun ls hl => ?_)
      refine lv_goto (tgt := 2) hx hb d_M_settle_29 (by decide) ?_
      exact ih _ _ h _ _ _ G (lv_sub hl [1, 0] rfl)
set_option maxHeartbeats 4000000 in
set_option maxRecDepth 100000 in
theorem c_M_settle (l : Launch) (D : va_G) (cA : ClassId) (ad : Nat → Nat) (k : KM) (u : StM) (Q : StM → Prop) (h : wp_M_settle k  u Q) : cMv l D cA (wM cA ad k) (ad 0) y_M_settle b_M_settle 2 none rm_M_settle [] u Q := by
  refine cMv.enter (by decide) (Nat.le_of_ble_eq_true rfl) ?_
  intro p e s m args below meth c A ls C hr G hl
  have hx := C.1
  have hb := C.2.1
  unfold wp_M_settle at h
  have hl : lv_has ls 2 [(0, .ref (ad 0))] := hl
  refine lv_iconst (v := 0) hx hb d_M_settle_0 (by decide) ?_
  refine lv_istore_n (lv' := [(1, .int 0), (0, .ref (ad 0))]) hx hb d_M_settle_1 rfl hl (by decide) rfl (fun ls hl => ?_)
  obtain ⟨n_2, h⟩ := h
  exact wlp_M_settle_2 C hr Q _ _ _ h _ _ _ G (lv_sub hl [1, 0] rfl)
set_option maxHeartbeats 4000000 in
set_option maxRecDepth 100000 in
theorem c_M_forth (l : Launch) (D : va_G) (cA : ClassId) (ad : Nat → Nat) (k : KM) (u : StM) (Q : StM → Prop) (h : wp_M_forth k  u Q) : cMv l D cA (wM cA ad k) (ad 0) y_M_forth b_M_forth 1 none rm_M_forth [] u Q := by
  refine cMv.enter (by decide) (Nat.le_of_ble_eq_true rfl) ?_
  intro p e s m args below meth c A ls C hr G hl
  have hx := C.1
  have hb := C.2.1
  unfold wp_M_forth at h
  have hl : lv_has ls 1 [(0, .ref (ad 0))] := hl
  refine lv_aload_n hx hb d_M_forth_0 rfl (lv_at hl 0 rfl) ?_
  refine lv_dup hx hb d_M_forth_1 rfl ?_
  refine mget_pointer C G d_M_forth_2 ?_
  refine lv_iconst (v := 1) hx hb d_M_forth_5 (by decide) ?_
  refine lv_iadd hx hb d_M_forth_6 ?_
  refine mput_pointer C G d_M_forth_7 (fun H locs G => ?_)
  have G : wG D A s (wM cA ad k (mSetPointer ((mPointer u) + 1) u)) H locs := G
  refine lv_aload_n hx hb d_M_forth_10 rfl (lv_at hl 0 rfl) ?_
  refine mget_pointer C G d_M_forth_11 ?_
  refine lv_aload_n hx hb d_M_forth_14 rfl (lv_at hl 0 rfl) ?_
  refine g_calli [] C G (c_M_round l D cA ad k _ _ h) ok_M_round ml_M_38 rfl rfl ⟨Nat.le_of_ble_eq_true rfl, Nat.le_of_ble_eq_true rfl⟩ rfl rfl rfl hl.1 (rest := [.int ((mPointer u) + 1)]) rfl (lv_room (Nat.le_of_ble_eq_true rfl)) ⟨Nat.zero_le _, Nat.zero_le _⟩ d_M_forth_15 (fun r15 u15 H locs G h => ?_)
  refine lv_icmp_ne (tgt := 36) hx hb d_M_forth_18 (by decide) (fun hc_18 => ?_) (fun hc_18 => ?_)
  · replace h := h.2 hc_18
    exact g_vret C G hr h d_M_forth_36
  · replace h := h.1 hc_18
    refine lv_aload_n hx hb d_M_forth_21 rfl (lv_at hl 0 rfl) ?_
    refine lv_iconst (v := 0) hx hb d_M_forth_22 (by decide) ?_
    refine mput_pointer C G d_M_forth_23 (fun H locs G => ?_)
    have G : wG D A s (wM cA ad k (mSetPointer 0 u15)) H locs := G
    refine lv_aload_n hx hb d_M_forth_26 rfl (lv_at hl 0 rfl) ?_
    refine lv_dup hx hb d_M_forth_27 rfl ?_
    refine mget_level C G d_M_forth_28 ?_
    refine lv_iconst (v := 1) hx hb d_M_forth_31 (by decide) ?_
    refine lv_iadd hx hb d_M_forth_32 ?_
    refine mput_level C G d_M_forth_33 (fun H locs G => ?_)
    have G : wG D A s (wM cA ad k (mSetPointer 0 (mSetLevel ((mLevel u15) + 1) u15))) H locs := G
    exact g_vret C G hr h d_M_forth_36
set_option maxHeartbeats 4000000 in
set_option maxRecDepth 100000 in
theorem c_M_back (l : Launch) (D : va_G) (cA : ClassId) (ad : Nat → Nat) (k : KM) (u : StM) (Q : StM → Prop) (h : wp_M_back k  u Q) : cMv l D cA (wM cA ad k) (ad 0) y_M_back b_M_back 1 none rm_M_back [] u Q := by
  refine cMv.enter (by decide) (Nat.le_of_ble_eq_true rfl) ?_
  intro p e s m args below meth c A ls C hr G hl
  have hx := C.1
  have hb := C.2.1
  unfold wp_M_back at h
  have hl : lv_has ls 1 [(0, .ref (ad 0))] := hl
  refine lv_aload_n hx hb d_M_back_0 rfl (lv_at hl 0 rfl) ?_
  refine mget_pointer C G d_M_back_1 ?_
  refine lv_if_ne (tgt := 25) hx hb d_M_back_4 (by decide) (fun hc_4 => ?_) (fun hc_4 => ?_)
  · replace h := h.2 hc_4
    refine lv_aload_n hx hb d_M_back_25 rfl (lv_at hl 0 rfl) ?_
    refine lv_dup hx hb d_M_back_26 rfl ?_
    refine mget_pointer C G d_M_back_27 ?_
    refine lv_iconst (v := 1) hx hb d_M_back_30 (by decide) ?_
    refine lv_isub hx hb d_M_back_31 ?_
    refine mput_pointer C G d_M_back_32 (fun H locs G => ?_)
    have G : wG D A s (wM cA ad k (mSetPointer ((mPointer u) - 1) u)) H locs := G
    exact g_vret C G hr h d_M_back_35
  · replace h := h.1 hc_4
    refine lv_aload_n hx hb d_M_back_7 rfl (lv_at hl 0 rfl) ?_
    refine lv_dup hx hb d_M_back_8 rfl ?_
    refine mget_level C G d_M_back_9 ?_
    refine lv_iconst (v := 1) hx hb d_M_back_12 (by decide) ?_
    refine lv_isub hx hb d_M_back_13 ?_
    refine mput_level C G d_M_back_14 (fun H locs G => ?_)
    have G : wG D A s (wM cA ad k (mSetLevel ((mLevel u) - 1) u)) H locs := G
    refine lv_aload_n hx hb d_M_back_17 rfl (lv_at hl 0 rfl) ?_
    refine lv_aload_n hx hb d_M_back_18 rfl (lv_at hl 0 rfl) ?_
    refine g_calli [] C G (c_M_round l D cA ad k _ _ h) ok_M_round ml_M_38 rfl rfl ⟨Nat.le_of_ble_eq_true rfl, Nat.le_of_ble_eq_true rfl⟩ rfl rfl rfl hl.1 (rest := [.ref (ad 0)]) rfl (lv_room (Nat.le_of_ble_eq_true rfl)) ⟨Nat.zero_le _, Nat.zero_le _⟩ d_M_back_19 (fun r19 u19 H locs G h => ?_)
    refine mput_pointer C G d_M_back_22 (fun H locs G => ?_)
    have G : wG D A s (wM cA ad k (mSetPointer r19 u19)) H locs := G
    refine lv_aload_n hx hb d_M_back_25 rfl (lv_at hl 0 rfl) ?_
    refine lv_dup hx hb d_M_back_26 rfl ?_
    refine mget_pointer C G d_M_back_27 ?_
    refine lv_iconst (v := 1) hx hb d_M_back_30 (by decide) ?_
    refine lv_isub hx hb d_M_back_31 ?_
    refine mput_pointer C G d_M_back_32 (fun H locs G => ?_)
    have G : wG D A s (wM cA ad k (mSetPointer (r19 - 1) u19)) H locs := G
    exact g_vret C G hr h d_M_back_35
end
section
/-! walks -/
abbrev rm_M_put : Room := { frames := 3, cells := 0, slots := 0, locals := 66 }
abbrev rm_M_get : Room := { frames := 1, cells := 0, slots := 0, locals := 23 }
abbrev rm_M_has : Room := { frames := 1, cells := 0, slots := 0, locals := 23 }
abbrev rm_M_cut : Room := { frames := 0, cells := 0, slots := 0, locals := 0 }
abbrev rm_M_toEnd : Room := { frames := 1, cells := 0, slots := 0, locals := 22 }
abbrev rm_M_remove : Room := { frames := 3, cells := 0, slots := 0, locals := 66 }
abbrev rm_M_size : Room := { frames := 0, cells := 0, slots := 0, locals := 0 }
abbrev rm_M_level : Room := { frames := 0, cells := 0, slots := 0, locals := 0 }
abbrev rm_M_pointer : Room := { frames := 0, cells := 0, slots := 0, locals := 0 }
abbrev rm_M_pages : Room := { frames := 2, cells := 0, slots := 0, locals := 42 }
abbrev rm_M_free : Room := { frames := 3, cells := 0, slots := 0, locals := 64 }
abbrev rm_M_key : Room := { frames := 2, cells := 0, slots := 0, locals := 42 }
abbrev rm_M_clear : Room := { frames := 0, cells := 0, slots := 0, locals := 0 }
set_option maxHeartbeats 4000000 in
set_option maxRecDepth 100000 in
theorem wjn_M_put_122 {p : Program} {l : Launch} {e : Env} {s : State} {m : MethodId} {args : Array Value} {below : List Frame} {meth : Method} {c : Code} {D : va_G} {cA : ClassId} {A : Nat → Prop} {ad : Nat → Nat} {k : KM} (C : wC p s m args c meth b_M_put 5 R_M D cA A) (hr : meth.sig.returnType = (some .int)) (Q : Int32 → StM → Prop) (u : StM) (h : jn_M_put_122 k Q u) : ∀ (H : Heap) (locs : List Loc) (ls : Array Slot), wG D A s (wM cA ad k u) H locs → lv_has ls 5 [(0, .ref (ad 0))] → W p l e rm_M_put s m args below meth c H locs 0 0 (zI D cA (wM cA ad k) A below args s Q) (F0 m 122 ls []) := by
  have hx := C.1
  have hb := C.2.1
  intro H locs ls G hl
  unfold jn_M_put_122 at h
  refine lv_aload_n hx hb d_M_put_122 rfl (lv_at hl 0 rfl) ?_
  refine lv_dup hx hb d_M_put_123 rfl ?_
  refine mget_size C G d_M_put_124 ?_
  refine lv_iconst (v := 1) hx hb d_M_put_127 (by decide) ?_
  refine lv_isub hx hb d_M_put_128 ?_
  refine mput_size C G d_M_put_129 (fun H locs G => ?_)
  have G : wG D A s (wM cA ad k (mSetSize ((mSize u) - 1) u)) H locs := G
  refine lv_aload_n hx hb d_M_put_132 rfl (lv_at hl 0 rfl) ?_
  refine g_callv [] C G (c_M_settle l D cA ad k _ _ h) ok_M_settle ml_M_68 rfl rfl ⟨Nat.le_of_ble_eq_true rfl, Nat.le_of_ble_eq_true rfl⟩ rfl rfl rfl hl.1 (rest := []) rfl (lv_room (Nat.le_of_ble_eq_true rfl)) ⟨Nat.zero_le _, Nat.zero_le _⟩ d_M_put_133 (fun u133 H locs G h => ?_)
  refine lv_iconst (v := 2) hx hb d_M_put_136 (by decide) ?_
  exact g_iret C G hr h d_M_put_137
set_option maxHeartbeats 4000000 in
set_option maxRecDepth 100000 in
theorem wjn_M_put_96 {p : Program} {l : Launch} {e : Env} {s : State} {m : MethodId} {args : Array Value} {below : List Frame} {meth : Method} {c : Code} {D : va_G} {cA : ClassId} {A : Nat → Prop} {ad : Nat → Nat} {k : KM} (C : wC p s m args c meth b_M_put 5 R_M D cA A) (hr : meth.sig.returnType = (some .int)) (Q : Int32 → StM → Prop) (x4 : Int32) (u : StM) (h : jn_M_put_96 k Q x4 u) : ∀ (H : Heap) (locs : List Loc) (ls : Array Slot), wG D A s (wM cA ad k u) H locs → lv_has ls 5 [(0, .ref (ad 0)), (4, .int x4)] → W p l e rm_M_put s m args below meth c H locs 0 0 (zI D cA (wM cA ad k) A below args s Q) (F0 m 96 ls []) := by
  have hx := C.1
  have hb := C.2.1
  intro H locs ls G hl
  unfold jn_M_put_96 at h
  refine lv_aload_n hx hb d_M_put_96 rfl (lv_at hl 0 rfl) ?_
  refine g_callv [] C G (c_M_settle l D cA ad k _ _ h) ok_M_settle ml_M_68 rfl rfl ⟨Nat.le_of_ble_eq_true rfl, Nat.le_of_ble_eq_true rfl⟩ rfl rfl rfl hl.1 (rest := []) rfl (lv_room (Nat.le_of_ble_eq_true rfl)) ⟨Nat.zero_le _, Nat.zero_le _⟩ d_M_put_97 (fun u97 H locs G h => ?_)
  refine lv_aload_n hx hb d_M_put_100 rfl (lv_at hl 0 rfl) ?_
  refine g_calli [] C G (c_M_needed l D cA ad k _ _ h) ok_M_needed ml_M_71 rfl rfl ⟨Nat.le_of_ble_eq_true rfl, Nat.le_of_ble_eq_true rfl⟩ rfl rfl rfl hl.1 (rest := []) rfl (lv_room (Nat.le_of_ble_eq_true rfl)) ⟨Nat.zero_le _, Nat.zero_le _⟩ d_M_put_101 (fun r101 u101 H locs G h => ?_)
  refine lv_aload_n hx hb d_M_put_104 rfl (lv_at hl 0 rfl) ?_
  refine mget_most C G d_M_put_105 ?_
  refine lv_icmp_gt (tgt := 113) hx hb d_M_put_108 (by decide) (fun hc_108 => ?_) (fun hc_108 => ?_)
  · replace h := h.1 hc_108
    refine lv_iload hx hb d_M_put_113 (lv_at hl 1 rfl) ?_
    refine lv_if_eq (tgt := 122) hx hb d_M_put_115 (by decide) (fun hc_115 => ?_) (fun hc_115 => ?_)
    · replace h := h.1 hc_115
      exact wjn_M_put_122 C hr Q _ h _ _ _ G (lv_sub hl [0] rfl)
    · replace h := h.2 hc_115
      refine lv_aload_n hx hb d_M_put_118 rfl (lv_at hl 0 rfl) ?_
      refine g_callv [] C G (c_M_back l D cA ad k _ _ h) ok_M_back ml_M_74 rfl rfl ⟨Nat.le_of_ble_eq_true rfl, Nat.le_of_ble_eq_true rfl⟩ rfl rfl rfl hl.1 (rest := []) rfl (lv_room (Nat.le_of_ble_eq_true rfl)) ⟨Nat.zero_le _, Nat.zero_le _⟩ d_M_put_119 (fun u119 H locs G h => ?_)
      exact wjn_M_put_122 C hr Q _ h _ _ _ G (lv_sub hl [0] rfl)
  · replace h := h.2 hc_108
    refine lv_iconst (v := 0) hx hb d_M_put_111 (by decide) ?_
    exact g_iret C G hr h d_M_put_112
set_option maxHeartbeats 4000000 in
set_option maxRecDepth 100000 in
theorem wjn_M_put_85 {p : Program} {l : Launch} {e : Env} {s : State} {m : MethodId} {args : Array Value} {below : List Frame} {meth : Method} {c : Code} {D : va_G} {cA : ClassId} {A : Nat → Prop} {ad : Nat → Nat} {k : KM} (C : wC p s m args c meth b_M_put 5 R_M D cA A) (hr : meth.sig.returnType = (some .int)) (Q : Int32 → StM → Prop) (t0 : Int32) (u : StM) (h : jn_M_put_85 k Q t0 u) : ∀ (H : Heap) (locs : List Loc) (ls : Array Slot), wG D A s (wM cA ad k u) H locs → lv_has ls 5 [(0, .ref (ad 0))] → W p l e rm_M_put s m args below meth c H locs 0 0 (zI D cA (wM cA ad k) A below args s Q) (F0 m 85 ls [.int t0]) := by
  have hx := C.1
  have hb := C.2.1
  intro H locs ls G hl
  unfold jn_M_put_85 at h
  refine lv_istore (lv' := [(4, .int t0), (0, .ref (ad 0))]) hx hb d_M_put_85 hl (by decide) rfl (fun ls hl => ?_)
  refine lv_iload hx hb d_M_put_87 (lv_at hl 0 rfl) ?_
  refine lv_if_eq (tgt := 96) hx hb d_M_put_89 (by decide) (fun hc_89 => ?_) (fun hc_89 => ?_)
  · replace h := h.1 hc_89
    exact wjn_M_put_96 C hr Q _ _ h _ _ _ G (lv_sub hl [1, 0] rfl)
  · replace h := h.2 hc_89
    refine lv_aload_n hx hb d_M_put_92 rfl (lv_at hl 1 rfl) ?_
    refine g_callv [] C G (c_M_forth l D cA ad k _ _ h) ok_M_forth ml_M_65 rfl rfl ⟨Nat.le_of_ble_eq_true rfl, Nat.le_of_ble_eq_true rfl⟩ rfl rfl rfl hl.1 (rest := []) rfl (lv_room (Nat.le_of_ble_eq_true rfl)) ⟨Nat.zero_le _, Nat.zero_le _⟩ d_M_put_93 (fun u93 H locs G h => ?_)
    exact wjn_M_put_96 C hr Q _ _ h _ _ _ G (lv_sub hl [1, 0] rfl)
set_option maxHeartbeats 4000000 in
set_option maxRecDepth 100000 in
theorem c_M_put (l : Launch) (D : va_G) (cA : ClassId) (ad : Nat → Nat) (k : KM) (x1 x2 : Int32) (u : StM) (Q : Int32 → StM → Prop) (h : wp_M_put k x1 x2 u Q) : cMi l D cA (wM cA ad k) (ad 0) y_M_put b_M_put 5 (some .int) rm_M_put [.int x1, .int x2] u Q := by
  refine cMi.enter (by decide) (Nat.le_of_ble_eq_true rfl) ?_
  intro p e s m args below meth c A ls C hr G hl
  have hx := C.1
  have hb := C.2.1
  unfold wp_M_put at h
  have hl : lv_has ls 5 [(0, .ref (ad 0)), (1, .int x1), (2, .int x2)] := hl
  refine lv_aload_n hx hb d_M_put_0 rfl (lv_at hl 0 rfl) ?_
  refine lv_iload_n hx hb d_M_put_1 rfl (lv_at hl 1 rfl) ?_
  refine g_calli [.int x1] C G (c_M_find l D cA ad k _ _ _ h) ok_M_find ml_M_62 rfl rfl ⟨Nat.le_of_ble_eq_true rfl, Nat.le_of_ble_eq_true rfl⟩ rfl rfl rfl hl.1 (rest := []) rfl (lv_room (Nat.le_of_ble_eq_true rfl)) ⟨Nat.zero_le _, Nat.zero_le _⟩ d_M_put_2 (fun r2 u2 H locs G h => ?_)
  refine lv_istore_n (lv' := [(3, .int r2), (0, .ref (ad 0)), (1, .int x1), (2, .int x2)]) hx hb d_M_put_5 rfl hl (by decide) rfl (fun ls hl => ?_)
  refine lv_iload_n hx hb d_M_put_6 rfl (lv_at hl 0 rfl) ?_
  refine lv_if_lt (tgt := 19) hx hb d_M_put_7 (by decide) (fun hc_7 => ?_) (fun hc_7 => ?_)
  · replace h := h.1 hc_7
    refine lv_aload_n hx hb d_M_put_19 rfl (lv_at hl 1 rfl) ?_
    refine mget_keys C G d_M_put_20 ?_
    refine lv_aload_n hx hb d_M_put_23 rfl (lv_at hl 1 rfl) ?_
    refine mget_size C G d_M_put_24 ?_
    refine lv_iload_n hx hb d_M_put_27 rfl (lv_at hl 2 rfl) ?_
    obtain ⟨j28, hi_28, hj_28, h⟩ := h
    refine mast_keys C G hi_28 hj_28 d_M_put_28 (fun H locs G => ?_)
    have G : wG D A s (wM cA ad k (mSetKeys (upd (mKeys u2) j28 x1) u2)) H locs := G
    refine lv_aload_n hx hb d_M_put_29 rfl (lv_at hl 1 rfl) ?_
    refine mget_values C G d_M_put_30 ?_
    refine lv_aload_n hx hb d_M_put_33 rfl (lv_at hl 1 rfl) ?_
    refine mget_size C G d_M_put_34 ?_
    refine lv_iload_n hx hb d_M_put_37 rfl (lv_at hl 3 rfl) ?_
    refine mast_values C G hi_28 hj_28 d_M_put_38 (fun H locs G => ?_)
    have G : wG D A s (wM cA ad k (mSetValues (upd (mValues u2) j28 x2) (mSetKeys (upd (mKeys u2) j28 x1) u2))) H locs := G
    refine lv_aload_n hx hb d_M_put_39 rfl (lv_at hl 1 rfl) ?_
    refine lv_dup hx hb d_M_put_40 rfl ?_
    refine mget_size C G d_M_put_41 ?_
    refine lv_iconst (v := 1) hx hb d_M_put_44 (by decide) ?_
    refine lv_iadd hx hb d_M_put_45 ?_
    refine mput_size C G d_M_put_46 (fun H locs G => ?_)
    have G : wG D A s (wM cA ad k (mSetValues (upd (mValues u2) j28 x2) (mSetKeys (upd (mKeys u2) j28 x1) (mSetSize ((mSize u2) + 1) u2)))) H locs := G
    refine lv_iconst (v := 4) hx hb d_M_put_49 (by decide) ?_
    refine lv_aload_n hx hb d_M_put_50 rfl (lv_at hl 1 rfl) ?_
    refine mget_size C G d_M_put_51 ?_
    refine lv_imul hx hb d_M_put_54 ?_
    refine lv_iconst (v := 3) hx hb d_M_put_55 (by decide) ?_
    refine lv_aload_n hx hb d_M_put_56 rfl (lv_at hl 1 rfl) ?_
    refine mget_cap C G d_M_put_57 ?_
    refine lv_imul hx hb d_M_put_60 ?_
    refine lv_aload_n hx hb d_M_put_61 rfl (lv_at hl 1 rfl) ?_
    refine g_calli [] C G (c_M_buckets l D cA ad k _ _ h) ok_M_buckets ml_M_52 rfl rfl ⟨Nat.le_of_ble_eq_true rfl, Nat.le_of_ble_eq_true rfl⟩ rfl rfl rfl hl.1 (rest := [.int (3 * (mCap k)), .int (4 * ((mSize u2) + 1))]) rfl (lv_room (Nat.le_of_ble_eq_true rfl)) ⟨Nat.zero_le _, Nat.zero_le _⟩ d_M_put_62 (fun r62 u62 H locs G h => ?_)
    refine lv_imul hx hb d_M_put_65 ?_
    refine lv_icmp_le (tgt := 84) hx hb d_M_put_66 (by decide) (fun hc_66 => ?_) (fun hc_66 => ?_)
    · replace h := h.1 hc_66
      refine lv_iconst (v := 0) hx hb d_M_put_84 (by decide) ?_
      exact wjn_M_put_85 C hr Q _ _ h _ _ _ G (lv_sub hl [1] rfl)
    · replace h := h.2 hc_66
      refine lv_aload_n hx hb d_M_put_69 rfl (lv_at hl 1 rfl) ?_
      refine g_calli [] C G (c_M_buckets l D cA ad k _ _ h) ok_M_buckets ml_M_52 rfl rfl ⟨Nat.le_of_ble_eq_true rfl, Nat.le_of_ble_eq_true rfl⟩ rfl rfl rfl hl.1 (rest := []) rfl (lv_room (Nat.le_of_ble_eq_true rfl)) ⟨Nat.zero_le _, Nat.zero_le _⟩ d_M_put_70 (fun r70 u70 H locs G h => ?_)
      refine lv_aload_n hx hb d_M_put_73 rfl (lv_at hl 1 rfl) ?_
      refine mget_mostBuckets C G d_M_put_74 ?_
      refine lv_icmp_ge (tgt := 84) hx hb d_M_put_77 (by decide) (fun hc_77 => ?_) (fun hc_77 => ?_)
      · replace h := h.1 hc_77
        refine lv_iconst (v := 0) hx hb d_M_put_84 (by decide) ?_
        exact wjn_M_put_85 C hr Q _ _ h _ _ _ G (lv_sub hl [1] rfl)
      · replace h := h.2 hc_77
        refine lv_iconst (v := 1) hx hb d_M_put_80 (by decide) ?_
        refine lv_goto (tgt := 85) hx hb d_M_put_81 (by decide) ?_
        exact wjn_M_put_85 C hr Q _ _ h _ _ _ G (lv_sub hl [1] rfl)
  · replace h := h.2 hc_7
    refine lv_aload_n hx hb d_M_put_10 rfl (lv_at hl 1 rfl) ?_
    refine mget_values C G d_M_put_11 ?_
    refine lv_iload_n hx hb d_M_put_14 rfl (lv_at hl 0 rfl) ?_
    refine lv_iload_n hx hb d_M_put_15 rfl (lv_at hl 3 rfl) ?_
    obtain ⟨j16, hi_16, hj_16, h⟩ := h
    refine mast_values C G hi_16 hj_16 d_M_put_16 (fun H locs G => ?_)
    have G : wG D A s (wM cA ad k (mSetValues (upd (mValues u2) j16 x2) u2)) H locs := G
    refine lv_iconst (v := 1) hx hb d_M_put_17 (by decide) ?_
    exact g_iret C G hr h d_M_put_18
set_option maxHeartbeats 4000000 in
set_option maxRecDepth 100000 in
theorem c_M_get (l : Launch) (D : va_G) (cA : ClassId) (ad : Nat → Nat) (k : KM) (x1 : Int32) (u : StM) (Q : Int32 → StM → Prop) (h : wp_M_get k x1 u Q) : cMi l D cA (wM cA ad k) (ad 0) y_M_get b_M_get 3 (some .int) rm_M_get [.int x1] u Q := by
  refine cMi.enter (by decide) (Nat.le_of_ble_eq_true rfl) ?_
  intro p e s m args below meth c A ls C hr G hl
  have hx := C.1
  have hb := C.2.1
  unfold wp_M_get at h
  have hl : lv_has ls 3 [(0, .ref (ad 0)), (1, .int x1)] := hl
  refine lv_aload_n hx hb d_M_get_0 rfl (lv_at hl 0 rfl) ?_
  refine lv_iload_n hx hb d_M_get_1 rfl (lv_at hl 1 rfl) ?_
  refine g_calli [.int x1] C G (c_M_find l D cA ad k _ _ _ h) ok_M_find ml_M_62 rfl rfl ⟨Nat.le_of_ble_eq_true rfl, Nat.le_of_ble_eq_true rfl⟩ rfl rfl rfl hl.1 (rest := []) rfl (lv_room (Nat.le_of_ble_eq_true rfl)) ⟨Nat.zero_le _, Nat.zero_le _⟩ d_M_get_2 (fun r2 u2 H locs G h => ?_)
  refine lv_istore_n (lv' := [(2, .int r2), (0, .ref (ad 0)), (1, .int x1)]) hx hb d_M_get_5 rfl hl (by decide) rfl (fun ls hl => ?_)
  refine lv_iload_n hx hb d_M_get_6 rfl (lv_at hl 0 rfl) ?_
  refine lv_if_ge (tgt := 14) hx hb d_M_get_7 (by decide) (fun hc_7 => ?_) (fun hc_7 => ?_)
  · replace h := h.1 hc_7
    refine lv_aload_n hx hb d_M_get_14 rfl (lv_at hl 1 rfl) ?_
    refine mget_values C G d_M_get_15 ?_
    refine lv_iload_n hx hb d_M_get_18 rfl (lv_at hl 0 rfl) ?_
    obtain ⟨j19, hi_19, hj_19, h⟩ := h
    refine mald_values C G hi_19 hj_19 d_M_get_19 ?_
    exact g_iret C G hr h d_M_get_20
  · replace h := h.2 hc_7
    refine lv_iconst (v := 0) hx hb d_M_get_10 (by decide) ?_
    refine lv_goto (tgt := 20) hx hb d_M_get_11 (by decide) ?_
    exact g_iret C G hr h d_M_get_20
set_option maxHeartbeats 4000000 in
set_option maxRecDepth 100000 in
theorem c_M_has (l : Launch) (D : va_G) (cA : ClassId) (ad : Nat → Nat) (k : KM) (x1 : Int32) (u : StM) (Q : Int32 → StM → Prop) (h : wp_M_has k x1 u Q) : cMi l D cA (wM cA ad k) (ad 0) y_M_has b_M_has 2 (some .boolean) rm_M_has [.int x1] u Q := by
  refine cMi.enter (by decide) (Nat.le_of_ble_eq_true rfl) ?_
  intro p e s m args below meth c A ls C hr G hl
  have hx := C.1
  have hb := C.2.1
  unfold wp_M_has at h
  have hl : lv_has ls 2 [(0, .ref (ad 0)), (1, .int x1)] := hl
  refine lv_aload_n hx hb d_M_has_0 rfl (lv_at hl 0 rfl) ?_
  refine lv_iload_n hx hb d_M_has_1 rfl (lv_at hl 1 rfl) ?_
  refine g_calli [.int x1] C G (c_M_find l D cA ad k _ _ _ h) ok_M_find ml_M_62 rfl rfl ⟨Nat.le_of_ble_eq_true rfl, Nat.le_of_ble_eq_true rfl⟩ rfl rfl rfl hl.1 (rest := []) rfl (lv_room (Nat.le_of_ble_eq_true rfl)) ⟨Nat.zero_le _, Nat.zero_le _⟩ d_M_has_2 (fun r2 u2 H locs G h => ?_)
  refine lv_if_lt (tgt := 12) hx hb d_M_has_5 (by decide) (fun hc_5 => ?_) (fun hc_5 => ?_)
  · replace h := h.1 hc_5
    refine lv_iconst (v := 0) hx hb d_M_has_12 (by decide) ?_
    exact g_zret C G hr rfl h d_M_has_13
  · replace h := h.2 hc_5
    refine lv_iconst (v := 1) hx hb d_M_has_8 (by decide) ?_
    refine lv_goto (tgt := 13) hx hb d_M_has_9 (by decide) ?_
    exact g_zret C G hr rfl h d_M_has_13
set_option maxHeartbeats 4000000 in
set_option maxRecDepth 100000 in
theorem wlp_M_cut_12 {p : Program} {l : Launch} {e : Env} {s : State} {m : MethodId} {args : Array Value} {below : List Frame} {meth : Method} {c : Code} {D : va_G} {cA : ClassId} {A : Nat → Prop} {ad : Nat → Nat} {k : KM} (C : wC p s m args c meth b_M_cut 3 R_M D cA A) (hr : meth.sig.returnType = none) (Q : StM → Prop) : ∀ (n : Nat) (x2 : Int32) (u : StM), lp_M_cut_12 k Q n x2 u → ∀ (H : Heap) (locs : List Loc) (ls : Array Slot), wG D A s (wM cA ad k u) H locs → lv_has ls 3 [(0, .ref (ad 0)), (2, .int x2)] → W p l e rm_M_cut s m args below meth c H locs 0 0 (zV D cA (wM cA ad k) A below args s Q) (F0 m 12 ls []) := by
  have hx := C.1
  have hb := C.2.1
  intro n
  induction n with
  | zero => intro x2 u h; exact absurd h (by unfold lp_M_cut_12; exact fun z => z)
  | succ n ih =>
    intro x2 u h H locs ls G hl
    unfold lp_M_cut_12 at h
    refine lv_iload_n hx hb d_M_cut_12 rfl (lv_at hl 1 rfl) ?_
    refine lv_aload_n hx hb d_M_cut_13 rfl (lv_at hl 0 rfl) ?_
    refine mget_size C G d_M_cut_14 ?_
    refine lv_icmp_ge (tgt := 68) hx hb d_M_cut_17 (by decide) (fun hc_17 => ?_) (fun hc_17 => ?_)
    · replace h := h.1 hc_17
      exact g_vret C G hr h d_M_cut_68
    · replace h := h.2 hc_17
      refine lv_aload_n hx hb d_M_cut_20 rfl (lv_at hl 0 rfl) ?_
      refine mget_keys C G d_M_cut_21 ?_
      refine lv_iload_n hx hb d_M_cut_24 rfl (lv_at hl 1 rfl) ?_
      refine lv_aload_n hx hb d_M_cut_25 rfl (lv_at hl 0 rfl) ?_
      refine mget_keys C G d_M_cut_26 ?_
      refine lv_iload_n hx hb d_M_cut_29 rfl (lv_at hl 1 rfl) ?_
      refine lv_iconst (v := 1) hx hb d_M_cut_30 (by decide) ?_
      refine lv_iadd hx hb d_M_cut_31 ?_
      obtain ⟨j32, hi_32, hj_32, h⟩ := h
      refine mald_keys C G hi_32 hj_32 d_M_cut_32 ?_
      obtain ⟨j33, hi_33, hj_33, h⟩ := h
      refine mast_keys C G hi_33 hj_33 d_M_cut_33 (fun H locs G => ?_)
      have G : wG D A s (wM cA ad k (mSetKeys (upd (mKeys u) j33 (mKeys u j32)) u)) H locs := G
      refine lv_aload_n hx hb d_M_cut_34 rfl (lv_at hl 0 rfl) ?_
      refine mget_values C G d_M_cut_35 ?_
      refine lv_iload_n hx hb d_M_cut_38 rfl (lv_at hl 1 rfl) ?_
      refine lv_aload_n hx hb d_M_cut_39 rfl (lv_at hl 0 rfl) ?_
      refine mget_values C G d_M_cut_40 ?_
      refine lv_iload_n hx hb d_M_cut_43 rfl (lv_at hl 1 rfl) ?_
      refine lv_iconst (v := 1) hx hb d_M_cut_44 (by decide) ?_
      refine lv_iadd hx hb d_M_cut_45 ?_
      refine mald_values C G hi_32 hj_32 d_M_cut_46 ?_
      refine mast_values C G hi_33 hj_33 d_M_cut_47 (fun H locs G => ?_)
      have G : wG D A s (wM cA ad k (mSetValues (upd (mValues u) j33 (mValues u j32)) (mSetKeys (upd (mKeys u) j33 (mKeys u j32)) u))) H locs := G
      refine lv_aload_n hx hb d_M_cut_48 rfl (lv_at hl 0 rfl) ?_
      refine mget_homes C G d_M_cut_49 ?_
      refine lv_iload_n hx hb d_M_cut_52 rfl (lv_at hl 1 rfl) ?_
      refine lv_aload_n hx hb d_M_cut_53 rfl (lv_at hl 0 rfl) ?_
      refine mget_homes C G d_M_cut_54 ?_
      refine lv_iload_n hx hb d_M_cut_57 rfl (lv_at hl 1 rfl) ?_
      refine lv_iconst (v := 1) hx hb d_M_cut_58 (by decide) ?_
      refine lv_iadd hx hb d_M_cut_59 ?_
      refine mald_homes C G hi_32 hj_32 d_M_cut_60 ?_
      refine mast_homes C G hi_33 hj_33 d_M_cut_61 (fun H locs G => ?_)
      have G : wG D A s (wM cA ad k (mSetHomes (upd (mHomes u) j33 (mHomes u j32)) (mSetValues (upd (mValues u) j33 (mValues u j32)) (mSetKeys (upd (mKeys u) j33 (mKeys u j32)) u)))) H locs := G
      obtain ⟨x2_62, ex2_62⟩ : ∃ y : Int32, y = x2 + 1 := ⟨_, rfl⟩
      replace h := h x2_62 ex2_62
      refine lv_iinc (v := x2_62) (lv' := [(2, .int x2_62), (0, .ref (ad 0))]) hx hb d_M_cut_62 hl (k := 1) rfl (by rw [ex2_62]; rfl) (by decide) rfl (fun ls hl => ?_)
      refine lv_goto (tgt := 12) hx hb d_M_cut_65 (by decide) ?_
      exact ih _ _ h _ _ _ G (lv_sub hl [1, 0] rfl)
set_option maxHeartbeats 4000000 in
set_option maxRecDepth 100000 in
theorem c_M_cut (l : Launch) (D : va_G) (cA : ClassId) (ad : Nat → Nat) (k : KM) (x1 : Int32) (u : StM) (Q : StM → Prop) (h : wp_M_cut k x1 u Q) : cMv l D cA (wM cA ad k) (ad 0) y_M_cut b_M_cut 3 none rm_M_cut [.int x1] u Q := by
  refine cMv.enter (by decide) (Nat.le_of_ble_eq_true rfl) ?_
  intro p e s m args below meth c A ls C hr G hl
  have hx := C.1
  have hb := C.2.1
  unfold wp_M_cut at h
  have hl : lv_has ls 3 [(0, .ref (ad 0)), (1, .int x1)] := hl
  refine lv_aload_n hx hb d_M_cut_0 rfl (lv_at hl 0 rfl) ?_
  refine lv_dup hx hb d_M_cut_1 rfl ?_
  refine mget_size C G d_M_cut_2 ?_
  refine lv_iconst (v := 1) hx hb d_M_cut_5 (by decide) ?_
  refine lv_isub hx hb d_M_cut_6 ?_
  refine mput_size C G d_M_cut_7 (fun H locs G => ?_)
  have G : wG D A s (wM cA ad k (mSetSize ((mSize u) - 1) u)) H locs := G
  refine lv_iload_n hx hb d_M_cut_10 rfl (lv_at hl 1 rfl) ?_
  refine lv_istore_n (lv' := [(2, .int x1), (0, .ref (ad 0)), (1, .int x1)]) hx hb d_M_cut_11 rfl hl (by decide) rfl (fun ls hl => ?_)
  obtain ⟨n_12, h⟩ := h
  exact wlp_M_cut_12 C hr Q _ _ _ h _ _ _ G (lv_sub hl [1, 0] rfl)
set_option maxHeartbeats 4000000 in
set_option maxRecDepth 100000 in
theorem wlp_M_toEnd_7 {p : Program} {l : Launch} {e : Env} {s : State} {m : MethodId} {args : Array Value} {below : List Frame} {meth : Method} {c : Code} {D : va_G} {cA : ClassId} {A : Nat → Prop} {ad : Nat → Nat} {k : KM} (C : wC p s m args c meth b_M_toEnd 6 R_M D cA A) (hr : meth.sig.returnType = none) (Q : StM → Prop) : ∀ (n : Nat) (x1 x2 x3 : Int32) (u : StM), lp_M_toEnd_7 k Q n x1 x2 x3 u → ∀ (H : Heap) (locs : List Loc) (ls : Array Slot), wG D A s (wM cA ad k u) H locs → lv_has ls 6 [(0, .ref (ad 0)), (1, .int x1), (2, .int x2), (3, .int x3)] → W p l e rm_M_toEnd s m args below meth c H locs 0 0 (zV D cA (wM cA ad k) A below args s Q) (F0 m 7 ls []) := by
  have hx := C.1
  have hb := C.2.1
  intro n
  induction n with
  | zero => intro x1 x2 x3 u h; exact absurd h (by unfold lp_M_toEnd_7; exact fun z => z)
  | succ n ih =>
    intro x1 x2 x3 u h H locs ls G hl
    unfold lp_M_toEnd_7 at h
    refine lv_iload_n hx hb d_M_toEnd_7 rfl (lv_at hl 3 rfl) ?_
    refine lv_if_le (tgt := 96) hx hb d_M_toEnd_8 (by decide) (fun hc_8 => ?_) (fun hc_8 => ?_)
    · replace h := h.1 hc_8
      exact g_vret C G hr h d_M_toEnd_96
    · replace h := h.2 hc_8
      refine lv_aload_n hx hb d_M_toEnd_11 rfl (lv_at hl 0 rfl) ?_
      refine mget_homes C G d_M_toEnd_12 ?_
      refine lv_iload_n hx hb d_M_toEnd_15 rfl (lv_at hl 2 rfl) ?_
      obtain ⟨j16, hi_16, hj_16, h⟩ := h
      refine mald_homes C G hi_16 hj_16 d_M_toEnd_16 ?_
      refine lv_iload_n hx hb d_M_toEnd_17 rfl (lv_at hl 1 rfl) ?_
      refine lv_icmp_eq (tgt := 27) hx hb d_M_toEnd_18 (by decide) (fun hc_18 => ?_) (fun hc_18 => ?_)
      · replace h := h.1 hc_18
        refine lv_aload_n hx hb d_M_toEnd_27 rfl (lv_at hl 0 rfl) ?_
        refine mget_keys C G d_M_toEnd_28 ?_
        refine lv_iload_n hx hb d_M_toEnd_31 rfl (lv_at hl 2 rfl) ?_
        refine mald_keys C G hi_16 hj_16 d_M_toEnd_32 ?_
        refine lv_topi (fun x4_33 ex4_33 => ?_)
        replace h := h x4_33 ex4_33
        refine lv_istore (lv' := [(4, .int x4_33), (0, .ref (ad 0)), (1, .int x1), (2, .int x2), (3, .int x3)]) hx hb d_M_toEnd_33 hl (by decide) rfl (fun ls hl => ?_)
        refine lv_aload_n hx hb d_M_toEnd_35 rfl (lv_at hl 1 rfl) ?_
        refine mget_values C G d_M_toEnd_36 ?_
        refine lv_iload_n hx hb d_M_toEnd_39 rfl (lv_at hl 3 rfl) ?_
        refine mald_values C G hi_16 hj_16 d_M_toEnd_40 ?_
        refine lv_topi (fun x5_41 ex5_41 => ?_)
        replace h := h x5_41 ex5_41
        refine lv_istore (lv' := [(5, .int x5_41), (4, .int x4_33), (0, .ref (ad 0)), (1, .int x1), (2, .int x2), (3, .int x3)]) hx hb d_M_toEnd_41 hl (by decide) rfl (fun ls hl => ?_)
        refine lv_aload_n hx hb d_M_toEnd_43 rfl (lv_at hl 2 rfl) ?_
        refine lv_iload_n hx hb d_M_toEnd_44 rfl (lv_at hl 4 rfl) ?_
        refine g_callv [.int x2] C G (c_M_cut l D cA ad k _ _ _ h) ok_M_cut ml_M_77 rfl rfl ⟨Nat.le_of_ble_eq_true rfl, Nat.le_of_ble_eq_true rfl⟩ rfl rfl rfl hl.1 (rest := []) rfl (lv_room (Nat.le_of_ble_eq_true rfl)) ⟨Nat.zero_le _, Nat.zero_le _⟩ d_M_toEnd_45 (fun u45 H locs G h => ?_)
        refine lv_aload_n hx hb d_M_toEnd_48 rfl (lv_at hl 2 rfl) ?_
        refine mget_keys C G d_M_toEnd_49 ?_
        refine lv_aload_n hx hb d_M_toEnd_52 rfl (lv_at hl 2 rfl) ?_
        refine mget_size C G d_M_toEnd_53 ?_
        refine lv_iload hx hb d_M_toEnd_56 (lv_at hl 1 rfl) ?_
        obtain ⟨j58, hi_58, hj_58, h⟩ := h
        refine mast_keys C G hi_58 hj_58 d_M_toEnd_58 (fun H locs G => ?_)
        have G : wG D A s (wM cA ad k (mSetKeys (upd (mKeys u45) j58 x4_33) u45)) H locs := G
        refine lv_aload_n hx hb d_M_toEnd_59 rfl (lv_at hl 2 rfl) ?_
        refine mget_values C G d_M_toEnd_60 ?_
        refine lv_aload_n hx hb d_M_toEnd_63 rfl (lv_at hl 2 rfl) ?_
        refine mget_size C G d_M_toEnd_64 ?_
        refine lv_iload hx hb d_M_toEnd_67 (lv_at hl 0 rfl) ?_
        refine mast_values C G hi_58 hj_58 d_M_toEnd_69 (fun H locs G => ?_)
        have G : wG D A s (wM cA ad k (mSetValues (upd (mValues u45) j58 x5_41) (mSetKeys (upd (mKeys u45) j58 x4_33) u45))) H locs := G
        refine lv_aload_n hx hb d_M_toEnd_70 rfl (lv_at hl 2 rfl) ?_
        refine mget_homes C G d_M_toEnd_71 ?_
        refine lv_aload_n hx hb d_M_toEnd_74 rfl (lv_at hl 2 rfl) ?_
        refine mget_size C G d_M_toEnd_75 ?_
        refine lv_iload_n hx hb d_M_toEnd_78 rfl (lv_at hl 3 rfl) ?_
        refine mast_homes C G hi_58 hj_58 d_M_toEnd_79 (fun H locs G => ?_)
        have G : wG D A s (wM cA ad k (mSetHomes (upd (mHomes u45) j58 x1) (mSetValues (upd (mValues u45) j58 x5_41) (mSetKeys (upd (mKeys u45) j58 x4_33) u45)))) H locs := G
        refine lv_aload_n hx hb d_M_toEnd_80 rfl (lv_at hl 2 rfl) ?_
        refine lv_dup hx hb d_M_toEnd_81 rfl ?_
        refine mget_size C G d_M_toEnd_82 ?_
        refine lv_iconst (v := 1) hx hb d_M_toEnd_85 (by decide) ?_
        refine lv_iadd hx hb d_M_toEnd_86 ?_
        refine mput_size C G d_M_toEnd_87 (fun H locs G => ?_)
        have G : wG D A s (wM cA ad k (mSetHomes (upd (mHomes u45) j58 x1) (mSetValues (upd (mValues u45) j58 x5_41) (mSetKeys (upd (mKeys u45) j58 x4_33) (mSetSize ((mSize u45) + 1) u45))))) H locs := G
        obtain ⟨x3_90, ex3_90⟩ : ∃ y : Int32, y = x3 + (-1) := ⟨_, rfl⟩
        replace h := h x3_90 ex3_90
        refine lv_iinc (v := x3_90) (lv' := [(3, .int x3_90), (5, .int x5_41), (4, .int x4_33), (0, .ref (ad 0)), (1, .int x1), (2, .int x2)]) hx hb d_M_toEnd_90 hl (k := 5) rfl (by rw [ex3_90]; rfl) (by decide) rfl (fun ls hl => ?_)
        refine lv_goto (tgt := 7) hx hb d_M_toEnd_93 (by decide) ?_
        exact ih _ _ _ _ h _ _ _ G (lv_sub hl [3, 4, 5, 0] rfl)
      · replace h := h.2 hc_18
        obtain ⟨x2_21, ex2_21⟩ : ∃ y : Int32, y = x2 + 1 := ⟨_, rfl⟩
        replace h := h x2_21 ex2_21
        refine lv_iinc (v := x2_21) (lv' := [(2, .int x2_21), (0, .ref (ad 0)), (1, .int x1), (3, .int x3)]) hx hb d_M_toEnd_21 hl (k := 2) rfl (by rw [ex2_21]; rfl) (by decide) rfl (fun ls hl => ?_)
        refine lv_goto (tgt := 90) hx hb d_M_toEnd_24 (by decide) ?_
        obtain ⟨x3_90, ex3_90⟩ : ∃ y : Int32, y = x3 + (-1) := ⟨_, rfl⟩
        replace h := h x3_90 ex3_90
        refine lv_iinc (v := x3_90) (lv' := [(3, .int x3_90), (2, .int x2_21), (0, .ref (ad 0)), (1, .int x1)]) hx hb d_M_toEnd_90 hl (k := 3) rfl (by rw [ex3_90]; rfl) (by decide) rfl (fun ls hl => ?_)
        refine lv_goto (tgt := 7) hx hb d_M_toEnd_93 (by decide) ?_
        exact ih _ _ _ _ h _ _ _ G (lv_sub hl [2, 3, 1, 0] rfl)
set_option maxHeartbeats 4000000 in
set_option maxRecDepth 100000 in
theorem c_M_toEnd (l : Launch) (D : va_G) (cA : ClassId) (ad : Nat → Nat) (k : KM) (x1 : Int32) (u : StM) (Q : StM → Prop) (h : wp_M_toEnd k x1 u Q) : cMv l D cA (wM cA ad k) (ad 0) y_M_toEnd b_M_toEnd 6 none rm_M_toEnd [.int x1] u Q := by
  refine cMv.enter (by decide) (Nat.le_of_ble_eq_true rfl) ?_
  intro p e s m args below meth c A ls C hr G hl
  have hx := C.1
  have hb := C.2.1
  unfold wp_M_toEnd at h
  have hl : lv_has ls 6 [(0, .ref (ad 0)), (1, .int x1)] := hl
  refine lv_iconst (v := 0) hx hb d_M_toEnd_0 (by decide) ?_
  refine lv_istore_n (lv' := [(2, .int 0), (0, .ref (ad 0)), (1, .int x1)]) hx hb d_M_toEnd_1 rfl hl (by decide) rfl (fun ls hl => ?_)
  refine lv_aload_n hx hb d_M_toEnd_2 rfl (lv_at hl 1 rfl) ?_
  refine mget_size C G d_M_toEnd_3 ?_
  refine lv_topi (fun x3_6 ex3_6 => ?_)
  replace h := h x3_6 ex3_6
  refine lv_istore_n (lv' := [(3, .int x3_6), (2, .int 0), (0, .ref (ad 0)), (1, .int x1)]) hx hb d_M_toEnd_6 rfl hl (by decide) rfl (fun ls hl => ?_)
  obtain ⟨n_7, h⟩ := h
  exact wlp_M_toEnd_7 C hr Q _ _ _ _ _ h _ _ _ G (lv_sub hl [2, 3, 1, 0] rfl)
set_option maxHeartbeats 4000000 in
set_option maxRecDepth 100000 in
theorem wlp_M_remove_17 {p : Program} {l : Launch} {e : Env} {s : State} {m : MethodId} {args : Array Value} {below : List Frame} {meth : Method} {c : Code} {D : va_G} {cA : ClassId} {A : Nat → Prop} {ad : Nat → Nat} {k : KM} (C : wC p s m args c meth b_M_remove 5 R_M D cA A) (hr : meth.sig.returnType = (some .boolean)) (Q : Int32 → StM → Prop) : ∀ (n : Nat) (x2 x3 x4 : Int32) (u : StM), lp_M_remove_17 k Q n x2 x3 x4 u → ∀ (H : Heap) (locs : List Loc) (ls : Array Slot), wG D A s (wM cA ad k u) H locs → lv_has ls 5 [(0, .ref (ad 0)), (2, .int x2), (3, .int x3), (4, .int x4)] → W p l e rm_M_remove s m args below meth c H locs 0 0 (zI D cA (wM cA ad k) A below args s Q) (F0 m 17 ls []) := by
  have hx := C.1
  have hb := C.2.1
  intro n
  induction n with
  | zero => intro x2 x3 x4 u h; exact absurd h (by unfold lp_M_remove_17; exact fun z => z)
  | succ n ih =>
    intro x2 x3 x4 u h H locs ls G hl
    unfold lp_M_remove_17 at h
    refine lv_iload hx hb d_M_remove_17 (lv_at hl 3 rfl) ?_
    refine lv_aload_n hx hb d_M_remove_19 rfl (lv_at hl 0 rfl) ?_
    refine mget_size C G d_M_remove_20 ?_
    refine lv_icmp_ge (tgt := 55) hx hb d_M_remove_23 (by decide) (fun hc_23 => ?_) (fun hc_23 => ?_)
    · replace h := h.1 hc_23
      refine lv_aload_n hx hb d_M_remove_55 rfl (lv_at hl 0 rfl) ?_
      refine mget_keys C G d_M_remove_56 ?_
      refine lv_iload_n hx hb d_M_remove_59 rfl (lv_at hl 1 rfl) ?_
      refine lv_aload_n hx hb d_M_remove_60 rfl (lv_at hl 0 rfl) ?_
      refine mget_keys C G d_M_remove_61 ?_
      refine lv_iload_n hx hb d_M_remove_64 rfl (lv_at hl 2 rfl) ?_
      obtain ⟨j65, hi_65, hj_65, h⟩ := h
      refine mald_keys C G hi_65 hj_65 d_M_remove_65 ?_
      obtain ⟨j66, hi_66, hj_66, h⟩ := h
      refine mast_keys C G hi_66 hj_66 d_M_remove_66 (fun H locs G => ?_)
      have G : wG D A s (wM cA ad k (mSetKeys (upd (mKeys u) j66 (mKeys u j65)) u)) H locs := G
      refine lv_aload_n hx hb d_M_remove_67 rfl (lv_at hl 0 rfl) ?_
      refine mget_values C G d_M_remove_68 ?_
      refine lv_iload_n hx hb d_M_remove_71 rfl (lv_at hl 1 rfl) ?_
      refine lv_aload_n hx hb d_M_remove_72 rfl (lv_at hl 0 rfl) ?_
      refine mget_values C G d_M_remove_73 ?_
      refine lv_iload_n hx hb d_M_remove_76 rfl (lv_at hl 2 rfl) ?_
      refine mald_values C G hi_65 hj_65 d_M_remove_77 ?_
      refine mast_values C G hi_66 hj_66 d_M_remove_78 (fun H locs G => ?_)
      have G : wG D A s (wM cA ad k (mSetValues (upd (mValues u) j66 (mValues u j65)) (mSetKeys (upd (mKeys u) j66 (mKeys u j65)) u))) H locs := G
      refine lv_aload_n hx hb d_M_remove_79 rfl (lv_at hl 0 rfl) ?_
      refine lv_iload_n hx hb d_M_remove_80 rfl (lv_at hl 2 rfl) ?_
      refine g_callv [.int x3] C G (c_M_cut l D cA ad k _ _ _ h) ok_M_cut ml_M_77 rfl rfl ⟨Nat.le_of_ble_eq_true rfl, Nat.le_of_ble_eq_true rfl⟩ rfl rfl rfl hl.1 (rest := []) rfl (lv_room (Nat.le_of_ble_eq_true rfl)) ⟨Nat.zero_le _, Nat.zero_le _⟩ d_M_remove_81 (fun u81 H locs G h => ?_)
      refine lv_iconst (v := 4) hx hb d_M_remove_84 (by decide) ?_
      refine lv_aload_n hx hb d_M_remove_85 rfl (lv_at hl 0 rfl) ?_
      refine mget_size C G d_M_remove_86 ?_
      refine lv_imul hx hb d_M_remove_89 ?_
      refine lv_aload_n hx hb d_M_remove_90 rfl (lv_at hl 0 rfl) ?_
      refine mget_cap C G d_M_remove_91 ?_
      refine lv_aload_n hx hb d_M_remove_94 rfl (lv_at hl 0 rfl) ?_
      refine g_calli [] C G (c_M_buckets l D cA ad k _ _ h) ok_M_buckets ml_M_52 rfl rfl ⟨Nat.le_of_ble_eq_true rfl, Nat.le_of_ble_eq_true rfl⟩ rfl rfl rfl hl.1 (rest := [.int (mCap k), .int (4 * (mSize u81))]) rfl (lv_room (Nat.le_of_ble_eq_true rfl)) ⟨Nat.zero_le _, Nat.zero_le _⟩ d_M_remove_95 (fun r95 u95 H locs G h => ?_)
      refine lv_imul hx hb d_M_remove_98 ?_
      refine lv_icmp_ge (tgt := 131) hx hb d_M_remove_99 (by decide) (fun hc_99 => ?_) (fun hc_99 => ?_)
      · replace h := h.1 hc_99
        refine lv_iconst (v := 1) hx hb d_M_remove_131 (by decide) ?_
        exact g_zret C G hr rfl h d_M_remove_132
      · replace h := h.2 hc_99
        refine lv_aload_n hx hb d_M_remove_102 rfl (lv_at hl 0 rfl) ?_
        refine g_calli [] C G (c_M_buckets l D cA ad k _ _ h) ok_M_buckets ml_M_52 rfl rfl ⟨Nat.le_of_ble_eq_true rfl, Nat.le_of_ble_eq_true rfl⟩ rfl rfl rfl hl.1 (rest := []) rfl (lv_room (Nat.le_of_ble_eq_true rfl)) ⟨Nat.zero_le _, Nat.zero_le _⟩ d_M_remove_103 (fun r103 u103 H locs G h => ?_)
        refine lv_aload_n hx hb d_M_remove_106 rfl (lv_at hl 0 rfl) ?_
        refine mget_base C G d_M_remove_107 ?_
        refine lv_icmp_le (tgt := 131) hx hb d_M_remove_110 (by decide) (fun hc_110 => ?_) (fun hc_110 => ?_)
        · replace h := h.1 hc_110
          refine lv_iconst (v := 1) hx hb d_M_remove_131 (by decide) ?_
          exact g_zret C G hr rfl h d_M_remove_132
        · replace h := h.2 hc_110
          refine lv_aload_n hx hb d_M_remove_113 rfl (lv_at hl 0 rfl) ?_
          refine lv_aload_n hx hb d_M_remove_114 rfl (lv_at hl 0 rfl) ?_
          refine g_calli [] C G (c_M_buckets l D cA ad k _ _ h) ok_M_buckets ml_M_52 rfl rfl ⟨Nat.le_of_ble_eq_true rfl, Nat.le_of_ble_eq_true rfl⟩ rfl rfl rfl hl.1 (rest := [.ref (ad 0)]) rfl (lv_room (Nat.le_of_ble_eq_true rfl)) ⟨Nat.zero_le _, Nat.zero_le _⟩ d_M_remove_115 (fun r115 u115 H locs G h => ?_)
          refine lv_iconst (v := 1) hx hb d_M_remove_118 (by decide) ?_
          refine lv_isub hx hb d_M_remove_119 ?_
          refine g_callv [.int (r115 - 1)] C G (c_M_toEnd l D cA ad k _ _ _ h) ok_M_toEnd ml_M_81 rfl rfl ⟨Nat.le_of_ble_eq_true rfl, Nat.le_of_ble_eq_true rfl⟩ rfl rfl rfl hl.1 (rest := []) rfl (lv_room (Nat.le_of_ble_eq_true rfl)) ⟨Nat.zero_le _, Nat.zero_le _⟩ d_M_remove_120 (fun u120 H locs G h => ?_)
          refine lv_aload_n hx hb d_M_remove_123 rfl (lv_at hl 0 rfl) ?_
          refine g_callv [] C G (c_M_back l D cA ad k _ _ h) ok_M_back ml_M_74 rfl rfl ⟨Nat.le_of_ble_eq_true rfl, Nat.le_of_ble_eq_true rfl⟩ rfl rfl rfl hl.1 (rest := []) rfl (lv_room (Nat.le_of_ble_eq_true rfl)) ⟨Nat.zero_le _, Nat.zero_le _⟩ d_M_remove_124 (fun u124 H locs G h => ?_)
          refine lv_aload_n hx hb d_M_remove_127 rfl (lv_at hl 0 rfl) ?_
          refine g_callv [] C G (c_M_settle l D cA ad k _ _ h) ok_M_settle ml_M_68 rfl rfl ⟨Nat.le_of_ble_eq_true rfl, Nat.le_of_ble_eq_true rfl⟩ rfl rfl rfl hl.1 (rest := []) rfl (lv_room (Nat.le_of_ble_eq_true rfl)) ⟨Nat.zero_le _, Nat.zero_le _⟩ d_M_remove_128 (fun u128 H locs G h => ?_)
          refine lv_iconst (v := 1) hx hb d_M_remove_131 (by decide) ?_
          exact g_zret C G hr rfl h d_M_remove_132
    · replace h := h.2 hc_23
      refine lv_aload_n hx hb d_M_remove_26 rfl (lv_at hl 0 rfl) ?_
      refine mget_homes C G d_M_remove_27 ?_
      refine lv_iload hx hb d_M_remove_30 (lv_at hl 3 rfl) ?_
      obtain ⟨j32, hi_32, hj_32, h⟩ := h
      refine mald_homes C G hi_32 hj_32 d_M_remove_32 ?_
      refine lv_aload_n hx hb d_M_remove_33 rfl (lv_at hl 0 rfl) ?_
      refine mget_homes C G d_M_remove_34 ?_
      refine lv_iload_n hx hb d_M_remove_37 rfl (lv_at hl 1 rfl) ?_
      obtain ⟨j38, hi_38, hj_38, h⟩ := h
      refine mald_homes C G hi_38 hj_38 d_M_remove_38 ?_
      refine lv_icmp_ne (tgt := 47) hx hb d_M_remove_39 (by decide) (fun hc_39 => ?_) (fun hc_39 => ?_)
      · replace h := h.2 hc_39
        refine lv_iload_n hx hb d_M_remove_47 rfl (lv_at hl 2 rfl) ?_
        refine lv_istore_n (lv' := [(3, .int x3), (0, .ref (ad 0)), (2, .int x2), (4, .int x4)]) hx hb d_M_remove_48 rfl hl (by decide) rfl (fun ls hl => ?_)
        obtain ⟨x4_49, ex4_49⟩ : ∃ y : Int32, y = x4 + 1 := ⟨_, rfl⟩
        replace h := h x4_49 ex4_49
        refine lv_iinc (v := x4_49) (lv' := [(4, .int x4_49), (3, .int x3), (0, .ref (ad 0)), (2, .int x2)]) hx hb d_M_remove_49 hl (k := 3) rfl (by rw [ex4_49]; rfl) (by decide) rfl (fun ls hl => ?_)
        refine lv_goto (tgt := 17) hx hb d_M_remove_52 (by decide) ?_
        exact ih _ _ _ _ h _ _ _ G (lv_sub hl [2, 3, 1, 0] rfl)
      · replace h := h.1 hc_39
        refine lv_iload hx hb d_M_remove_42 (lv_at hl 3 rfl) ?_
        refine lv_goto (tgt := 48) hx hb d_M_remove_44 (by decide) ?_
        refine lv_istore_n (lv' := [(3, .int x4), (0, .ref (ad 0)), (2, .int x2), (4, .int x4)]) hx hb d_M_remove_48 rfl hl (by decide) rfl (fun ls hl => ?_)
        obtain ⟨x4_49, ex4_49⟩ : ∃ y : Int32, y = x4 + 1 := ⟨_, rfl⟩
        replace h := h x4_49 ex4_49
        refine lv_iinc (v := x4_49) (lv' := [(4, .int x4_49), (3, .int x4), (0, .ref (ad 0)), (2, .int x2)]) hx hb d_M_remove_49 hl (k := 3) rfl (by rw [ex4_49]; rfl) (by decide) rfl (fun ls hl => ?_)
        refine lv_goto (tgt := 17) hx hb d_M_remove_52 (by decide) ?_
        exact ih _ _ _ _ h _ _ _ G (lv_sub hl [2, 3, 1, 0] rfl)
set_option maxHeartbeats 4000000 in
set_option maxRecDepth 100000 in
theorem c_M_remove (l : Launch) (D : va_G) (cA : ClassId) (ad : Nat → Nat) (k : KM) (x1 : Int32) (u : StM) (Q : Int32 → StM → Prop) (h : wp_M_remove k x1 u Q) : cMi l D cA (wM cA ad k) (ad 0) y_M_remove b_M_remove 5 (some .boolean) rm_M_remove [.int x1] u Q := by
  refine cMi.enter (by decide) (Nat.le_of_ble_eq_true rfl) ?_
  intro p e s m args below meth c A ls C hr G hl
  have hx := C.1
  have hb := C.2.1
  unfold wp_M_remove at h
  have hl : lv_has ls 5 [(0, .ref (ad 0)), (1, .int x1)] := hl
  refine lv_aload_n hx hb d_M_remove_0 rfl (lv_at hl 0 rfl) ?_
  refine lv_iload_n hx hb d_M_remove_1 rfl (lv_at hl 1 rfl) ?_
  refine g_calli [.int x1] C G (c_M_find l D cA ad k _ _ _ h) ok_M_find ml_M_62 rfl rfl ⟨Nat.le_of_ble_eq_true rfl, Nat.le_of_ble_eq_true rfl⟩ rfl rfl rfl hl.1 (rest := []) rfl (lv_room (Nat.le_of_ble_eq_true rfl)) ⟨Nat.zero_le _, Nat.zero_le _⟩ d_M_remove_2 (fun r2 u2 H locs G h => ?_)
  refine lv_istore_n (lv' := [(2, .int r2), (0, .ref (ad 0)), (1, .int x1)]) hx hb d_M_remove_5 rfl hl (by decide) rfl (fun ls hl => ?_)
  refine lv_iload_n hx hb d_M_remove_6 rfl (lv_at hl 0 rfl) ?_
  refine lv_if_ge (tgt := 12) hx hb d_M_remove_7 (by decide) (fun hc_7 => ?_) (fun hc_7 => ?_)
  · replace h := h.1 hc_7
    refine lv_iload_n hx hb d_M_remove_12 rfl (lv_at hl 0 rfl) ?_
    refine lv_istore_n (lv' := [(3, .int r2), (2, .int r2), (0, .ref (ad 0)), (1, .int x1)]) hx hb d_M_remove_13 rfl hl (by decide) rfl (fun ls hl => ?_)
    refine lv_iload_n hx hb d_M_remove_14 rfl (lv_at hl 1 rfl) ?_
    refine lv_istore (lv' := [(4, .int r2), (3, .int r2), (2, .int r2), (0, .ref (ad 0)), (1, .int x1)]) hx hb d_M_remove_15 hl (by decide) rfl (fun ls hl => ?_)
    obtain ⟨n_17, h⟩ := h
    exact wlp_M_remove_17 C hr Q _ _ _ _ _ h _ _ _ G (lv_sub hl [3, 2, 1, 0] rfl)
  · replace h := h.2 hc_7
    refine lv_iconst (v := 0) hx hb d_M_remove_10 (by decide) ?_
    exact g_zret C G hr rfl h d_M_remove_11
set_option maxHeartbeats 4000000 in
set_option maxRecDepth 100000 in
theorem c_M_size (l : Launch) (D : va_G) (cA : ClassId) (ad : Nat → Nat) (k : KM) (u : StM) (Q : Int32 → StM → Prop) (h : wp_M_size k  u Q) : cMi l D cA (wM cA ad k) (ad 0) y_M_size b_M_size 1 (some .int) rm_M_size [] u Q := by
  refine cMi.enter (by decide) (Nat.le_of_ble_eq_true rfl) ?_
  intro p e s m args below meth c A ls C hr G hl
  have hx := C.1
  have hb := C.2.1
  unfold wp_M_size at h
  have hl : lv_has ls 1 [(0, .ref (ad 0))] := hl
  refine lv_aload_n hx hb d_M_size_0 rfl (lv_at hl 0 rfl) ?_
  refine mget_size C G d_M_size_1 ?_
  exact g_iret C G hr h d_M_size_4
set_option maxHeartbeats 4000000 in
set_option maxRecDepth 100000 in
theorem c_M_level (l : Launch) (D : va_G) (cA : ClassId) (ad : Nat → Nat) (k : KM) (u : StM) (Q : Int32 → StM → Prop) (h : wp_M_level k  u Q) : cMi l D cA (wM cA ad k) (ad 0) y_M_level b_M_level 1 (some .int) rm_M_level [] u Q := by
  refine cMi.enter (by decide) (Nat.le_of_ble_eq_true rfl) ?_
  intro p e s m args below meth c A ls C hr G hl
  have hx := C.1
  have hb := C.2.1
  unfold wp_M_level at h
  have hl : lv_has ls 1 [(0, .ref (ad 0))] := hl
  refine lv_aload_n hx hb d_M_level_0 rfl (lv_at hl 0 rfl) ?_
  refine mget_level C G d_M_level_1 ?_
  exact g_iret C G hr h d_M_level_4
set_option maxHeartbeats 4000000 in
set_option maxRecDepth 100000 in
theorem c_M_pointer (l : Launch) (D : va_G) (cA : ClassId) (ad : Nat → Nat) (k : KM) (u : StM) (Q : Int32 → StM → Prop) (h : wp_M_pointer k  u Q) : cMi l D cA (wM cA ad k) (ad 0) y_M_pointer b_M_pointer 1 (some .int) rm_M_pointer [] u Q := by
  refine cMi.enter (by decide) (Nat.le_of_ble_eq_true rfl) ?_
  intro p e s m args below meth c A ls C hr G hl
  have hx := C.1
  have hb := C.2.1
  unfold wp_M_pointer at h
  have hl : lv_has ls 1 [(0, .ref (ad 0))] := hl
  refine lv_aload_n hx hb d_M_pointer_0 rfl (lv_at hl 0 rfl) ?_
  refine mget_pointer C G d_M_pointer_1 ?_
  exact g_iret C G hr h d_M_pointer_4
set_option maxHeartbeats 4000000 in
set_option maxRecDepth 100000 in
theorem c_M_pages (l : Launch) (D : va_G) (cA : ClassId) (ad : Nat → Nat) (k : KM) (x1 : Int32) (u : StM) (Q : Int32 → StM → Prop) (h : wp_M_pages k x1 u Q) : cMi l D cA (wM cA ad k) (ad 0) y_M_pages b_M_pages 2 (some .int) rm_M_pages [.int x1] u Q := by
  refine cMi.enter (by decide) (Nat.le_of_ble_eq_true rfl) ?_
  intro p e s m args below meth c A ls C hr G hl
  have hx := C.1
  have hb := C.2.1
  unfold wp_M_pages at h
  have hl : lv_has ls 2 [(0, .ref (ad 0)), (1, .int x1)] := hl
  refine lv_iload_n hx hb d_M_pages_0 rfl (lv_at hl 1 rfl) ?_
  refine lv_if_lt (tgt := 12) hx hb d_M_pages_1 (by decide) (fun hc_1 => ?_) (fun hc_1 => ?_)
  · replace h := h.1 hc_1
    refine lv_iconst (v := (-1)) hx hb d_M_pages_12 (by decide) ?_
    exact g_iret C G hr h d_M_pages_13
  · replace h := h.2 hc_1
    refine lv_iload_n hx hb d_M_pages_4 rfl (lv_at hl 1 rfl) ?_
    refine lv_aload_n hx hb d_M_pages_5 rfl (lv_at hl 0 rfl) ?_
    refine g_calli [] C G (c_M_buckets l D cA ad k _ _ h) ok_M_buckets ml_M_52 rfl rfl ⟨Nat.le_of_ble_eq_true rfl, Nat.le_of_ble_eq_true rfl⟩ rfl rfl rfl hl.1 (rest := [.int x1]) rfl (lv_room (Nat.le_of_ble_eq_true rfl)) ⟨Nat.zero_le _, Nat.zero_le _⟩ d_M_pages_6 (fun r6 u6 H locs G h => ?_)
    refine lv_icmp_lt (tgt := 14) hx hb d_M_pages_9 (by decide) (fun hc_9 => ?_) (fun hc_9 => ?_)
    · replace h := h.1 hc_9
      refine lv_aload_n hx hb d_M_pages_14 rfl (lv_at hl 0 rfl) ?_
      refine g_callv [] C G (c_M_count l D cA ad k _ _ h) ok_M_count ml_M_49 rfl rfl ⟨Nat.le_of_ble_eq_true rfl, Nat.le_of_ble_eq_true rfl⟩ rfl rfl rfl hl.1 (rest := []) rfl (lv_room (Nat.le_of_ble_eq_true rfl)) ⟨Nat.zero_le _, Nat.zero_le _⟩ d_M_pages_15 (fun u15 H locs G h => ?_)
      refine lv_aload_n hx hb d_M_pages_18 rfl (lv_at hl 0 rfl) ?_
      refine lv_aload_n hx hb d_M_pages_19 rfl (lv_at hl 0 rfl) ?_
      refine mget_counts C G d_M_pages_20 ?_
      refine lv_iload_n hx hb d_M_pages_23 rfl (lv_at hl 1 rfl) ?_
      obtain ⟨j24, hi_24, hj_24, h⟩ := h
      refine mald_counts C G hi_24 hj_24 d_M_pages_24 ?_
      refine g_calli [.int (mCounts u15 j24)] C G (c_M_pagesFor l D cA ad k _ _ _ h) ok_M_pagesFor ml_M_55 rfl rfl ⟨Nat.le_of_ble_eq_true rfl, Nat.le_of_ble_eq_true rfl⟩ rfl rfl rfl hl.1 (rest := []) rfl (lv_room (Nat.le_of_ble_eq_true rfl)) ⟨Nat.zero_le _, Nat.zero_le _⟩ d_M_pages_25 (fun r25 u25 H locs G h => ?_)
      exact g_iret C G hr h d_M_pages_28
    · replace h := h.2 hc_9
      refine lv_iconst (v := (-1)) hx hb d_M_pages_12 (by decide) ?_
      exact g_iret C G hr h d_M_pages_13
set_option maxHeartbeats 4000000 in
set_option maxRecDepth 100000 in
theorem c_M_free (l : Launch) (D : va_G) (cA : ClassId) (ad : Nat → Nat) (k : KM) (u : StM) (Q : Int32 → StM → Prop) (h : wp_M_free k  u Q) : cMi l D cA (wM cA ad k) (ad 0) y_M_free b_M_free 1 (some .int) rm_M_free [] u Q := by
  refine cMi.enter (by decide) (Nat.le_of_ble_eq_true rfl) ?_
  intro p e s m args below meth c A ls C hr G hl
  have hx := C.1
  have hb := C.2.1
  unfold wp_M_free at h
  have hl : lv_has ls 1 [(0, .ref (ad 0))] := hl
  refine lv_aload_n hx hb d_M_free_0 rfl (lv_at hl 0 rfl) ?_
  refine mget_most C G d_M_free_1 ?_
  refine lv_aload_n hx hb d_M_free_4 rfl (lv_at hl 0 rfl) ?_
  refine g_calli [] C G (c_M_needed l D cA ad k _ _ h) ok_M_needed ml_M_71 rfl rfl ⟨Nat.le_of_ble_eq_true rfl, Nat.le_of_ble_eq_true rfl⟩ rfl rfl rfl hl.1 (rest := [.int (mMost k)]) rfl (lv_room (Nat.le_of_ble_eq_true rfl)) ⟨Nat.zero_le _, Nat.zero_le _⟩ d_M_free_5 (fun r5 u5 H locs G h => ?_)
  refine lv_isub hx hb d_M_free_8 ?_
  exact g_iret C G hr h d_M_free_9
set_option maxHeartbeats 4000000 in
set_option maxRecDepth 100000 in
theorem wlp_M_key_23 {p : Program} {l : Launch} {e : Env} {s : State} {m : MethodId} {args : Array Value} {below : List Frame} {meth : Method} {c : Code} {D : va_G} {cA : ClassId} {A : Nat → Prop} {ad : Nat → Nat} {k : KM} (C : wC p s m args c meth b_M_key 5 R_M D cA A) (hr : meth.sig.returnType = (some .int)) (Q : Int32 → StM → Prop) : ∀ (n : Nat) (x1 x3 x4 : Int32) (u : StM), lp_M_key_23 k Q n x1 x3 x4 u → ∀ (H : Heap) (locs : List Loc) (ls : Array Slot), wG D A s (wM cA ad k u) H locs → lv_has ls 5 [(0, .ref (ad 0)), (1, .int x1), (3, .int x3), (4, .int x4)] → W p l e rm_M_key s m args below meth c H locs 0 0 (zI D cA (wM cA ad k) A below args s Q) (F0 m 23 ls []) := by
  have hx := C.1
  have hb := C.2.1
  intro n
  induction n with
  | zero => intro x1 x3 x4 u h; exact absurd h (by unfold lp_M_key_23; exact fun z => z)
  | succ n ih =>
    intro x1 x3 x4 u h H locs ls G hl
    unfold lp_M_key_23 at h
    refine lv_iload hx hb d_M_key_23 (lv_at hl 3 rfl) ?_
    refine lv_aload_n hx hb d_M_key_25 rfl (lv_at hl 0 rfl) ?_
    refine mget_size C G d_M_key_26 ?_
    refine lv_icmp_ge (tgt := 64) hx hb d_M_key_29 (by decide) (fun hc_29 => ?_) (fun hc_29 => ?_)
    · replace h := h.1 hc_29
      refine lv_iconst (v := (-1)) hx hb d_M_key_64 (by decide) ?_
      exact g_iret C G hr h d_M_key_65
    · replace h := h.2 hc_29
      refine lv_aload_n hx hb d_M_key_32 rfl (lv_at hl 0 rfl) ?_
      refine mget_homes C G d_M_key_33 ?_
      refine lv_iload hx hb d_M_key_36 (lv_at hl 3 rfl) ?_
      obtain ⟨j38, hi_38, hj_38, h⟩ := h
      refine mald_homes C G hi_38 hj_38 d_M_key_38 ?_
      refine lv_iload_n hx hb d_M_key_39 rfl (lv_at hl 1 rfl) ?_
      refine lv_icmp_ne (tgt := 58) hx hb d_M_key_40 (by decide) (fun hc_40 => ?_) (fun hc_40 => ?_)
      · replace h := h.2 hc_40
        obtain ⟨x4_58, ex4_58⟩ : ∃ y : Int32, y = x4 + 1 := ⟨_, rfl⟩
        replace h := h x4_58 ex4_58
        refine lv_iinc (v := x4_58) (lv' := [(4, .int x4_58), (0, .ref (ad 0)), (1, .int x1), (3, .int x3)]) hx hb d_M_key_58 hl (k := 3) rfl (by rw [ex4_58]; rfl) (by decide) rfl (fun ls hl => ?_)
        refine lv_goto (tgt := 23) hx hb d_M_key_61 (by decide) ?_
        exact ih _ _ _ _ h _ _ _ G (lv_sub hl [1, 2, 3, 0] rfl)
      · replace h := h.1 hc_40
        refine lv_iload_n hx hb d_M_key_43 rfl (lv_at hl 2 rfl) ?_
        refine lv_if_ne (tgt := 55) hx hb d_M_key_44 (by decide) (fun hc_44 => ?_) (fun hc_44 => ?_)
        · replace h := h.2 hc_44
          obtain ⟨x3_55, ex3_55⟩ : ∃ y : Int32, y = x3 + (-1) := ⟨_, rfl⟩
          replace h := h x3_55 ex3_55
          refine lv_iinc (v := x3_55) (lv' := [(3, .int x3_55), (0, .ref (ad 0)), (1, .int x1), (4, .int x4)]) hx hb d_M_key_55 hl (k := 2) rfl (by rw [ex3_55]; rfl) (by decide) rfl (fun ls hl => ?_)
          obtain ⟨x4_58, ex4_58⟩ : ∃ y : Int32, y = x4 + 1 := ⟨_, rfl⟩
          replace h := h x4_58 ex4_58
          refine lv_iinc (v := x4_58) (lv' := [(4, .int x4_58), (3, .int x3_55), (0, .ref (ad 0)), (1, .int x1)]) hx hb d_M_key_58 hl (k := 3) rfl (by rw [ex4_58]; rfl) (by decide) rfl (fun ls hl => ?_)
          refine lv_goto (tgt := 23) hx hb d_M_key_61 (by decide) ?_
          exact ih _ _ _ _ h _ _ _ G (lv_sub hl [2, 3, 1, 0] rfl)
        · replace h := h.1 hc_44
          refine lv_aload_n hx hb d_M_key_47 rfl (lv_at hl 0 rfl) ?_
          refine mget_keys C G d_M_key_48 ?_
          refine lv_iload hx hb d_M_key_51 (lv_at hl 3 rfl) ?_
          refine mald_keys C G hi_38 hj_38 d_M_key_53 ?_
          exact g_iret C G hr h d_M_key_54
set_option maxHeartbeats 4000000 in
set_option maxRecDepth 100000 in
theorem c_M_key (l : Launch) (D : va_G) (cA : ClassId) (ad : Nat → Nat) (k : KM) (x1 x2 : Int32) (u : StM) (Q : Int32 → StM → Prop) (h : wp_M_key k x1 x2 u Q) : cMi l D cA (wM cA ad k) (ad 0) y_M_key b_M_key 5 (some .int) rm_M_key [.int x1, .int x2] u Q := by
  refine cMi.enter (by decide) (Nat.le_of_ble_eq_true rfl) ?_
  intro p e s m args below meth c A ls C hr G hl
  have hx := C.1
  have hb := C.2.1
  unfold wp_M_key at h
  have hl : lv_has ls 5 [(0, .ref (ad 0)), (1, .int x1), (2, .int x2)] := hl
  refine lv_iload_n hx hb d_M_key_0 rfl (lv_at hl 1 rfl) ?_
  refine lv_if_lt (tgt := 16) hx hb d_M_key_1 (by decide) (fun hc_1 => ?_) (fun hc_1 => ?_)
  · replace h := h.1 hc_1
    refine lv_iconst (v := (-1)) hx hb d_M_key_16 (by decide) ?_
    exact g_iret C G hr h d_M_key_17
  · replace h := h.2 hc_1
    refine lv_iload_n hx hb d_M_key_4 rfl (lv_at hl 1 rfl) ?_
    refine lv_aload_n hx hb d_M_key_5 rfl (lv_at hl 0 rfl) ?_
    refine g_calli [] C G (c_M_buckets l D cA ad k _ _ h) ok_M_buckets ml_M_52 rfl rfl ⟨Nat.le_of_ble_eq_true rfl, Nat.le_of_ble_eq_true rfl⟩ rfl rfl rfl hl.1 (rest := [.int x1]) rfl (lv_room (Nat.le_of_ble_eq_true rfl)) ⟨Nat.zero_le _, Nat.zero_le _⟩ d_M_key_6 (fun r6 u6 H locs G h => ?_)
    refine lv_icmp_ge (tgt := 16) hx hb d_M_key_9 (by decide) (fun hc_9 => ?_) (fun hc_9 => ?_)
    · replace h := h.1 hc_9
      refine lv_iconst (v := (-1)) hx hb d_M_key_16 (by decide) ?_
      exact g_iret C G hr h d_M_key_17
    · replace h := h.2 hc_9
      refine lv_iload_n hx hb d_M_key_12 rfl (lv_at hl 2 rfl) ?_
      refine lv_if_ge (tgt := 18) hx hb d_M_key_13 (by decide) (fun hc_13 => ?_) (fun hc_13 => ?_)
      · replace h := h.1 hc_13
        refine lv_iload_n hx hb d_M_key_18 rfl (lv_at hl 2 rfl) ?_
        refine lv_istore_n (lv' := [(3, .int x2), (0, .ref (ad 0)), (1, .int x1), (2, .int x2)]) hx hb d_M_key_19 rfl hl (by decide) rfl (fun ls hl => ?_)
        refine lv_iconst (v := 0) hx hb d_M_key_20 (by decide) ?_
        refine lv_istore (lv' := [(4, .int 0), (3, .int x2), (0, .ref (ad 0)), (1, .int x1), (2, .int x2)]) hx hb d_M_key_21 hl (by decide) rfl (fun ls hl => ?_)
        obtain ⟨n_23, h⟩ := h
        exact wlp_M_key_23 C hr Q _ _ _ _ _ h _ _ _ G (lv_sub hl [2, 3, 1, 0] rfl)
      · replace h := h.2 hc_13
        refine lv_iconst (v := (-1)) hx hb d_M_key_16 (by decide) ?_
        exact g_iret C G hr h d_M_key_17
set_option maxHeartbeats 4000000 in
set_option maxRecDepth 100000 in
theorem c_M_clear (l : Launch) (D : va_G) (cA : ClassId) (ad : Nat → Nat) (k : KM) (u : StM) (Q : StM → Prop) (h : wp_M_clear k  u Q) : cMv l D cA (wM cA ad k) (ad 0) y_M_clear b_M_clear 1 none rm_M_clear [] u Q := by
  refine cMv.enter (by decide) (Nat.le_of_ble_eq_true rfl) ?_
  intro p e s m args below meth c A ls C hr G hl
  have hx := C.1
  have hb := C.2.1
  unfold wp_M_clear at h
  have hl : lv_has ls 1 [(0, .ref (ad 0))] := hl
  refine lv_aload_n hx hb d_M_clear_0 rfl (lv_at hl 0 rfl) ?_
  refine lv_iconst (v := 0) hx hb d_M_clear_1 (by decide) ?_
  refine mput_size C G d_M_clear_2 (fun H locs G => ?_)
  have G : wG D A s (wM cA ad k (mSetSize 0 u)) H locs := G
  refine lv_aload_n hx hb d_M_clear_5 rfl (lv_at hl 0 rfl) ?_
  refine lv_iconst (v := 0) hx hb d_M_clear_6 (by decide) ?_
  refine mput_level C G d_M_clear_7 (fun H locs G => ?_)
  have G : wG D A s (wM cA ad k (mSetLevel 0 (mSetSize 0 u))) H locs := G
  refine lv_aload_n hx hb d_M_clear_10 rfl (lv_at hl 0 rfl) ?_
  refine lv_iconst (v := 0) hx hb d_M_clear_11 (by decide) ?_
  refine mput_pointer C G d_M_clear_12 (fun H locs G => ?_)
  have G : wG D A s (wM cA ad k (mSetPointer 0 (mSetLevel 0 (mSetSize 0 u)))) H locs := G
  exact g_vret C G hr h d_M_clear_15
end
section
/-! THE CLAIM OUT OF ONE WALK OF THE LAW'S BODY. Your part is whole_start (and what it stands on); all else here is the same for every law, but numbers. -/
def lw_P (b : Addr) (xs : List Int32) (args : Array Value) (s : State) : Prop := args = #[.ref b] ∧ s.IntsAt b xs ∧ xs.length ≤ 1540 ∧ (Jvm.Cond.and given_1 narrow_1).before args s = true
def lw_Q (_ : Array Value) (s : State) (o : Outcome) (t : State) : Prop := o = .returned (some (.int 1)) ∧ Framed s o t [] 600000 7302250
def lw_Z (below : List Frame) (a : Array Value) (s : State) : State → Prop := fun t => ∃ o, t.status = .running ∧ Ended t below o ∧ lw_Q a s o t
/-- the law's own end, with 1 on the stack, nothing written that was there before, its room as the claim has it -/
theorem lw_ret {p : Program} {l : Launch} {e : Env} {s : State} {m : MethodId} {below : List Frame} {meth : Method} {c : Code} {b : Nat} (hx : p.tables.exec = Jvm.exec) (hb : c.code = code) (hr : meth.sig.returnType = ret) (hlocks : meth.locks = false) {pc : Nat} {H : Heap} {ls : Array Slot} (hdg : decode code pc = .ok (.ireturn, 1)) : W p l e room_1 s m #[Value.ref b] below meth c H [] 600000 7302250 (lw_Z below #[Value.ref b] s) (F0 m pc ls [.int 1]) := by
  intro T hT X
  obtain ⟨fs, hret, hrun, hended, hW, hframe⟩ := X.leave (v := some (.int 1)) (hlocks := hlocks) (fun h => by rw [hr] at h; cases h)
  have hmeth' : T.vm.method? m = some meth := X.method'
  refine ⟨T.setFrames fs, ?_, .returned (some (.int 1)), hrun, hended, rfl, ⟨_, rfl⟩, hW, hframe⟩
  jvm_step X.here [X.here.top, hx, hb, hdg, hmeth', hr, ret, narrow_b1]
  (try refine ⟨rfl, ?_⟩); (try refine ⟨rfl, ?_⟩)
  first | (intro acts; rw [hret _ acts rfl rfl rfl]) | rw [hret _ _ rfl rfl rfl]
  exact Steps.refl _
/-- what holds at the law's entry: the machine, the code, the tables' words (any of lw_tbl by 'hts w (by decide +kernel)'), the script of L ints xs at the cell b, what the Statement gives of the start (any of its parts by flat_of_before) -/
def lw_At (p : Program) (s : State) (m : MethodId) (meth : Method) (c : Code) (b L : Nat) (xs : Nat → Int32) : Prop :=
  p.tables.exec = Jvm.exec ∧ c.code = code ∧ meth.sig.returnType = ret ∧ c.maxLocals = 4 ∧ s.vm.findClass R_law = some m.cls ∧ (∀ w ∈ lw_tbl, w.before #[Value.ref b] s = true) ∧ va_X b L xs s s.heap ∧ b < s.heap.size ∧ meth.locks = false ∧ (Jvm.Cond.and given_1 narrow_1).before #[Value.ref b] s = true
/-! two worlds side by side, and calls of the one or the other (hand-written) -/
theorem ap_l {α : Type} {w1 w2 : List α} {k : Nat} {q : α} (h : w1[k]? = some q) : (w1 ++ w2)[k]? = some q := by
  rw [List.getElem?_append_left (List.getElem?_eq_some_iff.mp h).1]; exact h
theorem ap_r {α : Type} {w1 w2 : List α} {k : Nat} {q : α} (h : w2[k]? = some q) : (w1 ++ w2)[w1.length + k]? = some q := by
  rw [List.getElem?_append_right (by omega), show w1.length + k - w1.length = k by omega]; exact h
section TWO
variable {D : va_G} {A : Nat → Prop} {s : State} {w1 w2 w3 : va_W} {H H1 : Heap} {locs locs1 : List Loc}
theorem wG_l (G : wG D A s (w1 ++ w2) H locs) : wG D A s w1 H locs :=
  ⟨fun k q h => G.1 k q (ap_l h), ⟨fun i j p q hi hj e => G.2.1.1 i j p q (ap_l hi) (ap_l hj) e, fun k q h => G.2.1.2 k q (ap_l h)⟩, G.2.2⟩
theorem wG_r (G : wG D A s (w1 ++ w2) H locs) : wG D A s w2 H locs :=
  ⟨fun k q h => G.1 _ q (ap_r h), ⟨fun i j p q hi hj e => by have := G.2.1.1 _ _ p q (ap_r (w1 := w1) hi) (ap_r hj) e; omega, fun k q h => G.2.1.2 _ q (ap_r h)⟩, G.2.2⟩
theorem wG_apl (G : wG D A s (w1 ++ w2) H locs) {k : Nat} {q : Nat × va_E} (h : w2[k]? = some q) : q.1 < H.size ∧ ¬ va_A w1 H.size q.1 := by
  have hl := (G.1 _ q (ap_r (w1 := w1) h)).lt
  refine ⟨hl, fun z => ?_⟩
  rcases z with ⟨i, e, z⟩ | z
  · have := G.2.1.1 _ _ (q.1, e) q (ap_l z) (ap_r h) rfl
    have hi := (List.getElem?_eq_some_iff.mp z).1
    omega
  · omega
theorem wG_apr (G : wG D A s (w1 ++ w2) H locs) {k : Nat} {q : Nat × va_E} (h : w1[k]? = some q) : q.1 < H.size ∧ ¬ va_A w2 H.size q.1 := by
  have hl := (G.1 _ q (ap_l h)).lt
  refine ⟨hl, fun z => ?_⟩
  rcases z with ⟨i, e, z⟩ | z
  · have := G.2.1.1 _ _ q (q.1, e) (ap_l h) (ap_r z) rfl
    have hi := (List.getElem?_eq_some_iff.mp h).1
    omega
  · omega
theorem wG_joinl (G : wG D A s (w1 ++ w2) H locs) (hk : ∀ q : Nat, q < H.size → ¬ va_A w1 H.size q → H1[q]? = H[q]?) (hP1 : va_P D classes w3 H1) (hD1 : va_D (va_A w1 H.size) w3) (hA : ∀ q, va_A w1 H.size q → A q) (hS : va_S A s.heap H1 locs1) : wG D A s (w3 ++ w2) H1 locs1 := by
  have hP2 : va_P D classes w2 H1 := fun k q h => ((wG_r G).1 k q h).kept (hk q.1 (wG_apl G h).1 (wG_apl G h).2)
  refine ⟨hP1.app hP2, va_D.app (hD1.weaken (fun k q _ h => hA q.1 h)) (wG_r G).2.1 (fun i j p q hi hj e => ?_), hS⟩
  exact (wG_apl G hj).2 (by rw [← e]; exact hD1.2 i p hi)
theorem wG_joinr (G : wG D A s (w1 ++ w2) H locs) (hk : ∀ q : Nat, q < H.size → ¬ va_A w2 H.size q → H1[q]? = H[q]?) (hP1 : va_P D classes w3 H1) (hD1 : va_D (va_A w2 H.size) w3) (hA : ∀ q, va_A w2 H.size q → A q) (hS : va_S A s.heap H1 locs1) : wG D A s (w1 ++ w3) H1 locs1 := by
  have hP2 : va_P D classes w1 H1 := fun k q h => ((wG_l G).1 k q h).kept (hk q.1 (wG_apr G h).1 (wG_apr G h).2)
  refine ⟨hP2.app hP1, va_D.app (wG_l G).2.1 (hD1.weaken (fun k q _ h => hA q.1 h)) (fun i j p q hi hj e => ?_), hS⟩
  exact (wG_apr G hi).2 (by rw [e]; exact hD1.2 j q hj)
end TWO
section GEN2
variable {S : Type} {p : Program} {l : Launch} {e : Env} {R : Room} {s : State} {m : MethodId} {args : Array Value} {below : List Frame} {meth : Method} {c : Code} {H : Heap} {locs : List Loc} {cells slots : Nat}
variable {cc : ByteArray} {own : String} {nL pc : Nat} {ls : Array Slot} {rest st0 : List Value} {D : va_G} {cA : ClassId} {A : Nat → Prop} {wf : S → va_W} {u : S} {w0 : va_W}
variable {Q : State → Prop} {y : MethodName} {b : ByteArray} {n : Nat} {r : Option FieldType} {np idx : Nat} {rm : Room} {h0 ci : Nat} {fs : List Value} {T : u_T} {N : Nat}
theorem l_calli {Qc : Int32 → S → Prop} (As : List Value)
    (C : wC p s m args c meth cc nL own D cA A) (G : wG D A s (wf u ++ w0) H locs) (hM : cMi l D cA wf h0 y b n r rm As u Qc) (ok : okM y b n r np) (hl : Cond.methodLink own idx y ∈ gw_tbl) (hc : rm.cells = 0) (hs : rm.slots = 0) (hR : rm.frames + 1 ≤ R.frames ∧ 8 + (n + 11) + rm.locals ≤ R.locals)
    (hw : (wf u)[0]? = some (h0, .inr (ci, fs))) (hci : classes[ci]? = some (y.cls, T, N)) (hn : As.length = np) (hsz : ls.size = nL) (hst : st0 = As.reverse ++ .ref h0 :: rest) (hrm : 2 * (F0 m pc ls st0).monitorRoom + (rest.map fun v => v.category).sum ≤ 8) (hf : cells ≤ R.cells ∧ slots ≤ R.slots) (hdg : decode cc pc = .ok (.invokevirtual idx, 3))
    (kk : ∀ (a : Int32) (u' : S) (H1 : Heap) (locs1 : List Loc), wG D A s (wf u' ++ w0) H1 locs1 → Qc a u' → W p l e R s m args below meth c H1 locs1 cells slots Q (F0 m (pc + 3) ls (.int a :: rest))) : W p l e R s m args below meth c H locs cells slots Q (F0 m pc ls st0) := by
  have G1 := wG_l G
  have hF := g_free C G1
  refine va_calli (va_runV (As := As) (rest := rest) (g := F0 m pc ls st0) (C := y.cls) ⟨C.1, C.2.1, C.2.2.1, C.2.2.2.1, C.2.2.2.2.1⟩ (hM H.size) (wd_call C.2.2.2.2.1 ok hl hc hs hR) (g_preV C G1 hw hci As) rfl hn hsz hst hrm hdg hf) G.2.2 (fun q _ h => hF q h) hF (fun a u' t H1 locs1 ht hvm hq hB _ hk1 hS => ?_)
  obtain ⟨hP1, hK1, hD1⟩ := hB
  rw [ht] at hP1
  exact kk a u' H1 locs1 (wG_joinl G hk1 hP1 hD1 hF hS) hq
theorem l_callv {Qc : S → Prop} (As : List Value)
    (C : wC p s m args c meth cc nL own D cA A) (G : wG D A s (wf u ++ w0) H locs) (hM : cMv l D cA wf h0 y b n r rm As u Qc) (ok : okM y b n r np) (hl : Cond.methodLink own idx y ∈ gw_tbl) (hc : rm.cells = 0) (hs : rm.slots = 0) (hR : rm.frames + 1 ≤ R.frames ∧ 8 + (n + 11) + rm.locals ≤ R.locals)
    (hw : (wf u)[0]? = some (h0, .inr (ci, fs))) (hci : classes[ci]? = some (y.cls, T, N)) (hn : As.length = np) (hsz : ls.size = nL) (hst : st0 = As.reverse ++ .ref h0 :: rest) (hrm : 2 * (F0 m pc ls st0).monitorRoom + (rest.map fun v => v.category).sum ≤ 8) (hf : cells ≤ R.cells ∧ slots ≤ R.slots) (hdg : decode cc pc = .ok (.invokevirtual idx, 3))
    (kk : ∀ (u' : S) (H1 : Heap) (locs1 : List Loc), wG D A s (wf u' ++ w0) H1 locs1 → Qc u' → W p l e R s m args below meth c H1 locs1 cells slots Q (F0 m (pc + 3) ls rest)) : W p l e R s m args below meth c H locs cells slots Q (F0 m pc ls st0) := by
  have G1 := wG_l G
  have hF := g_free C G1
  refine va_callv (va_runV (As := As) (rest := rest) (g := F0 m pc ls st0) (C := y.cls) ⟨C.1, C.2.1, C.2.2.1, C.2.2.2.1, C.2.2.2.2.1⟩ (hM H.size) (wd_call C.2.2.2.2.1 ok hl hc hs hR) (g_preV C G1 hw hci As) rfl hn hsz hst hrm hdg hf) G.2.2 (fun q _ h => hF q h) hF (fun u' t H1 locs1 ht hvm hq hB _ hk1 hS => ?_)
  obtain ⟨hP1, hK1, hD1⟩ := hB
  rw [ht] at hP1
  exact kk u' H1 locs1 (wG_joinl G hk1 hP1 hD1 hF hS) hq
theorem r_calli {Qc : Int32 → S → Prop} (As : List Value)
    (C : wC p s m args c meth cc nL own D cA A) (G : wG D A s (w0 ++ wf u) H locs) (hM : cMi l D cA wf h0 y b n r rm As u Qc) (ok : okM y b n r np) (hl : Cond.methodLink own idx y ∈ gw_tbl) (hc : rm.cells = 0) (hs : rm.slots = 0) (hR : rm.frames + 1 ≤ R.frames ∧ 8 + (n + 11) + rm.locals ≤ R.locals)
    (hw : (wf u)[0]? = some (h0, .inr (ci, fs))) (hci : classes[ci]? = some (y.cls, T, N)) (hn : As.length = np) (hsz : ls.size = nL) (hst : st0 = As.reverse ++ .ref h0 :: rest) (hrm : 2 * (F0 m pc ls st0).monitorRoom + (rest.map fun v => v.category).sum ≤ 8) (hf : cells ≤ R.cells ∧ slots ≤ R.slots) (hdg : decode cc pc = .ok (.invokevirtual idx, 3))
    (kk : ∀ (a : Int32) (u' : S) (H1 : Heap) (locs1 : List Loc), wG D A s (w0 ++ wf u') H1 locs1 → Qc a u' → W p l e R s m args below meth c H1 locs1 cells slots Q (F0 m (pc + 3) ls (.int a :: rest))) : W p l e R s m args below meth c H locs cells slots Q (F0 m pc ls st0) := by
  have G1 := wG_r G
  have hF := g_free C G1
  refine va_calli (va_runV (As := As) (rest := rest) (g := F0 m pc ls st0) (C := y.cls) ⟨C.1, C.2.1, C.2.2.1, C.2.2.2.1, C.2.2.2.2.1⟩ (hM H.size) (wd_call C.2.2.2.2.1 ok hl hc hs hR) (g_preV C G1 hw hci As) rfl hn hsz hst hrm hdg hf) G.2.2 (fun q _ h => hF q h) hF (fun a u' t H1 locs1 ht hvm hq hB _ hk1 hS => ?_)
  obtain ⟨hP1, hK1, hD1⟩ := hB
  rw [ht] at hP1
  exact kk a u' H1 locs1 (wG_joinr G hk1 hP1 hD1 hF hS) hq
theorem r_callv {Qc : S → Prop} (As : List Value)
    (C : wC p s m args c meth cc nL own D cA A) (G : wG D A s (w0 ++ wf u) H locs) (hM : cMv l D cA wf h0 y b n r rm As u Qc) (ok : okM y b n r np) (hl : Cond.methodLink own idx y ∈ gw_tbl) (hc : rm.cells = 0) (hs : rm.slots = 0) (hR : rm.frames + 1 ≤ R.frames ∧ 8 + (n + 11) + rm.locals ≤ R.locals)
    (hw : (wf u)[0]? = some (h0, .inr (ci, fs))) (hci : classes[ci]? = some (y.cls, T, N)) (hn : As.length = np) (hsz : ls.size = nL) (hst : st0 = As.reverse ++ .ref h0 :: rest) (hrm : 2 * (F0 m pc ls st0).monitorRoom + (rest.map fun v => v.category).sum ≤ 8) (hf : cells ≤ R.cells ∧ slots ≤ R.slots) (hdg : decode cc pc = .ok (.invokevirtual idx, 3))
    (kk : ∀ (u' : S) (H1 : Heap) (locs1 : List Loc), wG D A s (w0 ++ wf u') H1 locs1 → Qc u' → W p l e R s m args below meth c H1 locs1 cells slots Q (F0 m (pc + 3) ls rest)) : W p l e R s m args below meth c H locs cells slots Q (F0 m pc ls st0) := by
  have G1 := wG_r G
  have hF := g_free C G1
  refine va_callv (va_runV (As := As) (rest := rest) (g := F0 m pc ls st0) (C := y.cls) ⟨C.1, C.2.1, C.2.2.1, C.2.2.2.1, C.2.2.2.2.1⟩ (hM H.size) (wd_call C.2.2.2.2.1 ok hl hc hs hR) (g_preV C G1 hw hci As) rfl hn hsz hst hrm hdg hf) G.2.2 (fun q _ h => hF q h) hF (fun u' t H1 locs1 ht hvm hq hB _ hk1 hS => ?_)
  obtain ⟨hP1, hK1, hD1⟩ := hB
  rw [ht] at hP1
  exact kk u' H1 locs1 (wG_joinr G hk1 hP1 hD1 hF hS) hq
/-- an element of the script -/
theorem l_sld (C : wC p s m args c meth cc nL own D cA A) {bb L : Nat} {xs : Nat → Int32} (hX : va_X bb L xs s s.heap) (hbl : bb < s.heap.size) (hbA : ¬ A bb) (hL : L < 2 ^ 31) (hS : va_S A s.heap H locs) {i : Int32} {j : Nat} (hi : i = nI j) (hj : j < L) (hdg : decode cc pc = .ok (.iaload, 1))
    (kk : W p l e R s m args below meth c H locs cells slots Q (F0 m (pc + 1) ls (.int (xs j) :: rest))) : W p l e R s m args below meth c H locs cells slots Q (F0 m pc ls (.int i :: .ref bb :: rest)) := by
  subst hi
  refine va_sld C.1 C.2.1 hX hbl hbA hS (vp_in_nI hj hL) hdg ?_
  rw [nI_clamp (Nat.lt_trans hj hL)]
  exact kk
end GEN2
end
section
set_option maxHeartbeats 4000000 in
set_option maxRecDepth 100000 in
theorem wlp_L_law {p : Program} {e : Env} {s : State} {m : MethodId} {below : List Frame} {meth : Method} {c : Code} (l : Launch) {b L : Nat} {xs : Nat → Int32} (hL : L ≤ 1540) (C0 : lw_At p s m meth c b L xs) {D : va_G} {cA : ClassId} (hK : va_K D classes [(cA, .int)] s) {ad am : Nat → Nat} {kx : KX} {km : KM} (hk : kOK kx) : ∀ (n : Nat) (x3 : Int32) (u : StX) (v : StM), lp_L_law kx km L xs n x3 u v → ∀ (H : Heap) (locs : List Loc) (ls : Array Slot), wG D (fun q : Nat => s.heap.size ≤ q) s (wX cA ad kx u ++ wM cA am km v) H locs → lv_has ls 4 [(0, .ref b), (1, .ref (ad 0)), (2, .ref (am 0)), (3, .int x3)] → W p l e room_1 s m #[Value.ref b] below meth c H locs 14 20000 (lw_Z below #[Value.ref b] s) (F0 m 58 ls []) := by
  obtain ⟨hx, hb, hr, hml, hown, hts, hX, hbl, hlocks, hgv⟩ := C0
  have hbA : ¬ (fun q : Nat => s.heap.size ≤ q) b := Nat.not_le.mpr hbl
  have hLs : L < 2 ^ 31 := by omega
  have C : wC p s m #[Value.ref b] c meth code 4 R_law D cA (fun q : Nat => s.heap.size ≤ q) := ⟨hx, hb, hml, hown, fun w hw => hts w (List.mem_filter.mp hw).1, hK, fun _ h => h, hlocks⟩
  intro n
  induction n with
  | zero => intro x3 u v h; exact absurd h (by unfold lp_L_law; exact fun z => z)
  | succ n ih =>
    intro x3 u v h H locs ls G hl
    unfold lp_L_law at h
    refine lv_iload_n hx hb d_L_law_58 rfl (lv_at hl 3 rfl) ?_
    refine lv_aload_n hx hb d_L_law_59 rfl (lv_at hl 0 rfl) ?_
    refine va_slen hx hb hX hbl hbA G.2.2 d_L_law_60 ?_
    refine lv_iconst (v := 3) hx hb d_L_law_61 (by decide) ?_
    refine lv_isub hx hb d_L_law_62 ?_
    refine lv_icmp_gt (tgt := 403) hx hb d_L_law_63 (by decide) (fun hc_63 => ?_) (fun hc_63 => ?_)
    · replace h := h.1 hc_63
      refine lv_iconst (v := 1) hx hb d_L_law_403 (by decide) ?_
      refine va_forget (fun q hq => G.2.2.2.2 q hq) ?_
      refine W.widen (k := 600000) (n := 7302250) (by decide) (by decide) ?_
      exact lw_ret hx hb hr hlocks d_L_law_404
    · replace h := h.2 hc_63
      refine lv_aload_n hx hb d_L_law_66 rfl (lv_at hl 0 rfl) ?_
      refine lv_iload_n hx hb d_L_law_67 rfl (lv_at hl 3 rfl) ?_
      obtain ⟨j68, hi_68, hj_68, h⟩ := h
      refine l_sld C hX hbl hbA hLs G.2.2 hi_68 hj_68 d_L_law_68 ?_
      refine lv_bipush (v := 15) hx hb d_L_law_69 (by decide) ?_
      refine lv_iand hx hb d_L_law_71 ?_
      by_cases hs_0 : ((xs j68) &&& 15) = 0
      · replace h := h.1 hs_0
        refine lv_tableIn (tgt := 140) hx hb d_L_law_72 (by rw [hs_0]; decide) (by rw [hs_0]; decide) (by rw [hs_0]; rfl) (by decide) ?_
        refine lv_aload_n hx hb d_L_law_140 rfl (lv_at hl 1 rfl) ?_
        refine lv_aload_n hx hb d_L_law_141 rfl (lv_at hl 0 rfl) ?_
        refine lv_iload_n hx hb d_L_law_142 rfl (lv_at hl 3 rfl) ?_
        refine lv_iconst (v := 1) hx hb d_L_law_143 (by decide) ?_
        refine lv_iadd hx hb d_L_law_144 ?_
        obtain ⟨j145, hi_145, hj_145, h⟩ := h
        refine l_sld C hX hbl hbA hLs G.2.2 hi_145 hj_145 d_L_law_145 ?_
        refine lv_aload_n hx hb d_L_law_146 rfl (lv_at hl 0 rfl) ?_
        refine lv_iload_n hx hb d_L_law_147 rfl (lv_at hl 3 rfl) ?_
        refine lv_iconst (v := 2) hx hb d_L_law_148 (by decide) ?_
        refine lv_iadd hx hb d_L_law_149 ?_
        obtain ⟨j150, hi_150, hj_150, h⟩ := h
        refine l_sld C hX hbl hbA hLs G.2.2 hi_150 hj_150 d_L_law_150 ?_
        refine l_calli (wf := wX cA ad kx) [.int (xs j145), .int (xs j150)] C G (c_X_put l D cA ad kx hk _ _ _ _ h) ok_X_put ml_L_21 rfl rfl ⟨Nat.le_of_ble_eq_true rfl, Nat.le_of_ble_eq_true rfl⟩ rfl rfl rfl hl.1 (rest := []) rfl (lv_room (Nat.le_of_ble_eq_true rfl)) ⟨Nat.le_of_ble_eq_true rfl, Nat.le_of_ble_eq_true rfl⟩ d_L_law_151 (fun r151 u151 H locs G h => ?_)
        refine lv_aload_n hx hb d_L_law_154 rfl (lv_at hl 2 rfl) ?_
        refine lv_aload_n hx hb d_L_law_155 rfl (lv_at hl 0 rfl) ?_
        refine lv_iload_n hx hb d_L_law_156 rfl (lv_at hl 3 rfl) ?_
        refine lv_iconst (v := 1) hx hb d_L_law_157 (by decide) ?_
        refine lv_iadd hx hb d_L_law_158 ?_
        refine l_sld C hX hbl hbA hLs G.2.2 hi_145 hj_145 d_L_law_159 ?_
        refine lv_aload_n hx hb d_L_law_160 rfl (lv_at hl 0 rfl) ?_
        refine lv_iload_n hx hb d_L_law_161 rfl (lv_at hl 3 rfl) ?_
        refine lv_iconst (v := 2) hx hb d_L_law_162 (by decide) ?_
        refine lv_iadd hx hb d_L_law_163 ?_
        refine l_sld C hX hbl hbA hLs G.2.2 hi_150 hj_150 d_L_law_164 ?_
        refine r_calli (wf := wM cA am km) [.int (xs j145), .int (xs j150)] C G (c_M_put l D cA am km _ _ _ _ h) ok_M_put ml_L_25 rfl rfl ⟨Nat.le_of_ble_eq_true rfl, Nat.le_of_ble_eq_true rfl⟩ rfl rfl rfl hl.1 (rest := [.int r151]) rfl (lv_room (Nat.le_of_ble_eq_true rfl)) ⟨Nat.le_of_ble_eq_true rfl, Nat.le_of_ble_eq_true rfl⟩ d_L_law_165 (fun r165 v165 H locs G h => ?_)
        refine lv_icmp_eq (tgt := 397) hx hb d_L_law_168 (by decide) (fun hc_168 => ?_) (fun hc_168 => ?_)
        · replace h := h.1 hc_168
          obtain ⟨x3_397, ex3_397⟩ : ∃ y : Int32, y = x3 + 3 := ⟨_, rfl⟩
          replace h := h x3_397 ex3_397
          refine lv_iinc (v := x3_397) (lv' := [(3, .int x3_397), (0, .ref b), (1, .ref (ad 0)), (2, .ref (am 0))]) hx hb d_L_law_397 hl (k := 3) rfl (by rw [ex3_397]; rfl) (by decide) rfl (fun ls hl => ?_)
          refine lv_goto (tgt := 58) hx hb d_L_law_400 (by decide) ?_
          exact ih _ _ _ h _ _ _ G (lv_sub hl [1, 2, 3, 0] rfl)
        · replace h := h.2 hc_168
          refine lv_iconst (v := 0) hx hb d_L_law_171 (by decide) ?_
          exact h.elim
      replace h := h.2
      by_cases hs_1 : ((xs j68) &&& 15) = 1
      · replace h := h.1 hs_1
        refine lv_tableIn (tgt := 173) hx hb d_L_law_72 (by rw [hs_1]; decide) (by rw [hs_1]; decide) (by rw [hs_1]; rfl) (by decide) ?_
        refine lv_aload_n hx hb d_L_law_173 rfl (lv_at hl 1 rfl) ?_
        refine lv_aload_n hx hb d_L_law_174 rfl (lv_at hl 0 rfl) ?_
        refine lv_iload_n hx hb d_L_law_175 rfl (lv_at hl 3 rfl) ?_
        refine lv_iconst (v := 1) hx hb d_L_law_176 (by decide) ?_
        refine lv_iadd hx hb d_L_law_177 ?_
        obtain ⟨j178, hi_178, hj_178, h⟩ := h
        refine l_sld C hX hbl hbA hLs G.2.2 hi_178 hj_178 d_L_law_178 ?_
        refine l_calli (wf := wX cA ad kx) [.int (xs j178)] C G (c_X_get l D cA ad kx hk _ _ _ h) ok_X_get ml_L_26 rfl rfl ⟨Nat.le_of_ble_eq_true rfl, Nat.le_of_ble_eq_true rfl⟩ rfl rfl rfl hl.1 (rest := []) rfl (lv_room (Nat.le_of_ble_eq_true rfl)) ⟨Nat.le_of_ble_eq_true rfl, Nat.le_of_ble_eq_true rfl⟩ d_L_law_179 (fun r179 u179 H locs G h => ?_)
        refine lv_aload_n hx hb d_L_law_182 rfl (lv_at hl 2 rfl) ?_
        refine lv_aload_n hx hb d_L_law_183 rfl (lv_at hl 0 rfl) ?_
        refine lv_iload_n hx hb d_L_law_184 rfl (lv_at hl 3 rfl) ?_
        refine lv_iconst (v := 1) hx hb d_L_law_185 (by decide) ?_
        refine lv_iadd hx hb d_L_law_186 ?_
        refine l_sld C hX hbl hbA hLs G.2.2 hi_178 hj_178 d_L_law_187 ?_
        refine r_calli (wf := wM cA am km) [.int (xs j178)] C G (c_M_get l D cA am km _ _ _ h) ok_M_get ml_L_30 rfl rfl ⟨Nat.le_of_ble_eq_true rfl, Nat.le_of_ble_eq_true rfl⟩ rfl rfl rfl hl.1 (rest := [.int r179]) rfl (lv_room (Nat.le_of_ble_eq_true rfl)) ⟨Nat.le_of_ble_eq_true rfl, Nat.le_of_ble_eq_true rfl⟩ d_L_law_188 (fun r188 v188 H locs G h => ?_)
        refine lv_icmp_eq (tgt := 397) hx hb d_L_law_191 (by decide) (fun hc_191 => ?_) (fun hc_191 => ?_)
        · replace h := h.1 hc_191
          obtain ⟨x3_397, ex3_397⟩ : ∃ y : Int32, y = x3 + 3 := ⟨_, rfl⟩
          replace h := h x3_397 ex3_397
          refine lv_iinc (v := x3_397) (lv' := [(3, .int x3_397), (0, .ref b), (1, .ref (ad 0)), (2, .ref (am 0))]) hx hb d_L_law_397 hl (k := 3) rfl (by rw [ex3_397]; rfl) (by decide) rfl (fun ls hl => ?_)
          refine lv_goto (tgt := 58) hx hb d_L_law_400 (by decide) ?_
          exact ih _ _ _ h _ _ _ G (lv_sub hl [1, 2, 3, 0] rfl)
        · replace h := h.2 hc_191
          refine lv_iconst (v := 0) hx hb d_L_law_194 (by decide) ?_
          exact h.elim
      replace h := h.2
      by_cases hs_2 : ((xs j68) &&& 15) = 2
      · replace h := h.1 hs_2
        refine lv_tableIn (tgt := 196) hx hb d_L_law_72 (by rw [hs_2]; decide) (by rw [hs_2]; decide) (by rw [hs_2]; rfl) (by decide) ?_
        refine lv_aload_n hx hb d_L_law_196 rfl (lv_at hl 1 rfl) ?_
        refine lv_aload_n hx hb d_L_law_197 rfl (lv_at hl 0 rfl) ?_
        refine lv_iload_n hx hb d_L_law_198 rfl (lv_at hl 3 rfl) ?_
        refine lv_iconst (v := 1) hx hb d_L_law_199 (by decide) ?_
        refine lv_iadd hx hb d_L_law_200 ?_
        obtain ⟨j201, hi_201, hj_201, h⟩ := h
        refine l_sld C hX hbl hbA hLs G.2.2 hi_201 hj_201 d_L_law_201 ?_
        refine l_calli (wf := wX cA ad kx) [.int (xs j201)] C G (c_X_has l D cA ad kx hk _ _ _ h) ok_X_has ml_L_31 rfl rfl ⟨Nat.le_of_ble_eq_true rfl, Nat.le_of_ble_eq_true rfl⟩ rfl rfl rfl hl.1 (rest := []) rfl (lv_room (Nat.le_of_ble_eq_true rfl)) ⟨Nat.le_of_ble_eq_true rfl, Nat.le_of_ble_eq_true rfl⟩ d_L_law_202 (fun r202 u202 H locs G h => ?_)
        refine lv_aload_n hx hb d_L_law_205 rfl (lv_at hl 2 rfl) ?_
        refine lv_aload_n hx hb d_L_law_206 rfl (lv_at hl 0 rfl) ?_
        refine lv_iload_n hx hb d_L_law_207 rfl (lv_at hl 3 rfl) ?_
        refine lv_iconst (v := 1) hx hb d_L_law_208 (by decide) ?_
        refine lv_iadd hx hb d_L_law_209 ?_
        refine l_sld C hX hbl hbA hLs G.2.2 hi_201 hj_201 d_L_law_210 ?_
        refine r_calli (wf := wM cA am km) [.int (xs j201)] C G (c_M_has l D cA am km _ _ _ h) ok_M_has ml_L_35 rfl rfl ⟨Nat.le_of_ble_eq_true rfl, Nat.le_of_ble_eq_true rfl⟩ rfl rfl rfl hl.1 (rest := [.int r202]) rfl (lv_room (Nat.le_of_ble_eq_true rfl)) ⟨Nat.le_of_ble_eq_true rfl, Nat.le_of_ble_eq_true rfl⟩ d_L_law_211 (fun r211 v211 H locs G h => ?_)
        refine lv_icmp_eq (tgt := 397) hx hb d_L_law_214 (by decide) (fun hc_214 => ?_) (fun hc_214 => ?_)
        · replace h := h.1 hc_214
          obtain ⟨x3_397, ex3_397⟩ : ∃ y : Int32, y = x3 + 3 := ⟨_, rfl⟩
          replace h := h x3_397 ex3_397
          refine lv_iinc (v := x3_397) (lv' := [(3, .int x3_397), (0, .ref b), (1, .ref (ad 0)), (2, .ref (am 0))]) hx hb d_L_law_397 hl (k := 3) rfl (by rw [ex3_397]; rfl) (by decide) rfl (fun ls hl => ?_)
          refine lv_goto (tgt := 58) hx hb d_L_law_400 (by decide) ?_
          exact ih _ _ _ h _ _ _ G (lv_sub hl [1, 2, 3, 0] rfl)
        · replace h := h.2 hc_214
          refine lv_iconst (v := 0) hx hb d_L_law_217 (by decide) ?_
          exact h.elim
      replace h := h.2
      by_cases hs_3 : ((xs j68) &&& 15) = 3
      · replace h := h.1 hs_3
        refine lv_tableIn (tgt := 219) hx hb d_L_law_72 (by rw [hs_3]; decide) (by rw [hs_3]; decide) (by rw [hs_3]; rfl) (by decide) ?_
        refine lv_aload_n hx hb d_L_law_219 rfl (lv_at hl 1 rfl) ?_
        refine lv_aload_n hx hb d_L_law_220 rfl (lv_at hl 0 rfl) ?_
        refine lv_iload_n hx hb d_L_law_221 rfl (lv_at hl 3 rfl) ?_
        refine lv_iconst (v := 1) hx hb d_L_law_222 (by decide) ?_
        refine lv_iadd hx hb d_L_law_223 ?_
        obtain ⟨j224, hi_224, hj_224, h⟩ := h
        refine l_sld C hX hbl hbA hLs G.2.2 hi_224 hj_224 d_L_law_224 ?_
        refine l_calli (wf := wX cA ad kx) [.int (xs j224)] C G (c_X_remove l D cA ad kx hk _ _ _ h) ok_X_remove ml_L_36 rfl rfl ⟨Nat.le_of_ble_eq_true rfl, Nat.le_of_ble_eq_true rfl⟩ rfl rfl rfl hl.1 (rest := []) rfl (lv_room (Nat.le_of_ble_eq_true rfl)) ⟨Nat.le_of_ble_eq_true rfl, Nat.le_of_ble_eq_true rfl⟩ d_L_law_225 (fun r225 u225 H locs G h => ?_)
        refine lv_aload_n hx hb d_L_law_228 rfl (lv_at hl 2 rfl) ?_
        refine lv_aload_n hx hb d_L_law_229 rfl (lv_at hl 0 rfl) ?_
        refine lv_iload_n hx hb d_L_law_230 rfl (lv_at hl 3 rfl) ?_
        refine lv_iconst (v := 1) hx hb d_L_law_231 (by decide) ?_
        refine lv_iadd hx hb d_L_law_232 ?_
        refine l_sld C hX hbl hbA hLs G.2.2 hi_224 hj_224 d_L_law_233 ?_
        refine r_calli (wf := wM cA am km) [.int (xs j224)] C G (c_M_remove l D cA am km _ _ _ h) ok_M_remove ml_L_39 rfl rfl ⟨Nat.le_of_ble_eq_true rfl, Nat.le_of_ble_eq_true rfl⟩ rfl rfl rfl hl.1 (rest := [.int r225]) rfl (lv_room (Nat.le_of_ble_eq_true rfl)) ⟨Nat.le_of_ble_eq_true rfl, Nat.le_of_ble_eq_true rfl⟩ d_L_law_234 (fun r234 v234 H locs G h => ?_)
        refine lv_icmp_eq (tgt := 397) hx hb d_L_law_237 (by decide) (fun hc_237 => ?_) (fun hc_237 => ?_)
        · replace h := h.1 hc_237
          obtain ⟨x3_397, ex3_397⟩ : ∃ y : Int32, y = x3 + 3 := ⟨_, rfl⟩
          replace h := h x3_397 ex3_397
          refine lv_iinc (v := x3_397) (lv' := [(3, .int x3_397), (0, .ref b), (1, .ref (ad 0)), (2, .ref (am 0))]) hx hb d_L_law_397 hl (k := 3) rfl (by rw [ex3_397]; rfl) (by decide) rfl (fun ls hl => ?_)
          refine lv_goto (tgt := 58) hx hb d_L_law_400 (by decide) ?_
          exact ih _ _ _ h _ _ _ G (lv_sub hl [1, 2, 3, 0] rfl)
        · replace h := h.2 hc_237
          refine lv_iconst (v := 0) hx hb d_L_law_240 (by decide) ?_
          exact h.elim
      replace h := h.2
      by_cases hs_4 : ((xs j68) &&& 15) = 4
      · replace h := h.1 hs_4
        refine lv_tableIn (tgt := 242) hx hb d_L_law_72 (by rw [hs_4]; decide) (by rw [hs_4]; decide) (by rw [hs_4]; rfl) (by decide) ?_
        refine lv_aload_n hx hb d_L_law_242 rfl (lv_at hl 1 rfl) ?_
        refine l_calli (wf := wX cA ad kx) [] C G (c_X_size l D cA ad kx hk _ _ h) ok_X_size ml_L_40 rfl rfl ⟨Nat.le_of_ble_eq_true rfl, Nat.le_of_ble_eq_true rfl⟩ rfl rfl rfl hl.1 (rest := []) rfl (lv_room (Nat.le_of_ble_eq_true rfl)) ⟨Nat.le_of_ble_eq_true rfl, Nat.le_of_ble_eq_true rfl⟩ d_L_law_243 (fun r243 u243 H locs G h => ?_)
        refine lv_aload_n hx hb d_L_law_246 rfl (lv_at hl 2 rfl) ?_
        refine r_calli (wf := wM cA am km) [] C G (c_M_size l D cA am km _ _ h) ok_M_size ml_L_44 rfl rfl ⟨Nat.le_of_ble_eq_true rfl, Nat.le_of_ble_eq_true rfl⟩ rfl rfl rfl hl.1 (rest := [.int r243]) rfl (lv_room (Nat.le_of_ble_eq_true rfl)) ⟨Nat.le_of_ble_eq_true rfl, Nat.le_of_ble_eq_true rfl⟩ d_L_law_247 (fun r247 v247 H locs G h => ?_)
        refine lv_icmp_eq (tgt := 397) hx hb d_L_law_250 (by decide) (fun hc_250 => ?_) (fun hc_250 => ?_)
        · replace h := h.1 hc_250
          obtain ⟨x3_397, ex3_397⟩ : ∃ y : Int32, y = x3 + 3 := ⟨_, rfl⟩
          replace h := h x3_397 ex3_397
          refine lv_iinc (v := x3_397) (lv' := [(3, .int x3_397), (0, .ref b), (1, .ref (ad 0)), (2, .ref (am 0))]) hx hb d_L_law_397 hl (k := 3) rfl (by rw [ex3_397]; rfl) (by decide) rfl (fun ls hl => ?_)
          refine lv_goto (tgt := 58) hx hb d_L_law_400 (by decide) ?_
          exact ih _ _ _ h _ _ _ G (lv_sub hl [1, 2, 3, 0] rfl)
        · replace h := h.2 hc_250
          refine lv_iconst (v := 0) hx hb d_L_law_253 (by decide) ?_
          exact h.elim
      replace h := h.2
      by_cases hs_5 : ((xs j68) &&& 15) = 5
      · replace h := h.1 hs_5
        refine lv_tableIn (tgt := 255) hx hb d_L_law_72 (by rw [hs_5]; decide) (by rw [hs_5]; decide) (by rw [hs_5]; rfl) (by decide) ?_
        refine lv_aload_n hx hb d_L_law_255 rfl (lv_at hl 1 rfl) ?_
        refine l_calli (wf := wX cA ad kx) [] C G (c_X_buckets l D cA ad kx hk _ _ h) ok_X_buckets ml_L_45 rfl rfl ⟨Nat.le_of_ble_eq_true rfl, Nat.le_of_ble_eq_true rfl⟩ rfl rfl rfl hl.1 (rest := []) rfl (lv_room (Nat.le_of_ble_eq_true rfl)) ⟨Nat.le_of_ble_eq_true rfl, Nat.le_of_ble_eq_true rfl⟩ d_L_law_256 (fun r256 u256 H locs G h => ?_)
        refine lv_aload_n hx hb d_L_law_259 rfl (lv_at hl 2 rfl) ?_
        refine r_calli (wf := wM cA am km) [] C G (c_M_buckets l D cA am km _ _ h) ok_M_buckets ml_L_48 rfl rfl ⟨Nat.le_of_ble_eq_true rfl, Nat.le_of_ble_eq_true rfl⟩ rfl rfl rfl hl.1 (rest := [.int r256]) rfl (lv_room (Nat.le_of_ble_eq_true rfl)) ⟨Nat.le_of_ble_eq_true rfl, Nat.le_of_ble_eq_true rfl⟩ d_L_law_260 (fun r260 v260 H locs G h => ?_)
        refine lv_icmp_eq (tgt := 397) hx hb d_L_law_263 (by decide) (fun hc_263 => ?_) (fun hc_263 => ?_)
        · replace h := h.1 hc_263
          obtain ⟨x3_397, ex3_397⟩ : ∃ y : Int32, y = x3 + 3 := ⟨_, rfl⟩
          replace h := h x3_397 ex3_397
          refine lv_iinc (v := x3_397) (lv' := [(3, .int x3_397), (0, .ref b), (1, .ref (ad 0)), (2, .ref (am 0))]) hx hb d_L_law_397 hl (k := 3) rfl (by rw [ex3_397]; rfl) (by decide) rfl (fun ls hl => ?_)
          refine lv_goto (tgt := 58) hx hb d_L_law_400 (by decide) ?_
          exact ih _ _ _ h _ _ _ G (lv_sub hl [1, 2, 3, 0] rfl)
        · replace h := h.2 hc_263
          refine lv_iconst (v := 0) hx hb d_L_law_266 (by decide) ?_
          exact h.elim
      replace h := h.2
      by_cases hs_6 : ((xs j68) &&& 15) = 6
      · replace h := h.1 hs_6
        refine lv_tableIn (tgt := 268) hx hb d_L_law_72 (by rw [hs_6]; decide) (by rw [hs_6]; decide) (by rw [hs_6]; rfl) (by decide) ?_
        refine lv_aload_n hx hb d_L_law_268 rfl (lv_at hl 1 rfl) ?_
        refine l_calli (wf := wX cA ad kx) [] C G (c_X_level l D cA ad kx hk _ _ h) ok_X_level ml_L_49 rfl rfl ⟨Nat.le_of_ble_eq_true rfl, Nat.le_of_ble_eq_true rfl⟩ rfl rfl rfl hl.1 (rest := []) rfl (lv_room (Nat.le_of_ble_eq_true rfl)) ⟨Nat.le_of_ble_eq_true rfl, Nat.le_of_ble_eq_true rfl⟩ d_L_law_269 (fun r269 u269 H locs G h => ?_)
        refine lv_aload_n hx hb d_L_law_272 rfl (lv_at hl 2 rfl) ?_
        refine r_calli (wf := wM cA am km) [] C G (c_M_level l D cA am km _ _ h) ok_M_level ml_L_52 rfl rfl ⟨Nat.le_of_ble_eq_true rfl, Nat.le_of_ble_eq_true rfl⟩ rfl rfl rfl hl.1 (rest := [.int r269]) rfl (lv_room (Nat.le_of_ble_eq_true rfl)) ⟨Nat.le_of_ble_eq_true rfl, Nat.le_of_ble_eq_true rfl⟩ d_L_law_273 (fun r273 v273 H locs G h => ?_)
        refine lv_icmp_eq (tgt := 397) hx hb d_L_law_276 (by decide) (fun hc_276 => ?_) (fun hc_276 => ?_)
        · replace h := h.1 hc_276
          obtain ⟨x3_397, ex3_397⟩ : ∃ y : Int32, y = x3 + 3 := ⟨_, rfl⟩
          replace h := h x3_397 ex3_397
          refine lv_iinc (v := x3_397) (lv' := [(3, .int x3_397), (0, .ref b), (1, .ref (ad 0)), (2, .ref (am 0))]) hx hb d_L_law_397 hl (k := 3) rfl (by rw [ex3_397]; rfl) (by decide) rfl (fun ls hl => ?_)
          refine lv_goto (tgt := 58) hx hb d_L_law_400 (by decide) ?_
          exact ih _ _ _ h _ _ _ G (lv_sub hl [1, 2, 3, 0] rfl)
        · replace h := h.2 hc_276
          refine lv_iconst (v := 0) hx hb d_L_law_279 (by decide) ?_
          exact h.elim
      replace h := h.2
      by_cases hs_7 : ((xs j68) &&& 15) = 7
      · replace h := h.1 hs_7
        refine lv_tableIn (tgt := 281) hx hb d_L_law_72 (by rw [hs_7]; decide) (by rw [hs_7]; decide) (by rw [hs_7]; rfl) (by decide) ?_
        refine lv_aload_n hx hb d_L_law_281 rfl (lv_at hl 1 rfl) ?_
        refine l_calli (wf := wX cA ad kx) [] C G (c_X_pointer l D cA ad kx hk _ _ h) ok_X_pointer ml_L_53 rfl rfl ⟨Nat.le_of_ble_eq_true rfl, Nat.le_of_ble_eq_true rfl⟩ rfl rfl rfl hl.1 (rest := []) rfl (lv_room (Nat.le_of_ble_eq_true rfl)) ⟨Nat.le_of_ble_eq_true rfl, Nat.le_of_ble_eq_true rfl⟩ d_L_law_282 (fun r282 u282 H locs G h => ?_)
        refine lv_aload_n hx hb d_L_law_285 rfl (lv_at hl 2 rfl) ?_
        refine r_calli (wf := wM cA am km) [] C G (c_M_pointer l D cA am km _ _ h) ok_M_pointer ml_L_56 rfl rfl ⟨Nat.le_of_ble_eq_true rfl, Nat.le_of_ble_eq_true rfl⟩ rfl rfl rfl hl.1 (rest := [.int r282]) rfl (lv_room (Nat.le_of_ble_eq_true rfl)) ⟨Nat.le_of_ble_eq_true rfl, Nat.le_of_ble_eq_true rfl⟩ d_L_law_286 (fun r286 v286 H locs G h => ?_)
        refine lv_icmp_eq (tgt := 397) hx hb d_L_law_289 (by decide) (fun hc_289 => ?_) (fun hc_289 => ?_)
        · replace h := h.1 hc_289
          obtain ⟨x3_397, ex3_397⟩ : ∃ y : Int32, y = x3 + 3 := ⟨_, rfl⟩
          replace h := h x3_397 ex3_397
          refine lv_iinc (v := x3_397) (lv' := [(3, .int x3_397), (0, .ref b), (1, .ref (ad 0)), (2, .ref (am 0))]) hx hb d_L_law_397 hl (k := 3) rfl (by rw [ex3_397]; rfl) (by decide) rfl (fun ls hl => ?_)
          refine lv_goto (tgt := 58) hx hb d_L_law_400 (by decide) ?_
          exact ih _ _ _ h _ _ _ G (lv_sub hl [1, 2, 3, 0] rfl)
        · replace h := h.2 hc_289
          refine lv_iconst (v := 0) hx hb d_L_law_292 (by decide) ?_
          exact h.elim
      replace h := h.2
      by_cases hs_8 : ((xs j68) &&& 15) = 8
      · replace h := h.1 hs_8
        refine lv_tableIn (tgt := 294) hx hb d_L_law_72 (by rw [hs_8]; decide) (by rw [hs_8]; decide) (by rw [hs_8]; rfl) (by decide) ?_
        refine lv_aload_n hx hb d_L_law_294 rfl (lv_at hl 1 rfl) ?_
        refine lv_aload_n hx hb d_L_law_295 rfl (lv_at hl 0 rfl) ?_
        refine lv_iload_n hx hb d_L_law_296 rfl (lv_at hl 3 rfl) ?_
        refine lv_iconst (v := 1) hx hb d_L_law_297 (by decide) ?_
        refine lv_iadd hx hb d_L_law_298 ?_
        obtain ⟨j299, hi_299, hj_299, h⟩ := h
        refine l_sld C hX hbl hbA hLs G.2.2 hi_299 hj_299 d_L_law_299 ?_
        refine l_calli (wf := wX cA ad kx) [.int (xs j299)] C G (c_X_bucketOf l D cA ad kx hk _ _ _ h) ok_X_bucketOf ml_L_57 rfl rfl ⟨Nat.le_of_ble_eq_true rfl, Nat.le_of_ble_eq_true rfl⟩ rfl rfl rfl hl.1 (rest := []) rfl (lv_room (Nat.le_of_ble_eq_true rfl)) ⟨Nat.le_of_ble_eq_true rfl, Nat.le_of_ble_eq_true rfl⟩ d_L_law_300 (fun r300 u300 H locs G h => ?_)
        refine lv_aload_n hx hb d_L_law_303 rfl (lv_at hl 2 rfl) ?_
        refine lv_aload_n hx hb d_L_law_304 rfl (lv_at hl 0 rfl) ?_
        refine lv_iload_n hx hb d_L_law_305 rfl (lv_at hl 3 rfl) ?_
        refine lv_iconst (v := 1) hx hb d_L_law_306 (by decide) ?_
        refine lv_iadd hx hb d_L_law_307 ?_
        refine l_sld C hX hbl hbA hLs G.2.2 hi_299 hj_299 d_L_law_308 ?_
        refine r_calli (wf := wM cA am km) [.int (xs j299)] C G (c_M_bucketOf l D cA am km _ _ _ h) ok_M_bucketOf ml_L_60 rfl rfl ⟨Nat.le_of_ble_eq_true rfl, Nat.le_of_ble_eq_true rfl⟩ rfl rfl rfl hl.1 (rest := [.int r300]) rfl (lv_room (Nat.le_of_ble_eq_true rfl)) ⟨Nat.le_of_ble_eq_true rfl, Nat.le_of_ble_eq_true rfl⟩ d_L_law_309 (fun r309 v309 H locs G h => ?_)
        refine lv_icmp_eq (tgt := 397) hx hb d_L_law_312 (by decide) (fun hc_312 => ?_) (fun hc_312 => ?_)
        · replace h := h.1 hc_312
          obtain ⟨x3_397, ex3_397⟩ : ∃ y : Int32, y = x3 + 3 := ⟨_, rfl⟩
          replace h := h x3_397 ex3_397
          refine lv_iinc (v := x3_397) (lv' := [(3, .int x3_397), (0, .ref b), (1, .ref (ad 0)), (2, .ref (am 0))]) hx hb d_L_law_397 hl (k := 3) rfl (by rw [ex3_397]; rfl) (by decide) rfl (fun ls hl => ?_)
          refine lv_goto (tgt := 58) hx hb d_L_law_400 (by decide) ?_
          exact ih _ _ _ h _ _ _ G (lv_sub hl [1, 2, 3, 0] rfl)
        · replace h := h.2 hc_312
          refine lv_iconst (v := 0) hx hb d_L_law_315 (by decide) ?_
          exact h.elim
      replace h := h.2
      by_cases hs_9 : ((xs j68) &&& 15) = 9
      · replace h := h.1 hs_9
        refine lv_tableIn (tgt := 317) hx hb d_L_law_72 (by rw [hs_9]; decide) (by rw [hs_9]; decide) (by rw [hs_9]; rfl) (by decide) ?_
        refine lv_aload_n hx hb d_L_law_317 rfl (lv_at hl 1 rfl) ?_
        refine lv_aload_n hx hb d_L_law_318 rfl (lv_at hl 0 rfl) ?_
        refine lv_iload_n hx hb d_L_law_319 rfl (lv_at hl 3 rfl) ?_
        refine lv_iconst (v := 1) hx hb d_L_law_320 (by decide) ?_
        refine lv_iadd hx hb d_L_law_321 ?_
        obtain ⟨j322, hi_322, hj_322, h⟩ := h
        refine l_sld C hX hbl hbA hLs G.2.2 hi_322 hj_322 d_L_law_322 ?_
        refine l_calli (wf := wX cA ad kx) [.int (xs j322)] C G (c_X_pages l D cA ad kx hk _ _ _ h) ok_X_pages ml_L_61 rfl rfl ⟨Nat.le_of_ble_eq_true rfl, Nat.le_of_ble_eq_true rfl⟩ rfl rfl rfl hl.1 (rest := []) rfl (lv_room (Nat.le_of_ble_eq_true rfl)) ⟨Nat.le_of_ble_eq_true rfl, Nat.le_of_ble_eq_true rfl⟩ d_L_law_323 (fun r323 u323 H locs G h => ?_)
        refine lv_aload_n hx hb d_L_law_326 rfl (lv_at hl 2 rfl) ?_
        refine lv_aload_n hx hb d_L_law_327 rfl (lv_at hl 0 rfl) ?_
        refine lv_iload_n hx hb d_L_law_328 rfl (lv_at hl 3 rfl) ?_
        refine lv_iconst (v := 1) hx hb d_L_law_329 (by decide) ?_
        refine lv_iadd hx hb d_L_law_330 ?_
        refine l_sld C hX hbl hbA hLs G.2.2 hi_322 hj_322 d_L_law_331 ?_
        refine r_calli (wf := wM cA am km) [.int (xs j322)] C G (c_M_pages l D cA am km _ _ _ h) ok_M_pages ml_L_64 rfl rfl ⟨Nat.le_of_ble_eq_true rfl, Nat.le_of_ble_eq_true rfl⟩ rfl rfl rfl hl.1 (rest := [.int r323]) rfl (lv_room (Nat.le_of_ble_eq_true rfl)) ⟨Nat.le_of_ble_eq_true rfl, Nat.le_of_ble_eq_true rfl⟩ d_L_law_332 (fun r332 v332 H locs G h => ?_)
        refine lv_icmp_eq (tgt := 397) hx hb d_L_law_335 (by decide) (fun hc_335 => ?_) (fun hc_335 => ?_)
        · replace h := h.1 hc_335
          obtain ⟨x3_397, ex3_397⟩ : ∃ y : Int32, y = x3 + 3 := ⟨_, rfl⟩
          replace h := h x3_397 ex3_397
          refine lv_iinc (v := x3_397) (lv' := [(3, .int x3_397), (0, .ref b), (1, .ref (ad 0)), (2, .ref (am 0))]) hx hb d_L_law_397 hl (k := 3) rfl (by rw [ex3_397]; rfl) (by decide) rfl (fun ls hl => ?_)
          refine lv_goto (tgt := 58) hx hb d_L_law_400 (by decide) ?_
          exact ih _ _ _ h _ _ _ G (lv_sub hl [1, 2, 3, 0] rfl)
        · replace h := h.2 hc_335
          refine lv_iconst (v := 0) hx hb d_L_law_338 (by decide) ?_
          exact h.elim
      replace h := h.2
      by_cases hs_10 : ((xs j68) &&& 15) = 10
      · replace h := h.1 hs_10
        refine lv_tableIn (tgt := 340) hx hb d_L_law_72 (by rw [hs_10]; decide) (by rw [hs_10]; decide) (by rw [hs_10]; rfl) (by decide) ?_
        refine lv_aload_n hx hb d_L_law_340 rfl (lv_at hl 1 rfl) ?_
        refine l_calli (wf := wX cA ad kx) [] C G (c_X_free l D cA ad kx hk _ _ h) ok_X_free ml_L_65 rfl rfl ⟨Nat.le_of_ble_eq_true rfl, Nat.le_of_ble_eq_true rfl⟩ rfl rfl rfl hl.1 (rest := []) rfl (lv_room (Nat.le_of_ble_eq_true rfl)) ⟨Nat.le_of_ble_eq_true rfl, Nat.le_of_ble_eq_true rfl⟩ d_L_law_341 (fun r341 u341 H locs G h => ?_)
        refine lv_aload_n hx hb d_L_law_344 rfl (lv_at hl 2 rfl) ?_
        refine r_calli (wf := wM cA am km) [] C G (c_M_free l D cA am km _ _ h) ok_M_free ml_L_68 rfl rfl ⟨Nat.le_of_ble_eq_true rfl, Nat.le_of_ble_eq_true rfl⟩ rfl rfl rfl hl.1 (rest := [.int r341]) rfl (lv_room (Nat.le_of_ble_eq_true rfl)) ⟨Nat.le_of_ble_eq_true rfl, Nat.le_of_ble_eq_true rfl⟩ d_L_law_345 (fun r345 v345 H locs G h => ?_)
        refine lv_icmp_eq (tgt := 397) hx hb d_L_law_348 (by decide) (fun hc_348 => ?_) (fun hc_348 => ?_)
        · replace h := h.1 hc_348
          obtain ⟨x3_397, ex3_397⟩ : ∃ y : Int32, y = x3 + 3 := ⟨_, rfl⟩
          replace h := h x3_397 ex3_397
          refine lv_iinc (v := x3_397) (lv' := [(3, .int x3_397), (0, .ref b), (1, .ref (ad 0)), (2, .ref (am 0))]) hx hb d_L_law_397 hl (k := 3) rfl (by rw [ex3_397]; rfl) (by decide) rfl (fun ls hl => ?_)
          refine lv_goto (tgt := 58) hx hb d_L_law_400 (by decide) ?_
          exact ih _ _ _ h _ _ _ G (lv_sub hl [1, 2, 3, 0] rfl)
        · replace h := h.2 hc_348
          refine lv_iconst (v := 0) hx hb d_L_law_351 (by decide) ?_
          exact h.elim
      replace h := h.2
      by_cases hs_11 : ((xs j68) &&& 15) = 11
      · replace h := h.1 hs_11
        refine lv_tableIn (tgt := 353) hx hb d_L_law_72 (by rw [hs_11]; decide) (by rw [hs_11]; decide) (by rw [hs_11]; rfl) (by decide) ?_
        refine lv_aload_n hx hb d_L_law_353 rfl (lv_at hl 1 rfl) ?_
        refine lv_aload_n hx hb d_L_law_354 rfl (lv_at hl 0 rfl) ?_
        refine lv_iload_n hx hb d_L_law_355 rfl (lv_at hl 3 rfl) ?_
        refine lv_iconst (v := 1) hx hb d_L_law_356 (by decide) ?_
        refine lv_iadd hx hb d_L_law_357 ?_
        obtain ⟨j358, hi_358, hj_358, h⟩ := h
        refine l_sld C hX hbl hbA hLs G.2.2 hi_358 hj_358 d_L_law_358 ?_
        refine lv_aload_n hx hb d_L_law_359 rfl (lv_at hl 0 rfl) ?_
        refine lv_iload_n hx hb d_L_law_360 rfl (lv_at hl 3 rfl) ?_
        refine lv_iconst (v := 2) hx hb d_L_law_361 (by decide) ?_
        refine lv_iadd hx hb d_L_law_362 ?_
        obtain ⟨j363, hi_363, hj_363, h⟩ := h
        refine l_sld C hX hbl hbA hLs G.2.2 hi_363 hj_363 d_L_law_363 ?_
        refine l_calli (wf := wX cA ad kx) [.int (xs j358), .int (xs j363)] C G (c_X_key l D cA ad kx hk _ _ _ _ h) ok_X_key ml_L_69 rfl rfl ⟨Nat.le_of_ble_eq_true rfl, Nat.le_of_ble_eq_true rfl⟩ rfl rfl rfl hl.1 (rest := []) rfl (lv_room (Nat.le_of_ble_eq_true rfl)) ⟨Nat.le_of_ble_eq_true rfl, Nat.le_of_ble_eq_true rfl⟩ d_L_law_364 (fun r364 u364 H locs G h => ?_)
        refine lv_aload_n hx hb d_L_law_367 rfl (lv_at hl 2 rfl) ?_
        refine lv_aload_n hx hb d_L_law_368 rfl (lv_at hl 0 rfl) ?_
        refine lv_iload_n hx hb d_L_law_369 rfl (lv_at hl 3 rfl) ?_
        refine lv_iconst (v := 1) hx hb d_L_law_370 (by decide) ?_
        refine lv_iadd hx hb d_L_law_371 ?_
        refine l_sld C hX hbl hbA hLs G.2.2 hi_358 hj_358 d_L_law_372 ?_
        refine lv_aload_n hx hb d_L_law_373 rfl (lv_at hl 0 rfl) ?_
        refine lv_iload_n hx hb d_L_law_374 rfl (lv_at hl 3 rfl) ?_
        refine lv_iconst (v := 2) hx hb d_L_law_375 (by decide) ?_
        refine lv_iadd hx hb d_L_law_376 ?_
        refine l_sld C hX hbl hbA hLs G.2.2 hi_363 hj_363 d_L_law_377 ?_
        refine r_calli (wf := wM cA am km) [.int (xs j358), .int (xs j363)] C G (c_M_key l D cA am km _ _ _ _ h) ok_M_key ml_L_72 rfl rfl ⟨Nat.le_of_ble_eq_true rfl, Nat.le_of_ble_eq_true rfl⟩ rfl rfl rfl hl.1 (rest := [.int r364]) rfl (lv_room (Nat.le_of_ble_eq_true rfl)) ⟨Nat.le_of_ble_eq_true rfl, Nat.le_of_ble_eq_true rfl⟩ d_L_law_378 (fun r378 v378 H locs G h => ?_)
        refine lv_icmp_eq (tgt := 397) hx hb d_L_law_381 (by decide) (fun hc_381 => ?_) (fun hc_381 => ?_)
        · replace h := h.1 hc_381
          obtain ⟨x3_397, ex3_397⟩ : ∃ y : Int32, y = x3 + 3 := ⟨_, rfl⟩
          replace h := h x3_397 ex3_397
          refine lv_iinc (v := x3_397) (lv' := [(3, .int x3_397), (0, .ref b), (1, .ref (ad 0)), (2, .ref (am 0))]) hx hb d_L_law_397 hl (k := 3) rfl (by rw [ex3_397]; rfl) (by decide) rfl (fun ls hl => ?_)
          refine lv_goto (tgt := 58) hx hb d_L_law_400 (by decide) ?_
          exact ih _ _ _ h _ _ _ G (lv_sub hl [1, 2, 3, 0] rfl)
        · replace h := h.2 hc_381
          refine lv_iconst (v := 0) hx hb d_L_law_384 (by decide) ?_
          exact h.elim
      replace h := h.2
      by_cases hs_12 : ((xs j68) &&& 15) = 12
      · replace h := h.1 hs_12
        refine lv_tableIn (tgt := 386) hx hb d_L_law_72 (by rw [hs_12]; decide) (by rw [hs_12]; decide) (by rw [hs_12]; rfl) (by decide) ?_
        refine lv_aload_n hx hb d_L_law_386 rfl (lv_at hl 1 rfl) ?_
        refine l_callv (wf := wX cA ad kx) [] C G (c_X_clear l D cA ad kx hk _ _ h) ok_X_clear ml_L_73 rfl rfl ⟨Nat.le_of_ble_eq_true rfl, Nat.le_of_ble_eq_true rfl⟩ rfl rfl rfl hl.1 (rest := []) rfl (lv_room (Nat.le_of_ble_eq_true rfl)) ⟨Nat.le_of_ble_eq_true rfl, Nat.le_of_ble_eq_true rfl⟩ d_L_law_387 (fun u387 H locs G h => ?_)
        refine lv_aload_n hx hb d_L_law_390 rfl (lv_at hl 2 rfl) ?_
        refine r_callv (wf := wM cA am km) [] C G (c_M_clear l D cA am km _ _ h) ok_M_clear ml_L_76 rfl rfl ⟨Nat.le_of_ble_eq_true rfl, Nat.le_of_ble_eq_true rfl⟩ rfl rfl rfl hl.1 (rest := []) rfl (lv_room (Nat.le_of_ble_eq_true rfl)) ⟨Nat.le_of_ble_eq_true rfl, Nat.le_of_ble_eq_true rfl⟩ d_L_law_391 (fun v391 H locs G h => ?_)
        refine lv_goto (tgt := 397) hx hb d_L_law_394 (by decide) ?_
        obtain ⟨x3_397, ex3_397⟩ : ∃ y : Int32, y = x3 + 3 := ⟨_, rfl⟩
        replace h := h x3_397 ex3_397
        refine lv_iinc (v := x3_397) (lv' := [(3, .int x3_397), (0, .ref b), (1, .ref (ad 0)), (2, .ref (am 0))]) hx hb d_L_law_397 hl (k := 3) rfl (by rw [ex3_397]; rfl) (by decide) rfl (fun ls hl => ?_)
        refine lv_goto (tgt := 58) hx hb d_L_law_400 (by decide) ?_
        exact ih _ _ _ h _ _ _ G (lv_sub hl [1, 2, 3, 0] rfl)
      replace h := h.2
      refine lv_tableOut (tgt := 397) hx hb d_L_law_72 (by have q0 := lv_neT hs_0 (show (0 : Int32).toInt = 0 by decide); have q1 := lv_neT hs_1 (show (1 : Int32).toInt = 1 by decide); have q2 := lv_neT hs_2 (show (2 : Int32).toInt = 2 by decide); have q3 := lv_neT hs_3 (show (3 : Int32).toInt = 3 by decide); have q4 := lv_neT hs_4 (show (4 : Int32).toInt = 4 by decide); have q5 := lv_neT hs_5 (show (5 : Int32).toInt = 5 by decide); have q6 := lv_neT hs_6 (show (6 : Int32).toInt = 6 by decide); have q7 := lv_neT hs_7 (show (7 : Int32).toInt = 7 by decide); have q8 := lv_neT hs_8 (show (8 : Int32).toInt = 8 by decide); have q9 := lv_neT hs_9 (show (9 : Int32).toInt = 9 by decide); have q10 := lv_neT hs_10 (show (10 : Int32).toInt = 10 by decide); have q11 := lv_neT hs_11 (show (11 : Int32).toInt = 11 by decide); have q12 := lv_neT hs_12 (show (12 : Int32).toInt = 12 by decide); omega) (by decide) ?_
      obtain ⟨x3_397, ex3_397⟩ : ∃ y : Int32, y = x3 + 3 := ⟨_, rfl⟩
      replace h := h x3_397 ex3_397
      refine lv_iinc (v := x3_397) (lv' := [(3, .int x3_397), (0, .ref b), (1, .ref (ad 0)), (2, .ref (am 0))]) hx hb d_L_law_397 hl (k := 3) rfl (by rw [ex3_397]; rfl) (by decide) rfl (fun ls hl => ?_)
      refine lv_goto (tgt := 58) hx hb d_L_law_400 (by decide) ?_
      exact ih _ _ _ h _ _ _ G (lv_sub hl [1, 2, 3, 0] rfl)
end
section
/-! the constructors, bring and cell (printed by gen/ctor.py) -/
def jbring (v lo hi : Int32) : Int32 := if lo ≤ v then (if v ≤ hi then v else hi) else lo
def clampN (v : Int32) (lo hi : Nat) : Nat := (jbring v (nI lo) (nI hi)).toNatClampNeg
theorem jb_ex (v : Int32) (lo hi : Nat) (h1 : lo ≤ hi) (h2 : hi < 2 ^ 31) : ∃ j : Nat, lo ≤ j ∧ j ≤ hi ∧ jbring v (nI lo) (nI hi) = nI j := by
  unfold jbring
  by_cases a : nI lo ≤ v
  · rw [if_pos a]
    by_cases b : v ≤ nI hi
    · rw [if_pos b]
      have hn : ¬ v < 0 := by
        rw [Int32.lt_iff_toInt_lt, Int32.toInt_zero]
        rw [Int32.le_iff_toInt_le, nI_toInt (by omega)] at a
        omega
      obtain ⟨j, hj, rfl⟩ := nI_of hn
      exact ⟨j, (nI_leI (by omega) hj).mp a, (nI_leI hj h2).mp b, rfl⟩
    · rw [if_neg b]; exact ⟨hi, h1, Nat.le_refl _, rfl⟩
  · rw [if_neg a]; exact ⟨lo, Nat.le_refl _, h1, rfl⟩
theorem jb_nI (v : Int32) (lo hi : Nat) (h1 : lo ≤ hi) (h2 : hi < 2 ^ 31) : jbring v (nI lo) (nI hi) = nI (clampN v lo hi) := by
  obtain ⟨j, a, b, e⟩ := jb_ex v lo hi h1 h2
  unfold clampN
  rw [e, nI_clamp (by omega)]
theorem cl_lo (v : Int32) (lo hi : Nat) (h1 : lo ≤ hi) (h2 : hi < 2 ^ 31) : lo ≤ clampN v lo hi := by
  obtain ⟨j, a, b, e⟩ := jb_ex v lo hi h1 h2
  unfold clampN
  rw [e, nI_clamp (by omega)]; exact a
theorem cl_hi (v : Int32) (lo hi : Nat) (h1 : lo ≤ hi) (h2 : hi < 2 ^ 31) : clampN v lo hi ≤ hi := by
  obtain ⟨j, a, b, e⟩ := jb_ex v lo hi h1 h2
  unfold clampN
  rw [e, nI_clamp (by omega)]; exact b
def k0X (x1 x2 x3 x4 : Int32) : KX := (jbring x1 1 8, jbring x2 1 8, jbring x3 8 300, jbring x4 (jbring x1 1 8) 200, clampN x3 8 300 * clampN x2 1 8, clampN x3 8 300)
def k0M (x1 x2 x3 x4 : Int32) : KM := (jbring x1 1 8, jbring x2 1 8, jbring x3 8 300, jbring x4 (jbring x1 1 8) 200)
def u0X : StX := (0, 0, 0, 0, 0, 0, fun _ => 0, fun _ => 0, fun _ => 0, fun _ => 0, fun _ => 0, fun _ => 0, fun _ => 0, fun _ => 0)
def u0M : StM := (0, 0, 0, fun _ => 0, fun _ => 0, fun _ => 0, fun _ => 0)
theorem k0X_ok (x1 x2 x3 x4 : Int32) : kOK (k0X x1 x2 x3 x4) := by
  have h1 := cl_hi x3 8 300 (by decide) (by decide)
  have h2 := cl_hi x2 1 8 (by decide) (by decide)
  have h3 : clampN x3 8 300 * clampN x2 1 8 ≤ 300 * 8 := Nat.mul_le_mul h1 h2
  exact ⟨Nat.lt_of_le_of_lt h3 (by decide), Nat.lt_of_le_of_lt h1 (by decide)⟩
def ad9 (a0 a1 a2 a3 a4 a5 a6 a7 a8 : Nat) : Nat → Nat := fun i => match i with
  | 0 => a0 | 1 => a1 | 2 => a2 | 3 => a3 | 4 => a4 | 5 => a5 | 6 => a6 | 7 => a7 | _ => a8
def ad5 (a0 a1 a2 a3 a4 : Nat) : Nat → Nat := fun i => match i with
  | 0 => a0 | 1 => a1 | 2 => a2 | 3 => a3 | _ => a4
theorem ctor_enter {S : Type} {l : Launch} {D : va_G} {cA : ClassId} {w0 : va_W} {wf : S → va_W} {h0 : Nat} {y : MethodName} {b : ByteArray} {n mc ms : Nat} {r : Option FieldType} {rm : Room} {As : List Value} {Q : S → Prop} (hy : plainName y.cls = true) (hn : (lg_sl (.ref h0 :: As)).length ≤ n)
    (body : ∀ (p : Program) (e : Env) (s : State) (m : MethodId) (args : Array Value) (below : List Frame) (meth : Method) (c : Code) (A : Nat → Prop) (ls : Array Slot), wC p s m args c meth b n y.cls D cA A → meth.sig.returnType = r → meth.name = y.name → wG D A s w0 s.heap [] → lv_has ls n (lv_args 0 (.ref h0 :: As)) →
      W p l e rm s m args below meth c s.heap [] 0 0 (MQ below (va_Qv Q (cE D cA A wf) A) args s mc ms A) (F0 m 0 ls [])) : ∀ sz : Nat, Met l y (.code y b n r :: gw_tbl) rm (va_Pc (.ref h0 :: As) (cB D cA w0 sz)) (va_Qv Q (cE D cA (va_A w0 sz) wf) (va_A w0 sz)) mc ms (va_A w0 sz) := by
  intro sz
  refine Met.ofW (cc := b) (maxL := n) (ret := r) hy rfl ?_
  intro p e s m args below meth c s₁ B hml hv
  obtain ⟨rfl, hsz, hP, hK, hD0⟩ := hv
  have hts : ∀ w ∈ gw_tbl, w.before (Value.ref h0 :: As).toArray s = true := fun w hw => atoms_spec (ws := .code y b n r :: gw_tbl) B.pre w (List.mem_cons_of_mem _ hw)
  have hown : s.vm.findClass y.cls = some m.cls := findClass_of_methodNamed B.named
  subst hsz
  have hD := hD0.self (sz := s.heap.size)
  have hl := lv_entry (.ref h0 :: As) (n := n) hn
  rw [lg_entry_eq]
  exact body p e s m _ below meth c _ _ ⟨B.exec, B.bytes, hml, hown, hts, hK, fun q h => Or.inr h, B.notSynchronized⟩ B.returns (name_of_methodNamed B.named B.method).1 ⟨hP, hD, va_S.rf⟩ hl
section GEN3
variable {p : Program} {l : Launch} {e : Env} {R : Room} {s : State} {m : MethodId} {args : Array Value} {below : List Frame} {meth : Method} {c : Code} {H : Heap} {locs : List Loc} {cells slots : Nat} {Q : State → Prop}
variable {cc : ByteArray} {own : String} {nL pc : Nat} {ls : Array Slot} {rest st0 : List Value} {D : va_G} {cA : ClassId} {A : Nat → Prop}
theorem g_newa (C : wC p s m args c meth cc nL own D cA A) {ws : va_W} (G : wG D A s ws H locs) {n : Int32} {N : Nat} (hn : n = nI N) (hN : N ≤ 100000) (hc : cells + 1 ≤ R.cells) (hs : slots + N ≤ R.slots) (hdg : decode cc pc = .ok (.newarray .int, 2))
    (kk : ∀ (q : Nat) (H1 : Heap), wG D A s (ws ++ [(q, .inl (cA, N, .inl (fun _ => 0)))]) H1 locs → W p l e R s m args below meth c H1 locs (cells + 1) (slots + N) Q (F0 m (pc + 2) ls (.ref q :: rest))) : W p l e R s m args below meth c H locs cells slots Q (F0 m pc ls (.int n :: rest)) := by
  subst hn
  refine va_newa (atype := .int) (a0 := (N, .inl (fun _ => 0))) (N' := N) (ty := .int) C.1 C.2.1 (C.2.2.2.2.1 (.arrayClass .int) (wd_in 106 rfl rfl)) rfl C.2.2.2.2.2.1 G.1 G.2.1 G.2.2 C.2.2.2.2.2.2.1 (fun cA => rfl) (nI_pos (by omega)) (nI_clamp (by omega)) (by show N * 4 ≤ _; omega) hc hs hdg (fun q cA' H1 hK hP hD hS => ?_)
  have e1 : s.vm.findClass ("[" ++ (FieldType.int).toString) = some cA := (hK.2 0 _ rfl).2
  have e2 : s.vm.findClass ("[" ++ (FieldType.int).toString) = some cA' := (hK.2 1 _ rfl).2
  have e3 : cA' = cA := Option.some.inj (e2.symm.trans e1)
  subst e3
  exact kk q H1 ⟨hP, hD, hS⟩
theorem g_calls {y : MethodName} {b : ByteArray} {n : Nat} {r : Option FieldType} {np idx : Nat} {rm : Room} {a : Int32} {Pc : Array Value → State → Prop} (As : List Value) (C : wC p s m args c meth cc nL own D cA A)
    (hM : Met l y (.code y b n r :: gw_tbl) rm Pc (QcRead a) 0 0 (fun _ => False)) (h1 : Cond.static y ∈ gw_tbl) (h2 : Cond.initialized y.cls ∈ gw_tbl) (h3 : Cond.code y b n r ∈ gw_tbl) (hd : y.cls ≠ "java/lang/invoke/MethodHandle" ∧ y.cls ≠ "java/lang/invoke/VarHandle" ∧ (parseMethodDescriptor y.desc).map (fun d => d.parameters.length) = some np) (hl : Cond.methodLink own idx y ∈ gw_tbl) (hc : rm.cells = 0) (hs : rm.slots = 0) (hR : rm.frames + 1 ≤ R.frames ∧ 8 + (n + 11) + rm.locals ≤ R.locals)
    (hp : PreS s H Pc As) (hn : As.length = np) (hsz : ls.size = nL) (hst : st0 = As.reverse ++ rest) (hrm : 2 * (F0 m pc ls st0).monitorRoom + (rest.map fun v => v.category).sum ≤ 8) (hf : cells ≤ R.cells ∧ slots ≤ R.slots) (hdg : decode cc pc = .ok (.invokestatic idx, 3))
    (kk : W p l e R s m args below meth c H locs cells slots Q (F0 m (pc + 3) ls (.int a :: rest))) : W p l e R s m args below meth c H locs cells slots Q (F0 m pc ls st0) :=
  W.callR (W.runS (As := As) (rest := rest) (g := F0 m pc ls st0) ⟨C.1, C.2.1, C.2.2.1, C.2.2.2.1, C.2.2.2.2.1⟩ hM ⟨callB_of np C.2.2.2.2.1 (wd_code h3) rfl hc hs (C.2.2.2.2.1 _ h2) (C.2.2.2.2.1 _ hl) hd hR, C.2.2.2.2.1 _ h1⟩ hp rfl hn hsz hst hrm hdg hf) kk
end GEN3
abbrev rm_0 : Room := { frames := 0, cells := 0, slots := 0, locals := 0 }
theorem c_X_bring (l : Launch) (v lo hi : Int32) : Met l y_X_bring (.code y_X_bring b_X_bring 3 (some .int) :: gw_tbl) rm_0 (fun a _ => a = ([.int v, .int lo, .int hi] : List Value).toArray) (QcRead (jbring v lo hi)) 0 0 (fun _ => False) := by
  refine Met.ofW (cc := b_X_bring) (maxL := 3) (ret := some .int) (by decide) rfl ?_
  intro p e s m args below meth c s₁ B hml hv
  subst hv
  have hx := B.exec
  have hb := B.bytes
  have hr := B.returns
  have hlocks := B.notSynchronized
  have hl := lv_entry [.int v, .int lo, .int hi] (n := 3) (Nat.le_of_ble_eq_true rfl)
  rw [lg_entry_eq]
  generalize (lg_sl ([.int v, .int lo, .int hi]) ++ List.replicate (3 - (lg_sl ([.int v, .int lo, .int hi])).length) Slot.unset).toArray = ls at hl ⊢
  have hl : lv_has ls 3 [(0, .int v), (1, .int lo), (2, .int hi)] := hl
  refine lv_iload_n hx hb d_X_bring_0 rfl (lv_at hl 0 rfl) ?_
  refine lv_iload_n hx hb d_X_bring_1 rfl (lv_at hl 1 rfl) ?_
  refine lv_icmp_ge (tgt := 9) hx hb d_X_bring_2 (by decide) (fun h1 => ?_) (fun h1 => ?_)
  · refine lv_iload_n hx hb d_X_bring_9 rfl (lv_at hl 0 rfl) ?_
    refine lv_iload_n hx hb d_X_bring_10 rfl (lv_at hl 2 rfl) ?_
    refine lv_icmp_le (tgt := 18) hx hb d_X_bring_11 (by decide) (fun h2 => ?_) (fun h2 => ?_)
    · refine lv_iload_n hx hb d_X_bring_18 rfl (lv_at hl 0 rfl) ?_
      exact W.iret hx hb hr (fun t ht hW => ⟨by simp [jbring, h1, h2], ht⟩) (fun q h => absurd h List.not_mem_nil) d_X_bring_19 hlocks
    · refine lv_iload_n hx hb d_X_bring_14 rfl (lv_at hl 2 rfl) ?_
      refine lv_goto (tgt := 19) hx hb d_X_bring_15 (by decide) ?_
      exact W.iret hx hb hr (fun t ht hW => ⟨by simp [jbring, h1, h2], ht⟩) (fun q h => absurd h List.not_mem_nil) d_X_bring_19 hlocks
  · refine lv_iload_n hx hb d_X_bring_5 rfl (lv_at hl 1 rfl) ?_
    refine lv_goto (tgt := 19) hx hb d_X_bring_6 (by decide) ?_
    exact W.iret hx hb hr (fun t ht hW => ⟨by simp [jbring, h1], ht⟩) (fun q h => absurd h List.not_mem_nil) d_X_bring_19 hlocks
/-- what cell answers at the place k -/
def cellN (L : Nat) (xs : Nat → Int32) (k : Nat) : Int32 := if k < L then xs k else 0
theorem c_L_cell (l : Launch) (b L : Nat) (hL : L < 2 ^ 31) (xs : Nat → Int32) (k : Nat) (hk : k < 2 ^ 31) : Met l y_L_cell (.code y_L_cell b_L_cell 2 (some .int) :: gw_tbl) rm_0 (fun a U => a = ([.ref b, .int (nI k)] : List Value).toArray ∧ va_X b L xs U U.heap ∧ b < U.heap.size) (QcRead (cellN L xs k)) 0 0 (fun _ => False) := by
  refine Met.ofW (cc := b_L_cell) (maxL := 2) (ret := some .int) (by decide) rfl ?_
  intro p e s m args below meth c s₁ B hml hv
  obtain ⟨rfl, hX, hbl⟩ := hv
  have hx := B.exec
  have hb := B.bytes
  have hr := B.returns
  have hlocks := B.notSynchronized
  have hl := lv_entry [.ref b, .int (nI k)] (n := 2) (Nat.le_of_ble_eq_true rfl)
  rw [lg_entry_eq]
  generalize (lg_sl ([.ref b, .int (nI k)]) ++ List.replicate (2 - (lg_sl ([.ref b, .int (nI k)])).length) Slot.unset).toArray = ls at hl ⊢
  have hl : lv_has ls 2 [(0, .ref b), (1, .int (nI k))] := hl
  have hS : va_S (fun _ => False) s.heap s.heap [] := va_S.rf
  refine lv_iload_n hx hb d_L_cell_0 rfl (lv_at hl 1 rfl) ?_
  refine lv_aload_n hx hb d_L_cell_1 rfl (lv_at hl 0 rfl) ?_
  refine va_slen hx hb hX hbl (fun h => h) hS d_L_cell_2 ?_
  refine lv_icmp_ge (tgt := 12) hx hb d_L_cell_3 (by decide) (fun h1 => ?_) (fun h1 => ?_)
  · have h2 : L ≤ k := (nI_leI hL hk).mp h1
    refine lv_iconst (v := 0) hx hb d_L_cell_12 (by decide) ?_
    exact W.iret hx hb hr (fun t ht hW => ⟨by unfold cellN; rw [if_neg (by omega)], ht⟩) (fun q h => absurd h List.not_mem_nil) d_L_cell_13 hlocks
  · have h2 : k < L := Nat.lt_of_not_le (fun z => h1 ((nI_leI hL hk).mpr z))
    refine lv_aload_n hx hb d_L_cell_6 rfl (lv_at hl 0 rfl) ?_
    refine lv_iload_n hx hb d_L_cell_7 rfl (lv_at hl 1 rfl) ?_
    refine va_sld hx hb hX hbl (fun h => h) hS (vp_in_nI h2 hL) d_L_cell_8 ?_
    refine lv_goto (tgt := 13) hx hb d_L_cell_9 (by decide) ?_
    exact W.iret hx hb hr (fun t ht hW => ⟨by unfold cellN; rw [if_pos h2, nI_clamp hk], ht⟩) (fun q h => absurd h List.not_mem_nil) d_L_cell_13 hlocks

section PFX
variable {p : Program} {l : Launch} {e : Env} {R : Room} {s : State} {m : MethodId} {args : Array Value} {below : List Frame} {meth : Method} {c : Code} {H : Heap} {locs : List Loc} {cells slots : Nat} {Q : State → Prop}
variable {cc : ByteArray} {nL pc : Nat} {ls : Array Slot} {rest : List Value} {D : va_G} {cA : ClassId} {A : Nat → Prop} {h0 : Nat} {fs : List Value} {ws : va_W}
theorem xputF_base (C : wC p s m args c meth cc nL R_X D cA A) (hin : meth.name = "<init>") (G : wG D A s ((h0, .inr (0, fs)) :: ws) H locs) (hfs : 0 < fs.length) {v : Int32} (hdg : decode cc pc = .ok (.putfield 23, 3)) (kk : ∀ (H1 : Heap) (locs1 : List Loc), wG D A s ((h0, .inr (0, fs.set 0 (.int v))) :: ws) H1 locs1 → W p l e R s m args below meth c H1 locs1 cells slots Q (F0 m (pc + 3) ls rest)) : W p l e R s m args below meth c H locs cells slots Q (F0 m pc ls (.int v :: .ref h0 :: rest)) :=
  va_putF (ref := R_X) (ci := 0) (ty := .int) (C := R_X) (T := F_X) (N := 18) C.1 C.2.1 C.2.2.2.2.1 i_X t_X t_X_ok n_X C.2.2.2.1 C.2.2.2.2.2.1 G.1 G.2.1 G.2.2 0 rfl rfl 0 (by decide) (C.2.2.2.2.1 _ fl_X_23) (fun _ h9 => h9) rfl hin rfl (by decide +kernel) rfl rfl hfs hdg (fun H1 locs1 hP hD hS => kk H1 locs1 ⟨hP, hD, hS⟩)
theorem xgetF_base (C : wC p s m args c meth cc nL R_X D cA A) (G : wG D A s ((h0, .inr (0, fs)) :: ws) H locs) {v : Int32} (hv : fs[0]? = some (.int v)) (hdg : decode cc pc = .ok (.getfield 23, 3)) (kk : W p l e R s m args below meth c H locs cells slots Q (F0 m (pc + 3) ls (.int v :: rest))) : W p l e R s m args below meth c H locs cells slots Q (F0 m pc ls (.ref h0 :: rest)) :=
  va_get (ref := R_X) (ci := 0) (C := R_X) (T := F_X) (N := 18) C.1 C.2.1 C.2.2.2.2.1 i_X C.2.2.2.1 C.2.2.2.2.2.1 G.1 0 rfl rfl 0 (by decide) (C.2.2.2.2.1 _ fl_X_23) (fun _ h9 => h9) hv hdg kk
theorem xputF_cap (C : wC p s m args c meth cc nL R_X D cA A) (hin : meth.name = "<init>") (G : wG D A s ((h0, .inr (0, fs)) :: ws) H locs) (hfs : 1 < fs.length) {v : Int32} (hdg : decode cc pc = .ok (.putfield 27, 3)) (kk : ∀ (H1 : Heap) (locs1 : List Loc), wG D A s ((h0, .inr (0, fs.set 1 (.int v))) :: ws) H1 locs1 → W p l e R s m args below meth c H1 locs1 cells slots Q (F0 m (pc + 3) ls rest)) : W p l e R s m args below meth c H locs cells slots Q (F0 m pc ls (.int v :: .ref h0 :: rest)) :=
  va_putF (ref := R_X) (ci := 0) (ty := .int) (C := R_X) (T := F_X) (N := 18) C.1 C.2.1 C.2.2.2.2.1 i_X t_X t_X_ok n_X C.2.2.2.1 C.2.2.2.2.2.1 G.1 G.2.1 G.2.2 0 rfl rfl 1 (by decide) (C.2.2.2.2.1 _ fl_X_27) (fun _ h9 => h9) rfl hin rfl (by decide +kernel) rfl rfl hfs hdg (fun H1 locs1 hP hD hS => kk H1 locs1 ⟨hP, hD, hS⟩)
theorem xgetF_cap (C : wC p s m args c meth cc nL R_X D cA A) (G : wG D A s ((h0, .inr (0, fs)) :: ws) H locs) {v : Int32} (hv : fs[1]? = some (.int v)) (hdg : decode cc pc = .ok (.getfield 27, 3)) (kk : W p l e R s m args below meth c H locs cells slots Q (F0 m (pc + 3) ls (.int v :: rest))) : W p l e R s m args below meth c H locs cells slots Q (F0 m pc ls (.ref h0 :: rest)) :=
  va_get (ref := R_X) (ci := 0) (C := R_X) (T := F_X) (N := 18) C.1 C.2.1 C.2.2.2.2.1 i_X C.2.2.2.1 C.2.2.2.2.2.1 G.1 0 rfl rfl 1 (by decide) (C.2.2.2.2.1 _ fl_X_27) (fun _ h9 => h9) hv hdg kk
theorem xputF_most (C : wC p s m args c meth cc nL R_X D cA A) (hin : meth.name = "<init>") (G : wG D A s ((h0, .inr (0, fs)) :: ws) H locs) (hfs : 2 < fs.length) {v : Int32} (hdg : decode cc pc = .ok (.putfield 30, 3)) (kk : ∀ (H1 : Heap) (locs1 : List Loc), wG D A s ((h0, .inr (0, fs.set 2 (.int v))) :: ws) H1 locs1 → W p l e R s m args below meth c H1 locs1 cells slots Q (F0 m (pc + 3) ls rest)) : W p l e R s m args below meth c H locs cells slots Q (F0 m pc ls (.int v :: .ref h0 :: rest)) :=
  va_putF (ref := R_X) (ci := 0) (ty := .int) (C := R_X) (T := F_X) (N := 18) C.1 C.2.1 C.2.2.2.2.1 i_X t_X t_X_ok n_X C.2.2.2.1 C.2.2.2.2.2.1 G.1 G.2.1 G.2.2 0 rfl rfl 2 (by decide) (C.2.2.2.2.1 _ fl_X_30) (fun _ h9 => h9) rfl hin rfl (by decide +kernel) rfl rfl hfs hdg (fun H1 locs1 hP hD hS => kk H1 locs1 ⟨hP, hD, hS⟩)
theorem xgetF_most (C : wC p s m args c meth cc nL R_X D cA A) (G : wG D A s ((h0, .inr (0, fs)) :: ws) H locs) {v : Int32} (hv : fs[2]? = some (.int v)) (hdg : decode cc pc = .ok (.getfield 30, 3)) (kk : W p l e R s m args below meth c H locs cells slots Q (F0 m (pc + 3) ls (.int v :: rest))) : W p l e R s m args below meth c H locs cells slots Q (F0 m pc ls (.ref h0 :: rest)) :=
  va_get (ref := R_X) (ci := 0) (C := R_X) (T := F_X) (N := 18) C.1 C.2.1 C.2.2.2.2.1 i_X C.2.2.2.1 C.2.2.2.2.2.1 G.1 0 rfl rfl 2 (by decide) (C.2.2.2.2.1 _ fl_X_30) (fun _ h9 => h9) hv hdg kk
theorem xputF_mostBuckets (C : wC p s m args c meth cc nL R_X D cA A) (hin : meth.name = "<init>") (G : wG D A s ((h0, .inr (0, fs)) :: ws) H locs) (hfs : 3 < fs.length) {v : Int32} (hdg : decode cc pc = .ok (.putfield 33, 3)) (kk : ∀ (H1 : Heap) (locs1 : List Loc), wG D A s ((h0, .inr (0, fs.set 3 (.int v))) :: ws) H1 locs1 → W p l e R s m args below meth c H1 locs1 cells slots Q (F0 m (pc + 3) ls rest)) : W p l e R s m args below meth c H locs cells slots Q (F0 m pc ls (.int v :: .ref h0 :: rest)) :=
  va_putF (ref := R_X) (ci := 0) (ty := .int) (C := R_X) (T := F_X) (N := 18) C.1 C.2.1 C.2.2.2.2.1 i_X t_X t_X_ok n_X C.2.2.2.1 C.2.2.2.2.2.1 G.1 G.2.1 G.2.2 0 rfl rfl 3 (by decide) (C.2.2.2.2.1 _ fl_X_33) (fun _ h9 => h9) rfl hin rfl (by decide +kernel) rfl rfl hfs hdg (fun H1 locs1 hP hD hS => kk H1 locs1 ⟨hP, hD, hS⟩)
theorem xgetF_mostBuckets (C : wC p s m args c meth cc nL R_X D cA A) (G : wG D A s ((h0, .inr (0, fs)) :: ws) H locs) {v : Int32} (hv : fs[3]? = some (.int v)) (hdg : decode cc pc = .ok (.getfield 33, 3)) (kk : W p l e R s m args below meth c H locs cells slots Q (F0 m (pc + 3) ls (.int v :: rest))) : W p l e R s m args below meth c H locs cells slots Q (F0 m pc ls (.ref h0 :: rest)) :=
  va_get (ref := R_X) (ci := 0) (C := R_X) (T := F_X) (N := 18) C.1 C.2.1 C.2.2.2.2.1 i_X C.2.2.2.1 C.2.2.2.2.2.1 G.1 0 rfl rfl 3 (by decide) (C.2.2.2.2.1 _ fl_X_33) (fun _ h9 => h9) hv hdg kk
theorem xputF_keys (C : wC p s m args c meth cc nL R_X D cA A) (hin : meth.name = "<init>") (G : wG D A s ((h0, .inr (0, fs)) :: ws) H locs) (hfs : 4 < fs.length) {v : Nat} (hdg : decode cc pc = .ok (.putfield 36, 3)) (kk : ∀ (H1 : Heap) (locs1 : List Loc), wG D A s ((h0, .inr (0, fs.set 4 (.ref v))) :: ws) H1 locs1 → W p l e R s m args below meth c H1 locs1 cells slots Q (F0 m (pc + 3) ls rest)) : W p l e R s m args below meth c H locs cells slots Q (F0 m pc ls (.ref v :: .ref h0 :: rest)) :=
  va_putF (ref := R_X) (ci := 0) (ty := (.array .int)) (C := R_X) (T := F_X) (N := 18) C.1 C.2.1 C.2.2.2.2.1 i_X t_X t_X_ok n_X C.2.2.2.1 C.2.2.2.2.2.1 G.1 G.2.1 G.2.2 0 rfl rfl 4 (by decide) (C.2.2.2.2.1 _ fl_X_36) (fun _ h9 => h9) rfl hin rfl (by decide +kernel) rfl rfl hfs hdg (fun H1 locs1 hP hD hS => kk H1 locs1 ⟨hP, hD, hS⟩)
theorem xputF_values (C : wC p s m args c meth cc nL R_X D cA A) (hin : meth.name = "<init>") (G : wG D A s ((h0, .inr (0, fs)) :: ws) H locs) (hfs : 5 < fs.length) {v : Nat} (hdg : decode cc pc = .ok (.putfield 39, 3)) (kk : ∀ (H1 : Heap) (locs1 : List Loc), wG D A s ((h0, .inr (0, fs.set 5 (.ref v))) :: ws) H1 locs1 → W p l e R s m args below meth c H1 locs1 cells slots Q (F0 m (pc + 3) ls rest)) : W p l e R s m args below meth c H locs cells slots Q (F0 m pc ls (.ref v :: .ref h0 :: rest)) :=
  va_putF (ref := R_X) (ci := 0) (ty := (.array .int)) (C := R_X) (T := F_X) (N := 18) C.1 C.2.1 C.2.2.2.2.1 i_X t_X t_X_ok n_X C.2.2.2.1 C.2.2.2.2.2.1 G.1 G.2.1 G.2.2 0 rfl rfl 5 (by decide) (C.2.2.2.2.1 _ fl_X_39) (fun _ h9 => h9) rfl hin rfl (by decide +kernel) rfl rfl hfs hdg (fun H1 locs1 hP hD hS => kk H1 locs1 ⟨hP, hD, hS⟩)
theorem xputF_next (C : wC p s m args c meth cc nL R_X D cA A) (hin : meth.name = "<init>") (G : wG D A s ((h0, .inr (0, fs)) :: ws) H locs) (hfs : 6 < fs.length) {v : Nat} (hdg : decode cc pc = .ok (.putfield 42, 3)) (kk : ∀ (H1 : Heap) (locs1 : List Loc), wG D A s ((h0, .inr (0, fs.set 6 (.ref v))) :: ws) H1 locs1 → W p l e R s m args below meth c H1 locs1 cells slots Q (F0 m (pc + 3) ls rest)) : W p l e R s m args below meth c H locs cells slots Q (F0 m pc ls (.ref v :: .ref h0 :: rest)) :=
  va_putF (ref := R_X) (ci := 0) (ty := (.array .int)) (C := R_X) (T := F_X) (N := 18) C.1 C.2.1 C.2.2.2.2.1 i_X t_X t_X_ok n_X C.2.2.2.1 C.2.2.2.2.2.1 G.1 G.2.1 G.2.2 0 rfl rfl 6 (by decide) (C.2.2.2.2.1 _ fl_X_42) (fun _ h9 => h9) rfl hin rfl (by decide +kernel) rfl rfl hfs hdg (fun H1 locs1 hP hD hS => kk H1 locs1 ⟨hP, hD, hS⟩)
theorem xputF_first (C : wC p s m args c meth cc nL R_X D cA A) (hin : meth.name = "<init>") (G : wG D A s ((h0, .inr (0, fs)) :: ws) H locs) (hfs : 7 < fs.length) {v : Nat} (hdg : decode cc pc = .ok (.putfield 7, 3)) (kk : ∀ (H1 : Heap) (locs1 : List Loc), wG D A s ((h0, .inr (0, fs.set 7 (.ref v))) :: ws) H1 locs1 → W p l e R s m args below meth c H1 locs1 cells slots Q (F0 m (pc + 3) ls rest)) : W p l e R s m args below meth c H locs cells slots Q (F0 m pc ls (.ref v :: .ref h0 :: rest)) :=
  va_putF (ref := R_X) (ci := 0) (ty := (.array .int)) (C := R_X) (T := F_X) (N := 18) C.1 C.2.1 C.2.2.2.2.1 i_X t_X t_X_ok n_X C.2.2.2.1 C.2.2.2.2.2.1 G.1 G.2.1 G.2.2 0 rfl rfl 7 (by decide) (C.2.2.2.2.1 _ fl_X_7) (fun _ h9 => h9) rfl hin rfl (by decide +kernel) rfl rfl hfs hdg (fun H1 locs1 hP hD hS => kk H1 locs1 ⟨hP, hD, hS⟩)
theorem xputF_last (C : wC p s m args c meth cc nL R_X D cA A) (hin : meth.name = "<init>") (G : wG D A s ((h0, .inr (0, fs)) :: ws) H locs) (hfs : 8 < fs.length) {v : Nat} (hdg : decode cc pc = .ok (.putfield 13, 3)) (kk : ∀ (H1 : Heap) (locs1 : List Loc), wG D A s ((h0, .inr (0, fs.set 8 (.ref v))) :: ws) H1 locs1 → W p l e R s m args below meth c H1 locs1 cells slots Q (F0 m (pc + 3) ls rest)) : W p l e R s m args below meth c H locs cells slots Q (F0 m pc ls (.ref v :: .ref h0 :: rest)) :=
  va_putF (ref := R_X) (ci := 0) (ty := (.array .int)) (C := R_X) (T := F_X) (N := 18) C.1 C.2.1 C.2.2.2.2.1 i_X t_X t_X_ok n_X C.2.2.2.1 C.2.2.2.2.2.1 G.1 G.2.1 G.2.2 0 rfl rfl 8 (by decide) (C.2.2.2.2.1 _ fl_X_13) (fun _ h9 => h9) rfl hin rfl (by decide +kernel) rfl rfl hfs hdg (fun H1 locs1 hP hD hS => kk H1 locs1 ⟨hP, hD, hS⟩)
theorem xputF_counts (C : wC p s m args c meth cc nL R_X D cA A) (hin : meth.name = "<init>") (G : wG D A s ((h0, .inr (0, fs)) :: ws) H locs) (hfs : 9 < fs.length) {v : Nat} (hdg : decode cc pc = .ok (.putfield 16, 3)) (kk : ∀ (H1 : Heap) (locs1 : List Loc), wG D A s ((h0, .inr (0, fs.set 9 (.ref v))) :: ws) H1 locs1 → W p l e R s m args below meth c H1 locs1 cells slots Q (F0 m (pc + 3) ls rest)) : W p l e R s m args below meth c H locs cells slots Q (F0 m pc ls (.ref v :: .ref h0 :: rest)) :=
  va_putF (ref := R_X) (ci := 0) (ty := (.array .int)) (C := R_X) (T := F_X) (N := 18) C.1 C.2.1 C.2.2.2.2.1 i_X t_X t_X_ok n_X C.2.2.2.1 C.2.2.2.2.2.1 G.1 G.2.1 G.2.2 0 rfl rfl 9 (by decide) (C.2.2.2.2.1 _ fl_X_16) (fun _ h9 => h9) rfl hin rfl (by decide +kernel) rfl rfl hfs hdg (fun H1 locs1 hP hD hS => kk H1 locs1 ⟨hP, hD, hS⟩)
theorem xputF_takenKeys (C : wC p s m args c meth cc nL R_X D cA A) (hin : meth.name = "<init>") (G : wG D A s ((h0, .inr (0, fs)) :: ws) H locs) (hfs : 10 < fs.length) {v : Nat} (hdg : decode cc pc = .ok (.putfield 45, 3)) (kk : ∀ (H1 : Heap) (locs1 : List Loc), wG D A s ((h0, .inr (0, fs.set 10 (.ref v))) :: ws) H1 locs1 → W p l e R s m args below meth c H1 locs1 cells slots Q (F0 m (pc + 3) ls rest)) : W p l e R s m args below meth c H locs cells slots Q (F0 m pc ls (.ref v :: .ref h0 :: rest)) :=
  va_putF (ref := R_X) (ci := 0) (ty := (.array .int)) (C := R_X) (T := F_X) (N := 18) C.1 C.2.1 C.2.2.2.2.1 i_X t_X t_X_ok n_X C.2.2.2.1 C.2.2.2.2.2.1 G.1 G.2.1 G.2.2 0 rfl rfl 10 (by decide) (C.2.2.2.2.1 _ fl_X_45) (fun _ h9 => h9) rfl hin rfl (by decide +kernel) rfl rfl hfs hdg (fun H1 locs1 hP hD hS => kk H1 locs1 ⟨hP, hD, hS⟩)
theorem xputF_takenValues (C : wC p s m args c meth cc nL R_X D cA A) (hin : meth.name = "<init>") (G : wG D A s ((h0, .inr (0, fs)) :: ws) H locs) (hfs : 11 < fs.length) {v : Nat} (hdg : decode cc pc = .ok (.putfield 48, 3)) (kk : ∀ (H1 : Heap) (locs1 : List Loc), wG D A s ((h0, .inr (0, fs.set 11 (.ref v))) :: ws) H1 locs1 → W p l e R s m args below meth c H1 locs1 cells slots Q (F0 m (pc + 3) ls rest)) : W p l e R s m args below meth c H locs cells slots Q (F0 m pc ls (.ref v :: .ref h0 :: rest)) :=
  va_putF (ref := R_X) (ci := 0) (ty := (.array .int)) (C := R_X) (T := F_X) (N := 18) C.1 C.2.1 C.2.2.2.2.1 i_X t_X t_X_ok n_X C.2.2.2.1 C.2.2.2.2.2.1 G.1 G.2.1 G.2.2 0 rfl rfl 11 (by decide) (C.2.2.2.2.1 _ fl_X_48) (fun _ h9 => h9) rfl hin rfl (by decide +kernel) rfl rfl hfs hdg (fun H1 locs1 hP hD hS => kk H1 locs1 ⟨hP, hD, hS⟩)
end PFX
section PFM
variable {p : Program} {l : Launch} {e : Env} {R : Room} {s : State} {m : MethodId} {args : Array Value} {below : List Frame} {meth : Method} {c : Code} {H : Heap} {locs : List Loc} {cells slots : Nat} {Q : State → Prop}
variable {cc : ByteArray} {nL pc : Nat} {ls : Array Slot} {rest : List Value} {D : va_G} {cA : ClassId} {A : Nat → Prop} {h0 : Nat} {fs : List Value} {ws : va_W}
theorem mputF_base (C : wC p s m args c meth cc nL R_M D cA A) (hin : meth.name = "<init>") (G : wG D A s ((h0, .inr (1, fs)) :: ws) H locs) (hfs : 0 < fs.length) {v : Int32} (hdg : decode cc pc = .ok (.putfield 22, 3)) (kk : ∀ (H1 : Heap) (locs1 : List Loc), wG D A s ((h0, .inr (1, fs.set 0 (.int v))) :: ws) H1 locs1 → W p l e R s m args below meth c H1 locs1 cells slots Q (F0 m (pc + 3) ls rest)) : W p l e R s m args below meth c H locs cells slots Q (F0 m pc ls (.int v :: .ref h0 :: rest)) :=
  va_putF (ref := R_M) (ci := 1) (ty := .int) (C := R_M) (T := F_M) (N := 11) C.1 C.2.1 C.2.2.2.2.1 i_M t_M t_M_ok n_M C.2.2.2.1 C.2.2.2.2.2.1 G.1 G.2.1 G.2.2 0 rfl rfl 0 (by decide) (C.2.2.2.2.1 _ fl_M_22) (fun _ h9 => h9) rfl hin rfl (by decide +kernel) rfl rfl hfs hdg (fun H1 locs1 hP hD hS => kk H1 locs1 ⟨hP, hD, hS⟩)
theorem mgetF_base (C : wC p s m args c meth cc nL R_M D cA A) (G : wG D A s ((h0, .inr (1, fs)) :: ws) H locs) {v : Int32} (hv : fs[0]? = some (.int v)) (hdg : decode cc pc = .ok (.getfield 22, 3)) (kk : W p l e R s m args below meth c H locs cells slots Q (F0 m (pc + 3) ls (.int v :: rest))) : W p l e R s m args below meth c H locs cells slots Q (F0 m pc ls (.ref h0 :: rest)) :=
  va_get (ref := R_M) (ci := 1) (C := R_M) (T := F_M) (N := 11) C.1 C.2.1 C.2.2.2.2.1 i_M C.2.2.2.1 C.2.2.2.2.2.1 G.1 0 rfl rfl 0 (by decide) (C.2.2.2.2.1 _ fl_M_22) (fun _ h9 => h9) hv hdg kk
theorem mputF_cap (C : wC p s m args c meth cc nL R_M D cA A) (hin : meth.name = "<init>") (G : wG D A s ((h0, .inr (1, fs)) :: ws) H locs) (hfs : 1 < fs.length) {v : Int32} (hdg : decode cc pc = .ok (.putfield 26, 3)) (kk : ∀ (H1 : Heap) (locs1 : List Loc), wG D A s ((h0, .inr (1, fs.set 1 (.int v))) :: ws) H1 locs1 → W p l e R s m args below meth c H1 locs1 cells slots Q (F0 m (pc + 3) ls rest)) : W p l e R s m args below meth c H locs cells slots Q (F0 m pc ls (.int v :: .ref h0 :: rest)) :=
  va_putF (ref := R_M) (ci := 1) (ty := .int) (C := R_M) (T := F_M) (N := 11) C.1 C.2.1 C.2.2.2.2.1 i_M t_M t_M_ok n_M C.2.2.2.1 C.2.2.2.2.2.1 G.1 G.2.1 G.2.2 0 rfl rfl 1 (by decide) (C.2.2.2.2.1 _ fl_M_26) (fun _ h9 => h9) rfl hin rfl (by decide +kernel) rfl rfl hfs hdg (fun H1 locs1 hP hD hS => kk H1 locs1 ⟨hP, hD, hS⟩)
theorem mgetF_cap (C : wC p s m args c meth cc nL R_M D cA A) (G : wG D A s ((h0, .inr (1, fs)) :: ws) H locs) {v : Int32} (hv : fs[1]? = some (.int v)) (hdg : decode cc pc = .ok (.getfield 26, 3)) (kk : W p l e R s m args below meth c H locs cells slots Q (F0 m (pc + 3) ls (.int v :: rest))) : W p l e R s m args below meth c H locs cells slots Q (F0 m pc ls (.ref h0 :: rest)) :=
  va_get (ref := R_M) (ci := 1) (C := R_M) (T := F_M) (N := 11) C.1 C.2.1 C.2.2.2.2.1 i_M C.2.2.2.1 C.2.2.2.2.2.1 G.1 0 rfl rfl 1 (by decide) (C.2.2.2.2.1 _ fl_M_26) (fun _ h9 => h9) hv hdg kk
theorem mputF_most (C : wC p s m args c meth cc nL R_M D cA A) (hin : meth.name = "<init>") (G : wG D A s ((h0, .inr (1, fs)) :: ws) H locs) (hfs : 2 < fs.length) {v : Int32} (hdg : decode cc pc = .ok (.putfield 29, 3)) (kk : ∀ (H1 : Heap) (locs1 : List Loc), wG D A s ((h0, .inr (1, fs.set 2 (.int v))) :: ws) H1 locs1 → W p l e R s m args below meth c H1 locs1 cells slots Q (F0 m (pc + 3) ls rest)) : W p l e R s m args below meth c H locs cells slots Q (F0 m pc ls (.int v :: .ref h0 :: rest)) :=
  va_putF (ref := R_M) (ci := 1) (ty := .int) (C := R_M) (T := F_M) (N := 11) C.1 C.2.1 C.2.2.2.2.1 i_M t_M t_M_ok n_M C.2.2.2.1 C.2.2.2.2.2.1 G.1 G.2.1 G.2.2 0 rfl rfl 2 (by decide) (C.2.2.2.2.1 _ fl_M_29) (fun _ h9 => h9) rfl hin rfl (by decide +kernel) rfl rfl hfs hdg (fun H1 locs1 hP hD hS => kk H1 locs1 ⟨hP, hD, hS⟩)
theorem mgetF_most (C : wC p s m args c meth cc nL R_M D cA A) (G : wG D A s ((h0, .inr (1, fs)) :: ws) H locs) {v : Int32} (hv : fs[2]? = some (.int v)) (hdg : decode cc pc = .ok (.getfield 29, 3)) (kk : W p l e R s m args below meth c H locs cells slots Q (F0 m (pc + 3) ls (.int v :: rest))) : W p l e R s m args below meth c H locs cells slots Q (F0 m pc ls (.ref h0 :: rest)) :=
  va_get (ref := R_M) (ci := 1) (C := R_M) (T := F_M) (N := 11) C.1 C.2.1 C.2.2.2.2.1 i_M C.2.2.2.1 C.2.2.2.2.2.1 G.1 0 rfl rfl 2 (by decide) (C.2.2.2.2.1 _ fl_M_29) (fun _ h9 => h9) hv hdg kk
theorem mputF_mostBuckets (C : wC p s m args c meth cc nL R_M D cA A) (hin : meth.name = "<init>") (G : wG D A s ((h0, .inr (1, fs)) :: ws) H locs) (hfs : 3 < fs.length) {v : Int32} (hdg : decode cc pc = .ok (.putfield 32, 3)) (kk : ∀ (H1 : Heap) (locs1 : List Loc), wG D A s ((h0, .inr (1, fs.set 3 (.int v))) :: ws) H1 locs1 → W p l e R s m args below meth c H1 locs1 cells slots Q (F0 m (pc + 3) ls rest)) : W p l e R s m args below meth c H locs cells slots Q (F0 m pc ls (.int v :: .ref h0 :: rest)) :=
  va_putF (ref := R_M) (ci := 1) (ty := .int) (C := R_M) (T := F_M) (N := 11) C.1 C.2.1 C.2.2.2.2.1 i_M t_M t_M_ok n_M C.2.2.2.1 C.2.2.2.2.2.1 G.1 G.2.1 G.2.2 0 rfl rfl 3 (by decide) (C.2.2.2.2.1 _ fl_M_32) (fun _ h9 => h9) rfl hin rfl (by decide +kernel) rfl rfl hfs hdg (fun H1 locs1 hP hD hS => kk H1 locs1 ⟨hP, hD, hS⟩)
theorem mgetF_mostBuckets (C : wC p s m args c meth cc nL R_M D cA A) (G : wG D A s ((h0, .inr (1, fs)) :: ws) H locs) {v : Int32} (hv : fs[3]? = some (.int v)) (hdg : decode cc pc = .ok (.getfield 32, 3)) (kk : W p l e R s m args below meth c H locs cells slots Q (F0 m (pc + 3) ls (.int v :: rest))) : W p l e R s m args below meth c H locs cells slots Q (F0 m pc ls (.ref h0 :: rest)) :=
  va_get (ref := R_M) (ci := 1) (C := R_M) (T := F_M) (N := 11) C.1 C.2.1 C.2.2.2.2.1 i_M C.2.2.2.1 C.2.2.2.2.2.1 G.1 0 rfl rfl 3 (by decide) (C.2.2.2.2.1 _ fl_M_32) (fun _ h9 => h9) hv hdg kk
theorem mputF_keys (C : wC p s m args c meth cc nL R_M D cA A) (hin : meth.name = "<init>") (G : wG D A s ((h0, .inr (1, fs)) :: ws) H locs) (hfs : 5 < fs.length) {v : Nat} (hdg : decode cc pc = .ok (.putfield 7, 3)) (kk : ∀ (H1 : Heap) (locs1 : List Loc), wG D A s ((h0, .inr (1, fs.set 5 (.ref v))) :: ws) H1 locs1 → W p l e R s m args below meth c H1 locs1 cells slots Q (F0 m (pc + 3) ls rest)) : W p l e R s m args below meth c H locs cells slots Q (F0 m pc ls (.ref v :: .ref h0 :: rest)) :=
  va_putF (ref := R_M) (ci := 1) (ty := (.array .int)) (C := R_M) (T := F_M) (N := 11) C.1 C.2.1 C.2.2.2.2.1 i_M t_M t_M_ok n_M C.2.2.2.1 C.2.2.2.2.2.1 G.1 G.2.1 G.2.2 0 rfl rfl 5 (by decide) (C.2.2.2.2.1 _ fl_M_7) (fun _ h9 => h9) rfl hin rfl (by decide +kernel) rfl rfl hfs hdg (fun H1 locs1 hP hD hS => kk H1 locs1 ⟨hP, hD, hS⟩)
theorem mputF_values (C : wC p s m args c meth cc nL R_M D cA A) (hin : meth.name = "<init>") (G : wG D A s ((h0, .inr (1, fs)) :: ws) H locs) (hfs : 6 < fs.length) {v : Nat} (hdg : decode cc pc = .ok (.putfield 13, 3)) (kk : ∀ (H1 : Heap) (locs1 : List Loc), wG D A s ((h0, .inr (1, fs.set 6 (.ref v))) :: ws) H1 locs1 → W p l e R s m args below meth c H1 locs1 cells slots Q (F0 m (pc + 3) ls rest)) : W p l e R s m args below meth c H locs cells slots Q (F0 m pc ls (.ref v :: .ref h0 :: rest)) :=
  va_putF (ref := R_M) (ci := 1) (ty := (.array .int)) (C := R_M) (T := F_M) (N := 11) C.1 C.2.1 C.2.2.2.2.1 i_M t_M t_M_ok n_M C.2.2.2.1 C.2.2.2.2.2.1 G.1 G.2.1 G.2.2 0 rfl rfl 6 (by decide) (C.2.2.2.2.1 _ fl_M_13) (fun _ h9 => h9) rfl hin rfl (by decide +kernel) rfl rfl hfs hdg (fun H1 locs1 hP hD hS => kk H1 locs1 ⟨hP, hD, hS⟩)
theorem mputF_homes (C : wC p s m args c meth cc nL R_M D cA A) (hin : meth.name = "<init>") (G : wG D A s ((h0, .inr (1, fs)) :: ws) H locs) (hfs : 7 < fs.length) {v : Nat} (hdg : decode cc pc = .ok (.putfield 16, 3)) (kk : ∀ (H1 : Heap) (locs1 : List Loc), wG D A s ((h0, .inr (1, fs.set 7 (.ref v))) :: ws) H1 locs1 → W p l e R s m args below meth c H1 locs1 cells slots Q (F0 m (pc + 3) ls rest)) : W p l e R s m args below meth c H locs cells slots Q (F0 m pc ls (.ref v :: .ref h0 :: rest)) :=
  va_putF (ref := R_M) (ci := 1) (ty := (.array .int)) (C := R_M) (T := F_M) (N := 11) C.1 C.2.1 C.2.2.2.2.1 i_M t_M t_M_ok n_M C.2.2.2.1 C.2.2.2.2.2.1 G.1 G.2.1 G.2.2 0 rfl rfl 7 (by decide) (C.2.2.2.2.1 _ fl_M_16) (fun _ h9 => h9) rfl hin rfl (by decide +kernel) rfl rfl hfs hdg (fun H1 locs1 hP hD hS => kk H1 locs1 ⟨hP, hD, hS⟩)
theorem mputF_counts (C : wC p s m args c meth cc nL R_M D cA A) (hin : meth.name = "<init>") (G : wG D A s ((h0, .inr (1, fs)) :: ws) H locs) (hfs : 10 < fs.length) {v : Nat} (hdg : decode cc pc = .ok (.putfield 19, 3)) (kk : ∀ (H1 : Heap) (locs1 : List Loc), wG D A s ((h0, .inr (1, fs.set 10 (.ref v))) :: ws) H1 locs1 → W p l e R s m args below meth c H1 locs1 cells slots Q (F0 m (pc + 3) ls rest)) : W p l e R s m args below meth c H locs cells slots Q (F0 m pc ls (.ref v :: .ref h0 :: rest)) :=
  va_putF (ref := R_M) (ci := 1) (ty := (.array .int)) (C := R_M) (T := F_M) (N := 11) C.1 C.2.1 C.2.2.2.2.1 i_M t_M t_M_ok n_M C.2.2.2.1 C.2.2.2.2.2.1 G.1 G.2.1 G.2.2 0 rfl rfl 10 (by decide) (C.2.2.2.2.1 _ fl_M_19) (fun _ h9 => h9) rfl hin rfl (by decide +kernel) rfl rfl hfs hdg (fun H1 locs1 hP hD hS => kk H1 locs1 ⟨hP, hD, hS⟩)
end PFM
abbrev rm_X_init : Room := { frames := 3, cells := 8, slots := 10500, locals := 63 }
set_option maxHeartbeats 4000000 in
set_option maxRecDepth 100000 in
theorem c_X_init (l : Launch) (D : va_G) (cA : ClassId) (h0 : Nat) (x1 x2 x3 x4 : Int32) (Q : StX → Prop) (h : wp_X_clear (k0X x1 x2 x3 x4) u0X Q) : ∀ sz : Nat, Met l y_X_init (.code y_X_init b_X_init 5 none :: gw_tbl) rm_X_init (va_Pc [.ref h0, .int x1, .int x2, .int x3, .int x4] (cB D cA [(h0, .inr (0, [.int 0, .int 0, .int 0, .int 0, .null, .null, .null, .null, .null, .null, .null, .null, .int 0, .int 0, .int 0, .int 0, .int 0, .int 0]))] sz)) (va_Qv (fun z : (Nat → Nat) × StX => z.1 0 = h0 ∧ Q z.2) (cE D cA (va_A [(h0, .inr (0, [.int 0, .int 0, .int 0, .int 0, .null, .null, .null, .null, .null, .null, .null, .null, .int 0, .int 0, .int 0, .int 0, .int 0, .int 0]))] sz) (fun z => wX cA z.1 (k0X x1 x2 x3 x4) z.2)) (va_A [(h0, .inr (0, [.int 0, .int 0, .int 0, .int 0, .null, .null, .null, .null, .null, .null, .null, .null, .int 0, .int 0, .int 0, .int 0, .int 0, .int 0]))] sz)) 8 10500 (va_A [(h0, .inr (0, [.int 0, .int 0, .int 0, .int 0, .null, .null, .null, .null, .null, .null, .null, .null, .int 0, .int 0, .int 0, .int 0, .int 0, .int 0]))] sz) := by
  refine ctor_enter (by decide) (Nat.le_of_ble_eq_true rfl) ?_
  intro p e s m args below meth c A ls C hr hin G hl
  have hx := C.1
  have hb := C.2.1
  have hl : lv_has ls 5 [(0, .ref h0), (1, .int x1), (2, .int x2), (3, .int x3), (4, .int x4)] := hl
  refine lv_aload_n hx hb d_X_init_0 rfl (lv_at hl 0 rfl) ?_
  refine W.objInit hx hb C.2.2.2.1 (C.2.2.2.2.1 (.methodLink R_X 1 objectInit) (wd_in 33 rfl rfl)) (C.2.2.2.2.1 (.instanceMethod objectInit) (wd_in 34 rfl rfl)) (C.2.2.2.2.1 (.code objectInit ⟨#[0xb1]⟩ 1 none) (wd_in 35 rfl rfl)) rfl (by rw [C.2.2.1]; exact hl.1) rfl d_X_init_1 (Nat.le_of_ble_eq_true rfl) (Nat.le_of_ble_eq_true rfl) ?_
  refine W.eq (g2 := F0 m 4 ls []) rfl ?_
  refine lv_aload_n hx hb d_X_init_4 rfl (lv_at hl 0 rfl) ?_
  refine lv_sipush (v := 200) hx hb d_X_init_5 (by decide) ?_
  refine g_newa C G (N := 200) rfl (by decide) (by show _ + 1 ≤ 8; decide) (by show _ ≤ 10500; omega) d_X_init_8 (fun q_first H G => ?_)
  have G : wG D A s [(h0, .inr (0, [.int 0, .int 0, .int 0, .int 0, .null, .null, .null, .null, .null, .null, .null, .null, .int 0, .int 0, .int 0, .int 0, .int 0, .int 0])), (q_first, .inl (cA, 200, .inl (fun _ => 0)))] H _ := G
  refine xputF_first C hin G (Nat.le_of_ble_eq_true rfl) d_X_init_10 (fun H locs G => ?_)
  have G : wG D A s [(h0, .inr (0, [.int 0, .int 0, .int 0, .int 0, .null, .null, .null, .ref q_first, .null, .null, .null, .null, .int 0, .int 0, .int 0, .int 0, .int 0, .int 0])), (q_first, .inl (cA, 200, .inl (fun _ => 0)))] H _ := G
  refine lv_aload_n hx hb d_X_init_13 rfl (lv_at hl 0 rfl) ?_
  refine lv_sipush (v := 200) hx hb d_X_init_14 (by decide) ?_
  refine g_newa C G (N := 200) rfl (by decide) (by show _ + 1 ≤ 8; decide) (by show _ ≤ 10500; omega) d_X_init_17 (fun q_last H G => ?_)
  have G : wG D A s [(h0, .inr (0, [.int 0, .int 0, .int 0, .int 0, .null, .null, .null, .ref q_first, .null, .null, .null, .null, .int 0, .int 0, .int 0, .int 0, .int 0, .int 0])), (q_first, .inl (cA, 200, .inl (fun _ => 0))), (q_last, .inl (cA, 200, .inl (fun _ => 0)))] H _ := G
  refine xputF_last C hin G (Nat.le_of_ble_eq_true rfl) d_X_init_19 (fun H locs G => ?_)
  have G : wG D A s [(h0, .inr (0, [.int 0, .int 0, .int 0, .int 0, .null, .null, .null, .ref q_first, .ref q_last, .null, .null, .null, .int 0, .int 0, .int 0, .int 0, .int 0, .int 0])), (q_first, .inl (cA, 200, .inl (fun _ => 0))), (q_last, .inl (cA, 200, .inl (fun _ => 0)))] H _ := G
  refine lv_aload_n hx hb d_X_init_22 rfl (lv_at hl 0 rfl) ?_
  refine lv_sipush (v := 200) hx hb d_X_init_23 (by decide) ?_
  refine g_newa C G (N := 200) rfl (by decide) (by show _ + 1 ≤ 8; decide) (by show _ ≤ 10500; omega) d_X_init_26 (fun q_counts H G => ?_)
  have G : wG D A s [(h0, .inr (0, [.int 0, .int 0, .int 0, .int 0, .null, .null, .null, .ref q_first, .ref q_last, .null, .null, .null, .int 0, .int 0, .int 0, .int 0, .int 0, .int 0])), (q_first, .inl (cA, 200, .inl (fun _ => 0))), (q_last, .inl (cA, 200, .inl (fun _ => 0))), (q_counts, .inl (cA, 200, .inl (fun _ => 0)))] H _ := G
  refine xputF_counts C hin G (Nat.le_of_ble_eq_true rfl) d_X_init_28 (fun H locs G => ?_)
  have G : wG D A s [(h0, .inr (0, [.int 0, .int 0, .int 0, .int 0, .null, .null, .null, .ref q_first, .ref q_last, .ref q_counts, .null, .null, .int 0, .int 0, .int 0, .int 0, .int 0, .int 0])), (q_first, .inl (cA, 200, .inl (fun _ => 0))), (q_last, .inl (cA, 200, .inl (fun _ => 0))), (q_counts, .inl (cA, 200, .inl (fun _ => 0)))] H _ := G
  refine lv_aload_n hx hb d_X_init_31 rfl (lv_at hl 0 rfl) ?_
  refine lv_iload_n hx hb d_X_init_32 rfl (lv_at hl 1 rfl) ?_
  refine lv_iconst (v := 1) hx hb d_X_init_33 (by decide) ?_
  refine lv_bipush (v := 8) hx hb d_X_init_34 (by decide) ?_
  refine g_calls (np := 3) [.int x1, .int 1, .int 8] C (c_X_bring l x1 1 8) (wd_in 37 rfl rfl) (wd_in 26 rfl rfl) (wd_in 38 rfl rfl) (by decide +kernel) ml_X_19 rfl rfl ⟨Nat.le_of_ble_eq_true rfl, Nat.le_of_ble_eq_true rfl⟩ preEq rfl hl.1 (rest := [.ref h0]) rfl (lv_room (Nat.le_of_ble_eq_true rfl)) ⟨by show _ ≤ 8; decide, by show _ ≤ 10500; omega⟩ d_X_init_36 ?_
  refine lv_topi (fun vB evB => ?_)
  refine xputF_base C hin G (Nat.le_of_ble_eq_true rfl) d_X_init_39 (fun H locs G => ?_)
  have G : wG D A s [(h0, .inr (0, [.int vB, .int 0, .int 0, .int 0, .null, .null, .null, .ref q_first, .ref q_last, .ref q_counts, .null, .null, .int 0, .int 0, .int 0, .int 0, .int 0, .int 0])), (q_first, .inl (cA, 200, .inl (fun _ => 0))), (q_last, .inl (cA, 200, .inl (fun _ => 0))), (q_counts, .inl (cA, 200, .inl (fun _ => 0)))] H _ := G
  refine lv_aload_n hx hb d_X_init_42 rfl (lv_at hl 0 rfl) ?_
  refine lv_iload_n hx hb d_X_init_43 rfl (lv_at hl 2 rfl) ?_
  refine lv_iconst (v := 1) hx hb d_X_init_44 (by decide) ?_
  refine lv_bipush (v := 8) hx hb d_X_init_45 (by decide) ?_
  refine g_calls (np := 3) [.int x2, .int 1, .int 8] C (c_X_bring l x2 1 8) (wd_in 37 rfl rfl) (wd_in 26 rfl rfl) (wd_in 38 rfl rfl) (by decide +kernel) ml_X_19 rfl rfl ⟨Nat.le_of_ble_eq_true rfl, Nat.le_of_ble_eq_true rfl⟩ preEq rfl hl.1 (rest := [.ref h0]) rfl (lv_room (Nat.le_of_ble_eq_true rfl)) ⟨by show _ ≤ 8; decide, by show _ ≤ 10500; omega⟩ d_X_init_47 ?_
  refine lv_topi (fun vC evC => ?_)
  refine xputF_cap C hin G (Nat.le_of_ble_eq_true rfl) d_X_init_50 (fun H locs G => ?_)
  have G : wG D A s [(h0, .inr (0, [.int vB, .int vC, .int 0, .int 0, .null, .null, .null, .ref q_first, .ref q_last, .ref q_counts, .null, .null, .int 0, .int 0, .int 0, .int 0, .int 0, .int 0])), (q_first, .inl (cA, 200, .inl (fun _ => 0))), (q_last, .inl (cA, 200, .inl (fun _ => 0))), (q_counts, .inl (cA, 200, .inl (fun _ => 0)))] H _ := G
  refine lv_aload_n hx hb d_X_init_53 rfl (lv_at hl 0 rfl) ?_
  refine lv_iload_n hx hb d_X_init_54 rfl (lv_at hl 3 rfl) ?_
  refine lv_bipush (v := 8) hx hb d_X_init_55 (by decide) ?_
  refine lv_sipush (v := 300) hx hb d_X_init_57 (by decide) ?_
  refine g_calls (np := 3) [.int x3, .int 8, .int 300] C (c_X_bring l x3 8 300) (wd_in 37 rfl rfl) (wd_in 26 rfl rfl) (wd_in 38 rfl rfl) (by decide +kernel) ml_X_19 rfl rfl ⟨Nat.le_of_ble_eq_true rfl, Nat.le_of_ble_eq_true rfl⟩ preEq rfl hl.1 (rest := [.ref h0]) rfl (lv_room (Nat.le_of_ble_eq_true rfl)) ⟨by show _ ≤ 8; decide, by show _ ≤ 10500; omega⟩ d_X_init_60 ?_
  refine lv_topi (fun vM evM => ?_)
  refine xputF_most C hin G (Nat.le_of_ble_eq_true rfl) d_X_init_63 (fun H locs G => ?_)
  have G : wG D A s [(h0, .inr (0, [.int vB, .int vC, .int vM, .int 0, .null, .null, .null, .ref q_first, .ref q_last, .ref q_counts, .null, .null, .int 0, .int 0, .int 0, .int 0, .int 0, .int 0])), (q_first, .inl (cA, 200, .inl (fun _ => 0))), (q_last, .inl (cA, 200, .inl (fun _ => 0))), (q_counts, .inl (cA, 200, .inl (fun _ => 0)))] H _ := G
  refine lv_aload_n hx hb d_X_init_66 rfl (lv_at hl 0 rfl) ?_
  refine lv_iload hx hb d_X_init_67 (lv_at hl 4 rfl) ?_
  refine lv_aload_n hx hb d_X_init_69 rfl (lv_at hl 0 rfl) ?_
  refine xgetF_base C G rfl d_X_init_70 ?_
  refine lv_sipush (v := 200) hx hb d_X_init_73 (by decide) ?_
  refine g_calls (np := 3) [.int x4, .int vB, .int 200] C (c_X_bring l x4 vB 200) (wd_in 37 rfl rfl) (wd_in 26 rfl rfl) (wd_in 38 rfl rfl) (by decide +kernel) ml_X_19 rfl rfl ⟨Nat.le_of_ble_eq_true rfl, Nat.le_of_ble_eq_true rfl⟩ preEq rfl hl.1 (rest := [.ref h0]) rfl (lv_room (Nat.le_of_ble_eq_true rfl)) ⟨by show _ ≤ 8; decide, by show _ ≤ 10500; omega⟩ d_X_init_76 ?_
  refine lv_topi (fun vT evT => ?_)
  refine xputF_mostBuckets C hin G (Nat.le_of_ble_eq_true rfl) d_X_init_79 (fun H locs G => ?_)
  have G : wG D A s [(h0, .inr (0, [.int vB, .int vC, .int vM, .int vT, .null, .null, .null, .ref q_first, .ref q_last, .ref q_counts, .null, .null, .int 0, .int 0, .int 0, .int 0, .int 0, .int 0])), (q_first, .inl (cA, 200, .inl (fun _ => 0))), (q_last, .inl (cA, 200, .inl (fun _ => 0))), (q_counts, .inl (cA, 200, .inl (fun _ => 0)))] H _ := G
  have hm1 := cl_hi x3 8 300 (by decide) (by decide)
  have hc1 := cl_hi x2 1 8 (by decide) (by decide)
  have hcm : clampN x3 8 300 * clampN x2 1 8 ≤ 300 * 8 := Nat.mul_le_mul hm1 hc1
  have eM : vM = nI (clampN x3 8 300) := by rw [evM]; exact jb_nI x3 8 300 (by decide) (by decide)
  have eC : vC = nI (clampN x2 1 8) := by rw [evC]; exact jb_nI x2 1 8 (by decide) (by decide)
  have eMC : vM * vC = nI (clampN x3 8 300 * clampN x2 1 8) := by rw [eM, eC, pk_mul]
  generalize hNe : clampN x3 8 300 * clampN x2 1 8 = n1 at eMC hcm
  generalize hMe : clampN x3 8 300 = n2 at eM hm1
  refine lv_aload_n hx hb d_X_init_82 rfl (lv_at hl 0 rfl) ?_
  refine lv_aload_n hx hb d_X_init_83 rfl (lv_at hl 0 rfl) ?_
  refine xgetF_most C G rfl d_X_init_84 ?_
  refine lv_aload_n hx hb d_X_init_87 rfl (lv_at hl 0 rfl) ?_
  refine xgetF_cap C G rfl d_X_init_88 ?_
  refine lv_imul hx hb d_X_init_91 ?_
  refine g_newa C G (N := n1) eMC (by omega) (by show _ + 1 ≤ 8; decide) (by show _ ≤ 10500; omega) d_X_init_92 (fun q_keys H G => ?_)
  have G : wG D A s [(h0, .inr (0, [.int vB, .int vC, .int vM, .int vT, .null, .null, .null, .ref q_first, .ref q_last, .ref q_counts, .null, .null, .int 0, .int 0, .int 0, .int 0, .int 0, .int 0])), (q_first, .inl (cA, 200, .inl (fun _ => 0))), (q_last, .inl (cA, 200, .inl (fun _ => 0))), (q_counts, .inl (cA, 200, .inl (fun _ => 0))), (q_keys, .inl (cA, n1, .inl (fun _ => 0)))] H _ := G
  refine xputF_keys C hin G (Nat.le_of_ble_eq_true rfl) d_X_init_94 (fun H locs G => ?_)
  have G : wG D A s [(h0, .inr (0, [.int vB, .int vC, .int vM, .int vT, .ref q_keys, .null, .null, .ref q_first, .ref q_last, .ref q_counts, .null, .null, .int 0, .int 0, .int 0, .int 0, .int 0, .int 0])), (q_first, .inl (cA, 200, .inl (fun _ => 0))), (q_last, .inl (cA, 200, .inl (fun _ => 0))), (q_counts, .inl (cA, 200, .inl (fun _ => 0))), (q_keys, .inl (cA, n1, .inl (fun _ => 0)))] H _ := G
  refine lv_aload_n hx hb d_X_init_97 rfl (lv_at hl 0 rfl) ?_
  refine lv_aload_n hx hb d_X_init_98 rfl (lv_at hl 0 rfl) ?_
  refine xgetF_most C G rfl d_X_init_99 ?_
  refine lv_aload_n hx hb d_X_init_102 rfl (lv_at hl 0 rfl) ?_
  refine xgetF_cap C G rfl d_X_init_103 ?_
  refine lv_imul hx hb d_X_init_106 ?_
  refine g_newa C G (N := n1) eMC (by omega) (by show _ + 1 ≤ 8; decide) (by show _ ≤ 10500; omega) d_X_init_107 (fun q_values H G => ?_)
  have G : wG D A s [(h0, .inr (0, [.int vB, .int vC, .int vM, .int vT, .ref q_keys, .null, .null, .ref q_first, .ref q_last, .ref q_counts, .null, .null, .int 0, .int 0, .int 0, .int 0, .int 0, .int 0])), (q_first, .inl (cA, 200, .inl (fun _ => 0))), (q_last, .inl (cA, 200, .inl (fun _ => 0))), (q_counts, .inl (cA, 200, .inl (fun _ => 0))), (q_keys, .inl (cA, n1, .inl (fun _ => 0))), (q_values, .inl (cA, n1, .inl (fun _ => 0)))] H _ := G
  refine xputF_values C hin G (Nat.le_of_ble_eq_true rfl) d_X_init_109 (fun H locs G => ?_)
  have G : wG D A s [(h0, .inr (0, [.int vB, .int vC, .int vM, .int vT, .ref q_keys, .ref q_values, .null, .ref q_first, .ref q_last, .ref q_counts, .null, .null, .int 0, .int 0, .int 0, .int 0, .int 0, .int 0])), (q_first, .inl (cA, 200, .inl (fun _ => 0))), (q_last, .inl (cA, 200, .inl (fun _ => 0))), (q_counts, .inl (cA, 200, .inl (fun _ => 0))), (q_keys, .inl (cA, n1, .inl (fun _ => 0))), (q_values, .inl (cA, n1, .inl (fun _ => 0)))] H _ := G
  refine lv_aload_n hx hb d_X_init_112 rfl (lv_at hl 0 rfl) ?_
  refine lv_aload_n hx hb d_X_init_113 rfl (lv_at hl 0 rfl) ?_
  refine xgetF_most C G rfl d_X_init_114 ?_
  refine g_newa C G (N := n2) eM (by omega) (by show _ + 1 ≤ 8; decide) (by show _ ≤ 10500; omega) d_X_init_117 (fun q_next H G => ?_)
  have G : wG D A s [(h0, .inr (0, [.int vB, .int vC, .int vM, .int vT, .ref q_keys, .ref q_values, .null, .ref q_first, .ref q_last, .ref q_counts, .null, .null, .int 0, .int 0, .int 0, .int 0, .int 0, .int 0])), (q_first, .inl (cA, 200, .inl (fun _ => 0))), (q_last, .inl (cA, 200, .inl (fun _ => 0))), (q_counts, .inl (cA, 200, .inl (fun _ => 0))), (q_keys, .inl (cA, n1, .inl (fun _ => 0))), (q_values, .inl (cA, n1, .inl (fun _ => 0))), (q_next, .inl (cA, n2, .inl (fun _ => 0)))] H _ := G
  refine xputF_next C hin G (Nat.le_of_ble_eq_true rfl) d_X_init_119 (fun H locs G => ?_)
  have G : wG D A s [(h0, .inr (0, [.int vB, .int vC, .int vM, .int vT, .ref q_keys, .ref q_values, .ref q_next, .ref q_first, .ref q_last, .ref q_counts, .null, .null, .int 0, .int 0, .int 0, .int 0, .int 0, .int 0])), (q_first, .inl (cA, 200, .inl (fun _ => 0))), (q_last, .inl (cA, 200, .inl (fun _ => 0))), (q_counts, .inl (cA, 200, .inl (fun _ => 0))), (q_keys, .inl (cA, n1, .inl (fun _ => 0))), (q_values, .inl (cA, n1, .inl (fun _ => 0))), (q_next, .inl (cA, n2, .inl (fun _ => 0)))] H _ := G
  refine lv_aload_n hx hb d_X_init_122 rfl (lv_at hl 0 rfl) ?_
  refine lv_aload_n hx hb d_X_init_123 rfl (lv_at hl 0 rfl) ?_
  refine xgetF_most C G rfl d_X_init_124 ?_
  refine lv_aload_n hx hb d_X_init_127 rfl (lv_at hl 0 rfl) ?_
  refine xgetF_cap C G rfl d_X_init_128 ?_
  refine lv_imul hx hb d_X_init_131 ?_
  refine g_newa C G (N := n1) eMC (by omega) (by show _ + 1 ≤ 8; decide) (by show _ ≤ 10500; omega) d_X_init_132 (fun q_takenKeys H G => ?_)
  have G : wG D A s [(h0, .inr (0, [.int vB, .int vC, .int vM, .int vT, .ref q_keys, .ref q_values, .ref q_next, .ref q_first, .ref q_last, .ref q_counts, .null, .null, .int 0, .int 0, .int 0, .int 0, .int 0, .int 0])), (q_first, .inl (cA, 200, .inl (fun _ => 0))), (q_last, .inl (cA, 200, .inl (fun _ => 0))), (q_counts, .inl (cA, 200, .inl (fun _ => 0))), (q_keys, .inl (cA, n1, .inl (fun _ => 0))), (q_values, .inl (cA, n1, .inl (fun _ => 0))), (q_next, .inl (cA, n2, .inl (fun _ => 0))), (q_takenKeys, .inl (cA, n1, .inl (fun _ => 0)))] H _ := G
  refine xputF_takenKeys C hin G (Nat.le_of_ble_eq_true rfl) d_X_init_134 (fun H locs G => ?_)
  have G : wG D A s [(h0, .inr (0, [.int vB, .int vC, .int vM, .int vT, .ref q_keys, .ref q_values, .ref q_next, .ref q_first, .ref q_last, .ref q_counts, .ref q_takenKeys, .null, .int 0, .int 0, .int 0, .int 0, .int 0, .int 0])), (q_first, .inl (cA, 200, .inl (fun _ => 0))), (q_last, .inl (cA, 200, .inl (fun _ => 0))), (q_counts, .inl (cA, 200, .inl (fun _ => 0))), (q_keys, .inl (cA, n1, .inl (fun _ => 0))), (q_values, .inl (cA, n1, .inl (fun _ => 0))), (q_next, .inl (cA, n2, .inl (fun _ => 0))), (q_takenKeys, .inl (cA, n1, .inl (fun _ => 0)))] H _ := G
  refine lv_aload_n hx hb d_X_init_137 rfl (lv_at hl 0 rfl) ?_
  refine lv_aload_n hx hb d_X_init_138 rfl (lv_at hl 0 rfl) ?_
  refine xgetF_most C G rfl d_X_init_139 ?_
  refine lv_aload_n hx hb d_X_init_142 rfl (lv_at hl 0 rfl) ?_
  refine xgetF_cap C G rfl d_X_init_143 ?_
  refine lv_imul hx hb d_X_init_146 ?_
  refine g_newa C G (N := n1) eMC (by omega) (by show _ + 1 ≤ 8; decide) (by show _ ≤ 10500; omega) d_X_init_147 (fun q_takenValues H G => ?_)
  have G : wG D A s [(h0, .inr (0, [.int vB, .int vC, .int vM, .int vT, .ref q_keys, .ref q_values, .ref q_next, .ref q_first, .ref q_last, .ref q_counts, .ref q_takenKeys, .null, .int 0, .int 0, .int 0, .int 0, .int 0, .int 0])), (q_first, .inl (cA, 200, .inl (fun _ => 0))), (q_last, .inl (cA, 200, .inl (fun _ => 0))), (q_counts, .inl (cA, 200, .inl (fun _ => 0))), (q_keys, .inl (cA, n1, .inl (fun _ => 0))), (q_values, .inl (cA, n1, .inl (fun _ => 0))), (q_next, .inl (cA, n2, .inl (fun _ => 0))), (q_takenKeys, .inl (cA, n1, .inl (fun _ => 0))), (q_takenValues, .inl (cA, n1, .inl (fun _ => 0)))] H _ := G
  refine xputF_takenValues C hin G (Nat.le_of_ble_eq_true rfl) d_X_init_149 (fun H locs G => ?_)
  have G : wG D A s [(h0, .inr (0, [.int vB, .int vC, .int vM, .int vT, .ref q_keys, .ref q_values, .ref q_next, .ref q_first, .ref q_last, .ref q_counts, .ref q_takenKeys, .ref q_takenValues, .int 0, .int 0, .int 0, .int 0, .int 0, .int 0])), (q_first, .inl (cA, 200, .inl (fun _ => 0))), (q_last, .inl (cA, 200, .inl (fun _ => 0))), (q_counts, .inl (cA, 200, .inl (fun _ => 0))), (q_keys, .inl (cA, n1, .inl (fun _ => 0))), (q_values, .inl (cA, n1, .inl (fun _ => 0))), (q_next, .inl (cA, n2, .inl (fun _ => 0))), (q_takenKeys, .inl (cA, n1, .inl (fun _ => 0))), (q_takenValues, .inl (cA, n1, .inl (fun _ => 0)))] H _ := G
  have G : wG D A s (wX cA (ad9 h0 q_keys q_values q_next q_first q_last q_counts q_takenKeys q_takenValues) (vB, vC, vM, vT, n1, n2) u0X) H locs := ⟨G.1.sub [0, 4, 5, 6, 1, 2, 3, 7, 8] rfl, G.2.1.sub [0, 4, 5, 6, 1, 2, 3, 7, 8] (by decide) rfl, G.2.2⟩
  have hkx : (vB, vC, vM, vT, n1, n2) = k0X x1 x2 x3 x4 := by rw [← hNe, ← hMe, evB, evC, evM, evT, evB]; rfl
  rw [hkx] at G
  refine lv_aload_n hx hb d_X_init_152 rfl (lv_at hl 0 rfl) ?_
  refine g_callv (wf := wX cA (ad9 h0 q_keys q_values q_next q_first q_last q_counts q_takenKeys q_takenValues) (k0X x1 x2 x3 x4)) [] C G (c_X_clear l D cA _ _ (k0X_ok x1 x2 x3 x4) _ _ h) ok_X_clear ml_X_51 rfl rfl ⟨Nat.le_of_ble_eq_true rfl, Nat.le_of_ble_eq_true rfl⟩ rfl rfl rfl hl.1 (rest := []) rfl (lv_room (Nat.le_of_ble_eq_true rfl)) ⟨by show _ ≤ 8; decide, by show _ ≤ 10500; omega⟩ d_X_init_153 (fun u H locs G h => ?_)
  refine W.widen (k := 8) (n := 10500) (by decide) (by omega) ?_
  exact W.vret hx hb hr (fun t ht hW => ⟨⟨(ad9 h0 q_keys q_values q_next q_first q_last q_counts q_takenKeys q_takenValues, u), rfl, ⟨rfl, h⟩, by rw [ht]; exact G.1, va_K.moved hW.alike C.2.2.2.2.2.1, G.2.1⟩, G.2.2.F ht⟩) G.2.2.2.2 d_X_init_156 C.2.2.2.2.2.2.2
section SEG
variable {p : Program} {l : Launch} {e : Env} {R : Room} {s : State} {m : MethodId} {args : Array Value} {below : List Frame} {meth : Method} {c : Code} {H : Heap} {locs : List Loc} {cells slots : Nat} {Q : State → Prop}
variable {ls : Array Slot} {h0 : Nat} {x1 x2 x3 x4 : Int32}
theorem mi_seg1 (hx : p.tables.exec = Jvm.exec) (hb : c.code = b_M_init) (hl : lv_has ls 5 [(0, .ref h0), (1, .int x1), (2, .int x2), (3, .int x3), (4, .int x4)]) (k : W p l e R s m args below meth c H locs cells slots Q (F0 m 62 ls [.int (jbring x1 1 8), .ref h0])) : W p l e R s m args below meth c H locs cells slots Q (F0 m 40 ls []) := by
  refine lv_aload_n hx hb d_M_init_40 rfl (lv_at hl 0 rfl) ?_
  refine lv_iload_n hx hb d_M_init_41 rfl (lv_at hl 1 rfl) ?_
  refine lv_iconst (v := 1) hx hb d_M_init_42 (by decide) ?_
  refine lv_icmp_ge (tgt := 50) hx hb d_M_init_43 (by decide) (fun h1 => ?_) (fun h1 => ?_)
  · refine lv_iload_n hx hb d_M_init_50 rfl (lv_at hl 1 rfl) ?_
    refine lv_bipush (v := 8) hx hb d_M_init_51 (by decide) ?_
    refine lv_icmp_le (tgt := 61) hx hb d_M_init_53 (by decide) (fun h2 => ?_) (fun h2 => ?_)
    · refine lv_iload_n hx hb d_M_init_61 rfl (lv_at hl 1 rfl) ?_
      rw [show jbring x1 1 8 = x1 by simp [jbring, h1, h2]] at k
      exact k
    · refine lv_bipush (v := 8) hx hb d_M_init_56 (by decide) ?_
      refine lv_goto (tgt := 62) hx hb d_M_init_58 (by decide) ?_
      rw [show jbring x1 1 8 = 8 by simp [jbring, h1, h2]] at k
      exact k
  · refine lv_iconst (v := 1) hx hb d_M_init_46 (by decide) ?_
    refine lv_goto (tgt := 62) hx hb d_M_init_47 (by decide) ?_
    rw [show jbring x1 1 8 = 1 by simp [jbring, h1]] at k
    exact k
theorem mi_seg2 (hx : p.tables.exec = Jvm.exec) (hb : c.code = b_M_init) (hl : lv_has ls 5 [(0, .ref h0), (1, .int x1), (2, .int x2), (3, .int x3), (4, .int x4)]) (k : W p l e R s m args below meth c H locs cells slots Q (F0 m 87 ls [.int (jbring x2 1 8), .ref h0])) : W p l e R s m args below meth c H locs cells slots Q (F0 m 65 ls []) := by
  refine lv_aload_n hx hb d_M_init_65 rfl (lv_at hl 0 rfl) ?_
  refine lv_iload_n hx hb d_M_init_66 rfl (lv_at hl 2 rfl) ?_
  refine lv_iconst (v := 1) hx hb d_M_init_67 (by decide) ?_
  refine lv_icmp_ge (tgt := 75) hx hb d_M_init_68 (by decide) (fun h1 => ?_) (fun h1 => ?_)
  · refine lv_iload_n hx hb d_M_init_75 rfl (lv_at hl 2 rfl) ?_
    refine lv_bipush (v := 8) hx hb d_M_init_76 (by decide) ?_
    refine lv_icmp_le (tgt := 86) hx hb d_M_init_78 (by decide) (fun h2 => ?_) (fun h2 => ?_)
    · refine lv_iload_n hx hb d_M_init_86 rfl (lv_at hl 2 rfl) ?_
      rw [show jbring x2 1 8 = x2 by simp [jbring, h1, h2]] at k
      exact k
    · refine lv_bipush (v := 8) hx hb d_M_init_81 (by decide) ?_
      refine lv_goto (tgt := 87) hx hb d_M_init_83 (by decide) ?_
      rw [show jbring x2 1 8 = 8 by simp [jbring, h1, h2]] at k
      exact k
  · refine lv_iconst (v := 1) hx hb d_M_init_71 (by decide) ?_
    refine lv_goto (tgt := 87) hx hb d_M_init_72 (by decide) ?_
    rw [show jbring x2 1 8 = 1 by simp [jbring, h1]] at k
    exact k
theorem mi_seg3 (hx : p.tables.exec = Jvm.exec) (hb : c.code = b_M_init) (hl : lv_has ls 5 [(0, .ref h0), (1, .int x1), (2, .int x2), (3, .int x3), (4, .int x4)]) (k : W p l e R s m args below meth c H locs cells slots Q (F0 m 116 ls [.int (jbring x3 8 300), .ref h0])) : W p l e R s m args below meth c H locs cells slots Q (F0 m 90 ls []) := by
  refine lv_aload_n hx hb d_M_init_90 rfl (lv_at hl 0 rfl) ?_
  refine lv_iload_n hx hb d_M_init_91 rfl (lv_at hl 3 rfl) ?_
  refine lv_bipush (v := 8) hx hb d_M_init_92 (by decide) ?_
  refine lv_icmp_ge (tgt := 102) hx hb d_M_init_94 (by decide) (fun h1 => ?_) (fun h1 => ?_)
  · refine lv_iload_n hx hb d_M_init_102 rfl (lv_at hl 3 rfl) ?_
    refine lv_sipush (v := 300) hx hb d_M_init_103 (by decide) ?_
    refine lv_icmp_le (tgt := 115) hx hb d_M_init_106 (by decide) (fun h2 => ?_) (fun h2 => ?_)
    · refine lv_iload_n hx hb d_M_init_115 rfl (lv_at hl 3 rfl) ?_
      rw [show jbring x3 8 300 = x3 by simp [jbring, h1, h2]] at k
      exact k
    · refine lv_sipush (v := 300) hx hb d_M_init_109 (by decide) ?_
      refine lv_goto (tgt := 116) hx hb d_M_init_112 (by decide) ?_
      rw [show jbring x3 8 300 = 300 by simp [jbring, h1, h2]] at k
      exact k
  · refine lv_bipush (v := 8) hx hb d_M_init_97 (by decide) ?_
    refine lv_goto (tgt := 116) hx hb d_M_init_99 (by decide) ?_
    rw [show jbring x3 8 300 = 8 by simp [jbring, h1]] at k
    exact k
theorem mi_seg4 {D : va_G} {cA : ClassId} {A : Nat → Prop} {fs : List Value} {ws : va_W} {vB : Int32} (C : wC p s m args c meth b_M_init 5 R_M D cA A) (G : wG D A s ((h0, .inr (1, fs)) :: ws) H locs) (hv : fs[0]? = some (.int vB)) (hl : lv_has ls 5 [(0, .ref h0), (1, .int x1), (2, .int x2), (3, .int x3), (4, .int x4)]) (k : W p l e R s m args below meth c H locs cells slots Q (F0 m 152 ls [.int (jbring x4 vB 200), .ref h0])) : W p l e R s m args below meth c H locs cells slots Q (F0 m 119 ls []) := by
  have hx := C.1
  have hb := C.2.1
  refine lv_aload_n hx hb d_M_init_119 rfl (lv_at hl 0 rfl) ?_
  refine lv_iload hx hb d_M_init_120 (lv_at hl 4 rfl) ?_
  refine lv_aload_n hx hb d_M_init_122 rfl (lv_at hl 0 rfl) ?_
  refine mgetF_base C G hv d_M_init_123 ?_
  refine lv_icmp_ge (tgt := 136) hx hb d_M_init_126 (by decide) (fun h1 => ?_) (fun h1 => ?_)
  · refine lv_iload hx hb d_M_init_136 (lv_at hl 4 rfl) ?_
    refine lv_sipush (v := 200) hx hb d_M_init_138 (by decide) ?_
    refine lv_icmp_le (tgt := 150) hx hb d_M_init_141 (by decide) (fun h2 => ?_) (fun h2 => ?_)
    · refine lv_iload hx hb d_M_init_150 (lv_at hl 4 rfl) ?_
      rw [show jbring x4 vB 200 = x4 by simp [jbring, h1, h2]] at k
      exact k
    · refine lv_sipush (v := 200) hx hb d_M_init_144 (by decide) ?_
      refine lv_goto (tgt := 152) hx hb d_M_init_147 (by decide) ?_
      rw [show jbring x4 vB 200 = 200 by simp [jbring, h1, h2]] at k
      exact k
  · refine lv_aload_n hx hb d_M_init_129 rfl (lv_at hl 0 rfl) ?_
    refine mgetF_base C G hv d_M_init_130 ?_
    refine lv_goto (tgt := 152) hx hb d_M_init_133 (by decide) ?_
    rw [show jbring x4 vB 200 = vB by simp [jbring, h1]] at k
    exact k
end SEG
abbrev rm_M_init : Room := { frames := 1, cells := 4, slots := 7403, locals := 20 }
set_option maxHeartbeats 4000000 in
set_option maxRecDepth 100000 in
theorem c_M_init (l : Launch) (D : va_G) (cA : ClassId) (h0 : Nat) (x1 x2 x3 x4 : Int32) : ∀ sz : Nat, Met l y_M_init (.code y_M_init b_M_init 5 none :: gw_tbl) rm_M_init (va_Pc [.ref h0, .int x1, .int x2, .int x3, .int x4] (cB D cA [(h0, .inr (1, [.int 0, .int 0, .int 0, .int 0, .int 0, .null, .null, .null, .int 0, .int 0, .null]))] sz)) (va_Qv (fun z : (Nat → Nat) × StM => z.1 0 = h0 ∧ z.2 = u0M) (cE D cA (va_A [(h0, .inr (1, [.int 0, .int 0, .int 0, .int 0, .int 0, .null, .null, .null, .int 0, .int 0, .null]))] sz) (fun z => wM cA z.1 (k0M x1 x2 x3 x4) z.2)) (va_A [(h0, .inr (1, [.int 0, .int 0, .int 0, .int 0, .int 0, .null, .null, .null, .int 0, .int 0, .null]))] sz)) 4 7403 (va_A [(h0, .inr (1, [.int 0, .int 0, .int 0, .int 0, .int 0, .null, .null, .null, .int 0, .int 0, .null]))] sz) := by
  refine ctor_enter (by decide) (Nat.le_of_ble_eq_true rfl) ?_
  intro p e s m args below meth c A ls C hr hin G hl
  have hx := C.1
  have hb := C.2.1
  have hl : lv_has ls 5 [(0, .ref h0), (1, .int x1), (2, .int x2), (3, .int x3), (4, .int x4)] := hl
  refine lv_aload_n hx hb d_M_init_0 rfl (lv_at hl 0 rfl) ?_
  refine W.objInit hx hb C.2.2.2.1 (C.2.2.2.2.1 (.methodLink R_M 1 objectInit) (wd_in 221 rfl rfl)) (C.2.2.2.2.1 (.instanceMethod objectInit) (wd_in 34 rfl rfl)) (C.2.2.2.2.1 (.code objectInit ⟨#[0xb1]⟩ 1 none) (wd_in 35 rfl rfl)) rfl (by rw [C.2.2.1]; exact hl.1) rfl d_M_init_1 (Nat.le_of_ble_eq_true rfl) (Nat.le_of_ble_eq_true rfl) ?_
  refine W.eq (g2 := F0 m 4 ls []) rfl ?_
  refine lv_aload_n hx hb d_M_init_4 rfl (lv_at hl 0 rfl) ?_
  refine lv_sipush (v := 2401) hx hb d_M_init_5 (by decide) ?_
  refine g_newa C G (N := 2401) rfl (by decide) (by show _ + 1 ≤ 4; decide) (by show _ ≤ 7403; decide) d_M_init_8 (fun q_keys H G => ?_)
  have G : wG D A s [(h0, .inr (1, [.int 0, .int 0, .int 0, .int 0, .int 0, .null, .null, .null, .int 0, .int 0, .null])), (q_keys, .inl (cA, 2401, .inl (fun _ => 0)))] H _ := G
  refine mputF_keys C hin G (Nat.le_of_ble_eq_true rfl) d_M_init_10 (fun H locs G => ?_)
  have G : wG D A s [(h0, .inr (1, [.int 0, .int 0, .int 0, .int 0, .int 0, .ref q_keys, .null, .null, .int 0, .int 0, .null])), (q_keys, .inl (cA, 2401, .inl (fun _ => 0)))] H _ := G
  refine lv_aload_n hx hb d_M_init_13 rfl (lv_at hl 0 rfl) ?_
  refine lv_sipush (v := 2401) hx hb d_M_init_14 (by decide) ?_
  refine g_newa C G (N := 2401) rfl (by decide) (by show _ + 1 ≤ 4; decide) (by show _ ≤ 7403; decide) d_M_init_17 (fun q_values H G => ?_)
  have G : wG D A s [(h0, .inr (1, [.int 0, .int 0, .int 0, .int 0, .int 0, .ref q_keys, .null, .null, .int 0, .int 0, .null])), (q_keys, .inl (cA, 2401, .inl (fun _ => 0))), (q_values, .inl (cA, 2401, .inl (fun _ => 0)))] H _ := G
  refine mputF_values C hin G (Nat.le_of_ble_eq_true rfl) d_M_init_19 (fun H locs G => ?_)
  have G : wG D A s [(h0, .inr (1, [.int 0, .int 0, .int 0, .int 0, .int 0, .ref q_keys, .ref q_values, .null, .int 0, .int 0, .null])), (q_keys, .inl (cA, 2401, .inl (fun _ => 0))), (q_values, .inl (cA, 2401, .inl (fun _ => 0)))] H _ := G
  refine lv_aload_n hx hb d_M_init_22 rfl (lv_at hl 0 rfl) ?_
  refine lv_sipush (v := 2401) hx hb d_M_init_23 (by decide) ?_
  refine g_newa C G (N := 2401) rfl (by decide) (by show _ + 1 ≤ 4; decide) (by show _ ≤ 7403; decide) d_M_init_26 (fun q_homes H G => ?_)
  have G : wG D A s [(h0, .inr (1, [.int 0, .int 0, .int 0, .int 0, .int 0, .ref q_keys, .ref q_values, .null, .int 0, .int 0, .null])), (q_keys, .inl (cA, 2401, .inl (fun _ => 0))), (q_values, .inl (cA, 2401, .inl (fun _ => 0))), (q_homes, .inl (cA, 2401, .inl (fun _ => 0)))] H _ := G
  refine mputF_homes C hin G (Nat.le_of_ble_eq_true rfl) d_M_init_28 (fun H locs G => ?_)
  have G : wG D A s [(h0, .inr (1, [.int 0, .int 0, .int 0, .int 0, .int 0, .ref q_keys, .ref q_values, .ref q_homes, .int 0, .int 0, .null])), (q_keys, .inl (cA, 2401, .inl (fun _ => 0))), (q_values, .inl (cA, 2401, .inl (fun _ => 0))), (q_homes, .inl (cA, 2401, .inl (fun _ => 0)))] H _ := G
  refine lv_aload_n hx hb d_M_init_31 rfl (lv_at hl 0 rfl) ?_
  refine lv_sipush (v := 200) hx hb d_M_init_32 (by decide) ?_
  refine g_newa C G (N := 200) rfl (by decide) (by show _ + 1 ≤ 4; decide) (by show _ ≤ 7403; decide) d_M_init_35 (fun q_counts H G => ?_)
  have G : wG D A s [(h0, .inr (1, [.int 0, .int 0, .int 0, .int 0, .int 0, .ref q_keys, .ref q_values, .ref q_homes, .int 0, .int 0, .null])), (q_keys, .inl (cA, 2401, .inl (fun _ => 0))), (q_values, .inl (cA, 2401, .inl (fun _ => 0))), (q_homes, .inl (cA, 2401, .inl (fun _ => 0))), (q_counts, .inl (cA, 200, .inl (fun _ => 0)))] H _ := G
  refine mputF_counts C hin G (Nat.le_of_ble_eq_true rfl) d_M_init_37 (fun H locs G => ?_)
  have G : wG D A s [(h0, .inr (1, [.int 0, .int 0, .int 0, .int 0, .int 0, .ref q_keys, .ref q_values, .ref q_homes, .int 0, .int 0, .ref q_counts])), (q_keys, .inl (cA, 2401, .inl (fun _ => 0))), (q_values, .inl (cA, 2401, .inl (fun _ => 0))), (q_homes, .inl (cA, 2401, .inl (fun _ => 0))), (q_counts, .inl (cA, 200, .inl (fun _ => 0)))] H _ := G
  refine mi_seg1 hx hb hl ?_
  refine lv_topi (fun vB evB => ?_)
  refine mputF_base C hin G (Nat.le_of_ble_eq_true rfl) d_M_init_62 (fun H locs G => ?_)
  have G : wG D A s [(h0, .inr (1, [.int vB, .int 0, .int 0, .int 0, .int 0, .ref q_keys, .ref q_values, .ref q_homes, .int 0, .int 0, .ref q_counts])), (q_keys, .inl (cA, 2401, .inl (fun _ => 0))), (q_values, .inl (cA, 2401, .inl (fun _ => 0))), (q_homes, .inl (cA, 2401, .inl (fun _ => 0))), (q_counts, .inl (cA, 200, .inl (fun _ => 0)))] H _ := G
  refine mi_seg2 hx hb hl ?_
  refine lv_topi (fun vC evC => ?_)
  refine mputF_cap C hin G (Nat.le_of_ble_eq_true rfl) d_M_init_87 (fun H locs G => ?_)
  have G : wG D A s [(h0, .inr (1, [.int vB, .int vC, .int 0, .int 0, .int 0, .ref q_keys, .ref q_values, .ref q_homes, .int 0, .int 0, .ref q_counts])), (q_keys, .inl (cA, 2401, .inl (fun _ => 0))), (q_values, .inl (cA, 2401, .inl (fun _ => 0))), (q_homes, .inl (cA, 2401, .inl (fun _ => 0))), (q_counts, .inl (cA, 200, .inl (fun _ => 0)))] H _ := G
  refine mi_seg3 hx hb hl ?_
  refine lv_topi (fun vM evM => ?_)
  refine mputF_most C hin G (Nat.le_of_ble_eq_true rfl) d_M_init_116 (fun H locs G => ?_)
  have G : wG D A s [(h0, .inr (1, [.int vB, .int vC, .int vM, .int 0, .int 0, .ref q_keys, .ref q_values, .ref q_homes, .int 0, .int 0, .ref q_counts])), (q_keys, .inl (cA, 2401, .inl (fun _ => 0))), (q_values, .inl (cA, 2401, .inl (fun _ => 0))), (q_homes, .inl (cA, 2401, .inl (fun _ => 0))), (q_counts, .inl (cA, 200, .inl (fun _ => 0)))] H _ := G
  refine mi_seg4 C G rfl hl ?_
  refine lv_topi (fun vT evT => ?_)
  refine mputF_mostBuckets C hin G (Nat.le_of_ble_eq_true rfl) d_M_init_152 (fun H locs G => ?_)
  have G : wG D A s [(h0, .inr (1, [.int vB, .int vC, .int vM, .int vT, .int 0, .ref q_keys, .ref q_values, .ref q_homes, .int 0, .int 0, .ref q_counts])), (q_keys, .inl (cA, 2401, .inl (fun _ => 0))), (q_values, .inl (cA, 2401, .inl (fun _ => 0))), (q_homes, .inl (cA, 2401, .inl (fun _ => 0))), (q_counts, .inl (cA, 200, .inl (fun _ => 0)))] H _ := G
  have G : wG D A s (wM cA (ad5 h0 q_keys q_values q_homes q_counts) (vB, vC, vM, vT) u0M) H locs := G
  have hkm : (vB, vC, vM, vT) = k0M x1 x2 x3 x4 := by rw [evB, evC, evM, evT, evB]; rfl
  rw [hkm] at G
  exact W.vret hx hb hr (fun t ht hW => ⟨⟨(ad5 h0 q_keys q_values q_homes q_counts, u0M), rfl, ⟨rfl, rfl⟩, by rw [ht]; exact G.1, va_K.moved hW.alike C.2.2.2.2.2.1, G.2.1⟩, G.2.2.F ht⟩) G.2.2.2.2 d_M_init_155 C.2.2.2.2.2.2.2
end
section
/-! plain numbers: pages, homes, sums (hand-written; no machine in sight) -/
theorem jr_nI {a d : Nat} (ha : a < 2 ^ 31) (h0 : 0 < d) (hd : d < 2 ^ 31) : jrem (nI a) (nI d) = nI (a % d) := pk_rem ha h0 hd
theorem js_cnt : ∀ n, n < 32 → ((nI n &&& 31).toBitVec.smod 32).toNat = n := by decide +kernel
theorem js_nI {b L : Nat} (hL : L < 32) (h : b * 2 ^ L < 2 ^ 32) : jshl (nI b) (nI L) = nI (b * 2 ^ L) := pk_shlN (nI L &&& 31) L (js_cnt L hL) h
/-- the hash of a key: its lower 31 bits -/
def hs_ (key : Int32) : Nat := key.toBitVec.toNat % 2 ^ 31
theorem hs_lt (key : Int32) : hs_ key < 2 ^ 31 := Nat.mod_lt _ (by decide)
theorem hs_eq (key : Int32) : key &&& 2147483647 = nI (hs_ key) := pk_and key 31 (by decide)
/-- buckets at the beginning of a level -/
def rd_ (b L : Nat) : Nat := b * 2 ^ L
theorem rd_0 (b : Nat) : rd_ b 0 = b := by simp [rd_]
theorem rd_s (b L : Nat) : rd_ b (L + 1) = 2 * rd_ b L := by
  unfold rd_
  rw [Nat.pow_succ, ← Nat.mul_assoc, Nat.mul_comm]
theorem rd_pos {b : Nat} (L : Nat) (h : 1 ≤ b) : 1 ≤ rd_ b L := Nat.mul_pos h (Nat.two_pow_pos L)
theorem rd_base {b : Nat} (L : Nat) : b ≤ rd_ b L := Nat.le_mul_of_pos_right b (Nat.two_pow_pos L)
theorem rd_lev {b L : Nat} (h : 1 ≤ b) (h2 : rd_ b L ≤ 200) : L < 8 := by
  rcases Nat.lt_or_ge L 8 with z | z
  · exact z
  · have h1 : 2 ^ 8 ≤ 2 ^ L := Nat.pow_le_pow_right (by decide) z
    have h3 : 2 ^ L ≤ rd_ b L := Nat.le_mul_of_pos_left _ h
    have h4 : (2 : Nat) ^ 8 = 256 := by decide
    omega
/-- the bucket of a key: with the pointer at p -/
def hm_ (b L p : Nat) (key : Int32) : Nat := if hs_ key % rd_ b L < p then hs_ key % rd_ b (L + 1) else hs_ key % rd_ b L
/-- the remainder by the double: the same, or one round more -/
theorem md_two (h : Nat) {R : Nat} (hR : 1 ≤ R) : h % (2 * R) = h % R ∨ h % (2 * R) = R + h % R := by
  have h1 : h % (2 * R) % R = h % R := Nat.mod_mul_left_mod h 2 R
  have h2 : h % (2 * R) < 2 * R := Nat.mod_lt _ (by omega)
  rcases Nat.lt_or_ge (h % (2 * R)) R with z | z
  · left
    rw [Nat.mod_eq_of_lt z] at h1
    exact h1
  · right
    have h3 : h % (2 * R) = (h % (2 * R) - R) + R := by omega
    rw [h3, Nat.add_mod_right, Nat.mod_eq_of_lt (by omega)] at h1
    omega
theorem hm_lt {b L p : Nat} (hb : 1 ≤ b) (hp : p ≤ rd_ b L) (key : Int32) : hm_ b L p key < rd_ b L + p := by
  have hR := rd_pos L hb
  have h1 : hs_ key % rd_ b L < rd_ b L := Nat.mod_lt _ hR
  unfold hm_
  split
  · rw [rd_s]
    rcases md_two (hs_ key) hR with z | z <;> omega
  · omega
theorem hm_ne {b L p : Nat} (hb : 1 ≤ b) (hp : p < rd_ b L) {key : Int32} (h : hm_ b L p key ≠ p) : hm_ b L (p + 1) key = hm_ b L p key := by
  have hR := rd_pos L hb
  have hn : hs_ key % rd_ b L ≠ p := by
    intro e
    apply h
    unfold hm_
    rw [if_neg (by omega), e]
  unfold hm_
  by_cases z : hs_ key % rd_ b L < p
  · rw [if_pos z, if_pos (by omega)]
  · rw [if_neg z, if_neg (by omega)]
theorem hm_eq {b L p : Nat} (hb : 1 ≤ b) (hp : p < rd_ b L) (key : Int32) : hm_ b L p key = p ↔ (hm_ b L (p + 1) key = p ∨ hm_ b L (p + 1) key = rd_ b L + p) := by
  have hR := rd_pos L hb
  have h1 : hs_ key % rd_ b L < rd_ b L := Nat.mod_lt _ hR
  have h2 := md_two (hs_ key) hR
  unfold hm_
  rw [rd_s]
  by_cases z : hs_ key % rd_ b L < p
  · rw [if_pos z, if_pos (by omega)]
    omega
  · rw [if_neg z]
    by_cases y : hs_ key % rd_ b L < p + 1
    · rw [if_pos y]
      omega
    · rw [if_neg y]
      omega
/-- the pointer goes on by one -/
def fw_ (b L p : Nat) : Nat × Nat := if p + 1 = rd_ b L then (L + 1, 0) else (L, p + 1)
theorem fw_nb (b L p : Nat) : rd_ b (fw_ b L p).1 + (fw_ b L p).2 = rd_ b L + p + 1 := by
  unfold fw_
  split
  · rename_i h
    show rd_ b (L + 1) + 0 = _
    rw [rd_s]
    omega
  · show rd_ b L + (p + 1) = _
    omega
theorem fw_hm {b L p : Nat} (hb : 1 ≤ b) (key : Int32) : hm_ b (fw_ b L p).1 (fw_ b L p).2 key = hm_ b L (p + 1) key := by
  have hR := rd_pos L hb
  have h1 : hs_ key % rd_ b L < rd_ b L := Nat.mod_lt _ hR
  unfold fw_
  split
  · rename_i h
    show hm_ b (L + 1) 0 key = _
    unfold hm_
    rw [if_neg (by omega), if_pos (by omega)]
  · rfl
theorem fw_lt {b L p : Nat} (hb : 1 ≤ b) (hp : p < rd_ b L) : (fw_ b L p).2 < rd_ b (fw_ b L p).1 := by
  unfold fw_
  split
  · exact rd_pos _ hb
  · show p + 1 < rd_ b L
    omega
/-- and back -/
def bw_ (b L p : Nat) : Nat × Nat := if p = 0 then (L - 1, rd_ b (L - 1) - 1) else (L, p - 1)
theorem bw_fw {b L p : Nat} (hb : 1 ≤ b) (hp : p < rd_ b L) (h : b < rd_ b L + p) : fw_ b (bw_ b L p).1 (bw_ b L p).2 = (L, p) := by
  unfold bw_
  split
  · rename_i z
    subst z
    have hL : L ≠ 0 := by
      intro e
      rw [e, rd_0] at h
      omega
    obtain ⟨l, rfl⟩ : ∃ l, L = l + 1 := ⟨L - 1, by omega⟩
    have hR := rd_pos l hb
    show fw_ b (l + 1 - 1) (rd_ b (l + 1 - 1) - 1) = _
    rw [show l + 1 - 1 = l by omega]
    unfold fw_
    rw [if_pos (by omega)]
  · show fw_ b L (p - 1) = _
    unfold fw_
    rw [if_neg (by omega), show p - 1 + 1 = p by omega]
theorem fw_bw {b L p : Nat} (hb : 1 ≤ b) : bw_ b (fw_ b L p).1 (fw_ b L p).2 = (L, p) := by
  unfold fw_
  split
  · rename_i h
    show bw_ b (L + 1) 0 = _
    unfold bw_
    rw [if_pos rfl, show L + 1 - 1 = L by omega, ← h, show p + 1 - 1 = p by omega]
  · show bw_ b L (p + 1) = _
    unfold bw_
    rw [if_neg (by omega), show p + 1 - 1 = p by omega]
theorem bw_lt {b L p : Nat} (hb : 1 ≤ b) (hp : p < rd_ b L) : (bw_ b L p).2 < rd_ b (bw_ b L p).1 := by
  unfold bw_
  split
  · have := rd_pos (L - 1) hb
    show rd_ b (L - 1) - 1 < rd_ b (L - 1)
    omega
  · show p - 1 < rd_ b L
    omega
/-- pages of a bucket of n keys -/
def pgs (c n : Nat) : Nat := (n - 1) / c + 1
theorem pgs_pos (c n : Nat) : 1 ≤ pgs c n := Nat.succ_le_succ (Nat.zero_le _)
theorem pgs_mono {c a b : Nat} (h : a ≤ b) : pgs c a ≤ pgs c b := Nat.succ_le_succ (Nat.div_le_div_right (by omega))
theorem pgs_cap {c : Nat} (hc : 1 ≤ c) (n : Nat) : n ≤ c * pgs c n := by
  have := Nat.lt_mul_div_succ (n - 1) hc
  unfold pgs
  omega
theorem pgs_of {c n q : Nat} (hc : 1 ≤ c) (h : n ≤ c * q) (hq : 1 ≤ q) : pgs c n ≤ q := by
  unfold pgs
  have hp : 0 < c * q := Nat.mul_pos hc hq
  have := Nat.div_lt_of_lt_mul (show n - 1 < c * q by omega)
  omega
theorem pgs_add {c : Nat} (hc : 1 ≤ c) (a b : Nat) : pgs c (a + b) ≤ pgs c a + pgs c b := by
  have h1 := pgs_cap hc a
  have h2 := pgs_cap hc b
  have h3 := pgs_pos c a
  refine pgs_of hc ?_ (by omega)
  rw [Nat.mul_add]
  omega
theorem dv_of {c q r : Nat} (hr : r < c) : (c * q + r) / c = q := by
  rw [Nat.mul_add_div (by omega), Nat.div_eq_of_lt hr, Nat.add_zero]
theorem pgs_s {c : Nat} (hc : 1 ≤ c) (n : Nat) : pgs c (n + 1) = n / c + 1 := by
  unfold pgs
  rw [Nat.add_sub_cancel]
theorem pgs_full {c n : Nat} (hc : 1 ≤ c) (h0 : 0 < n) (h : n % c = 0) : pgs c (n + 1) = pgs c n + 1 := by
  rw [pgs_s hc]
  unfold pgs
  have h1 := Nat.div_add_mod n c
  have h2 : 1 ≤ n / c := by
    rcases Nat.eq_zero_or_pos (n / c) with z | z
    · rw [z, h] at h1
      omega
    · exact z
  obtain ⟨q, hq⟩ : ∃ q, n / c = q + 1 := ⟨n / c - 1, by omega⟩
  have h3 : n - 1 = c * q + (c - 1) := by
    rw [hq, Nat.mul_add] at h1
    omega
  rw [h3, dv_of (by omega), hq]
theorem pgs_more {c n : Nat} (hc : 1 ≤ c) (h : n = 0 ∨ n % c ≠ 0) : pgs c (n + 1) = pgs c n := by
  rw [pgs_s hc]
  unfold pgs
  rcases h with z | z
  · subst z
    rfl
  · have h1 := Nat.div_add_mod n c
    have h2 := Nat.mod_lt n hc
    have h3 : n - 1 = c * (n / c) + (n % c - 1) := by omega
    rw [h3, dv_of (by omega)]
theorem pgs_in {c i n : Nat} (hi : i < n) : i / c < pgs c n := by
  have : i / c ≤ (n - 1) / c := Nat.div_le_div_right (by omega)
  unfold pgs
  omega
/-- the pages by the code's own count -/
theorem pgs_code {c n : Nat} (hc : 1 ≤ c) (h : n ≠ 0) : (n + c - 1) / c = pgs c n := by
  unfold pgs
  rw [show n + c - 1 = (n - 1) + c by omega, Nat.add_div_right _ hc]
/-- sums over numbers below n -/
def sumN (f : Nat → Nat) : Nat → Nat
  | 0 => 0
  | n + 1 => sumN f n + f n
theorem sumN_c {f g : Nat → Nat} {n : Nat} (h : ∀ i, i < n → f i = g i) : sumN f n = sumN g n := by
  induction n with
  | zero => rfl
  | succ n ih =>
    unfold sumN
    rw [ih (fun i hi => h i (by omega)), h n (by omega)]
theorem sumN_u {f g : Nat → Nat} {n j : Nat} (hj : j < n) (h : ∀ i, i < n → i ≠ j → g i = f i) : sumN g n + f j = sumN f n + g j := by
  induction n with
  | zero => omega
  | succ n ih =>
    unfold sumN
    by_cases e : j = n
    · subst e
      rw [sumN_c (f := g) (g := f) (fun i hi => h i (by omega) (by omega))]
      omega
    · have := ih (by omega) (fun i hi => h i (by omega))
      rw [h n (by omega) (by omega)]
      omega
theorem sumN_1 {f : Nat → Nat} {n j : Nat} (hj : j < n) : f j ≤ sumN f n := by
  induction n with
  | zero => omega
  | succ n ih =>
    unfold sumN
    by_cases e : j = n
    · subst e
      omega
    · have := ih (by omega)
      omega
theorem sumN_2 {f : Nat → Nat} {n i j : Nat} (hi : i < n) (hj : j < n) (h : i ≠ j) : f i + f j ≤ sumN f n := by
  have h1 := sumN_u (f := f) (g := va_up f i 0) hi (fun k _ hk => by simp [va_up, hk])
  have h2 := sumN_1 (f := va_up f i 0) hj
  have h3 : va_up f i 0 j = f j := by simp [va_up, Ne.symm h]
  have h4 : va_up f i 0 i = 0 := by simp [va_up]
  omega
/-- a sum over the live ones below 200 is a sum over those below nb -/
theorem sumN_lv {f : Nat → Nat} {nb : Nat} : ∀ {n : Nat}, nb ≤ n → sumN (fun i => if decide (i < nb) = true then f i else 0) n = sumN f nb := by
  intro n
  induction n with
  | zero =>
    intro h
    have : nb = 0 := by omega
    subst this
    rfl
  | succ n ih =>
    intro h
    by_cases e : nb = n + 1
    · subst e
      exact sumN_c (fun i hi => by simp [hi])
    · show sumN (fun i => if decide (i < nb) = true then f i else 0) n + (if decide (n < nb) = true then f n else 0) = _
      rw [ih (by omega)]
      have : ¬ n < nb := by omega
      simp [this]
end
section
/-! chains of pages (hand-written) -/
theorem gd_l {α : Type} {l l' : List α} {i : Nat} {d : α} (h : i < l.length) : (l ++ l').getD i d = l.getD i d := by
  simp only [List.getD_eq_getElem?_getD]
  rw [List.getElem?_append_left h]
theorem gd_r {α : Type} {l l' : List α} {i : Nat} {d : α} (h : l.length ≤ i) : (l ++ l').getD i d = l'.getD (i - l.length) d := by
  simp only [List.getD_eq_getElem?_getD]
  rw [List.getElem?_append_right h]
theorem gd_mem {α : Type} {l : List α} {i : Nat} {d : α} (h : i < l.length) : l.getD i d ∈ l := by
  rw [List.getD_eq_getElem?_getD, List.getElem?_eq_getElem h]
  exact List.getElem_mem h
theorem gd_inj {l : List Nat} (hn : l.Nodup) {i j d : Nat} (hi : i < l.length) (hj : j < l.length) (h : l.getD i d = l.getD j d) : i = j := by
  rw [List.getD_eq_getElem?_getD, List.getD_eq_getElem?_getD, List.getElem?_eq_getElem hi, List.getElem?_eq_getElem hj] at h
  have h2 := List.pairwise_iff_getElem.mp hn
  rcases Nat.lt_trichotomy i j with z | z | z
  · exact absurd h (h2 i j hi hj z)
  · exact z
  · exact absurd h.symm (h2 j i hj hi z)
theorem gd_set {α : Type} {l : List α} {i j : Nat} {d x : α} (h : j < l.length) : (l.set i x).getD j d = if i = j then x else l.getD j d := by
  rw [List.getD_eq_getElem?_getD, List.getD_eq_getElem?_getD, List.getElem?_set]
  by_cases e : i = j
  · subst e
    simp [h]
  · simp [e]
def pv (l : List Nat) (i : Nat) : Int32 := if i < l.length then nI (l.getD i 0) else -1
/-- from st along nx: the pages l, then the end -/
def chn (nx : ArrF) (st : Int32) (l : List Nat) : Prop := st = pv l 0 ∧ ∀ i, i < l.length → nx (l.getD i 0) = pv l (i + 1)
theorem pv_c0 (q : Nat) (l : List Nat) : pv (q :: l) 0 = nI q := by simp [pv]
theorem pv_cs (q : Nat) (l : List Nat) (i : Nat) : pv (q :: l) (i + 1) = pv l i := by simp [pv]
theorem chn_c {nx : ArrF} {st : Int32} {q : Nat} {l : List Nat} : chn nx st (q :: l) ↔ st = nI q ∧ chn nx (nx q) l := by
  constructor
  · intro h
    refine ⟨h.1.trans (pv_c0 q l), ?_, fun i hi => ?_⟩
    · have := h.2 0 (by simp)
      rw [pv_cs] at this
      exact this
    · have := h.2 (i + 1) (by simpa using hi)
      rw [pv_cs, List.getD_cons_succ] at this
      exact this
  · intro h
    refine ⟨h.1.trans (pv_c0 q l).symm, fun i hi => ?_⟩
    cases i with
    | zero =>
      rw [pv_cs]
      exact h.2.1
    | succ i =>
      rw [pv_cs, List.getD_cons_succ]
      exact h.2.2 i (by simpa using hi)
theorem chn_n (nx : ArrF) : chn nx (-1) [] := ⟨rfl, fun i h => absurd h (by simp)⟩
theorem up_s {f : Nat → Int32} {k : Nat} {x : Int32} : upd f k x k = x := pk_us
theorem up_n {f : Nat → Int32} {k j : Nat} {x : Int32} (h : j ≠ k) : upd f k x j = f j := pk_un h
theorem up_c {f : Nat → Int32} {a b : Nat} {x y : Int32} (h : a ≠ b) : upd (upd f a x) b y = upd (upd f b y) a x := by
  funext j
  unfold upd
  by_cases e1 : j = a <;> by_cases e2 : j = b <;> simp [e1, e2, h, Ne.symm h]
theorem up_id {f : Nat → Int32} {k : Nat} : upd f k (f k) = f := by
  funext j
  unfold upd
  by_cases e : j = k
  · simp [e]
  · simp [e]
theorem chn_u {nx : ArrF} {q : Nat} {v : Int32} : ∀ {l : List Nat} {st : Int32}, q ∉ l → chn nx st l → chn (upd nx q v) st l := by
  intro l
  induction l with
  | nil => intro st _ h; exact ⟨h.1, fun i hi => absurd hi (by simp)⟩
  | cons a l ih =>
    intro st hq h
    rw [chn_c] at h ⊢
    refine ⟨h.1, ?_⟩
    rw [up_n (fun e => hq (by rw [e]; exact List.mem_cons_self))]
    exact ih (fun z => hq (List.mem_cons_of_mem _ z)) h.2
/-- a page more at the end -/
theorem chn_snoc {nx : ArrF} {q r : Nat} (hq : nx q = -1) : ∀ {l : List Nat} {st : Int32}, (l ++ [r]).Nodup → q ∉ l ++ [r] → chn nx st (l ++ [r]) → chn (upd nx r (nI q)) st (l ++ [r] ++ [q]) := by
  intro l
  induction l with
  | nil =>
    intro st _ hn h
    have hqr : q ≠ r := fun e => hn (by rw [e]; simp)
    have h1 : chn nx st [r] := h
    rw [chn_c] at h1
    show chn (upd nx r (nI q)) st [r, q]
    rw [chn_c, chn_c, up_s, up_n hqr, hq]
    exact ⟨h1.1, rfl, chn_n _⟩
  | cons a l ih =>
    intro st hd hn h
    have h1 : chn nx st (a :: (l ++ [r])) := h
    rw [chn_c] at h1
    show chn (upd nx r (nI q)) st (a :: (l ++ [r] ++ [q]))
    have hd1 : (a :: (l ++ [r])).Nodup := hd
    rw [List.nodup_cons] at hd1
    rw [chn_c, up_n (fun e => hd1.1 (by rw [e]; simp))]
    exact ⟨h1.1, ih hd1.2 (fun z => hn (List.mem_cons_of_mem _ z)) h1.2⟩
/-- the last page goes -/
theorem chn_drop {nx : ArrF} {q r : Nat} : ∀ {l : List Nat} {st : Int32}, (l ++ [r] ++ [q]).Nodup → chn nx st (l ++ [r] ++ [q]) → chn (upd nx r (-1)) st (l ++ [r]) := by
  intro l
  induction l with
  | nil =>
    intro st hd h
    have h1 : chn nx st [r, q] := h
    rw [chn_c] at h1
    show chn (upd nx r (-1)) st [r]
    rw [chn_c, up_s]
    exact ⟨h1.1, chn_n _⟩
  | cons a l ih =>
    intro st hd h
    have h1 : chn nx st (a :: (l ++ [r] ++ [q])) := h
    rw [chn_c] at h1
    show chn (upd nx r (-1)) st (a :: (l ++ [r]))
    have hd1 : (a :: (l ++ [r] ++ [q])).Nodup := hd
    rw [List.nodup_cons] at hd1
    rw [chn_c, up_n (fun e => hd1.1 (by rw [e]; simp))]
    exact ⟨h1.1, ih hd1.2 h1.2⟩
theorem vu_s {α : Type} {f : Nat → α} {k : Nat} {v : α} : va_up f k v k = v := by simp [va_up]
theorem vu_n {α : Type} {f : Nat → α} {k j : Nat} {v : α} (h : j ≠ k) : va_up f k v j = f j := by simp [va_up, h]
/-- the pages: the free ones chained, each bucket's chained, all apart -/
def PG (m : Nat) (nx fi : ArrF) (fp : Int32) (fl : List Nat) (pg : Nat → List Nat) : Prop :=
  chn nx fp fl ∧ (∀ b, pg b ≠ [] → chn nx (fi b) (pg b)) ∧ fl.Nodup ∧ (∀ b, (pg b).Nodup) ∧ (∀ b q, q ∈ pg b → q ∉ fl) ∧ (∀ b b' q, q ∈ pg b → q ∈ pg b' → b = b') ∧ (∀ q, q ∈ fl → q < m) ∧ ∀ b q, q ∈ pg b → q < m
def loose (m q : Nat) (fl : List Nat) (pg : Nat → List Nat) : Prop := q < m ∧ q ∉ fl ∧ ∀ b, q ∉ pg b
section PGS
variable {m : Nat} {nx fi : ArrF} {fp : Int32} {fl : List Nat} {pg : Nat → List Nat}
theorem PG_u {q : Nat} {v : Int32} (h : PG m nx fi fp fl pg) (hq : loose m q fl pg) : PG m (upd nx q v) fi fp fl pg :=
  ⟨chn_u hq.2.1 h.1, fun b hb => chn_u (hq.2.2 b) (h.2.1 b hb), h.2.2⟩
theorem PG_pop {q : Nat} (h : PG m nx fi fp (q :: fl) pg) : PG m nx fi (nx q) fl pg ∧ loose m q fl pg := by
  obtain ⟨h1, h2, h3, h4, h5, h6, h7, h8⟩ := h
  rw [chn_c] at h1
  rw [List.nodup_cons] at h3
  exact ⟨⟨h1.2, h2, h3.2, h4, fun b z hz hf => h5 b z hz (List.mem_cons_of_mem _ hf), h6, fun z hz => h7 z (List.mem_cons_of_mem _ hz), h8⟩, h7 q List.mem_cons_self, h3.1, fun b hb => h5 b q hb List.mem_cons_self⟩
theorem PG_push {q : Nat} (h : PG m nx fi fp fl pg) (hq : loose m q fl pg) : PG m (upd nx q fp) fi (nI q) (q :: fl) pg := by
  obtain ⟨h1, h2, h3, h4, h5, h6, h7, h8⟩ := PG_u (v := fp) h hq
  refine ⟨?_, h2, List.nodup_cons.mpr ⟨hq.2.1, h3⟩, h4, fun b z hz hf => ?_, h6, fun z hz => ?_, h8⟩
  · rw [chn_c, up_s]
    exact ⟨rfl, h1⟩
  · rcases List.mem_cons.mp hf with e | e
    · exact hq.2.2 b (by rw [← e]; exact hz)
    · exact h5 b z hz e
  · rcases List.mem_cons.mp hz with e | e
    · rw [e]; exact hq.1
    · exact h7 z e
/-- a bucket's list is put in place of another: with the same pages, or with loose ones more -/
theorem PG_set {b : Nat} {l : List Nat} {fi' : ArrF} (h : PG m nx fi fp fl pg) (hfi : ∀ b', b' ≠ b → fi' b' = fi b') (hc : l ≠ [] → chn nx (fi' b) l) (hn : l.Nodup) (hq : ∀ q, q ∈ l → q ∈ pg b ∨ loose m q fl pg) : PG m nx fi' fp fl (va_up pg b l) := by
  obtain ⟨h1, h2, h3, h4, h5, h6, h7, h8⟩ := h
  refine ⟨h1, fun b' hb => ?_, h3, fun b' => ?_, fun b' q hz => ?_, fun b1 b2 q hz1 hz2 => ?_, h7, fun b' q hz => ?_⟩
  · by_cases e : b' = b
    · subst e
      rw [vu_s] at hb ⊢
      exact hc hb
    · rw [vu_n e] at hb ⊢
      rw [hfi b' e]
      exact h2 b' hb
  · by_cases e : b' = b
    · subst e
      rw [vu_s]
      exact hn
    · rw [vu_n e]
      exact h4 b'
  · by_cases e : b' = b
    · subst e
      rw [vu_s] at hz
      rcases hq q hz with z | z
      · exact h5 b' q z
      · exact z.2.1
    · rw [vu_n e] at hz
      exact h5 b' q hz
  · by_cases e1 : b1 = b
    · subst e1
      rw [vu_s] at hz1
      by_cases e2 : b2 = b1
      · exact e2.symm
      · rw [vu_n e2] at hz2
        rcases hq q hz1 with z | z
        · exact h6 b1 b2 q z hz2
        · exact absurd hz2 (z.2.2 b2)
    · rw [vu_n e1] at hz1
      by_cases e2 : b2 = b
      · subst e2
        rw [vu_s] at hz2
        rcases hq q hz2 with z | z
        · exact h6 b1 b2 q hz1 z
        · exact absurd hz1 (z.2.2 b1)
      · rw [vu_n e2] at hz2
        exact h6 b1 b2 q hz1 hz2
  · by_cases e : b' = b
    · subst e
      rw [vu_s] at hz
      rcases hq q hz with z | z
      · exact h8 b' q z
      · exact z.1
    · rw [vu_n e] at hz
      exact h8 b' q hz
theorem PG_open {b q : Nat} (h : PG m nx fi fp fl pg) (hq : loose m q fl pg) (he : nx q = -1) : PG m nx (upd fi b (nI q)) fp fl (va_up pg b [q]) := by
  refine PG_set h (fun b' e => up_n e) (fun _ => ?_) (by simp) (fun z hz => Or.inr ?_)
  · rw [up_s, chn_c, he]
    exact ⟨rfl, chn_n _⟩
  · rw [List.mem_singleton.mp hz]
    exact hq
theorem PG_snoc {b q r : Nat} {l : List Nat} (h : PG m nx fi fp fl pg) (hq : loose m q fl pg) (he : nx q = -1) (hl : pg b = l ++ [r]) : PG m (upd nx r (nI q)) fi fp fl (va_up pg b (l ++ [r] ++ [q])) := by
  obtain ⟨h1, h2, h3, h4, h5, h6, h7, h8⟩ := h
  have hr : r ∈ pg b := by rw [hl]; simp
  have hne : pg b ≠ [] := by rw [hl]; simp
  have hd := h4 b
  have hqb := hq.2.2 b
  rw [hl] at hd hqb
  have h9 := h2 b hne
  rw [hl] at h9
  have k := chn_snoc he hd hqb h9
  have h0 : PG m nx fi fp fl (va_up pg b []) := PG_set ⟨h1, h2, h3, h4, h5, h6, h7, h8⟩ (fun _ _ => rfl) (fun z => absurd rfl z) (by simp) (fun z hz => absurd hz (by simp))
  have hrl : loose m r fl (va_up pg b []) := by
    refine ⟨h8 b r hr, h5 b r hr, fun b' hz => ?_⟩
    by_cases e : b' = b
    · subst e
      rw [vu_s] at hz
      exact absurd hz (by simp)
    · rw [vu_n e] at hz
      exact e (h6 b' b r hz hr)
  have h10 := PG_set (b := b) (l := l ++ [r] ++ [q]) (PG_u (v := nI q) h0 hrl) (fi' := fi) (fun _ _ => rfl) (fun _ => k) (by
      rw [List.nodup_append]
      refine ⟨hd, by simp, fun a ha c hc e => ?_⟩
      rw [List.mem_singleton.mp hc] at e
      exact hqb (by rw [← e]; exact ha)) (fun z hz => Or.inr ?_)
  · have e2 : va_up (va_up pg b []) b (l ++ [r] ++ [q]) = va_up pg b (l ++ [r] ++ [q]) := bx_uu _ _ _ _
    rw [e2] at h10
    exact h10
  · have hm : z ∈ pg b ∨ z = q := by
      rw [hl]
      rcases List.mem_append.mp hz with y | y
      · exact Or.inl y
      · exact Or.inr (List.mem_singleton.mp y)
    have hm1 : z < m ∧ z ∉ fl ∧ ∀ b', b' ≠ b → z ∉ pg b' := by
      rcases hm with y | y
      · exact ⟨h8 b z y, h5 b z y, fun b' e w => e (h6 b' b z w y)⟩
      · rw [y]
        exact ⟨hq.1, hq.2.1, fun b' _ => hq.2.2 b'⟩
    refine ⟨hm1.1, hm1.2.1, fun b' w => ?_⟩
    by_cases e : b' = b
    · subst e
      rw [vu_s] at w
      exact absurd w (by simp)
    · rw [vu_n e] at w
      exact hm1.2.2 b' e w
theorem PG_off {b : Nat} (h : PG m nx fi fp fl pg) : PG m nx fi fp fl (va_up pg b []) ∧ ∀ q, q ∈ pg b → loose m q fl (va_up pg b []) := by
  refine ⟨PG_set h (fun _ _ => rfl) (fun z => absurd rfl z) (by simp) (fun z hz => absurd hz (by simp)), fun q hq => ⟨h.2.2.2.2.2.2.2 b q hq, h.2.2.2.2.1 b q hq, fun b' hz => ?_⟩⟩
  by_cases e : b' = b
  · subst e
    rw [vu_s] at hz
    exact absurd hz (by simp)
  · rw [vu_n e] at hz
    exact e (h.2.2.2.2.2.1 b' b q hz hq)
theorem PG_drop {b q r : Nat} {l : List Nat} (h : PG m nx fi fp fl pg) (hl : pg b = l ++ [r] ++ [q]) : PG m (upd nx r (-1)) fi fp fl (va_up pg b (l ++ [r])) ∧ loose m q fl (va_up pg b (l ++ [r])) := by
  obtain ⟨h0, hlo⟩ := PG_off (b := b) h
  have hne : pg b ≠ [] := by rw [hl]; simp
  have hd := h.2.2.2.1 b
  have h9 := h.2.1 b hne
  rw [hl] at hd h9
  have hr : r ∈ pg b := by rw [hl]; simp
  have hq : q ∈ pg b := by rw [hl]; simp
  have k := chn_drop hd h9
  have hd2 : (l ++ [r]).Nodup ∧ q ∉ l ++ [r] := by
    rw [List.nodup_append] at hd
    exact ⟨hd.1, fun z => hd.2.2 q z q (by simp) rfl⟩
  have h10 := PG_set (b := b) (l := l ++ [r]) (PG_u (v := -1) h0 (hlo r hr)) (fi' := fi) (fun _ _ => rfl) (fun _ => k) hd2.1 (fun z hz => Or.inr (hlo z (by rw [hl]; exact List.mem_append_left _ hz)))
  have e2 : va_up (va_up pg b []) b (l ++ [r]) = va_up pg b (l ++ [r]) := bx_uu _ _ _ _
  rw [e2] at h10
  refine ⟨h10, (hlo q hq).1, (hlo q hq).2.1, fun b' hz => ?_⟩
  by_cases e : b' = b
  · subst e
    rw [vu_s] at hz
    exact hd2.2 hz
  · have := (hlo q hq).2.2 b'
    rw [vu_n e] at this hz
    exact this hz
end PGS
end
section
/-! the class' state against lists of keys and values (hand-written) -/
abbrev KV : Type := Int32 × Int32
def KC (b c m t : Nat) : Prop := 1 ≤ b ∧ b ≤ 8 ∧ 1 ≤ c ∧ c ≤ 8 ∧ 8 ≤ m ∧ m ≤ 300 ∧ b ≤ t ∧ t ≤ 200
abbrev kx_ (b c m t : Nat) : KX := (nI b, nI c, nI m, nI t, m * c, m)
theorem KC_mc {b c m t : Nat} (K : KC b c m t) : m * c ≤ 2400 := by
  obtain ⟨-, -, -, h4, -, h6, -, -⟩ := K
  exact Nat.mul_le_mul h6 h4
/-- where the i-th key of a row of pages lies -/
def plc (c : Nat) (l : List Nat) (i : Nat) : Nat := c * l.getD (i / c) 0 + i % c
theorem plc_lt {c m : Nat} {l : List Nat} {i : Nat} (hc : 1 ≤ c) (hl : ∀ q, q ∈ l → q < m) (hi : i / c < l.length) : plc c l i < m * c := by
  have h1 := hl _ (gd_mem (d := 0) hi)
  have h2 := Nat.mod_lt i hc
  have h3 : c * (l.getD (i / c) 0 + 1) ≤ c * m := Nat.mul_le_mul_left c h1
  rw [Nat.mul_add] at h3
  rw [Nat.mul_comm m c]
  unfold plc
  omega
theorem plc_eq {c : Nat} {l l' : List Nat} {i i' : Nat} (hc : 1 ≤ c) (h : plc c l i = plc c l' i') : l.getD (i / c) 0 = l'.getD (i' / c) 0 ∧ i % c = i' % c := by
  unfold plc at h
  have h1 := dv_of (q := l.getD (i / c) 0) (Nat.mod_lt i hc)
  have h2 := dv_of (q := l'.getD (i' / c) 0) (Nat.mod_lt i' hc)
  rw [h, h2] at h1
  refine ⟨h1.symm, ?_⟩
  rw [h1] at h
  omega
theorem dm_eq {c i j : Nat} (h1 : i / c = j / c) (h2 : i % c = j % c) : i = j := by
  rw [← Nat.div_add_mod i c, ← Nat.div_add_mod j c, h1, h2]
theorem plc_ne {c m : Nat} {nx fi : ArrF} {fp : Int32} {fl : List Nat} {pg : Nat → List Nat} (hc : 1 ≤ c) (hP : PG m nx fi fp fl pg) {b b' i i' : Nat} (hi : i / c < (pg b).length) (hi' : i' / c < (pg b').length) (h : plc c (pg b) i = plc c (pg b') i') : b = b' ∧ i = i' := by
  obtain ⟨h1, h2⟩ := plc_eq hc h
  have e := hP.2.2.2.2.2.1 b b' _ (gd_mem (d := 0) hi) (by rw [h1]; exact gd_mem hi')
  subst e
  exact ⟨rfl, dm_eq (gd_inj (hP.2.2.2.1 b) hi hi' h1) h2⟩
/-- what a bucket's cells hold -/
def RB1 (c : Nat) (u : StX) (pg : Nat → List Nat) (lv : Nat → Bool) (bk : Nat → List KV) (b : Nat) : Prop :=
  (lv b = true → b < 200 ∧ (∃ l r, pg b = l ++ [r] ∧ xLast u b = nI r) ∧ (pg b).length = pgs c (bk b).length ∧ xCounts u b = nI (bk b).length ∧ ∀ i, i < (bk b).length → xKeys u (plc c (pg b) i) = ((bk b).getD i (0, 0)).1 ∧ xValues u (plc c (pg b) i) = ((bk b).getD i (0, 0)).2) ∧ (lv b = false → pg b = [])
/-- what was put aside -/
def RT (c m : Nat) (u : StX) (tk : List KV) : Prop := xTaken u = nI tk.length ∧ tk.length ≤ m * c ∧ ∀ i, i < tk.length → xTakenKeys u i = (tk.getD i (0, 0)).1 ∧ xTakenValues u i = (tk.getD i (0, 0)).2
def RS (u : StX) (L p sz fr : Nat) : Prop := xLevel u = nI L ∧ xPointer u = nI p ∧ xSize u = nI sz ∧ xFree u = nI fr
/-- pages of all live buckets -/
def SU (c : Nat) (lv : Nat → Bool) (bk : Nat → List KV) : Nat := sumN (fun b => if lv b = true then pgs c (bk b).length else 0) 200
def RX (c m : Nat) (u : StX) (L p sz : Nat) (tk : List KV) (fr : Nat) (lv : Nat → Bool) (bk : Nat → List KV) : Prop :=
  ∃ (fl : List Nat) (pg : Nat → List Nat), PG m (xNext u) (xFirst u) (xFreePage u) fl pg ∧ (∀ b, RB1 c u pg lv bk b) ∧ fl.length = fr ∧ RS u L p sz fr ∧ RT c m u tk ∧ fr + SU c lv bk = m
theorem SU_up (c : Nat) {lv : Nat → Bool} {bk : Nat → List KV} {x : Nat} (hx : x < 200) (a : Bool) (l : List KV) : SU c (va_up lv x a) (va_up bk x l) + (if lv x = true then pgs c (bk x).length else 0) = SU c lv bk + (if a = true then pgs c l.length else 0) := by
  unfold SU
  have := sumN_u (f := fun b => if lv b = true then pgs c (bk b).length else 0) (g := fun b => if va_up lv x a b = true then pgs c (va_up bk x l b).length else 0) hx (fun i _ hi => by simp only [vu_n hi])
  simp only [vu_s] at this
  exact this
theorem SU_1 (c : Nat) {lv : Nat → Bool} {bk : Nat → List KV} {x : Nat} (hx : x < 200) (h : lv x = true) : pgs c (bk x).length ≤ SU c lv bk := by
  have := sumN_1 (f := fun b => if lv b = true then pgs c (bk b).length else 0) hx
  simp only [h] at this
  exact this
theorem SU_2 (c : Nat) {lv : Nat → Bool} {bk : Nat → List KV} {x y : Nat} (hx : x < 200) (hy : y < 200) (hxy : x ≠ y) (h : lv x = true) (h' : lv y = true) : pgs c (bk x).length + pgs c (bk y).length ≤ SU c lv bk := by
  have := sumN_2 (f := fun b => if lv b = true then pgs c (bk b).length else 0) hx hy hxy
  simp only [h, h'] at this
  exact this
theorem vu_self {α : Type} {f : Nat → α} {k : Nat} : va_up f k (f k) = f := by
  funext j
  by_cases e : j = k
  · rw [e, vu_s]
  · rw [vu_n e]
theorem vu_eq {α : Type} {f : Nat → α} {k : Nat} {v : α} (h : f k = v) : va_up f k v = f := by
  rw [← h]
  exact vu_self
theorem nI_p1 (n : Nat) : nI (n + 1) - 1 = nI n := nI_pred n
section RXS
variable {b c m t : Nat} {u : StX} {L p sz : Nat} {tk : List KV} {fr : Nat} {lv : Nat → Bool} {bk : Nat → List KV}
theorem RX_len (hc : 1 ≤ c) (R : RX c m u L p sz tk fr lv bk) {x : Nat} (hx : lv x = true) : x < 200 ∧ (bk x).length ≤ m * c := by
  obtain ⟨fl, pg, hP, hB, hf, hS, hT, hs⟩ := R
  have h1 := ((hB x).1 hx).1
  have h2 := SU_1 c (bk := bk) h1 hx
  have h3 := pgs_cap hc (bk x).length
  have h4 : c * pgs c (bk x).length ≤ c * m := Nat.mul_le_mul_left c (by omega)
  rw [Nat.mul_comm m c]
  exact ⟨h1, by omega⟩
theorem RX_fr (R : RX c m u L p sz tk fr lv bk) : fr + SU c lv bk = m := by
  obtain ⟨fl, pg, hP, hB, hf, hS, hT, hs⟩ := R
  exact hs
theorem RX_S (R : RX c m u L p sz tk fr lv bk) : RS u L p sz fr := by
  obtain ⟨fl, pg, hP, hB, hf, hS, hT, hs⟩ := R
  exact hS
theorem RX_T (R : RX c m u L p sz tk fr lv bk) : RT c m u tk := by
  obtain ⟨fl, pg, hP, hB, hf, hS, hT, hs⟩ := R
  exact hT
theorem RX_cnt (R : RX c m u L p sz tk fr lv bk) {x : Nat} (hx : lv x = true) : xCounts u x = nI (bk x).length := by
  obtain ⟨fl, pg, hP, hB, hf, hS, hT, hs⟩ := R
  exact ((hB x).1 hx).2.2.2.1
/-- the plain numbers are set -/
theorem RX_set {v : StX} {L' p' sz' : Nat} {tk' : List KV} (R : RX c m u L p sz tk fr lv bk) (h1 : xNext v = xNext u) (h2 : xFirst v = xFirst u) (h3 : xFreePage v = xFreePage u) (h4 : xLast v = xLast u) (h5 : xCounts v = xCounts u) (h6 : xKeys v = xKeys u) (h7 : xValues v = xValues u) (hS : RS v L' p' sz' fr) (hT : RT c m v tk') : RX c m v L' p' sz' tk' fr lv bk := by
  obtain ⟨fl, pg, hP, hB, hf, -, -, hs⟩ := R
  refine ⟨fl, pg, ?_, fun b => ?_, hf, hS, hT, hs⟩
  · rw [h1, h2, h3]
    exact hP
  · unfold RB1
    rw [h4, h5, h6, h7]
    exact hB b
theorem sX_takePage {k : KX} {Q : Int32 → StX → Prop} {q : Nat} (hf : xFreePage u = nI q) (hq : q < xN2 k) (h : Q (nI q) (xSetNext (upd (xNext u) q (-1)) (xSetFree (xFree u - 1) (xSetFreePage (xNext u q) u)))) : wp_X_takePage k u Q := by
  unfold wp_X_takePage
  exact nm_r hf ⟨q, rfl, hq, h⟩
theorem sX_givePage {k : KX} {Q : StX → Prop} {q : Nat} (hq : q < xN2 k) (h : Q (xSetNext (upd (xNext u) q (xFreePage u)) (xSetFree (xFree u + 1) (xSetFreePage (nI q) u)))) : wp_X_givePage k (nI q) u Q := ⟨q, rfl, hq, h⟩
/-- a free page is there -/
theorem fl_some {fl : List Nat} {n : Nat} (h : fl.length = n + 1) : ∃ q l, fl = q :: l ∧ l.length = n := by
  cases fl with
  | nil => simp at h
  | cons q l => exact ⟨q, l, rfl, by simpa using h⟩
theorem sX_open {Q : StX → Prop} (K : KC b c m t) (R : RX c m u L p sz tk (fr + 1) lv bk) {x : Nat} (hx : x < 200) (hlv : lv x = false) (h : ∀ u', RX c m u' L p sz tk fr (va_up lv x true) (va_up bk x []) → Q u') : wp_X_open (kx_ b c m t) (nI x) u Q := by
  obtain ⟨fl, pg, hP, hB, hf, hS, hT, hs⟩ := R
  obtain ⟨q, fl, rfl, hf1⟩ := fl_some hf
  obtain ⟨hP1, hlo⟩ := PG_pop hP
  have hfp : xFreePage u = nI q := hP.1.1.trans (pv_c0 q fl)
  refine sX_takePage hfp hlo.1 ⟨x, rfl, hx, h _ ⟨fl, va_up pg x [q], ?_, fun y => ?_, hf1, ?_, hT, ?_⟩⟩
  · exact PG_open (fi := xFirst u) (PG_u (v := -1) hP1 hlo) hlo up_s
  · by_cases e : y = x
    · subst e
      refine ⟨fun _ => ⟨hx, ⟨[], q, vu_s, ?_⟩, ?_, ?_, fun i hi => ?_⟩, fun z => ?_⟩
      · show upd (xLast u) y (upd (xFirst u) y (nI q) y) y = nI q
        rw [up_s, up_s]
      · rw [vu_s, vu_s]
        simp [pgs]
      · show upd (xCounts u) y 0 y = _
        rw [up_s, vu_s]
        rfl
      · rw [vu_s] at hi
        exact absurd hi (by simp)
      · rw [vu_s] at z
        exact absurd z (by simp)
    · have := hB y
      unfold RB1 at this ⊢
      rw [vu_n e, vu_n e, vu_n e]
      refine ⟨fun z => ?_, this.2⟩
      obtain ⟨a1, a2, a3, a4, a5⟩ := this.1 z
      refine ⟨a1, ?_, a3, ?_, a5⟩
      · obtain ⟨l, r, e1, e2⟩ := a2
        refine ⟨l, r, e1, ?_⟩
        show upd (xLast u) x _ y = nI r
        rw [up_n e]
        exact e2
      · show upd (xCounts u) x 0 y = _
        rw [up_n e]
        exact a4
  · obtain ⟨s1, s2, s3, s4⟩ := hS
    refine ⟨s1, s2, s3, ?_⟩
    show xFree u - 1 = nI fr
    rw [s4]
    exact nI_p1 fr
  · have h1 := SU_up c (lv := lv) (bk := bk) hx true []
    simp only [hlv, if_true] at h1
    have h2 : pgs c ([] : List KV).length = 1 := by simp [pgs]
    rw [h2] at h1
    have h3 : (if (false : Bool) = true then pgs c (bk x).length else 0) = 0 := rfl
    rw [h3] at h1
    omega
/-- the write of a key into the last page -/
theorem sX_add50 {Q : StX → Prop} (K : KC b c m t) {fl : List Nat} {pg : Nat → List Nat} {x n r : Nat} {l : List Nat} {a v : Int32} (hP : PG m (xNext u) (xFirst u) (xFreePage u) fl pg) (hB : ∀ y, y ≠ x → RB1 c u pg lv bk y) (hx : x < 200) (hlv : lv x = true) (hl : pg x = l ++ [r]) (hla : xLast u x = nI r) (hlen : (pg x).length = pgs c (n + 1)) (hcn : xCounts u x = nI n) (hn : n = (bk x).length) (hn2 : n ≤ 2400) (hk : ∀ i, i < n → xKeys u (plc c (pg x) i) = ((bk x).getD i (0, 0)).1 ∧ xValues u (plc c (pg x) i) = ((bk x).getD i (0, 0)).2)
    (hf : fl.length = fr) (hS : RS u L p sz fr) (hT : RT c m u tk) (hs : fr + SU c lv (va_up bk x (bk x ++ [(a, v)])) = m) (h : ∀ u', RX c m u' L p sz tk fr lv (va_up bk x (bk x ++ [(a, v)])) → Q u') : jn_X_add_50 (kx_ b c m t) Q (nI x) a v u := by
  have hmc := KC_mc K
  obtain ⟨k1, k2, k3, k4, k5, k6, k7, k8⟩ := K
  have hlen2 : (pg x).length = n / c + 1 := by rw [hlen, pgs_s k3]
  have hl2 : l.length = n / c := by rw [hl] at hlen2; simpa using hlen2
  have hgd : (pg x).getD (n / c) 0 = r := by
    rw [hl, gd_r (by omega), hl2, Nat.sub_self]
    rfl
  have hpl : plc c (pg x) n = c * r + n % c := by unfold plc; rw [hgd]
  have hrm : r < m := hP.2.2.2.2.2.2.2 x r (by rw [hl]; simp)
  have hlt : plc c (pg x) n < m * c := plc_lt k3 (hP.2.2.2.2.2.2.2 x) (by omega)
  refine ⟨x, rfl, hx, fun z => ?_, nm_r (e' := nI (plc c (pg x) n)) ?_ ⟨_, rfl, hlt, h _ ⟨fl, pg, hP, fun y => ?_, hf, hS, hT, hs⟩⟩⟩
  · exact nI_ne0 (by omega) (by omega) z
  · show nI c * xLast u x + jrem (xCounts u x) (nI c) = _
    rw [hla, hcn, jr_nI (by omega) (by omega) (by omega), pk_mul, nI_add, hpl]
  · by_cases e : y = x
    · subst e
      refine ⟨fun _ => ⟨hx, ⟨l, r, hl, hla⟩, ?_, ?_, fun i hi => ?_⟩, fun z => ?_⟩
      · rw [vu_s, hlen]
        simp [hn]
      · show upd (xCounts u) y (xCounts u y + 1) y = _
        rw [up_s, vu_s, hcn, nI_1]
        simp [hn]
      · rw [vu_s] at hi ⊢
        show upd (xKeys u) (plc c (pg y) n) a (plc c (pg y) i) = _ ∧ upd (xValues u) (plc c (pg y) n) v (plc c (pg y) i) = _
        have hi2 : i < n + 1 := by simpa [hn] using hi
        by_cases ei : i = n
        · subst ei
          rw [up_s, up_s, gd_r (by omega), hn, Nat.sub_self]
          exact ⟨rfl, rfl⟩
        · have hne : plc c (pg y) i ≠ plc c (pg y) n := by
            intro z
            have hi3 : i / c ≤ n / c := Nat.div_le_div_right (by omega)
            exact ei (plc_ne k3 hP (by omega) (by omega) z).2
          rw [up_n hne, up_n hne, gd_l (by omega)]
          exact hk i (by omega)
      · rw [hlv] at z
        exact absurd z (by simp)
    · have h0 := hB y e
      unfold RB1 at h0 ⊢
      rw [vu_n e]
      refine ⟨fun z => ?_, h0.2⟩
      obtain ⟨a1, a2, a3, a4, a5⟩ := h0.1 z
      refine ⟨a1, a2, a3, ?_, fun i hi => ?_⟩
      · show upd (xCounts u) x _ y = _
        rw [up_n e]
        exact a4
      · show upd (xKeys u) (plc c (pg x) n) a (plc c (pg y) i) = _ ∧ upd (xValues u) (plc c (pg x) n) v (plc c (pg y) i) = _
        have hne : plc c (pg y) i ≠ plc c (pg x) n := by
          intro z
          have hi3 := pgs_in (c := c) hi
          exact e (plc_ne k3 hP (by omega) (by omega) z).1
        rw [up_n hne, up_n hne]
        exact a5 i hi
theorem sX_add {Q : StX → Prop} (K : KC b c m t) (R : RX c m u L p sz tk fr lv bk) {x : Nat} {a v : Int32} (hlv : lv x = true) (hr : pgs c ((bk x).length + 1) ≤ pgs c (bk x).length + fr) (h : ∀ u', RX c m u' L p sz tk (fr + pgs c (bk x).length - pgs c ((bk x).length + 1)) lv (va_up bk x (bk x ++ [(a, v)])) → Q u') : wp_X_add (kx_ b c m t) (nI x) a v u Q := by
  have hmc := KC_mc K
  have hln := RX_len K.2.2.1 R hlv
  obtain ⟨fl, pg, hP, hB, hf, hS, hT, hs⟩ := R
  obtain ⟨hx, ⟨l, r, hl, hla⟩, hle, hcn, hk⟩ := (hB x).1 hlv
  obtain ⟨k1, k2, k3, k4, k5, k6, k7, k8⟩ := id K
  have hsum : SU c lv (va_up bk x (bk x ++ [(a, v)])) + pgs c (bk x).length = SU c lv bk + pgs c ((bk x).length + 1) := by
    have := SU_up c (lv := lv) (bk := bk) hx true (bk x ++ [(a, v)])
    rw [vu_eq hlv, if_pos hlv, if_pos rfl] at this
    simpa using this
  have hm1 := SU_1 c (bk := bk) hx hlv
  generalize hn : (bk x).length = n at *
  have go : ∀ (w : pgs c (n + 1) = pgs c n), jn_X_add_50 (kx_ b c m t) Q (nI x) a v u := by
    intro w
    refine sX_add50 K hP (fun y _ => hB y) hx hlv hl hla (by rw [hle, w]) hcn hn.symm (by omega) hk hf hS hT (by omega) (fun u' R' => h u' ?_)
    rw [w, Nat.add_sub_cancel]
    exact R'
  refine ⟨x, rfl, hx, pk_le n 0 (fun z => go (pgs_more k3 (Or.inl (by omega)))) (fun z => ⟨fun y => nI_ne0 (by omega) (by omega) y, pk_eq (n % c) 0 (fun y => ?_) (fun y => go (pgs_more k3 (Or.inr y))) ?_ rfl (by have := Nat.mod_le n c; omega)⟩) hcn⟩
  · have w := pgs_full k3 z y
    obtain ⟨f, rfl⟩ : ∃ f, fr = f + 1 := ⟨fr - 1, by omega⟩
    obtain ⟨q, fl, rfl, hf1⟩ := fl_some hf
    obtain ⟨hP1, hlo⟩ := PG_pop hP
    have hfp : xFreePage u = nI q := hP.1.1.trans (pv_c0 q fl)
    have hrp : r ∈ pg x := by rw [hl]; simp
    have hqr : q ≠ r := fun e => hlo.2.2 x (by rw [e]; exact hrp)
    refine sX_takePage hfp hlo.1 ⟨r, hla, hP.2.2.2.2.2.2.2 x r hrp, ?_⟩
    have hP2 := PG_snoc (b := x) (r := r) (l := l) (PG_u (v := -1) hP1 hlo) hlo up_s hl
    refine sX_add50 (l := l ++ [r]) (r := q) (n := n) (pg := va_up pg x (l ++ [r] ++ [q])) (fl := fl) (fr := f) (L := L) (p := p) (sz := sz) (tk := tk) (lv := lv) (bk := bk) K hP2 (fun y e => ?_) hx hlv vu_s ?_ ?_ hcn hn.symm (by omega) (fun i hi => ?_) hf1 ?_ hT (by omega) (fun u' R' => h u' ?_)
    · have h0 := hB y
      unfold RB1 at h0 ⊢
      rw [vu_n e]
      refine ⟨fun z => ?_, h0.2⟩
      obtain ⟨a1, a2, a3, a4, a5⟩ := h0.1 z
      refine ⟨a1, ?_, a3, a4, a5⟩
      obtain ⟨l', r', e1, e2⟩ := a2
      refine ⟨l', r', e1, ?_⟩
      show upd (xLast u) x (nI q) y = nI r'
      rw [up_n e]
      exact e2
    · show upd (xLast u) x (nI q) x = nI q
      exact up_s
    · rw [vu_s, w, ← hle, hl]
      simp
    · have h5 := hk i hi
      have h6 : plc c (va_up pg x (l ++ [r] ++ [q]) x) i = plc c (pg x) i := by
        unfold plc
        rw [vu_s, hl, gd_l]
        have := pgs_in (c := c) hi
        rw [← hl, hle]
        exact this
      rw [h6]
      exact h5
    · obtain ⟨s1, s2, s3, s4⟩ := hS
      refine ⟨s1, s2, s3, ?_⟩
      show xFree u - 1 = nI f
      rw [s4]
      exact nI_p1 f
    · rw [w, show f + 1 + pgs c n - (pgs c n + 1) = f by omega]
      exact R'
  · show jrem (xCounts u x) (nI c) = _
    rw [hcn, jr_nI (by omega) (by omega) (by omega)]
end RXS
end
section
/-! place, find, dropLast, takeOff (hand-written) -/
theorem pv_in {l : List Nat} {i : Nat} (h : i < l.length) : pv l i = nI (l.getD i 0) := by
  unfold pv
  rw [if_pos h]
theorem dv_full {c k : Nat} (hc : 1 ≤ c) (h0 : 0 < k) (h : k % c = 0) : k / c = (k - 1) / c + 1 := by
  have h1 := pgs_full hc h0 h
  rw [pgs_s hc] at h1
  unfold pgs at h1
  omega
theorem dv_more {c k : Nat} (hc : 1 ≤ c) (h : k = 0 ∨ k % c ≠ 0) : k / c = (k - 1) / c := by
  have h1 := pgs_more hc h
  rw [pgs_s hc] at h1
  unfold pgs at h1
  omega
theorem m1_ne {n : Nat} (h : n < 2 ^ 31) : ¬ nI n = -1 := by
  intro e
  have h1 := nI_toInt h
  rw [e] at h1
  have h2 : (-1 : Int32).toInt = -1 := by decide
  rw [h2] at h1
  omega
section RXP
variable {b c m t : Nat} {u : StX} {L p sz : Nat} {tk : List KV} {fr : Nat} {lv : Nat → Bool} {bk : Nat → List KV}
/-- what is known of the place j of the i-th key of the bucket x -/
def PLp (c m : Nat) (u : StX) (L p sz : Nat) (tk : List KV) (fr : Nat) (lv : Nat → Bool) (bk : Nat → List KV) (x i j : Nat) : Prop :=
  xKeys u j = ((bk x).getD i (0, 0)).1 ∧ xValues u j = ((bk x).getD i (0, 0)).2 ∧ ∀ a v : Int32, RX c m (xSetValues (upd (xValues u) j v) (xSetKeys (upd (xKeys u) j a) u)) L p sz tk fr lv (va_up bk x ((bk x).set i (a, v)))
theorem RX_at (hc : 1 ≤ c) {fl : List Nat} {pg : Nat → List Nat} (hP : PG m (xNext u) (xFirst u) (xFreePage u) fl pg) (hB : ∀ b, RB1 c u pg lv bk b) (hf : fl.length = fr) (hS : RS u L p sz fr) (hT : RT c m u tk) (hs : fr + SU c lv bk = m) {x i : Nat} (hlv : lv x = true) (hi : i < (bk x).length) : PLp c m u L p sz tk fr lv bk x i (plc c (pg x) i) := by
  obtain ⟨hx, hl, hle, hcn, hk⟩ := (hB x).1 hlv
  refine ⟨(hk i hi).1, (hk i hi).2, fun a v => ⟨fl, pg, hP, fun y => ?_, hf, hS, hT, ?_⟩⟩
  · have h0 := hB y
    unfold RB1 at h0 ⊢
    by_cases e : y = x
    · subst e
      rw [vu_s]
      refine ⟨fun z => ⟨hx, hl, by rw [List.length_set]; exact hle, by rw [List.length_set]; exact hcn, fun k hk2 => ?_⟩, h0.2⟩
      rw [List.length_set] at hk2
      show upd (xKeys u) (plc c (pg y) i) a (plc c (pg y) k) = _ ∧ upd (xValues u) (plc c (pg y) i) v (plc c (pg y) k) = _
      rw [gd_set hk2]
      by_cases ek : i = k
      · subst ek
        rw [up_s, up_s, if_pos rfl]
        exact ⟨rfl, rfl⟩
      · have hne : plc c (pg y) k ≠ plc c (pg y) i := by
          intro z
          have h1 := pgs_in (c := c) hi
          have h2 := pgs_in (c := c) hk2
          exact ek (plc_ne hc hP (by omega) (by omega) z).2.symm
        rw [up_n hne, up_n hne, if_neg ek]
        exact hk k hk2
    · rw [vu_n e]
      refine ⟨fun z => ?_, h0.2⟩
      obtain ⟨a1, a2, a3, a4, a5⟩ := h0.1 z
      refine ⟨a1, a2, a3, a4, fun k hk2 => ?_⟩
      show upd (xKeys u) (plc c (pg x) i) a (plc c (pg y) k) = _ ∧ upd (xValues u) (plc c (pg x) i) v (plc c (pg y) k) = _
      have hne : plc c (pg y) k ≠ plc c (pg x) i := by
        intro z
        have h1 := pgs_in (c := c) hi
        have h2 := pgs_in (c := c) hk2
        exact e (plc_ne hc hP (by omega) (by omega) z).1
      rw [up_n hne, up_n hne]
      exact a5 k hk2
  · have h1 := SU_up c (lv := lv) (bk := bk) hx true ((bk x).set i (a, v))
    rw [vu_eq hlv, if_pos hlv, if_pos rfl, List.length_set] at h1
    omega
theorem sX_place {Q : Int32 → StX → Prop} (K : KC b c m t) (R : RX c m u L p sz tk fr lv bk) {x i : Nat} (hlv : lv x = true) (hi : i < (bk x).length) (h : ∀ j, j < m * c → PLp c m u L p sz tk fr lv bk x i j → Q (nI j) u) : wp_X_place (kx_ b c m t) (nI x) (nI i) u Q := by
  have hmc := KC_mc K
  have hln := RX_len K.2.2.1 R hlv
  obtain ⟨fl, pg, hP, hB, hf, hS, hT, hs⟩ := R
  obtain ⟨k1, k2, k3, k4, k5, k6, k7, k8⟩ := K
  obtain ⟨hx, hl, hle, hcn, hk⟩ := (hB x).1 hlv
  have hpi := pgs_in (c := c) hi
  have hne : pg x ≠ [] := by
    intro e
    rw [e] at hle
    have := pgs_pos c (bk x).length
    simp at hle
    omega
  have hch := hP.2.1 x hne
  have hqm : ∀ s, s < (pg x).length → (pg x).getD s 0 < m := fun s hs => hP.2.2.2.2.2.2.2 x _ (gd_mem hs)
  have key : ∀ d s, s + d = i / c → lp_X_place_13 (kx_ b c m t) Q (d + 1) (nI i) (nI ((pg x).getD s 0)) (nI (c * (s + 1))) u := by
    intro d
    induction d with
    | zero =>
      intro s hs2
      have h1 : i < c * (s + 1) := by
        have := Nat.lt_mul_div_succ i k3
        rw [show s = i / c by omega]
        exact this
      have h2 : c * (s + 1) ≤ i + c := by
        rw [show s = i / c by omega, Nat.mul_add]
        have := Nat.mul_div_le i c
        omega
      refine pk_lt i (c * (s + 1)) (fun _ => ⟨fun z => nI_ne0 (by omega) (by omega) z, ?_⟩) (fun z => absurd z (by omega))
      have h3 : nI c * nI ((pg x).getD s 0) + jrem (nI i) (nI c) = nI (plc c (pg x) i) := by
        rw [jr_nI (by omega) (by omega) (by omega), pk_mul, nI_add]
        unfold plc
        rw [show s = i / c by omega]
      show Q (nI c * nI ((pg x).getD s 0) + jrem (nI i) (nI c)) u
      rw [h3]
      exact h _ (plc_lt k3 (hP.2.2.2.2.2.2.2 x) (by omega)) (RX_at k3 hP hB hf hS hT hs hlv hi)
    | succ d ih =>
      intro s hs2
      have h1 : c * (s + 1) ≤ i := by
        have h2 : c * (s + 1) ≤ c * (i / c) := Nat.mul_le_mul_left c (by omega)
        have := Nat.mul_div_le i c
        omega
      refine pk_lt i (c * (s + 1)) (fun z => absurd z (by omega)) (fun _ => ⟨_, rfl, hqm s (by omega), nm_r (e' := nI ((pg x).getD (s + 1) 0)) ?_ (nm_r (e' := nI (c * (s + 1 + 1))) ?_ (ih (s + 1) (by omega)))⟩)
      · rw [hch.2 s (by omega), pv_in (by omega)]
      · show nI (c * (s + 1)) + nI c = _
        rw [nI_add]
        rfl
  refine ⟨x, rfl, hx, nm_r (e' := nI ((pg x).getD 0 0)) ?_ (nm_r (e' := nI (c * (0 + 1))) ?_ ⟨_, key (i / c) 0 (Nat.zero_add _)⟩)⟩
  · rw [hch.1, pv_in (by rw [hle]; exact pgs_pos _ _)]
  · show nI c = _
    rw [Nat.zero_add, Nat.mul_one]
theorem sX_find {Q : Int32 → StX → Prop} (K : KC b c m t) (R : RX c m u L p sz tk fr lv bk) {x : Nat} {key : Int32} (hlv : lv x = true) (h1 : ∀ i, i < (bk x).length → ((bk x).getD i (0, 0)).1 = key → Q (nI i) u) (h2 : (∀ i, i < (bk x).length → ((bk x).getD i (0, 0)).1 ≠ key) → Q (-1) u) : wp_X_find (kx_ b c m t) (nI x) key u Q := by
  have hmc := KC_mc K
  have hln := RX_len K.2.2.1 R hlv
  obtain ⟨fl, pg, hP, hB, hf, hS, hT, hs⟩ := R
  obtain ⟨k1, k2, k3, k4, k5, k6, k7, k8⟩ := K
  obtain ⟨hx, hl, hle, hcn, hk⟩ := (hB x).1 hlv
  have hp1 := pgs_pos c (bk x).length
  have hne : pg x ≠ [] := by
    intro e
    rw [e] at hle
    simp at hle
    omega
  have hch := hP.2.1 x hne
  have hqm : ∀ s, s < (pg x).length → (pg x).getD s 0 < m := fun s hs => hP.2.2.2.2.2.2.2 x _ (gd_mem hs)
  generalize hn : (bk x).length = n at *
  have go : ∀ d k, k + d = n → (∀ i, i < k → ((bk x).getD i (0, 0)).1 ≠ key) → lp_X_find_10 (kx_ b c m t) Q (d + 1) (nI x) key (nI ((pg x).getD ((k - 1) / c) 0)) (nI k) u := by
    intro d
    induction d with
    | zero =>
      intro k hk1 hk2
      refine ⟨x, rfl, hx, pk_le n k (fun _ => h2 (fun i hi => hk2 i (by omega))) (fun z => absurd z (by omega)) hcn⟩
    | succ d ih =>
      intro k hk1 hk2
      have hkc := pgs_in (c := c) (show k < n by omega)
      have hj : jn_X_find_46 (kx_ b c m t) Q (lp_X_find_10 (kx_ b c m t) Q (d + 1)) (nI x) key (nI k) (nI ((pg x).getD (k / c) 0)) u := by
        refine ⟨fun z => nI_ne0 (by omega) (by omega) z, plc c (pg x) k, ?_, plc_lt k3 (hP.2.2.2.2.2.2.2 x) (by omega), ?_⟩
        · show nI c * nI ((pg x).getD (k / c) 0) + jrem (nI k) (nI c) = _
          rw [jr_nI (by omega) (by omega) (by omega), pk_mul, nI_add]
          rfl
        · have hkk := (hk k (by omega)).1
          refine br_c (fun z => h1 k (by omega) (hkk.symm.trans z)) (fun z => nm_r (nI_1 k) ?_)
          have := ih (k + 1) (by omega) (fun i hi => by
            by_cases e : i = k
            · rw [e]
              exact fun w => z (hkk.trans w)
            · exact hk2 i (by omega))
          rw [Nat.add_sub_cancel] at this
          exact this
      refine ⟨x, rfl, hx, pk_le n k (fun z => absurd z (by omega)) (fun _ => pk_le k 0 (fun z => ?_) (fun z => ⟨fun w => nI_ne0 (by omega) (by omega) w, pk_eq (k % c) 0 (fun w => ?_) (fun w => ?_) (jr_nI (by omega) (by omega) (by omega)) rfl (by have := Nat.mod_le k c; omega)⟩)) hcn⟩
      · rw [← dv_more k3 (Or.inl (by omega))]
        exact hj
      · have h3 := dv_full k3 z w
        refine ⟨_, rfl, hqm _ (by omega), ?_⟩
        rw [hch.2 _ (by omega), pv_in (by omega), ← h3]
        exact hj
      · rw [← dv_more k3 (Or.inr w)]
        exact hj
  refine ⟨x, rfl, hx, nm_r (e' := nI ((pg x).getD ((0 - 1) / c) 0)) ?_ ⟨_, go n 0 (by omega) (fun i hi => absurd hi (by omega))⟩⟩
  rw [hch.1, pv_in (by omega), Nat.zero_sub, Nat.zero_div]
theorem sX_dropLast {Q : StX → Prop} (K : KC b c m t) (R : RX c m u L p sz tk fr lv bk) {x : Nat} {l : List KV} {y : KV} (hlv : lv x = true) (hb : bk x = l ++ [y]) (h : ∀ u', RX c m u' L p sz tk (fr + pgs c (l.length + 1) - pgs c l.length) lv (va_up bk x l) → Q u') : wp_X_dropLast (kx_ b c m t) (nI x) u Q := by
  have hmc := KC_mc K
  have hln := RX_len K.2.2.1 R hlv
  obtain ⟨fl, pg, hP, hB, hf, hS, hT, hs⟩ := R
  obtain ⟨k1, k2, k3, k4, k5, k6, k7, k8⟩ := K
  obtain ⟨hx, ⟨l0, r0, hl0, hla⟩, hle, hcn, hk⟩ := (hB x).1 hlv
  have hbl : (bk x).length = l.length + 1 := by rw [hb]; simp
  have hsum : SU c lv (va_up bk x l) + pgs c (l.length + 1) = SU c lv bk + pgs c l.length := by
    have := SU_up c (lv := lv) (bk := bk) hx true l
    rw [vu_eq hlv, if_pos hlv, if_pos rfl, hbl] at this
    exact this
  have hm1 := SU_1 c (bk := bk) hx hlv
  rw [hbl] at hm1 hcn hle hln hk
  have hmono := pgs_mono (c := c) (show l.length ≤ l.length + 1 by omega)
  generalize hn : l.length = n at *
  have ecn : upd (xCounts u) x (xCounts u x - 1) x = nI n := by
    rw [up_s, hcn]
    exact nI_p1 n
  -- what the cells hold when the pages are those of n keys
  have fin : ∀ (v : StX) (fl' : List Nat) (pg' : Nat → List Nat), PG m (xNext v) (xFirst v) (xFreePage v) fl' pg' → (∀ z, z ≠ x → pg' z = pg z ∧ xLast v z = xLast u z) → (∃ l r, pg' x = l ++ [r] ∧ xLast v x = nI r) → (pg' x).length = pgs c n → (∀ i, i < pgs c n → (pg' x).getD i 0 = (pg x).getD i 0) → xCounts v = upd (xCounts u) x (xCounts u x - 1) → xKeys v = xKeys u → xValues v = xValues u → xLevel v = xLevel u → xPointer v = xPointer u → xSize v = xSize u → xTaken v = xTaken u → xTakenKeys v = xTakenKeys u → xTakenValues v = xTakenValues u → fl'.length = fr + pgs c (n + 1) - pgs c n → xFree v = nI fl'.length → Q v := by
    intro v fl' pg' a1 a2 a3 a4 a5 e1 e2 e3 e4 e5 e6 e7 e8 e9 a6 a7
    refine h v ⟨fl', pg', a1, fun z => ?_, a6, ⟨e4.trans hS.1, e5.trans hS.2.1, e6.trans hS.2.2.1, by rw [a7, a6]⟩, ?_, by omega⟩
    · have h0 := hB z
      unfold RB1 at h0 ⊢
      rw [e1, e2, e3]
      by_cases e : z = x
      · subst e
        rw [vu_s]
        refine ⟨fun w => ⟨hx, a3, by rw [a4, hn], by rw [ecn, hn], fun i hi => ?_⟩, fun w => ?_⟩
        · rw [hn] at hi
          have h1 := hk i (by omega)
          have h2 : plc c (pg' z) i = plc c (pg z) i := by
            unfold plc
            rw [a5 _ (pgs_in hi)]
          rw [h2]
          rw [hb, gd_l (by omega)] at h1
          exact h1
        · rw [hlv] at w
          exact absurd w (by simp)
      · rw [vu_n e, (a2 z e).1, (a2 z e).2, up_n e]
        exact h0
    · unfold RT at hT ⊢
      rw [e7, e8, e9]
      exact hT
  have same : pgs c (n + 1) = pgs c n → Q (xSetCounts (upd (xCounts u) x (xCounts u x - 1)) u) := by
    intro w
    exact fin _ fl pg hP (fun z _ => ⟨rfl, rfl⟩) ⟨l0, r0, hl0, hla⟩ (hle.trans w) (fun i _ => rfl) rfl rfl rfl rfl rfl rfl rfl rfl rfl (by omega) (by rw [hf]; exact hS.2.2.2)
  refine ⟨x, rfl, hx, pk_le n 0 (fun z => same (pgs_more k3 (Or.inl (by omega)))) (fun z => ⟨fun w => nI_ne0 (by omega) (by omega) w, pk_eq (n % c) 0 (fun w => ?_) (fun w => same (pgs_more k3 (Or.inr w))) (by show jrem (upd (xCounts u) x (xCounts u x - 1) x) (nI c) = _; rw [ecn]; exact jr_nI (by omega) (by omega) (by omega)) rfl (by have := Nat.mod_le n c; omega)⟩) ecn⟩
  have w1 := pgs_full k3 z w
  have hp1 := pgs_pos c n
  -- two pages at least
  obtain ⟨l1, r1, hl1⟩ : ∃ l1 r1, l0 = l1 ++ [r1] := by
    have h1 : l0.length = pgs c n := by
      rw [hl0, w1] at hle
      simpa using hle
    have h2 : l0 ≠ [] := by
      intro e
      rw [e] at h1
      simp at h1
      omega
    exact ⟨l0.dropLast, l0.getLast h2, (List.dropLast_concat_getLast h2).symm⟩
  subst hl1
  have hne : pg x ≠ [] := by rw [hl0]; simp
  have hch := hP.2.1 x hne
  have hnd := hP.2.2.2.1 x
  have hlen1 : l1.length + 1 = pgs c n := by
    rw [hl0, w1] at hle
    simpa using hle
  have hr0 : (pg x).getD (l1.length + 1) 0 = r0 := by
    rw [hl0, gd_r (by simp)]
    simp
  have hr1 : (pg x).getD l1.length 0 = r1 := by
    rw [hl0, gd_l (by simp), gd_r (by simp)]
    simp
  have hqm : ∀ s, s < (pg x).length → (pg x).getD s 0 < m := fun s hs => hP.2.2.2.2.2.2.2 x _ (gd_mem hs)
  have hr0m : r0 < m := by rw [← hr0]; exact hqm _ (by omega)
  obtain ⟨hPd, hlo⟩ := PG_drop hP hl0
  have hr01 : r0 ≠ r1 := by
    intro e
    rw [← hr0, ← hr1] at e
    have := gd_inj hnd (by omega) (by omega) e
    omega
  have go : ∀ d s, s + d = l1.length → lp_X_dropLast_40 (kx_ b c m t) Q (d + 1) (nI x) (nI ((pg x).getD s 0)) (xSetCounts (upd (xCounts u) x (xCounts u x - 1)) u) := by
    intro d
    induction d with
    | zero =>
      intro s hs1
      have e1 : s = l1.length := by omega
      subst e1
      refine ⟨_, rfl, hqm _ (by omega), x, rfl, hx, br_t ?_ ?_⟩
      · show xNext u ((pg x).getD l1.length 0) = xLast u x
        rw [hch.2 _ (by omega), pv_in (by omega), hr0, hla]
      · show wp_X_givePage (kx_ b c m t) (xLast u x) _ _
        rw [hla]
        refine sX_givePage hr0m ?_
        rw [hr1]
        refine fin _ (r0 :: fl) (va_up pg x (l1 ++ [r1])) ?_ (fun z e => ⟨vu_n e, ?_⟩) ⟨l1, r1, vu_s, ?_⟩ ?_ (fun i hi => ?_) rfl rfl rfl rfl rfl rfl rfl rfl rfl ?_ ?_
        · show PG m (upd (upd (xNext u) r0 (xFreePage u)) r1 (-1)) (xFirst u) (nI r0) (r0 :: fl) (va_up pg x (l1 ++ [r1]))
          rw [up_c hr01]
          exact PG_push hPd hlo
        · show upd (xLast u) x (nI r1) z = _
          exact up_n e
        · show upd (xLast u) x (nI r1) x = _
          exact up_s
        · rw [vu_s]
          simp
          omega
        · rw [vu_s, hl0, gd_l (l' := [r0]) (by simp; omega)]
        · simp
          omega
        · show xFree u + 1 = _
          rw [hS.2.2.2, nI_1]
          simp [hf]
    | succ d ih =>
      intro s hs1
      refine ⟨_, rfl, hqm _ (by omega), x, rfl, hx, br_f ?_ (nm_r (e' := nI ((pg x).getD (s + 1) 0)) ?_ (ih (s + 1) (by omega)))⟩
      · show ¬ xNext u ((pg x).getD s 0) = xLast u x
        rw [hch.2 _ (by omega), pv_in (by omega), hla]
        intro e
        have h1 := hqm (s + 1) (by omega)
        have h2 := (nI_eq (by omega) (by omega)).mp e
        rw [← hr0] at h2
        have := gd_inj hnd (by omega) (by omega) h2
        omega
      · show xNext u ((pg x).getD s 0) = _
        rw [hch.2 _ (by omega), pv_in (by omega)]
  refine nm_r (e' := nI ((pg x).getD 0 0)) ?_ ⟨_, go l1.length 0 (by omega)⟩
  show xFirst u x = _
  rw [hch.1, pv_in (by omega)]
/-- the pages of a chain are given back -/
theorem sX_give {Q : StX → Prop} (K : KC b c m t) {pg : Nat → List Nat} : ∀ (l : List Nat) (st : Int32) (u : StX) (fl : List Nat), chn (xNext u) st l → l.Nodup → (∀ q, q ∈ l → loose m q fl pg) → PG m (xNext u) (xFirst u) (xFreePage u) fl pg → xFree u = nI fl.length →
    (∀ (a : ArrF) (f : Int32) (e : Int32) (fl' : List Nat), PG m a (xFirst u) e fl' pg → fl'.length = fl.length + l.length → f = nI fl'.length → Q (xSetNext a (xSetFree f (xSetFreePage e u)))) → lp_X_takeOff_72 (kx_ b c m t) Q (l.length + 1) st u := by
  intro l
  induction l with
  | nil =>
    intro st u fl h1 h2 h3 h4 h5 h
    refine ⟨fun _ => h _ _ _ fl h4 (by simp) h5, fun z => absurd h1.1 z⟩
  | cons q l ih =>
    intro st u fl h1 h2 h3 h4 h5 h
    have hq := h3 q List.mem_cons_self
    rw [chn_c] at h1
    rw [List.nodup_cons] at h2
    obtain ⟨h1a, h1b⟩ := h1
    subst h1a
    have hqm : q < 2 ^ 31 := by
      have := hq.1
      have := K.2.2.2.2.2.1
      omega
    refine ⟨fun z => absurd z (m1_ne hqm), fun _ => ⟨q, rfl, hq.1, nm_e (sX_givePage hq.1 (ih _ _ (q :: fl) (chn_u h2.1 h1b) h2.2 (fun z hz => ?_) (PG_push h4 hq) ?_ (fun a f e fl' p1 p2 p3 => ?_)))⟩⟩
    · have hz1 := h3 z (List.mem_cons_of_mem _ hz)
      refine ⟨hz1.1, fun w => ?_, hz1.2.2⟩
      rcases List.mem_cons.mp w with w | w
      · exact h2.1 (by rw [← w]; exact hz)
      · exact hz1.2.1 w
    · show xFree u + 1 = _
      rw [h5, nI_1]
      simp
    · exact h a f e fl' p1 (by rw [p2]; simp; omega) p3
theorem sX_takeOff {Q : StX → Prop} (K : KC b c m t) {x : Nat} (R : RX c m u L p sz tk fr lv bk) (hlv : lv x = true) (hr : tk.length + (bk x).length ≤ m * c) (h : ∀ u', RX c m u' L p sz (tk ++ bk x) (fr + pgs c (bk x).length) (va_up lv x false) bk → Q u') : wp_X_takeOff (kx_ b c m t) (nI x) u Q := by
  have hmc := KC_mc K
  have go : ∀ d k (u : StX), k + d = (bk x).length → RX c m u L p sz (tk ++ (bk x).take k) fr lv bk → lp_X_takeOff_2 (kx_ b c m t) Q (d + 1) (nI x) (nI k) u := by
    intro d
    induction d with
    | zero =>
      intro k u hk R
      have hx := (RX_len K.2.2.1 R hlv).1
      have hcn := RX_cnt R hlv
      refine ⟨x, rfl, hx, pk_le (bk x).length k (fun _ => ?_) (fun z => absurd z (by omega)) hcn⟩
      rw [List.take_of_length_le (by omega)] at R
      obtain ⟨fl, pg, hP, hB, hf, hS, hT, hs⟩ := R
      obtain ⟨-, ⟨l0, r0, hl0, hla⟩, hle, -, hkk⟩ := (hB x).1 hlv
      have hne : pg x ≠ [] := by rw [hl0]; simp
      obtain ⟨hP1, hlo⟩ := PG_off (b := x) hP
      refine nm_e ⟨_, sX_give K (pg x) (xFirst u x) u fl (hP.2.1 x hne) (hP.2.2.2.1 x) hlo hP1 (by rw [hf]; exact hS.2.2.2) (fun a f e fl' p1 p2 p3 => h _ ⟨fl', va_up pg x [], p1, fun y => ?_, ?_, ⟨hS.1, hS.2.1, hS.2.2.1, ?_⟩, hT, ?_⟩)⟩
      · by_cases e1 : y = x
        · subst e1
          refine ⟨fun w => ?_, fun _ => vu_s⟩
          rw [vu_s] at w
          exact absurd w (by simp)
        · have h0 := hB y
          unfold RB1 at h0 ⊢
          rw [vu_n e1, vu_n e1]
          exact h0
      · rw [p2, hf, hle]
      · show f = _
        rw [p3, p2, hf, hle]
      · have h1 := SU_up c (lv := lv) (bk := bk) hx false (bk x)
        rw [vu_self, if_pos hlv, if_neg (by simp)] at h1
        omega
    | succ d ih =>
      intro k u hk R
      have hx := (RX_len K.2.2.1 R hlv).1
      have hln := (RX_len K.2.2.1 R hlv).2
      have hcn := RX_cnt R hlv
      have hT := RX_T R
      have htl : (tk ++ (bk x).take k).length = tk.length + k := by
        rw [List.length_append, List.length_take]
        omega
      refine ⟨x, rfl, hx, pk_le (bk x).length k (fun z => absurd z (by omega)) (fun _ => sX_place K R hlv (show k < (bk x).length by omega) (fun j hj hp => ⟨j, rfl, hj, tk.length + k, ?_, ?_, nm_r (nI_1 k) (ih (k + 1) _ (by omega) ?_)⟩)) hcn⟩
      · rw [hT.1, htl]
      · show tk.length + k < m * c
        omega
      · have e1 : tk ++ (bk x).take (k + 1) = (tk ++ (bk x).take k) ++ [(bk x).getD k (0, 0)] := by
          rw [List.take_succ, List.append_assoc, List.getD_eq_getElem?_getD, List.getElem?_eq_getElem (by omega)]
          rfl
        rw [e1]
        have hS := RX_S R
        refine RX_set R rfl rfl rfl rfl rfl rfl rfl hS ⟨?_, ?_, fun i hi => ?_⟩
        · show xTaken u + 1 = _
          rw [hT.1, nI_1]
          exact congrArg nI (by rw [List.length_append (bs := [_])]; rfl)
        · rw [List.length_append, htl]
          simp
          omega
        · show upd (xTakenKeys u) (tk.length + k) (xKeys u j) i = _ ∧ upd (xTakenValues u) (tk.length + k) (xValues u j) i = _
          rw [List.length_append, htl] at hi
          by_cases e : i = tk.length + k
          · subst e
            rw [up_s, up_s, gd_r (by omega), htl, Nat.sub_self]
            exact ⟨hp.1, hp.2.1⟩
          · have hi2 : i < tk.length + k := by simp at hi; omega
            rw [up_n e, up_n e, gd_l (by omega)]
            exact hT.2.2 i (by omega)
  exact ⟨_, go (bk x).length 0 u (by omega) (by simpa using R)⟩
end RXP
end
section
/-! clear, buckets, bucketOf, pagesOf, parts, split, join (hand-written) -/
section RXQ
variable {b c m t : Nat} {u : StX} {L p sz : Nat} {tk : List KV} {fr : Nat} {lv : Nat → Bool} {bk : Nat → List KV}
theorem jb_rd {b L : Nat} (hb : 1 ≤ b) (h : rd_ b L ≤ 200) : jshl (nI b) (nI L) = nI (rd_ b L) := by
  have h1 := rd_lev hb h
  exact js_nI (by omega) (show rd_ b L < 2 ^ 32 by omega)
theorem jb_rd2 {b L : Nat} (hb : 1 ≤ b) (h : rd_ b L ≤ 200) : jshl (nI b) (nI L + 1) = nI (rd_ b (L + 1)) := by
  have h1 := rd_lev hb h
  have h2 := rd_s b L
  rw [nI_1]
  exact js_nI (by omega) (show rd_ b (L + 1) < 2 ^ 32 by omega)
theorem sX_buckets {Q : Int32 → StX → Prop} (K : KC b c m t) (hR : rd_ b L ≤ 200) (hS : RS u L p sz fr) (h : Q (nI (rd_ b L + p)) u) : wp_X_buckets (kx_ b c m t) u Q := by
  unfold wp_X_buckets
  show Q (jshl (nI b) (xLevel u) + xPointer u) u
  rw [hS.1, hS.2.1, jb_rd K.1 hR, nI_add]
  exact h
theorem sX_bucketOf2 {Q : Int32 → StX → Prop} (K : KC b c m t) (hR : rd_ b L ≤ 200) (hL : xLevel u = nI L) (key : Int32) {q : Nat} (hq : q ≤ 1000) (h : Q (nI (hm_ b L q key)) u) : wp_X_bucketOf2 (kx_ b c m t) key (nI q) u Q := by
  have h1 := rd_pos L K.1
  have h2 := hs_lt key
  have h3 := rd_s b L
  have h4 : hs_ key % rd_ b L < rd_ b L := Nat.mod_lt _ h1
  unfold wp_X_bucketOf2
  show ∀ x3_4 : Int32, x3_4 = key &&& 2147483647 → (¬ jshl (nI b) (xLevel u) = 0 ∧ ∀ x4_16 : Int32, x4_16 = jrem x3_4 (jshl (nI b) (xLevel u)) → ((nI q ≤ x4_16 → Q x4_16 u) ∧ (¬ nI q ≤ x4_16 → (¬ jshl (nI b) (xLevel u + 1) = 0 ∧ Q (jrem x3_4 (jshl (nI b) (xLevel u + 1))) u))))
  rw [hL, jb_rd K.1 hR, jb_rd2 K.1 hR]
  refine nm_r (hs_eq key) ⟨nI_ne0 (by omega) (by omega), nm_r (jr_nI h2 (by omega) (by omega)) (pk_le q (hs_ key % rd_ b L) (fun z => ?_) (fun z => ⟨nI_ne0 (by omega) (by omega), ?_⟩))⟩
  · unfold hm_ at h
    rw [if_neg (by omega)] at h
    exact h
  · unfold hm_ at h
    rw [if_pos z] at h
    rw [jr_nI h2 (by omega) (by omega)]
    exact h
theorem sX_bucketOf {Q : Int32 → StX → Prop} (K : KC b c m t) (hR : rd_ b L + p ≤ 200) (hS : RS u L p sz fr) (key : Int32) (h : Q (nI (hm_ b L p key)) u) : wp_X_bucketOf (kx_ b c m t) key u Q := by
  unfold wp_X_bucketOf
  rw [hS.2.1]
  exact sX_bucketOf2 K (by omega) hS.1 key (by omega) h
theorem sX_pagesOf {Q : Int32 → StX → Prop} (K : KC b c m t) {n : Nat} (hn : n ≤ 100000) (h : Q (nI (pgs c n)) u) : wp_X_pagesOf (kx_ b c m t) (nI n) u Q := by
  obtain ⟨k1, k2, k3, k4, k5, k6, k7, k8⟩ := K
  refine pk_eq n 0 (fun z => ?_) (fun z => ⟨nI_ne0 (by omega) (by omega), ?_⟩)
  · subst z
    have : pgs c 0 = 1 := by simp [pgs]
    rw [this] at h
    exact h
  · show Q ((nI n + nI c - 1) / nI c) u
    have e : nI n + nI c - 1 = nI (n + c - 1) := by
      rw [nI_add, show (1 : Int32) = nI 1 from rfl, pk_sub (by omega)]
    rw [e, pk_div (by omega) (by omega) (by omega), pgs_code k3 z]
    exact h
/-- whether a bucket is parted -/
def pt_ (c t nb s : Nat) : Bool := decide (3 * c * nb < 4 * s) && decide (nb < t)
theorem sX_parts {Q : Int32 → StX → Prop} (K : KC b c m t) (hR : rd_ b L + p ≤ 200) (hS : RS u L p sz fr) {s : Nat} (hs : s ≤ 100000) (h : Q (if pt_ c t (rd_ b L + p) s = true then 1 else 0) u) : wp_X_parts (kx_ b c m t) (nI s) u Q := by
  refine sX_buckets K (by omega) hS ?_
  obtain ⟨k1, k2, k3, k4, k5, k6, k7, k8⟩ := id K
  have h1 : c * (rd_ b L + p) ≤ 8 * 200 := Nat.mul_le_mul k4 hR
  have e1 : (4 : Int64) * (nI s).toInt64 = lN (4 * s) := by
    rw [nI_l (by omega), show (4 : Int64) = lN 4 from rfl, lN_mul]
  have e2 : (3 : Int64) * (nI c).toInt64 * (nI (rd_ b L + p)).toInt64 = lN (3 * c * (rd_ b L + p)) := by
    rw [nI_l (by omega), nI_l (by omega), show (3 : Int64) = lN 3 from rfl, lN_mul, lN_mul]
  have e3 : 3 * c * (rd_ b L + p) = 3 * (c * (rd_ b L + p)) := Nat.mul_assoc _ _ _
  show (lg_cmp ((4 : Int64) * (nI s).toInt64) ((3 : Int64) * (nI c).toInt64 * (nI (rd_ b L + p)).toInt64) ≤ 0 → Q 0 u) ∧ (¬ lg_cmp ((4 : Int64) * (nI s).toInt64) ((3 : Int64) * (nI c).toInt64 * (nI (rd_ b L + p)).toInt64) ≤ 0 → _)
  rw [e1, e2, lg_cmp_le, lN_le (by omega) (by omega)]
  refine ⟨fun z => ?_, fun z => sX_buckets K (by omega) hS (pk_le t (rd_ b L + p) (fun y => ?_) (fun y => ?_))⟩
  · have : pt_ c t (rd_ b L + p) s = false := by
      unfold pt_
      rw [decide_eq_false (by omega)]
      rfl
    rw [this] at h
    exact h
  · have : pt_ c t (rd_ b L + p) s = false := by
      unfold pt_
      rw [decide_eq_false (show ¬ rd_ b L + p < t by omega), Bool.and_false]
    rw [this] at h
    exact h
  · have : pt_ c t (rd_ b L + p) s = true := by
      unfold pt_
      rw [decide_eq_true (by omega), decide_eq_true (by omega)]
      rfl
    rw [this] at h
    exact h
/-- the free chain of a new object -/
theorem chn_range (nx : ArrF) (m : Nat) (h : ∀ i, i < m → nx i = if i + 1 < m then nI (i + 1) else -1) (hm : 1 ≤ m) : chn nx 0 (List.range m) := by
  have hg : ∀ i, i < m → (List.range m).getD i 0 = i := fun i hi => by
    rw [List.getD_eq_getElem?_getD, List.getElem?_eq_getElem (by simpa using hi)]
    simp
  refine ⟨?_, fun i hi => ?_⟩
  · rw [pv_in (by rw [List.length_range]; exact hm), hg 0 hm]
    rfl
  · rw [List.length_range] at hi
    rw [hg i hi, h i hi]
    unfold pv
    rw [List.length_range]
    by_cases e : i + 1 < m
    · rw [if_pos e, if_pos e, hg (i + 1) e]
    · rw [if_neg e, if_neg e]
theorem SU_0 (c : Nat) (bk : Nat → List KV) : SU c (fun _ => false) bk = 0 := by
  unfold SU
  have : ∀ n, sumN (fun b => if (false : Bool) = true then pgs c (bk b).length else 0) n = 0 := by
    intro n
    induction n with
    | zero => rfl
    | succ n ih =>
      show sumN _ n + 0 = 0
      rw [ih]
  exact this 200
theorem sX_clear {Q : StX → Prop} (K : KC b c m t) (hT : RT c m u tk) (h : ∀ u', RX c m u' 0 0 0 tk (m - b) (fun x => decide (x < b)) (fun _ => []) → Q u') : wp_X_clear (kx_ b c m t) u Q := by
  obtain ⟨k1, k2, k3, k4, k5, k6, k7, k8⟩ := id K
  have opens : ∀ d i (u : StX), i + d = b → RX c m u 0 0 0 tk (m - i) (fun x => decide (x < i)) (fun _ => []) → lp_X_clear_69 (kx_ b c m t) Q (d + 1) (nI i) u := by
    intro d
    induction d with
    | zero =>
      intro i u hi R
      have e : i = b := by omega
      subst e
      exact pk_le i i (fun _ => h u R) (fun z => absurd z (by omega))
    | succ d ih =>
      intro i u hi R
      have e1 : m - i = (m - (i + 1)) + 1 := by omega
      rw [e1] at R
      refine pk_le b i (fun z => absurd z (by omega)) (fun _ => sX_open K R (by omega) (by simp) (fun u' R' => nm_r (nI_1 i) (ih (i + 1) u' (by omega) ?_)))
      have e2 : va_up (fun x => decide (x < i)) i true = fun x => decide (x < i + 1) := by
        funext y
        by_cases e : y = i
        · subst e
          rw [vu_s]
          simp
        · rw [vu_n e]
          have : (y < i) = (y < i + 1) := by
            apply propext
            omega
          simp only [this]
      have e3 : va_up (fun _ => ([] : List KV)) i [] = fun _ => [] := vu_self
      rw [e2, e3] at R'
      exact R'
  have links : ∀ d i (u : StX), i + d = m → RT c m u tk → (∀ j, j < i → xNext u j = if j + 1 < m then nI (j + 1) else -1) → lp_X_clear_2 (kx_ b c m t) Q (d + 1) (nI i) u := by
    intro d
    induction d with
    | zero =>
      intro i u hi hT hn
      have e : i = m := by omega
      subst e
      refine pk_le i i (fun _ => ⟨_, opens b 0 _ (by omega) ?_⟩) (fun z => absurd z (by omega))
      refine ⟨List.range i, fun _ => [], ⟨chn_range _ i hn (by omega), fun b hb => absurd rfl hb, List.nodup_range, fun _ => by simp, fun _ q hq => absurd hq (by simp), fun _ _ q hq => absurd hq (by simp), fun q hq => by simpa using hq, fun _ q hq => absurd hq (by simp)⟩, fun y => ⟨fun z => ?_, fun _ => rfl⟩, by simp, ⟨rfl, rfl, rfl, ?_⟩, hT, ?_⟩
      · simp at z
      · show nI i = nI (i - 0)
        rfl
      · have e0 : (fun x => decide (x < 0)) = fun _ : Nat => false := by
          funext y
          simp
        rw [e0, SU_0]
        omega
    | succ d ih =>
      intro i u hi hT hn
      refine pk_le m i (fun z => absurd z (by omega)) (fun _ => pk_le m (i + 1) (fun z => ?_) (fun z => ?_) rfl (nI_1 i))
      · refine ⟨i, rfl, by show i < m; omega, nm_r (nI_1 i) (ih (i + 1) _ (by omega) hT (fun j hj => ?_))⟩
        show upd (xNext u) i (-1) j = _
        by_cases e : j = i
        · subst e
          rw [up_s, if_neg (by omega)]
        · rw [up_n e]
          exact hn j (by omega)
      · refine ⟨i, rfl, by show i < m; omega, nm_r (nI_1 i) (ih (i + 1) _ (by omega) hT (fun j hj => ?_))⟩
        show upd (xNext u) i (nI i + 1) j = _
        by_cases e : j = i
        · subst e
          rw [up_s, if_pos (by omega), nI_1]
        · rw [up_n e]
          exact hn j (by omega)
  exact ⟨_, links m 0 u (by omega) hT (fun j hj => absurd hj (by omega))⟩
theorem tk_s {l : List KV} {k : Nat} (h : k < l.length) : l.take (k + 1) = l.take k ++ [l.getD k (0, 0)] := by
  rw [List.take_succ, List.getD_eq_getElem?_getD, List.getElem?_eq_getElem h]
  rfl
theorem fl_le {l : List KV} {f : KV → Bool} (k : Nat) : ((l.take k).filter f).length ≤ (l.filter f).length := ((List.take_sublist k l).filter f).length_le
theorem sX_split {Q : StX → Prop} (K : KC b c m t) (R : RX c m u L p sz tk fr lv bk) (hp : p < rd_ b L) (hnb : rd_ b L + p < 200) (h1 : lv p = false) (h2 : lv (rd_ b L + p) = false) (hr : pgs c (tk.filter (fun z => hm_ b L (p + 1) z.1 == p)).length + pgs c (tk.filter (fun z => hm_ b L (p + 1) z.1 == rd_ b L + p)).length ≤ fr) (hk : ∀ z, z ∈ tk → hm_ b L p z.1 = p)
    (h : ∀ u' bk', RX c m u' (fw_ b L p).1 (fw_ b L p).2 sz tk (fr - (pgs c (tk.filter (fun z => hm_ b L (p + 1) z.1 == p)).length + pgs c (tk.filter (fun z => hm_ b L (p + 1) z.1 == rd_ b L + p)).length)) (va_up (va_up lv p true) (rd_ b L + p) true) bk' → bk' p = tk.filter (fun z => hm_ b L (p + 1) z.1 == p) → bk' (rd_ b L + p) = tk.filter (fun z => hm_ b L (p + 1) z.1 == rd_ b L + p) → (∀ y, y ≠ p → y ≠ rd_ b L + p → bk' y = bk y) → Q u') : wp_X_split (kx_ b c m t) u Q := by
  have hmc := KC_mc K
  have hR := rd_pos L K.1
  obtain ⟨k1, k2, k3, k4, k5, k6, k7, k8⟩ := id K
  generalize hF : (fun z : KV => hm_ b L (p + 1) z.1 == p) = F at *
  generalize hG : (fun z : KV => hm_ b L (p + 1) z.1 == rd_ b L + p) = G at *
  have hpp := pgs_pos c (tk.filter F).length
  have hpq := pgs_pos c (tk.filter G).length
  have hne : p ≠ rd_ b L + p := by omega
  have hFz : ∀ z, F z = (hm_ b L (p + 1) z.1 == p) := fun z => by rw [← hF]
  have hGz : ∀ z, G z = (hm_ b L (p + 1) z.1 == rd_ b L + p) := fun z => by rw [← hG]
  have go : ∀ d k (u : StX) (bk' : Nat → List KV), k + d = tk.length → RX c m u L p sz tk (fr - (pgs c ((tk.take k).filter F).length + pgs c ((tk.take k).filter G).length)) (va_up (va_up lv p true) (rd_ b L + p) true) bk' → bk' p = (tk.take k).filter F → bk' (rd_ b L + p) = (tk.take k).filter G → (∀ y, y ≠ p → y ≠ rd_ b L + p → bk' y = bk y) → lp_X_split_20 (kx_ b c m t) Q (d + 1) (nI k) u := by
    intro d
    induction d with
    | zero =>
      intro k u bk' hkd R' e1 e2 e3
      rw [List.take_of_length_le (by omega)] at R' e1 e2
      have hT := RX_T R'
      have hS := RX_S R'
      refine pk_le tk.length k (fun _ => ?_) (fun z => absurd z (by omega)) hT.1 rfl (by have := hT.2.1; omega) (by have := hT.2.1; omega)
      have hfw : ∀ v : StX, RS v (fw_ b L p).1 (fw_ b L p).2 sz _ → xNext v = xNext u → xFirst v = xFirst u → xFreePage v = xFreePage u → xLast v = xLast u → xCounts v = xCounts u → xKeys v = xKeys u → xValues v = xValues u → RT c m v tk → Q v := fun v a0 a1 a2 a3 a4 a5 a6 a7 a8 => h v bk' (RX_set R' a1 a2 a3 a4 a5 a6 a7 a0 a8) e1 e2 e3
      show (xPointer u + 1 = jshl (nI b) (xLevel u) → Q (xSetPointer 0 (xSetLevel (xLevel u + 1) u))) ∧ (¬ xPointer u + 1 = jshl (nI b) (xLevel u) → Q (xSetPointer (xPointer u + 1) u))
      rw [hS.1, hS.2.1, jb_rd k1 (by omega), nI_1]
      refine pk_eq (p + 1) (rd_ b L) (fun z => hfw _ ⟨?_, ?_, hS.2.2.1, hS.2.2.2⟩ rfl rfl rfl rfl rfl rfl rfl hT) (fun z => hfw _ ⟨?_, ?_, hS.2.2.1, hS.2.2.2⟩ rfl rfl rfl rfl rfl rfl rfl hT)
      · show nI L + 1 = _
        unfold fw_
        rw [if_pos z, nI_1]
      · unfold fw_
        rw [if_pos z]
        rfl
      · unfold fw_
        rw [if_neg z]
        exact hS.1
      · unfold fw_
        rw [if_neg z]
    | succ d ih =>
      intro k u bk' hkd R' e1 e2 e3
      have hT := RX_T R'
      have hS := RX_S R'
      have hlt : k < tk.length := by omega
      have hki := hT.2.2 k hlt
      have hmem := hk _ (gd_mem (d := ((0 : Int32), (0 : Int32))) hlt)
      have hts := tk_s hlt
      have hle := hT.2.1
      have hlF := fl_le (l := tk) (f := F) (k + 1)
      have hlG := fl_le (l := tk) (f := G) (k + 1)
      have hl0F := fl_le (l := tk) (f := F) k
      have hl0G := fl_le (l := tk) (f := G) k
      have m1 := pgs_mono (c := c) hlF
      have m2 := pgs_mono (c := c) hlG
      have m3 := pgs_mono (c := c) hl0F
      have m4 := pgs_mono (c := c) hl0G
      rw [hts, List.filter_append, List.length_append] at m1 m2
      have hlp : va_up (va_up lv p true) (rd_ b L + p) true p = true := by rw [vu_n hne, vu_s]
      have hlq : va_up (va_up lv p true) (rd_ b L + p) true (rd_ b L + p) = true := vu_s
      refine pk_le tk.length k (fun z => absurd z (by omega)) (fun _ => ⟨k, rfl, by show k < m * c; omega, ?_⟩) hT.1
      rw [hS.2.1, nI_1]
      refine sX_bucketOf2 K (by omega) hS.1 _ (by omega) ?_
      rw [hki.1, hki.2]
      generalize hz : tk.getD k (0, 0) = z at *
      rcases (hm_eq k1 hp z.1).mp hmem with w | w
      · have f1 : F z = true := by rw [hFz, w]; simp
        have f2 : G z = false := by
          rw [hGz, w]
          simp
          omega
        rw [w]
        have g1 : [z].filter F = [z] := by simp [f1]
        have g2 : [z].filter G = [] := by simp [f2]
        rw [g1] at m1
        have m5 : pgs c ((tk.take k).filter F).length ≤ pgs c (((tk.take k).filter F).length + 1) := pgs_mono (by omega)
        refine sX_add K R' hlp ?_ (fun u' R2 => nm_r (nI_1 k) (ih (k + 1) u' (va_up bk' p (bk' p ++ [(z.1, z.2)])) (by omega) ?_ ?_ ?_ (fun y y1 y2 => ?_)))
        · rw [e1]
          simp only [List.length_singleton] at m1
          omega
        · rw [hts, List.filter_append, List.filter_append, g1, g2, List.append_nil, List.length_append, List.length_singleton]
          rw [show (bk' p).length = ((tk.take k).filter F).length by rw [e1]] at R2
          simp only [List.length_singleton] at m1
          have e5 : fr - (pgs c ((tk.take k).filter F).length + pgs c ((tk.take k).filter G).length) + pgs c ((tk.take k).filter F).length - pgs c (((tk.take k).filter F).length + 1) = fr - (pgs c (((tk.take k).filter F).length + 1) + pgs c ((tk.take k).filter G).length) := by omega
          rw [e5] at R2
          exact R2
        · rw [vu_s, hts, List.filter_append, g1, e1]
        · rw [vu_n (Ne.symm hne), hts, List.filter_append, g2, List.append_nil]
          exact e2
        · rw [vu_n y1]
          exact e3 y y1 y2
      · have f1 : F z = false := by
          rw [hFz, w]
          simp
          omega
        have f2 : G z = true := by rw [hGz, w]; simp
        rw [w]
        have g1 : [z].filter F = [] := by simp [f1]
        have g2 : [z].filter G = [z] := by simp [f2]
        rw [g2] at m2
        have m5 : pgs c ((tk.take k).filter G).length ≤ pgs c (((tk.take k).filter G).length + 1) := pgs_mono (by omega)
        refine sX_add K R' hlq ?_ (fun u' R2 => nm_r (nI_1 k) (ih (k + 1) u' (va_up bk' (rd_ b L + p) (bk' (rd_ b L + p) ++ [(z.1, z.2)])) (by omega) ?_ ?_ ?_ (fun y y1 y2 => ?_)))
        · rw [e2]
          simp only [List.length_singleton] at m2
          omega
        · rw [hts, List.filter_append, List.filter_append, g1, g2, List.append_nil, List.length_append, List.length_singleton]
          rw [show (bk' (rd_ b L + p)).length = ((tk.take k).filter G).length by rw [e2]] at R2
          simp only [List.length_singleton] at m2
          have e5 : fr - (pgs c ((tk.take k).filter F).length + pgs c ((tk.take k).filter G).length) + pgs c ((tk.take k).filter G).length - pgs c (((tk.take k).filter G).length + 1) = fr - (pgs c ((tk.take k).filter F).length + pgs c (((tk.take k).filter G).length + 1)) := by omega
          rw [e5] at R2
          exact R2
        · rw [vu_n hne, hts, List.filter_append, g1, List.append_nil]
          exact e1
        · rw [vu_s, hts, List.filter_append, g2, e2]
        · rw [vu_n y2]
          exact e3 y y1 y2
  have hS := RX_S R
  refine sX_buckets K (by omega) hS ?_
  obtain ⟨f, rfl⟩ : ∃ f, fr = f + 1 + 1 := ⟨fr - 2, by omega⟩
  show wp_X_open _ (xPointer u) u _
  rw [hS.2.1]
  refine sX_open K R (by omega) h1 (fun u1 R1 => sX_open K R1 (by omega) (by rw [vu_n (Ne.symm hne)]; exact h2) (fun u2 R2 => ⟨_, go tk.length 0 u2 (va_up (va_up bk p []) (rd_ b L + p) []) (by omega) ?_ ?_ ?_ (fun y y1 y2 => ?_)⟩))
  · have : pgs c ((tk.take 0).filter F).length = 1 := by simp [pgs]
    rw [this]
    have : pgs c ((tk.take 0).filter G).length = 1 := by simp [pgs]
    rw [this]
    exact R2
  · rw [vu_n hne, vu_s]
    simp
  · rw [vu_s]
    simp
  · rw [vu_n y2, vu_n y1]
end RXQ
end
section
/-! join, fits (hand-written) -/
section RXJ
variable {b c m t : Nat} {u : StX} {L p sz : Nat} {tk : List KV} {fr : Nat} {lv : Nat → Bool} {bk : Nat → List KV}
theorem bw_nb {b L p : Nat} (hb : 1 ≤ b) (hp : p < rd_ b L) (h : b < rd_ b L + p) : rd_ b (bw_ b L p).1 + (bw_ b L p).2 + 1 = rd_ b L + p := by
  have h1 := fw_nb b (bw_ b L p).1 (bw_ b L p).2
  rw [bw_fw hb hp h] at h1
  exact h1.symm
theorem sX_join56 {Q : StX → Prop} (K : KC b c m t) {y g : Nat} (R : RX c m u L p sz tk fr lv bk) (hpt : xPointer u = nI p) (hg : g < 200) (hne : p ≠ g) (h1 : lv p = true) (h2 : lv g = true)
    (h : ∀ u' tk' fr' bk', RX c m u' L p sz tk' fr' (va_up lv g false) bk' → bk' p = bk p ++ bk g → (∀ y, y ≠ p → bk' y = bk y) → Q u') (v : StX) (e : xSetPointer (nI p) (xSetTaken 0 v) = xSetTaken 0 u) : jn_X_join_56 (kx_ b c m t) Q (nI g) (nI p) v := by
  have hmc := KC_mc K
  obtain ⟨k1, k2, k3, k4, k5, k6, k7, k8⟩ := id K
  have hp := (RX_len k3 R h1).1
  have hsm := RX_fr R
  have h2s := SU_2 c (bk := bk) hp hg hne h1 h2
  have c1 := pgs_cap k3 (bk p).length
  have c2 := pgs_cap k3 (bk g).length
  have hlen : (bk p).length + (bk g).length ≤ m * c := by
    have : c * (pgs c (bk p).length + pgs c (bk g).length) ≤ c * m := Nat.mul_le_mul_left c (by omega)
    rw [Nat.mul_add] at this
    rw [Nat.mul_comm m c]
    omega
  have hS := RX_S R
  have R0 : RX c m (xSetTaken 0 u) L p sz [] fr lv bk := RX_set R rfl rfl rfl rfl rfl rfl rfl hS ⟨rfl, by simp, fun i hi => absurd hi (by simp)⟩
  unfold jn_X_join_56
  rw [e]
  have hadd := pgs_add k3 (bk p).length (bk g).length
  have q1 := pgs_pos c (bk p).length
  refine sX_takeOff K R0 h1 (by simp; omega) (fun u1 R1 => sX_takeOff K R1 (by rw [vu_n (Ne.symm hne)]; exact h2) (by simp; omega) (fun u2 R2 => ?_))
  rw [List.nil_append] at R2
  have hS2 := RX_S R2
  rw [hS2.2.1]
  generalize hF : fr + pgs c (bk p).length + pgs c (bk g).length = F at *
  obtain ⟨f, rfl⟩ : ∃ f, F = f + 1 := ⟨F - 1, by omega⟩
  refine sX_open K R2 hp (by rw [vu_n hne, vu_s]) (fun u3 R3 => ?_)
  have elv : va_up (va_up (va_up lv p false) g false) p true = va_up lv g false := by
    funext z
    by_cases e1 : z = p
    · subst e1
      rw [vu_s, vu_n hne, h1]
    · rw [vu_n e1]
      by_cases e2 : z = g
      · subst e2
        rw [vu_s, vu_s]
      · rw [vu_n e2, vu_n e2, vu_n e1]
  rw [elv] at R3
  have go : ∀ d k (u : StX) (bk' : Nat → List KV), k + d = (bk p ++ bk g).length → RX c m u L p sz (bk p ++ bk g) (f + 1 - pgs c k) (va_up lv g false) bk' → bk' p = (bk p ++ bk g).take k → (∀ y, y ≠ p → bk' y = bk y) → lp_X_join_87 (kx_ b c m t) Q (d + 1) (nI k) u := by
    intro d
    induction d with
    | zero =>
      intro k u bk' hkd R' e1 e2
      have hT := RX_T R'
      rw [List.take_of_length_le (by omega)] at e1
      exact pk_le (bk p ++ bk g).length k (fun _ => h u _ _ bk' R' e1 e2) (fun z => absurd z (by omega)) hT.1 rfl (by have := hT.2.1; omega) (by have := hT.2.1; omega)
    | succ d ih =>
      intro k u bk' hkd R' e1 e2
      have hT := RX_T R'
      have hS := RX_S R'
      have hlt : k < (bk p ++ bk g).length := by omega
      have hki := hT.2.2 k hlt
      have hle := hT.2.1
      have e1l : (bk' p).length = k := by
        rw [e1, List.length_take]
        omega
      have m1 := pgs_mono (c := c) (show k + 1 ≤ (bk p).length + (bk g).length by rw [List.length_append] at hlt; omega)
      have m2 := pgs_mono (c := c) (show k ≤ k + 1 by omega)
      refine pk_le (bk p ++ bk g).length k (fun z => absurd z (by omega)) (fun _ => ⟨k, rfl, by show k < m * c; omega, ?_⟩) hT.1
      rw [hS.2.1, hki.1, hki.2]
      refine sX_add K R' (by rw [vu_n hne]; exact h1) (by rw [e1l]; omega) (fun u' R2 => nm_r (nI_1 k) (ih (k + 1) u' (va_up bk' p (bk' p ++ [(((bk p ++ bk g).getD k (0, 0)).1, ((bk p ++ bk g).getD k (0, 0)).2)])) (by omega) ?_ ?_ (fun y hy => ?_)))
      · rw [e1l] at R2
        rw [show f + 1 - pgs c k + pgs c k - pgs c (k + 1) = f + 1 - pgs c (k + 1) by omega] at R2
        exact R2
      · rw [vu_s, tk_s hlt, e1]
      · rw [vu_n hy]
        exact e2 y hy
  refine ⟨_, go (bk p ++ bk g).length 0 u3 (va_up bk p []) (by omega) ?_ ?_ (fun y hy => ?_)⟩
  · have : pgs c 0 = 1 := by simp [pgs]
    rw [this]
    exact R3
  · rw [vu_s]
    simp
  · exact vu_n hy
theorem sX_join {Q : StX → Prop} (K : KC b c m t) (R : RX c m u L p sz tk fr lv bk) (hp : p < rd_ b L) (hnb : rd_ b L + p ≤ 200) (hb : b < rd_ b L + p) (h1 : lv (bw_ b L p).2 = true) (h2 : lv (rd_ b L + p - 1) = true)
    (h : ∀ u' tk' fr' bk', RX c m u' (bw_ b L p).1 (bw_ b L p).2 sz tk' fr' (va_up lv (rd_ b L + p - 1) false) bk' → bk' (bw_ b L p).2 = bk (bw_ b L p).2 ++ bk (rd_ b L + p - 1) → (∀ y, y ≠ (bw_ b L p).2 → bk' y = bk y) → Q u') : wp_X_join (kx_ b c m t) u Q := by
  obtain ⟨k1, k2, k3, k4, k5, k6, k7, k8⟩ := id K
  have hS := RX_S R
  have hT := RX_T R
  have hbn := bw_nb k1 hp hb
  have hbl := bw_lt k1 hp
  have hr1 := rd_pos (bw_ b L p).1 k1
  have hR0 := rd_pos L k1
  have main : ∀ (v : StX) (l : Int32), l = nI (bw_ b L p).1 → v = xSetLevel l u → jn_X_join_56 (kx_ b c m t) Q (nI (rd_ b L + p - 1)) (nI (bw_ b L p).2) v := by
    intro v l hl hv
    subst hv
    subst hl
    have R1 : RX c m (xSetPointer (nI (bw_ b L p).2) (xSetLevel (nI (bw_ b L p).1) u)) (bw_ b L p).1 (bw_ b L p).2 sz tk fr lv bk := RX_set R rfl rfl rfl rfl rfl rfl rfl ⟨rfl, rfl, hS.2.2.1, hS.2.2.2⟩ hT
    exact sX_join56 (y := 0) K R1 rfl (by omega) (by omega) h1 h2 h _ rfl
  refine sX_buckets K (by omega) hS (nm_r (e' := nI (rd_ b L + p - 1)) ?_ ?_)
  · rw [show (1 : Int32) = nI 1 from rfl, pk_sub (by omega)]
  · show (xPointer u = 0 → jn_X_join_24 (kx_ b c m t) Q _ 1 (xLevel u) u) ∧ (¬ xPointer u = 0 → jn_X_join_24 (kx_ b c m t) Q _ 0 (xLevel u) u)
    unfold jn_X_join_24
    rw [hS.1, hS.2.1]
    refine pk_eq p 0 (fun z => ⟨fun _ => ?_, fun w => ?_⟩) (fun z => ⟨fun w => ?_, fun _ => ?_⟩)
    · have hL : L ≠ 0 := by
        intro e
        rw [e, rd_0] at hb
        omega
      have e1 : bw_ b L p = (L - 1, rd_ b (L - 1) - 1) := by
        unfold bw_
        rw [if_pos z]
      have e2 : nI L - 1 = nI (L - 1) := by rw [show (1 : Int32) = nI 1 from rfl, pk_sub (by omega)]
      have e3 := main (xSetLevel (nI L - 1) u) (nI L - 1) (by rw [e1, e2]) rfl
      rw [e1] at hbn hr1
      have e4 : jshl (nI b) (nI L - 1) - 1 = nI (bw_ b L p).2 := by
        rw [e2, jb_rd k1 (show rd_ b (L - 1) ≤ 200 from by have : rd_ b (L - 1) + (rd_ b (L - 1) - 1) + 1 = rd_ b L + p := hbn; omega), show (1 : Int32) = nI 1 from rfl, pk_sub hr1, e1]
      rw [show xBase (kx_ b c m t) = nI b from rfl, e4]
      exact e3
    · exact absurd (by rw [z]; rfl) w
    · exact absurd ((nI_eq (by omega) (by omega)).mp (show nI p = nI 0 from w)) z
    · have e1 : bw_ b L p = (L, p - 1) := by
        unfold bw_
        rw [if_neg z]
      have e2 : nI L - 0 = nI L := by rw [show (0 : Int32) = nI 0 from rfl, pk_sub (by omega)]; rfl
      have e3 := main (xSetLevel (nI L - 0) u) (nI L - 0) (by rw [e1, e2]) rfl
      have e4 : nI p - 1 = nI (bw_ b L p).2 := by rw [show (1 : Int32) = nI 1 from rfl, pk_sub (by omega), e1]
      rw [e4]
      exact e3
/-- keys of a row that leave -/
def mv_ (b L p : Nat) (l : List KV) : Nat := (l.filter (fun z => !(hm_ b L (p + 1) z.1 == p))).length
theorem mv_le (b L p : Nat) (l : List KV) : mv_ b L p l ≤ l.length := List.length_filter_le _ _
theorem mv_s {b L p : Nat} {l : List KV} (z : KV) : mv_ b L p (l ++ [z]) = mv_ b L p l + (if hm_ b L (p + 1) z.1 = p then 0 else 1) := by
  unfold mv_
  rw [List.filter_append, List.length_append]
  by_cases e : hm_ b L (p + 1) z.1 = p
  · simp [e]
  · simp [e]
theorem sX_fits171 {Q : Int32 → StX → Prop} (K : KC b c m t) (R : RX c m u L p sz tk fr lv bk) (hlp : lv p = true) {mr mv al : Nat} (h1 : mr ≤ 10000) (h2 : mv ≤ al) (h3 : al ≤ 10000) (h4 : (bk p).length ≤ al) (h : Q (if mr + pgs c mv + pgs c (al - mv) ≤ fr + pgs c (bk p).length then 1 else 0) u) : jn_X_fits_171 (kx_ b c m t) Q (nI mr) (nI mv) (nI al) u := by
  obtain ⟨k1, k2, k3, k4, k5, k6, k7, k8⟩ := id K
  have hS := RX_S R
  have hcn := RX_cnt R hlp
  have hp := (RX_len k3 R hlp).1
  have hsm := RX_fr R
  have h5 := pgs_add k3 mv (al - mv)
  have h6 := pgs_mono (c := c) (show (bk p).length ≤ mv + (al - mv) by omega)
  have b1 : pgs c mv ≤ 10001 := by
    have : (mv - 1) / c ≤ mv - 1 := Nat.div_le_self _ _
    unfold pgs
    omega
  have b2 : pgs c (al - mv) ≤ 10001 := by
    have : (al - mv - 1) / c ≤ al - mv - 1 := Nat.div_le_self _ _
    unfold pgs
    omega
  refine sX_pagesOf K (by omega) ?_
  rw [pk_sub h2]
  refine sX_pagesOf K (by omega) ⟨p, hS.2.1, hp, ?_⟩
  rw [hcn]
  refine sX_pagesOf K (by omega) ?_
  have e1 : nI mr + nI (pgs c mv) + nI (pgs c (al - mv)) - nI (pgs c (bk p).length) = nI (mr + pgs c mv + pgs c (al - mv) - pgs c (bk p).length) := by
    rw [nI_add, nI_add, pk_sub (by omega)]
  rw [e1]
  refine pk_lt fr (mr + pgs c mv + pgs c (al - mv) - pgs c (bk p).length) (fun z => ?_) (fun z => ?_) hS.2.2.2
  · rw [if_neg (by omega)] at h
    exact h
  · rw [if_pos (by omega)] at h
    exact h
/-- whether there is room: the code's own count -/
def ft_ (b c t L p sz fr : Nat) (bk : Nat → List KV) (x : Nat) (key : Int32) : Prop :=
  if pt_ c t (rd_ b L + p) (sz + 1) = true then
    (if x = p then 0 + pgs c (mv_ b L p (bk p ++ [(key, 0)])) + pgs c ((bk p).length + 1 - mv_ b L p (bk p ++ [(key, 0)])) ≤ fr + pgs c (bk p).length
     else (pgs c ((bk x).length + 1) - pgs c (bk x).length) + pgs c (mv_ b L p (bk p)) + pgs c ((bk p).length - mv_ b L p (bk p)) ≤ fr + pgs c (bk p).length)
  else pgs c ((bk x).length + 1) ≤ pgs c (bk x).length + fr
theorem sX_fits {Q : Int32 → StX → Prop} (K : KC b c m t) (R : RX c m u L p sz tk fr lv bk) (hp : p < rd_ b L) (hnb : rd_ b L + p ≤ 200) (hsz : sz ≤ 10000) {x : Nat} {key : Int32} (hx : lv x = true) (hlp : lv p = true) (h1 : ft_ b c t L p sz fr bk x key → Q 1 u) (h0 : ¬ ft_ b c t L p sz fr bk x key → Q 0 u) : wp_X_fits (kx_ b c m t) (nI x) key u Q := by
  have hmc := KC_mc K
  obtain ⟨k1, k2, k3, k4, k5, k6, k7, k8⟩ := id K
  have hS := RX_S R
  have hxl := RX_len k3 R hx
  have hpl := RX_len k3 R hlp
  have hcx := RX_cnt R hx
  have hcp := RX_cnt R hlp
  have hsm := RX_fr R
  have hmo := pgs_mono (c := c) (show (bk x).length ≤ (bk x).length + 1 by omega)
  have hb1 : pgs c ((bk x).length + 1) ≤ 10000 := by
    have : ((bk x).length + 1 - 1) / c ≤ (bk x).length + 1 - 1 := Nat.div_le_self _ _
    unfold pgs
    omega
  refine ⟨x, rfl, hxl.1, ?_⟩
  rw [hcx, nI_1]
  refine sX_pagesOf K (by omega) ?_
  show wp_X_pagesOf _ (xCounts u x) u _
  rw [hcx]
  refine sX_pagesOf K (by omega) (nm_r (e' := nI (pgs c ((bk x).length + 1) - pgs c (bk x).length)) (pk_sub hmo) ?_)
  show wp_X_parts _ (xSize u + 1) u _
  rw [hS.2.2.1, nI_1]
  refine sX_parts K hnb hS (by omega) ?_
  by_cases hpt : pt_ c t (rd_ b L + p) (sz + 1) = true
  · rw [if_pos hpt]
    refine br_f (by decide) ?_
    have e0 : ft_ b c t L p sz fr bk x key ↔ (if x = p then 0 + pgs c (mv_ b L p (bk p ++ [(key, 0)])) + pgs c ((bk p).length + 1 - mv_ b L p (bk p ++ [(key, 0)])) ≤ fr + pgs c (bk p).length
     else (pgs c ((bk x).length + 1) - pgs c (bk x).length) + pgs c (mv_ b L p (bk p)) + pgs c ((bk p).length - mv_ b L p (bk p)) ≤ fr + pgs c (bk p).length) := by
      unfold ft_
      rw [if_pos hpt]
    rw [e0] at h1 h0
    have hmv := mv_le b L p (bk p)
    have go : ∀ d k, k + d = (bk p).length → lp_X_fits_57 (kx_ b c m t) Q (d + 1) (nI x) key (nI (pgs c ((bk x).length + 1) - pgs c (bk x).length)) (nI (mv_ b L p ((bk p).take k))) (nI k) u := by
      intro d
      induction d with
      | zero =>
        intro k hk
        refine ⟨p, hS.2.1, hpl.1, pk_le (bk p).length k (fun _ => nm_r hcp ?_) (fun z => absurd z (by omega)) hcp⟩
        rw [List.take_of_length_le (by omega)]
        show (nI x = xPointer u → _) ∧ (¬ nI x = xPointer u → _)
        rw [hS.2.1]
        refine pk_eq x p (fun z => ?_) (fun z => ?_)
        · rw [nI_1]
          rw [if_pos z] at h1 h0
          have hmv2 := mv_le b L p (bk p ++ [(key, 0)])
          rw [List.length_append] at hmv2
          refine sX_bucketOf2 K (by omega) hS.1 key (by omega) ?_
          show (nI (hm_ b L (p + 1) key) = xPointer u → _) ∧ (¬ nI (hm_ b L (p + 1) key) = xPointer u → _)
          rw [hS.2.1]
          have hml := hm_lt k1 (show p + 1 ≤ rd_ b L by omega) key
          have hms := mv_s (b := b) (L := L) (p := p) (l := bk p) (key, 0)
          have fin : ∀ w, w = mv_ b L p (bk p ++ [(key, 0)]) → jn_X_fits_171 (kx_ b c m t) Q 0 (nI w) (nI ((bk p).length + 1)) u := by
            intro w hw
            subst hw
            refine sX_fits171 (mr := 0) K R hlp (by omega) hmv2 (by omega) (by omega) ?_
            by_cases q : 0 + pgs c (mv_ b L p (bk p ++ [(key, 0)])) + pgs c ((bk p).length + 1 - mv_ b L p (bk p ++ [(key, 0)])) ≤ fr + pgs c (bk p).length
            · rw [if_pos q]
              exact h1 q
            · rw [if_neg q]
              exact h0 q
          refine pk_eq (hm_ b L (p + 1) key) p (fun w => nm_r (e' := nI (mv_ b L p (bk p) + 0)) (nI_add _ 0) (nm_r (nI_1 _) (fin _ ?_))) (fun w => nm_r (nI_1 _) (nm_r (nI_1 _) (fin _ ?_)))
          · rw [hms]
            simp [w]
          · rw [hms]
            simp [w]
        · rw [if_neg z] at h1 h0
          refine sX_fits171 K R hlp (by omega) hmv (by omega) (by omega) ?_
          by_cases q : (pgs c ((bk x).length + 1) - pgs c (bk x).length) + pgs c (mv_ b L p (bk p)) + pgs c ((bk p).length - mv_ b L p (bk p)) ≤ fr + pgs c (bk p).length
          · rw [if_pos q]
            exact h1 q
          · rw [if_neg q]
            exact h0 q
      | succ d ih =>
        intro k hk
        have hlt : k < (bk p).length := by omega
        have hms := mv_s (b := b) (L := L) (p := p) (l := (bk p).take k) ((bk p).getD k (0, 0))
        rw [← tk_s hlt] at hms
        refine ⟨p, hS.2.1, hpl.1, pk_le (bk p).length k (fun z => absurd z (by omega)) (fun _ => ?_) hcp⟩
        rw [hS.2.1]
        refine sX_place K R hlp hlt (fun j hj hpj => ⟨j, rfl, hj, ?_⟩)
        rw [hS.2.1, nI_1, hpj.1]
        refine sX_bucketOf2 K (by omega) hS.1 _ (by omega) ?_
        show (nI (hm_ b L (p + 1) _) = xPointer u → _) ∧ (¬ nI (hm_ b L (p + 1) _) = xPointer u → _)
        rw [hS.2.1]
        have hml := hm_lt k1 (show p + 1 ≤ rd_ b L by omega) ((bk p).getD k (0, 0)).1
        refine pk_eq (hm_ b L (p + 1) ((bk p).getD k (0, 0)).1) p (fun w => nm_r (e' := nI (mv_ b L p ((bk p).take k) + 0)) (nI_add _ 0) (nm_r (nI_1 _) ?_)) (fun w => nm_r (nI_1 _) (nm_r (nI_1 _) ?_))
        · rw [if_pos w] at hms
          rw [← hms]
          exact ih (k + 1) (by omega)
        · rw [if_neg w] at hms
          rw [← hms]
          exact ih (k + 1) (by omega)
    exact ⟨_, go (bk p).length 0 (by omega)⟩
  · rw [if_neg hpt]
    refine br_t rfl ?_
    have e0 : ft_ b c t L p sz fr bk x key ↔ pgs c ((bk x).length + 1) ≤ pgs c (bk x).length + fr := by
      unfold ft_
      rw [if_neg hpt]
    rw [e0] at h1 h0
    exact pk_lt fr (pgs c ((bk x).length + 1) - pgs c (bk x).length) (fun z => h0 (by omega)) (fun z => h1 (by omega)) hS.2.2.2
end RXJ
end
section
/-! the row of all keys, and its buckets (hand-written) -/
def bkf (b L p : Nat) (row : List KV) (x : Nat) : List KV := row.filter (fun z => hm_ b L p z.1 == x)
def need (b c L p : Nat) (row : List KV) : Nat := sumN (fun x => pgs c (bkf b L p row x).length) (rd_ b L + p)
theorem SU_need {b c L p : Nat} {row : List KV} (h : rd_ b L + p ≤ 200) : SU c (fun x => decide (x < rd_ b L + p)) (bkf b L p row) = need b c L p row := by
  unfold SU need
  exact sumN_lv (f := fun x => pgs c (bkf b L p row x).length) h
def WF (b t L p : Nat) (row : List KV) : Prop := p < rd_ b L ∧ rd_ b L + p ≤ t ∧ (row.map Prod.fst).Nodup ∧ row.length ≤ 2000
def NX (b c m : Nat) (u : StX) (L p : Nat) (row : List KV) : Prop := ∃ tk fr, RX c m u L p row.length tk fr (fun x => decide (x < rd_ b L + p)) (bkf b L p row)
theorem RX_bk {c m : Nat} {u : StX} {L p sz : Nat} {tk : List KV} {fr : Nat} {lv lv' : Nat → Bool} {bk bk' : Nat → List KV} (R : RX c m u L p sz tk fr lv bk) (hl : ∀ x, lv x = lv' x) (h : ∀ x, lv x = true → bk x = bk' x) : RX c m u L p sz tk fr lv' bk' := by
  have e0 : lv = lv' := funext hl
  subst e0
  obtain ⟨fl, pg, hP, hB, hf, hS, hT, hs⟩ := R
  refine ⟨fl, pg, hP, fun y => ?_, hf, hS, hT, ?_⟩
  · have h0 := hB y
    unfold RB1 at h0 ⊢
    refine ⟨fun z => ?_, h0.2⟩
    rw [← h y z]
    exact h0.1 z
  · have : SU c lv bk' = SU c lv bk := by
      unfold SU
      refine sumN_c (fun i _ => ?_)
      by_cases e : lv i = true
      · rw [if_pos e, if_pos e, h i e]
      · rw [if_neg e, if_neg e]
    rw [this]
    exact hs
theorem bkf_s {b L p : Nat} {row : List KV} {z : KV} (y : Nat) : bkf b L p (row ++ [z]) y = if hm_ b L p z.1 = y then bkf b L p row y ++ [z] else bkf b L p row y := by
  unfold bkf
  rw [List.filter_append]
  by_cases e : hm_ b L p z.1 = y
  · rw [if_pos e]
    simp [e]
  · rw [if_neg e]
    simp [e]
theorem bkf_mem {b L p : Nat} {row : List KV} {z : KV} {x : Nat} : z ∈ bkf b L p row x ↔ z ∈ row ∧ hm_ b L p z.1 = x := by
  unfold bkf
  rw [List.mem_filter]
  simp
theorem bkf_len {b L p : Nat} {row : List KV} {x : Nat} : (bkf b L p row x).length ≤ row.length := List.length_filter_le _ _
theorem bkf_nd {b L p : Nat} {row : List KV} {x : Nat} (h : (row.map Prod.fst).Nodup) : ((bkf b L p row x).map Prod.fst).Nodup := List.Sublist.nodup ((List.filter_sublist (l := row)).map Prod.fst) h
theorem fw_bkf {b L p : Nat} (hb : 1 ≤ b) (row : List KV) (y : Nat) : bkf b (fw_ b L p).1 (fw_ b L p).2 row y = row.filter (fun z => hm_ b L (p + 1) z.1 == y) := by
  unfold bkf
  have : (fun z : KV => hm_ b (fw_ b L p).1 (fw_ b L p).2 z.1 == y) = fun z : KV => hm_ b L (p + 1) z.1 == y := by
    funext z
    rw [fw_hm hb]
  rw [this]
theorem fw_other {b L p : Nat} (hb : 1 ≤ b) (hp : p < rd_ b L) (row : List KV) {y : Nat} (h1 : y ≠ p) (h2 : y ≠ rd_ b L + p) : row.filter (fun z => hm_ b L (p + 1) z.1 == y) = bkf b L p row y := by
  unfold bkf
  refine List.filter_congr (fun z _ => ?_)
  by_cases e : hm_ b L p z.1 = p
  · rcases (hm_eq hb hp z.1).mp e with w | w
    · rw [w, e]
    · rw [w, e]
      have a1 : (rd_ b L + p == y) = false := by simp; omega
      have a2 : (p == y) = false := by simp; omega
      rw [a1, a2]
  · rw [hm_ne hb hp e]
theorem fw_p {b L p : Nat} (hb : 1 ≤ b) (hp : p < rd_ b L) (row : List KV) {y : Nat} (h : y = p ∨ y = rd_ b L + p) : row.filter (fun z => hm_ b L (p + 1) z.1 == y) = (bkf b L p row p).filter (fun z => hm_ b L (p + 1) z.1 == y) := by
  unfold bkf
  rw [List.filter_filter]
  refine List.filter_congr (fun z _ => ?_)
  by_cases e : hm_ b L (p + 1) z.1 = y
  · have : hm_ b L p z.1 = p := (hm_eq hb hp z.1).mpr (by rw [e]; exact h)
    rw [this, e]
    simp
  · have : (hm_ b L (p + 1) z.1 == y) = false := by simpa using e
    rw [this]
    rfl
/-- of the keys at the pointer those that leave go to the new bucket -/
theorem mv_far {b L p : Nat} (hb : 1 ≤ b) (hp : p < rd_ b L) {l : List KV} (h : ∀ z, z ∈ l → hm_ b L p z.1 = p) : (l.filter (fun z => hm_ b L (p + 1) z.1 == rd_ b L + p)).length = mv_ b L p l := by
  unfold mv_
  have hR := rd_pos L hb
  have : l.filter (fun z => hm_ b L (p + 1) z.1 == rd_ b L + p) = l.filter (fun z => !(hm_ b L (p + 1) z.1 == p)) := by
    refine List.filter_congr (fun z hz => ?_)
    rcases (hm_eq hb hp z.1).mp (h z hz) with w | w
    · rw [w]
      have a1 : (p == rd_ b L + p) = false := by simp; omega
      rw [a1]
      simp
    · rw [w]
      have a1 : (rd_ b L + p == p) = false := by simp; omega
      rw [a1]
      simp
  rw [this]
theorem fl_part {α : Type} (f : α → Bool) (l : List α) : (l.filter f).length + (l.filter (fun z => !f z)).length = l.length := by
  induction l with
  | nil => rfl
  | cons a l ih =>
    by_cases e : f a = true
    · simp [e]
      omega
    · simp [e]
      omega
theorem mv_near {b L p : Nat} (l : List KV) : (l.filter (fun z => hm_ b L (p + 1) z.1 == p)).length = l.length - mv_ b L p l := by
  have := fl_part (fun z : KV => hm_ b L (p + 1) z.1 == p) l
  unfold mv_
  omega
theorem need_s {b c L p : Nat} {row : List KV} {z : KV} (h : hm_ b L p z.1 < rd_ b L + p) : need b c L p (row ++ [z]) + pgs c (bkf b L p row (hm_ b L p z.1)).length = need b c L p row + pgs c ((bkf b L p row (hm_ b L p z.1)).length + 1) := by
  unfold need
  have := sumN_u (f := fun x => pgs c (bkf b L p row x).length) (g := fun x => pgs c (bkf b L p (row ++ [z]) x).length) h (fun i _ hi => by
    show pgs c (bkf b L p (row ++ [z]) i).length = _
    rw [bkf_s, if_neg (Ne.symm hi)])
  simp only [bkf_s, if_true, List.length_append, List.length_singleton] at this ⊢
  exact this
theorem need_fw {b c L p : Nat} (hb : 1 ≤ b) (hp : p < rd_ b L) (row : List KV) : need b c (fw_ b L p).1 (fw_ b L p).2 row + pgs c (bkf b L p row p).length = need b c L p row + pgs c (mv_ b L p (bkf b L p row p)) + pgs c ((bkf b L p row p).length - mv_ b L p (bkf b L p row p)) := by
  have hR := rd_pos L hb
  unfold need
  rw [fw_nb]
  show sumN (fun x => pgs c (bkf b (fw_ b L p).1 (fw_ b L p).2 row x).length) (rd_ b L + p) + pgs c (bkf b (fw_ b L p).1 (fw_ b L p).2 row (rd_ b L + p)).length + _ = _
  have h1 := sumN_u (f := fun x => pgs c (bkf b L p row x).length) (g := fun x => pgs c (bkf b (fw_ b L p).1 (fw_ b L p).2 row x).length) (show p < rd_ b L + p by omega) (fun i hi hne => by
    show pgs c (bkf b (fw_ b L p).1 (fw_ b L p).2 row i).length = _
    rw [fw_bkf hb, fw_other hb hp row hne (by omega)])
  have h2 : (bkf b (fw_ b L p).1 (fw_ b L p).2 row p).length = (bkf b L p row p).length - mv_ b L p (bkf b L p row p) := by
    rw [fw_bkf hb, fw_p hb hp row (Or.inl rfl), mv_near]
  have h3 : (bkf b (fw_ b L p).1 (fw_ b L p).2 row (rd_ b L + p)).length = mv_ b L p (bkf b L p row p) := by
    rw [fw_bkf hb, fw_p hb hp row (Or.inr rfl), mv_far hb hp (fun z hz => (bkf_mem.mp hz).2)]
  simp only [h2] at h1
  rw [h3]
  omega
theorem mv_v {b L p : Nat} {l : List KV} (k v w : Int32) : mv_ b L p (l ++ [(k, v)]) = mv_ b L p (l ++ [(k, w)]) := by
  rw [mv_s, mv_s]
/-- where the pointer stands behind a put -/
def st_ (b c t L p n : Nat) : Nat × Nat := if pt_ c t (rd_ b L + p) (n + 1) = true then fw_ b L p else (L, p)
/-- the code's own count of room is right -/
theorem ft_need {b c m t L p fr : Nat} (hb : 1 ≤ b) (hc : 1 ≤ c) (hp : p < rd_ b L) (row : List KV) (key v : Int32) (hfr : fr + need b c L p row = m) : ft_ b c t L p row.length fr (bkf b L p row) (hm_ b L p key) key ↔ need b c (st_ b c t L p row.length).1 (st_ b c t L p row.length).2 (row ++ [(key, v)]) ≤ m := by
  have hx := hm_lt hb (show p ≤ rd_ b L by omega) key
  have hs := need_s (c := c) (row := row) (z := (key, v)) hx
  have hmo := pgs_mono (c := c) (show (bkf b L p row (hm_ b L p key)).length ≤ (bkf b L p row (hm_ b L p key)).length + 1 by omega)
  unfold ft_ st_
  by_cases hpt : pt_ c t (rd_ b L + p) (row.length + 1) = true
  · rw [if_pos hpt, if_pos hpt]
    have hf := need_fw (c := c) hb hp (row ++ [(key, v)])
    rw [bkf_s] at hf
    by_cases e : hm_ b L p key = p
    · rw [if_pos e]
      simp only [e, if_true, List.length_append, List.length_singleton] at hf hs hmo
      rw [mv_v key v 0] at hf
      omega
    · rw [if_neg e]
      simp only [e, if_false] at hf hs hmo
      omega
  · rw [if_neg hpt, if_neg hpt]
    simp only at hs ⊢
    omega
/-- the value of a key is set -/
def sv_ (row : List KV) (key v : Int32) : List KV := row.map (fun z => if z.1 = key then (z.1, v) else z)
theorem sv_k (row : List KV) (key v : Int32) : (sv_ row key v).map Prod.fst = row.map Prod.fst := by
  unfold sv_
  rw [List.map_map]
  refine List.map_congr_left (fun z _ => ?_)
  show (if z.1 = key then (z.1, v) else z).1 = z.1
  by_cases e : z.1 = key
  · rw [if_pos e]
  · rw [if_neg e]
theorem sv_len (row : List KV) (key v : Int32) : (sv_ row key v).length = row.length := by
  unfold sv_
  rw [List.length_map]
theorem sv_bkf {b L p : Nat} (row : List KV) (key v : Int32) (y : Nat) : bkf b L p (sv_ row key v) y = sv_ (bkf b L p row y) key v := by
  unfold bkf sv_
  rw [List.filter_map]
  congr 1
  refine List.filter_congr (fun z _ => ?_)
  show (hm_ b L p (if z.1 = key then (z.1, v) else z).1 == y) = _
  by_cases e : z.1 = key
  · rw [if_pos e]
  · rw [if_neg e]
/-- a key stands at one place -/
theorem nd_at {l : List KV} (h : (l.map Prod.fst).Nodup) {i j : Nat} (hi : i < l.length) (hj : j < l.length) (e : (l.getD i (0, 0)).1 = (l.getD j (0, 0)).1) : i = j := by
  have h2 := List.pairwise_iff_getElem.mp h
  have gi : (l.getD i (0, 0)) = l[i] := by rw [List.getD_eq_getElem?_getD, List.getElem?_eq_getElem hi]; rfl
  have gj : (l.getD j (0, 0)) = l[j] := by rw [List.getD_eq_getElem?_getD, List.getElem?_eq_getElem hj]; rfl
  rw [gi, gj] at e
  rcases Nat.lt_trichotomy i j with z | z | z
  · have := h2 i j (by simpa using hi) (by simpa using hj) z
    simp only [List.getElem_map] at this
    exact absurd e this
  · exact z
  · have := h2 j i (by simpa using hj) (by simpa using hi) z
    simp only [List.getElem_map] at this
    exact absurd e.symm this
theorem ls_ext {α : Type} {d : α} {l l' : List α} (h : l.length = l'.length) (hg : ∀ i, i < l.length → l.getD i d = l'.getD i d) : l = l' := by
  refine List.ext_getElem h (fun i h1 h2 => ?_)
  have := hg i h1
  rw [List.getD_eq_getElem?_getD, List.getD_eq_getElem?_getD, List.getElem?_eq_getElem h1, List.getElem?_eq_getElem h2] at this
  exact this
theorem gd_map {α β : Type} {f : α → β} {l : List α} {i : Nat} {d : α} {e : β} (h : i < l.length) : (l.map f).getD i e = f (l.getD i d) := by
  rw [List.getD_eq_getElem?_getD, List.getD_eq_getElem?_getD, List.getElem?_map, List.getElem?_eq_getElem h]
  rfl
theorem sv_set {l : List KV} (h : (l.map Prod.fst).Nodup) {i : Nat} (hi : i < l.length) {key v : Int32} (hk : (l.getD i (0, 0)).1 = key) : l.set i (key, v) = sv_ l key v := by
  refine ls_ext (d := (0, 0)) (by rw [List.length_set, sv_len]) (fun j hj => ?_)
  rw [List.length_set] at hj
  rw [gd_set hj]
  unfold sv_
  rw [gd_map (d := (0, 0)) hj]
  by_cases e : i = j
  · subst e
    rw [if_pos rfl, if_pos hk, hk]
  · rw [if_neg e, if_neg]
    intro w
    exact e (nd_at h hi hj (hk.trans w.symm))
theorem mem_gd {l : List KV} {key : Int32} (h : key ∈ l.map Prod.fst) : ∃ i, i < l.length ∧ (l.getD i (0, 0)).1 = key := by
  obtain ⟨z, hz, rfl⟩ := List.mem_map.mp h
  obtain ⟨i, hi, e⟩ := List.getElem_of_mem hz
  refine ⟨i, hi, ?_⟩
  rw [List.getD_eq_getElem?_getD, List.getElem?_eq_getElem hi]
  show (l[i]).1 = z.1
  rw [e]
theorem gd_mem1 {l : List KV} {i : Nat} (h : i < l.length) : (l.getD i (0, 0)).1 ∈ l.map Prod.fst := List.mem_map.mpr ⟨_, gd_mem h, rfl⟩
/-- a key is in the row if it is in its bucket -/
theorem key_in {b L p : Nat} {row : List KV} {key : Int32} : key ∈ (bkf b L p row (hm_ b L p key)).map Prod.fst ↔ key ∈ row.map Prod.fst := by
  constructor
  · intro h
    obtain ⟨z, hz, e⟩ := List.mem_map.mp h
    exact List.mem_map.mpr ⟨z, (bkf_mem.mp hz).1, e⟩
  · intro h
    obtain ⟨z, hz, e⟩ := List.mem_map.mp h
    exact List.mem_map.mpr ⟨z, bkf_mem.mpr ⟨hz, by rw [e]⟩, e⟩
/-- a key is taken out: the last of its bucket comes to its place -/
def AR (b L p : Nat) (key : Int32) (row row' : List KV) : Prop :=
  ∃ r1 e r2, row = r1 ++ e :: r2 ∧ e.1 = key ∧ (((∀ z, z ∈ r2 → hm_ b L p z.1 ≠ hm_ b L p key) ∧ row' = r1 ++ r2) ∨ ∃ r3 f r4, r2 = r3 ++ f :: r4 ∧ hm_ b L p f.1 = hm_ b L p key ∧ (∀ z, z ∈ r4 → hm_ b L p z.1 ≠ hm_ b L p key) ∧ row' = r1 ++ f :: (r3 ++ r4))
/-- the last element with a property -/
theorem last_with {α : Type} (f : α → Bool) (l : List α) : (∀ z, z ∈ l → f z = false) ∨ ∃ a x b, l = a ++ x :: b ∧ f x = true ∧ ∀ z, z ∈ b → f z = false := by
  induction l with
  | nil => exact Or.inl (fun z hz => absurd hz (by simp))
  | cons y l ih =>
    rcases ih with h | ⟨a, x, b, h1, h2, h3⟩
    · by_cases e : f y = true
      · exact Or.inr ⟨[], y, l, rfl, e, h⟩
      · refine Or.inl (fun z hz => ?_)
        rcases List.mem_cons.mp hz with w | w
        · rw [w]
          simpa using e
        · exact h z w
    · exact Or.inr ⟨y :: a, x, b, by rw [h1]; rfl, h2, h3⟩
theorem AR_ex {b L p : Nat} {key : Int32} {row : List KV} (h : key ∈ row.map Prod.fst) : ∃ row', AR b L p key row row' := by
  obtain ⟨e, he, hk⟩ := List.mem_map.mp h
  obtain ⟨r1, r2, rfl⟩ := List.append_of_mem he
  rcases last_with (fun z : KV => hm_ b L p z.1 == hm_ b L p key) r2 with w | ⟨r3, f, r4, w1, w2, w3⟩
  · exact ⟨r1 ++ r2, r1, e, r2, rfl, hk, Or.inl ⟨fun z hz => by simpa using w z hz, rfl⟩⟩
  · exact ⟨r1 ++ f :: (r3 ++ r4), r1, e, r2, rfl, hk, Or.inr ⟨r3, f, r4, w1, by simpa using w2, fun z hz => by simpa using w3 z hz, rfl⟩⟩
theorem AR_len {b L p : Nat} {key : Int32} {row row' : List KV} (h : AR b L p key row row') : row.length = row'.length + 1 := by
  obtain ⟨r1, e, r2, rfl, -, ⟨-, rfl⟩ | ⟨r3, f, r4, rfl, -, -, rfl⟩⟩ := h
  · simp
    omega
  · simp
    omega
theorem AR_nd {b L p : Nat} {key : Int32} {row row' : List KV} (h : AR b L p key row row') (hn : (row.map Prod.fst).Nodup) : (row'.map Prod.fst).Nodup := by
  obtain ⟨r1, e, r2, rfl, -, ⟨-, rfl⟩ | ⟨r3, f, r4, rfl, -, -, rfl⟩⟩ := h
  · exact List.Sublist.nodup ((List.Sublist.append_left (List.sublist_cons_self e r2) r1).map Prod.fst) hn
  · have h1 : (r1 ++ f :: (r3 ++ r4)).Perm (r1 ++ (r3 ++ f :: r4)) := List.Perm.append_left r1 List.perm_middle.symm
    refine (h1.map Prod.fst).nodup_iff.mpr ?_
    exact List.Sublist.nodup ((List.Sublist.append_left (List.sublist_cons_self e (r3 ++ f :: r4)) r1).map Prod.fst) hn
/-- the buckets behind it -/
theorem AR_bkf {b L p : Nat} {key : Int32} {row row' : List KV} (h : AR b L p key row row') {y : Nat} (hy : y ≠ hm_ b L p key) : bkf b L p row' y = bkf b L p row y := by
  obtain ⟨r1, e, r2, rfl, he, ⟨-, rfl⟩ | ⟨r3, f, r4, rfl, hf, -, rfl⟩⟩ := h
  · have : (hm_ b L p e.1 == y) = false := by rw [he]; simpa using Ne.symm hy
    unfold bkf
    simp [List.filter_append, List.filter_cons, this]
  · have h1 : (hm_ b L p e.1 == y) = false := by rw [he]; simpa using Ne.symm hy
    have h2 : (hm_ b L p f.1 == y) = false := by rw [hf]; simpa using Ne.symm hy
    unfold bkf
    simp [List.filter_append, List.filter_cons, h1, h2]
theorem fl_none {α : Type} {f : α → Bool} {l : List α} (h : ∀ z, z ∈ l → f z = false) : l.filter f = [] := by
  rw [List.filter_eq_nil_iff]
  intro z hz
  rw [h z hz]
  simp
theorem AR_own {b L p : Nat} {key : Int32} {row row' : List KV} (h : AR b L p key row row') (hn : (row.map Prod.fst).Nodup) : ∃ l y, bkf b L p row (hm_ b L p key) = l ++ [y] ∧ ∀ i, i < (l ++ [y]).length → ((l ++ [y]).getD i (0, 0)).1 = key → (l ++ [y]).set i y = bkf b L p row' (hm_ b L p key) ++ [y] := by
  have hb := bkf_nd (b := b) (L := L) (p := p) (x := hm_ b L p key) hn
  obtain ⟨r1, e, r2, rfl, he, ⟨h2, rfl⟩ | ⟨r3, f, r4, rfl, hf, h4, rfl⟩⟩ := h
  · have e1 : bkf b L p (r1 ++ e :: r2) (hm_ b L p key) = bkf b L p r1 (hm_ b L p key) ++ [e] := by
      unfold bkf
      rw [List.filter_append, List.filter_cons, fl_none (l := r2) (fun z hz => by simpa using h2 z hz)]
      simp [he]
    have e2 : bkf b L p (r1 ++ r2) (hm_ b L p key) = bkf b L p r1 (hm_ b L p key) := by
      unfold bkf
      rw [List.filter_append, fl_none (l := r2) (fun z hz => by simpa using h2 z hz), List.append_nil]
    rw [e1] at hb
    rw [e1, e2]
    refine ⟨_, _, rfl, fun i hi hk => ?_⟩
    have e3 : i = (bkf b L p r1 (hm_ b L p key)).length := by
      refine nd_at hb hi (by simp) ?_
      rw [hk, gd_r (Nat.le_refl _), Nat.sub_self]
      exact he.symm
    rw [e3, List.set_append_right _ _ (Nat.le_refl _), Nat.sub_self]
    rfl
  · have e1 : bkf b L p (r1 ++ e :: (r3 ++ f :: r4)) (hm_ b L p key) = bkf b L p r1 (hm_ b L p key) ++ e :: bkf b L p r3 (hm_ b L p key) ++ [f] := by
      unfold bkf
      rw [List.filter_append, List.filter_cons, List.filter_append, List.filter_cons, fl_none (l := r4) (fun z hz => by simpa using h4 z hz)]
      simp [he, hf]
    have e2 : bkf b L p (r1 ++ f :: (r3 ++ r4)) (hm_ b L p key) = bkf b L p r1 (hm_ b L p key) ++ f :: bkf b L p r3 (hm_ b L p key) := by
      unfold bkf
      rw [List.filter_append, List.filter_cons, List.filter_append, fl_none (l := r4) (fun z hz => by simpa using h4 z hz)]
      simp [hf]
    rw [e1] at hb
    rw [e1, e2]
    refine ⟨_, _, rfl, fun i hi hk => ?_⟩
    have e3 : i = (bkf b L p r1 (hm_ b L p key)).length := by
      refine nd_at hb hi (by simp) ?_
      rw [hk, List.append_assoc, gd_r (Nat.le_refl _), Nat.sub_self]
      exact he.symm
    rw [e3, List.append_assoc, List.set_append_right _ _ (Nat.le_refl _), Nat.sub_self]
    simp
/-- a bucket's keys go behind all others -/
def te_ (f : KV → Bool) (row : List KV) : List KV := row.filter (fun z => !f z) ++ row.filter f
theorem te_len (f : KV → Bool) (row : List KV) : (te_ f row).length = row.length := by
  unfold te_
  rw [List.length_append]
  have := fl_part f row
  omega
theorem te_perm (f : KV → Bool) (row : List KV) : (te_ f row).Perm row := by
  unfold te_
  exact List.perm_append_comm.trans (List.filter_append_perm f row)
theorem te_bkf {b L p : Nat} (hb : 1 ≤ b) (hp : p < rd_ b L) (row : List KV) {y : Nat} (hy : y < rd_ b L + p) : bkf b L p (te_ (fun z => hm_ b L (p + 1) z.1 == rd_ b L + p) row) y = if y = p then row.filter (fun z => hm_ b L (p + 1) z.1 == p) ++ row.filter (fun z => hm_ b L (p + 1) z.1 == rd_ b L + p) else row.filter (fun z => hm_ b L (p + 1) z.1 == y) := by
  have hR := rd_pos L hb
  unfold te_ bkf
  rw [List.filter_append, List.filter_filter, List.filter_filter]
  by_cases e : y = p
  · subst e
    rw [if_pos rfl]
    congr 1
    · refine List.filter_congr (fun z _ => ?_)
      have hq := hm_eq hb hp z.1
      show (hm_ b L y z.1 == y && !(hm_ b L (y + 1) z.1 == rd_ b L + y)) = (hm_ b L (y + 1) z.1 == y)
      by_cases w : hm_ b L (y + 1) z.1 = y
      · have : hm_ b L y z.1 = y := hq.mpr (Or.inl w)
        have a1 : (y == rd_ b L + y) = false := by simp; omega
        rw [this, w, a1]
        simp
      · by_cases w2 : hm_ b L (y + 1) z.1 = rd_ b L + y
        · rw [w2]
          have a1 : (rd_ b L + y == y) = false := by simp; omega
          rw [a1, beq_self_eq_true, Bool.not_true, Bool.and_false]
        · have : ¬ hm_ b L y z.1 = y := fun q => (hq.mp q).elim w w2
          have a1 : (hm_ b L y z.1 == y) = false := by simpa using this
          have a2 : (hm_ b L (y + 1) z.1 == y) = false := by simpa using w
          rw [a1, a2]
          rfl
    · refine List.filter_congr (fun z _ => ?_)
      have hq := hm_eq hb hp z.1
      by_cases w2 : hm_ b L (y + 1) z.1 = rd_ b L + y
      · have : hm_ b L y z.1 = y := hq.mpr (Or.inr w2)
        rw [this, w2]
        simp
      · have a2 : (hm_ b L (y + 1) z.1 == rd_ b L + y) = false := by simpa using w2
        rw [a2]
        simp
  · rw [if_neg e]
    have e1 : row.filter (fun a => (hm_ b L p a.1 == y) && (hm_ b L (p + 1) a.1 == rd_ b L + p)) = [] := by
      refine fl_none (fun z _ => ?_)
      by_cases w2 : hm_ b L (p + 1) z.1 = rd_ b L + p
      · have : hm_ b L p z.1 = p := (hm_eq hb hp z.1).mpr (Or.inr w2)
        rw [this]
        have a1 : (p == y) = false := by simpa using Ne.symm e
        rw [a1]
        rfl
      · have a2 : (hm_ b L (p + 1) z.1 == rd_ b L + p) = false := by simpa using w2
        rw [a2]
        simp
    rw [e1, List.append_nil]
    refine List.filter_congr (fun z _ => ?_)
    show (hm_ b L p z.1 == y && !(hm_ b L (p + 1) z.1 == rd_ b L + p)) = (hm_ b L (p + 1) z.1 == y)
    by_cases w : hm_ b L p z.1 = p
    · have a1 : (hm_ b L p z.1 == y) = false := by rw [w]; simpa using Ne.symm e
      have a2 : (hm_ b L (p + 1) z.1 == y) = false := by
        rcases (hm_eq hb hp z.1).mp w with q | q
        · rw [q]; simpa using Ne.symm e
        · rw [q]; simp; omega
      rw [a1, a2]
      rfl
    · have w3 := hm_ne hb hp w
      have w4 : ¬ hm_ b L (p + 1) z.1 = rd_ b L + p := fun q => w ((hm_eq hb hp z.1).mpr (Or.inr q))
      have a2 : (hm_ b L (p + 1) z.1 == rd_ b L + p) = false := by simpa using w4
      rw [a2, w3]
      simp
end
section
/-! the class' methods on the row (hand-written) -/
theorem sv_id {l : List KV} {key v : Int32} (h : key ∉ l.map Prod.fst) : sv_ l key v = l := by
  unfold sv_
  have : ∀ z ∈ l, (if z.1 = key then (z.1, v) else z) = id z := fun z hz => by
    rw [if_neg (fun e => h (List.mem_map.mpr ⟨z, hz, e⟩))]
    rfl
  rw [List.map_congr_left this, List.map_id]
section OPX
variable {b c m t : Nat} {u : StX} {L p : Nat} {row : List KV}
theorem NX_fw (hb : 1 ≤ b) (hp : p < rd_ b L) {row' : List KV} {tk : List KV} {fr sz : Nat} {lv : Nat → Bool} {bk : Nat → List KV} (R : RX c m u (fw_ b L p).1 (fw_ b L p).2 sz tk fr lv bk) (hsz : sz = row'.length) (hlv : ∀ y, lv y = decide (y < rd_ b L + p + 1)) (e1 : bk p = (bkf b L p row' p).filter (fun z => hm_ b L (p + 1) z.1 == p)) (e2 : bk (rd_ b L + p) = (bkf b L p row' p).filter (fun z => hm_ b L (p + 1) z.1 == rd_ b L + p)) (e3 : ∀ y, y ≠ p → y ≠ rd_ b L + p → bk y = bkf b L p row' y) : NX b c m u (fw_ b L p).1 (fw_ b L p).2 row' := by
  subst hsz
  refine ⟨tk, fr, RX_bk R (fun y => ?_) (fun y _ => ?_)⟩
  · rw [hlv, fw_nb]
  · rw [fw_bkf hb]
    by_cases a : y = p
    · subst a
      rw [e1, fw_p hb hp row' (Or.inl rfl)]
    · by_cases a2 : y = rd_ b L + p
      · subst a2
        rw [e2, fw_p hb hp row' (Or.inr rfl)]
      · rw [e3 y a a2, fw_other hb hp row' a a2]
theorem oX_put {Q : Int32 → StX → Prop} (K : KC b c m t) (W : WF b t L p row) (N : NX b c m u L p row) (key v : Int32)
    (h1 : key ∈ row.map Prod.fst → ∀ u', NX b c m u' L p (sv_ row key v) → Q 1 u')
    (h0 : key ∉ row.map Prod.fst → need b c (st_ b c t L p row.length).1 (st_ b c t L p row.length).2 (row ++ [(key, v)]) ≤ m → ∀ u', NX b c m u' (st_ b c t L p row.length).1 (st_ b c t L p row.length).2 (row ++ [(key, v)]) → Q 0 u')
    (h2 : key ∉ row.map Prod.fst → ¬ need b c (st_ b c t L p row.length).1 (st_ b c t L p row.length).2 (row ++ [(key, v)]) ≤ m → Q 2 u) : wp_X_put (kx_ b c m t) key v u Q := by
  obtain ⟨tk, fr, R⟩ := N
  obtain ⟨w1, w2, w3, w4⟩ := W
  have hmc := KC_mc K
  obtain ⟨k1, k2, k3, k4, k5, k6, k7, k8⟩ := id K
  have hS := RX_S R
  have hx := hm_lt k1 (show p ≤ rd_ b L by omega) key
  have hR := rd_pos L k1
  have hlv : (fun x => decide (x < rd_ b L + p)) (hm_ b L p key) = true := decide_eq_true hx
  have hlp : (fun x => decide (x < rd_ b L + p)) p = true := decide_eq_true (by omega)
  have hfr : fr + need b c L p row = m := by rw [← SU_need (by omega)]; exact RX_fr R
  refine sX_bucketOf K (by omega) hS key (sX_find K R hlv (fun i hi hk => ?_) (fun hno => ?_))
  · have hin : key ∈ row.map Prod.fst := key_in (b := b) (L := L) (p := p).mp (by have q := gd_mem1 hi; rw [hk] at q; exact q)
    have hl := bkf_len (b := b) (L := L) (p := p) (row := row) (x := hm_ b L p key)
    refine br_f (m1_ne (by omega)) (sX_place K R hlv hi (fun j hj hp => ⟨j, rfl, hj, h1 hin _ ⟨tk, fr, ?_⟩⟩))
    have hr := hp.2.2 key v
    have e : upd (xKeys u) j key = xKeys u := by
      have : key = xKeys u j := (hp.1.trans hk).symm
      rw [this]
      exact up_id
    rw [e] at hr
    rw [sv_len]
    refine RX_bk hr (fun _ => rfl) (fun y _ => ?_)
    rw [sv_bkf]
    by_cases ey : y = hm_ b L p key
    · subst ey
      rw [vu_s]
      exact sv_set (bkf_nd w3) hi hk
    · rw [vu_n ey, sv_id]
      intro z
      obtain ⟨q, hq, hq2⟩ := List.mem_map.mp z
      exact ey ((bkf_mem.mp hq).2.symm.trans (by rw [hq2]))
  · have hnot : key ∉ row.map Prod.fst := by
      intro z
      obtain ⟨i, hi, e⟩ := mem_gd (key_in (b := b) (L := L) (p := p).mpr z)
      exact hno i hi e
    have hftn := ft_need (t := t) k1 k3 w1 row key v hfr
    refine br_t rfl (sX_fits K R w1 (by omega) (by omega) hlv hlp (fun hft => br_f (by decide) ?_) (fun hft => br_t rfl (h2 hnot (fun z => hft (hftn.mpr z)))))
    have hok := h0 hnot (hftn.mp hft)
    have R1 : RX c m (xSetSize (nI (row.length + 1)) (xSetTaken 0 u)) L p (row.length + 1) [] fr (fun x => decide (x < rd_ b L + p)) (bkf b L p row) := RX_set R rfl rfl rfl rfl rfl rfl rfl ⟨hS.1, hS.2.1, rfl, hS.2.2.2⟩ ⟨rfl, by simp, fun i hi => absurd hi (by simp)⟩
    have hrl : (row ++ [(key, v)]).length = row.length + 1 := by simp
    show wp_X_parts _ (xSize u + 1) u _
    rw [hS.2.2.1, nI_1]
    refine sX_parts K (by omega) hS (by omega) ?_
    unfold jn_X_put_76
    show _ ∧ _
    rw [hS.2.2.1, nI_1, hS.2.1]
    unfold ft_ at hft
    unfold st_ at hok
    by_cases hpt : pt_ c t (rd_ b L + p) (row.length + 1) = true
    · rw [if_pos hpt] at hft hok
      rw [if_pos hpt]
      have hnb : rd_ b L + p < t := by
        unfold pt_ at hpt
        simp at hpt
        exact hpt.2
      have hlq : decide (rd_ b L + p < rd_ b L + p) = false := by simp
      refine br_f (by decide) (pk_eq (hm_ b L p key) p (fun z => ?_) (fun z => ?_))
      · rw [if_pos z] at hft
        have hms := mv_le b L p (bkf b L p row p ++ [(key, v)])
        have hml : (bkf b L p row p ++ [(key, v)]).length = (bkf b L p row p).length + 1 := by simp
        rw [mv_v key 0 v] at hft
        have c1 := pgs_cap k3 (mv_ b L p (bkf b L p row p ++ [(key, v)]))
        have c2 := pgs_cap k3 ((bkf b L p row p).length + 1 - mv_ b L p (bkf b L p row p ++ [(key, v)]))
        have hS1 := SU_1 c (lv := fun x => decide (x < rd_ b L + p)) (bk := bkf b L p row) (show p < 200 by omega) hlp
        have hfrS := RX_fr R
        have c3 : c * (pgs c (mv_ b L p (bkf b L p row p ++ [(key, v)])) + pgs c ((bkf b L p row p).length + 1 - mv_ b L p (bkf b L p row p ++ [(key, v)]))) ≤ c * m := Nat.mul_le_mul_left c (by omega)
        rw [Nat.mul_add] at c3
        have c4 : (bkf b L p row p).length + 1 ≤ m * c := by
          rw [Nat.mul_comm m c]
          omega
        refine br_f (by decide) (br_f (by decide) ?_)
        show wp_X_takeOff _ (xPointer u) _ _
        rw [hS.2.1]
        refine sX_takeOff K R1 hlp (by simp; omega) (fun u2 R2 => br_f (by decide) ?_)
        rw [List.nil_append] at R2
        have hT2 := RX_T R2
        have hS2 := RX_S R2
        refine ⟨_, hT2.1, by show (bkf b L p row p).length < m * c; omega, br_f (by decide) ?_⟩
        have R3 : RX c m (xSetTakenValues (upd (xTakenValues u2) (bkf b L p row p).length v) (xSetTakenKeys (upd (xTakenKeys u2) (bkf b L p row p).length key) (xSetTaken (xTaken u2 + 1) u2))) L p (row.length + 1) (bkf b L p row p ++ [(key, v)]) (fr + pgs c (bkf b L p row p).length) (va_up (fun x => decide (x < rd_ b L + p)) p false) (bkf b L p row) := by
          refine RX_set R2 rfl rfl rfl rfl rfl rfl rfl hS2 ⟨?_, by omega, fun i hi => ?_⟩
          · show xTaken u2 + 1 = _
            rw [hT2.1, nI_1, hml]
          · show upd (xTakenKeys u2) (bkf b L p row p).length key i = _ ∧ upd (xTakenValues u2) (bkf b L p row p).length v i = _
            by_cases e : i = (bkf b L p row p).length
            · subst e
              rw [up_s, up_s, gd_r (Nat.le_refl _), Nat.sub_self]
              exact ⟨rfl, rfl⟩
            · rw [up_n e, up_n e, gd_l (by omega)]
              exact hT2.2.2 i (by omega)
        have hbp : bkf b L p (row ++ [(key, v)]) p = bkf b L p row p ++ [(key, v)] := by
          rw [bkf_s, if_pos z]
        have hall : ∀ q, q ∈ bkf b L p row p ++ [(key, v)] → hm_ b L p q.1 = p := fun q hq => by
          rw [← hbp] at hq
          exact (bkf_mem.mp hq).2
        refine sX_split K R3 w1 (by omega) vu_s (by rw [vu_n (by omega)]; exact hlq) ?_ hall (fun u4 bk4 R4 a1 a2 a3 => hok u4 (NX_fw k1 w1 R4 hrl.symm (fun y => ?_) ?_ ?_ (fun y y1 y2 => ?_)))
        · rw [mv_near, mv_far k1 w1 hall, hml]
          omega
        · by_cases e1 : y = rd_ b L + p
          · subst e1
            rw [vu_s]
            simp
          · rw [vu_n e1]
            by_cases e2 : y = p
            · subst e2
              rw [vu_s]
              simp
              omega
            · rw [vu_n e2, vu_n e2]
              have : (y < rd_ b L + p) = (y < rd_ b L + p + 1) := by
                apply propext
                omega
              simp only [this]
        · rw [a1, hbp]
        · rw [a2, hbp]
        · rw [a3 y y1 y2, bkf_s, if_neg (by rw [z]; exact Ne.symm y1)]
      · rw [if_neg z] at hft
        have hmo := pgs_mono (c := c) (show (bkf b L p row (hm_ b L p key)).length ≤ (bkf b L p row (hm_ b L p key)).length + 1 by omega)
        have hmv := mv_le b L p (bkf b L p row p)
        have ha := pgs_add k3 (mv_ b L p (bkf b L p row p)) ((bkf b L p row p).length - mv_ b L p (bkf b L p row p))
        rw [show mv_ b L p (bkf b L p row p) + ((bkf b L p row p).length - mv_ b L p (bkf b L p row p)) = (bkf b L p row p).length by omega] at ha
        refine br_t rfl (sX_add K R1 hlv (by omega) (fun u2 R2 => br_f (by decide) ?_))
        have hS2 := RX_S R2
        have hbp : va_up (bkf b L p row) (hm_ b L p key) (bkf b L p row (hm_ b L p key) ++ [(key, v)]) p = bkf b L p row p := vu_n (Ne.symm z)
        have hpl := RX_len k3 R2 hlp
        rw [hS2.2.1]
        refine sX_takeOff K R2 hlp (by simpa using hpl.2) (fun u3 R3 => br_t rfl (br_f (by decide) ?_))
        rw [List.nil_append, hbp] at R3
        have hall : ∀ q, q ∈ bkf b L p row p → hm_ b L p q.1 = p := fun q hq => (bkf_mem.mp hq).2
        have hbp2 : bkf b L p (row ++ [(key, v)]) p = bkf b L p row p := by
          rw [bkf_s, if_neg z]
        refine sX_split K R3 w1 (by omega) vu_s (by rw [vu_n (by omega)]; exact hlq) ?_ hall (fun u4 bk4 R4 a1 a2 a3 => hok u4 (NX_fw k1 w1 R4 hrl.symm (fun y => ?_) ?_ ?_ (fun y y1 y2 => ?_)))
        · rw [mv_near, mv_far k1 w1 hall]
          omega
        · by_cases e1 : y = rd_ b L + p
          · subst e1
            rw [vu_s]
            simp
          · rw [vu_n e1]
            by_cases e2 : y = p
            · subst e2
              rw [vu_s]
              simp
              omega
            · rw [vu_n e2, vu_n e2]
              have : (y < rd_ b L + p) = (y < rd_ b L + p + 1) := by
                apply propext
                omega
              simp only [this]
        · rw [a1, hbp2]
        · rw [a2, hbp2]
        · rw [a3 y y1 y2, bkf_s]
          by_cases e1 : hm_ b L p key = y
          · subst e1
            rw [vu_s, if_pos rfl]
          · rw [vu_n (Ne.symm e1), if_neg e1]
    · rw [if_neg hpt] at hft hok
      rw [if_neg hpt]
      refine br_t rfl (br_t rfl (sX_add K R1 hlv hft (fun u2 R2 => br_t rfl (br_t rfl (br_t rfl (hok u2 ⟨[], fr + pgs c (bkf b L p row (hm_ b L p key)).length - pgs c ((bkf b L p row (hm_ b L p key)).length + 1), ?_⟩))))))
      rw [hrl]
      refine RX_bk R2 (fun _ => rfl) (fun y _ => ?_)
      rw [bkf_s]
      by_cases e1 : hm_ b L p key = y
      · subst e1
        rw [vu_s, if_pos rfl]
      · rw [vu_n (Ne.symm e1), if_neg e1]
theorem oX_look (K : KC b c m t) (W : WF b t L p row) {tk : List KV} {fr : Nat} (R : RX c m u L p row.length tk fr (fun x => decide (x < rd_ b L + p)) (bkf b L p row)) (key : Int32) {Q : Int32 → Int32 → StX → Prop}
    (h1 : ∀ i, i < (bkf b L p row (hm_ b L p key)).length → ((bkf b L p row (hm_ b L p key)).getD i (0, 0)).1 = key → key ∈ row.map Prod.fst → Q (nI (hm_ b L p key)) (nI i) u) (h2 : key ∉ row.map Prod.fst → Q (nI (hm_ b L p key)) (-1) u) : wp_X_bucketOf (kx_ b c m t) key u (fun r u1 => wp_X_find (kx_ b c m t) r key u1 (fun r2 u2 => Q r r2 u2)) := by
  obtain ⟨w1, w2, w3, w4⟩ := W
  obtain ⟨k1, k2, k3, k4, k5, k6, k7, k8⟩ := id K
  have hx := hm_lt k1 (show p ≤ rd_ b L by omega) key
  have hlv : (fun x => decide (x < rd_ b L + p)) (hm_ b L p key) = true := decide_eq_true hx
  refine sX_bucketOf K (by omega) (RX_S R) key (sX_find K R hlv (fun i hi hk => ?_) (fun hno => h2 ?_))
  · exact h1 i hi hk (key_in (b := b) (L := L) (p := p).mp (by have q := gd_mem1 hi; rw [hk] at q; exact q))
  · intro z
    obtain ⟨i, hi, e⟩ := mem_gd (key_in (b := b) (L := L) (p := p).mpr z)
    exact hno i hi e
theorem oX_get {Q : Int32 → StX → Prop} (K : KC b c m t) (W : WF b t L p row) (N : NX b c m u L p row) (key : Int32) (h1 : ∀ z, z ∈ row → z.1 = key → Q z.2 u) (h2 : key ∉ row.map Prod.fst → Q 0 u) : wp_X_get (kx_ b c m t) key u Q := by
  obtain ⟨tk, fr, R⟩ := N
  have hx := hm_lt K.1 (show p ≤ rd_ b L by have := W.1; omega) key
  have hlv : (fun x => decide (x < rd_ b L + p)) (hm_ b L p key) = true := decide_eq_true hx
  have w4 := W.2.2.2
  refine oX_look K W R key (fun i hi hk hin => br_f (m1_ne ?_) (sX_place K R hlv hi (fun j hj hp => ⟨j, rfl, hj, ?_⟩))) (fun hno => br_t rfl (h2 hno))
  · have := bkf_len (b := b) (L := L) (p := p) (row := row) (x := hm_ b L p key)
    omega
  · rw [hp.2.1]
    exact h1 _ (bkf_mem.mp (gd_mem hi)).1 hk
theorem oX_has {Q : Int32 → StX → Prop} (K : KC b c m t) (W : WF b t L p row) (N : NX b c m u L p row) (key : Int32) (h1 : key ∈ row.map Prod.fst → Q 1 u) (h2 : key ∉ row.map Prod.fst → Q 0 u) : wp_X_has (kx_ b c m t) key u Q := by
  obtain ⟨tk, fr, R⟩ := N
  have w4 := W.2.2.2
  refine oX_look K W R key (fun i hi hk hin => br_f (m1_ne ?_) (h1 hin)) (fun hno => br_t rfl (h2 hno))
  have := bkf_len (b := b) (L := L) (p := p) (row := row) (x := hm_ b L p key)
  omega
/-- whether two buckets are joined -/
def jp_ (b c nb n : Nat) : Prop := 4 * n < c * nb ∧ b < nb
theorem oX_remove0 {Q : Int32 → StX → Prop} (K : KC b c m t) (W : WF b t L p row) (N : NX b c m u L p row) (key : Int32) (hno : key ∉ row.map Prod.fst) (h : Q 0 u) : wp_X_remove (kx_ b c m t) key u Q := by
  obtain ⟨tk, fr, R⟩ := N
  exact oX_look K W R key (fun i hi hk hin => absurd hin hno) (fun _ => br_t rfl h)
theorem oX_remove {Q : Int32 → StX → Prop} (K : KC b c m t) (W : WF b t L p row) (N : NX b c m u L p row) (key : Int32) (hin : key ∈ row.map Prod.fst) {row' : List KV} (hA : AR b L p key row row')
    (h1 : ¬ jp_ b c (rd_ b L + p) row'.length → ∀ u', NX b c m u' L p row' → Q 1 u')
    (h2 : jp_ b c (rd_ b L + p) row'.length → ∀ u', NX b c m u' (bw_ b L p).1 (bw_ b L p).2 (te_ (fun z => hm_ b L p z.1 == rd_ b L + p - 1) row') → Q 1 u') : wp_X_remove (kx_ b c m t) key u Q := by
  obtain ⟨tk, fr, R⟩ := N
  obtain ⟨w1, w2, w3, w4⟩ := id W
  obtain ⟨k1, k2, k3, k4, k5, k6, k7, k8⟩ := id K
  have hR := rd_pos L k1
  have hx := hm_lt k1 (show p ≤ rd_ b L by omega) key
  have hlv : (fun x => decide (x < rd_ b L + p)) (hm_ b L p key) = true := decide_eq_true hx
  have hbl := bkf_len (b := b) (L := L) (p := p) (row := row) (x := hm_ b L p key)
  have hcn := RX_cnt R hlv
  obtain ⟨l, y, e1, e2⟩ := AR_own hA w3
  have hAl := AR_len hA
  refine oX_look K W R key (fun i hi hk _ => br_f (m1_ne (by omega)) (sX_place K R hlv hi (fun j hj hp => ⟨_, rfl, by omega, ?_⟩))) (fun hno => absurd hin hno)
  have hlast : l.length < (bkf b L p row (hm_ b L p key)).length := by rw [e1]; simp
  have ecn : xCounts u (hm_ b L p key) - 1 = nI l.length := by
    rw [hcn, e1]
    simp only [List.length_append, List.length_singleton]
    exact nI_p1 _
  rw [ecn]
  refine sX_place K R hlv hlast (fun j2 hj2 hp2 => ⟨j2, rfl, hj2, j, rfl, hj, ?_⟩)
  have ey : (bkf b L p row (hm_ b L p key)).getD l.length (0, 0) = y := by
    rw [e1, gd_r (Nat.le_refl _), Nat.sub_self]
    rfl
  have R1 := hp.2.2 y.1 y.2
  rw [hp2.1, hp2.2.1, ey]
  have e3 := e2 i (by rw [← e1]; exact hi) (by rw [← e1]; exact hk)
  rw [← e1] at e3
  rw [show ((y.1, y.2) : KV) = y from rfl, e3] at R1
  refine sX_dropLast K R1 hlv vu_s (fun u2 R2 => ?_)
  have hS2 := RX_S R2
  have hT2 := RX_T R2
  have esz : xSize u2 - 1 = nI row'.length := by
    rw [hS2.2.2.1, hAl]
    exact nI_p1 _
  show wp_X_buckets _ (xSetSize (xSize u2 - 1) u2) _
  rw [esz]
  have R3 := RX_set (v := xSetSize (nI row'.length) u2) (sz' := row'.length) R2 rfl rfl rfl rfl rfl rfl rfl ⟨hS2.1, hS2.2.1, rfl, hS2.2.2.2⟩ hT2
  have R4 := RX_bk (lv' := fun x => decide (x < rd_ b L + p)) (bk' := bkf b L p row') R3 (fun _ => rfl) (fun z _ => by
    rw [bx_uu]
    by_cases ez : z = hm_ b L p key
    · subst ez
      rw [vu_s]
    · rw [vu_n ez, AR_bkf hA ez])
  clear R3 R2
  generalize hfr' : fr + pgs c ((bkf b L p row' (hm_ b L p key)).length + 1) - pgs c (bkf b L p row' (hm_ b L p key)).length = fr' at R4
  have hS4 := RX_S R4
  have hmul : c * (rd_ b L + p) ≤ 8 * 200 := Nat.mul_le_mul k4 (by omega)
  refine sX_buckets K (by omega) hS4 ?_
  have e5 : (4 : Int64) * (nI row'.length).toInt64 = lN (4 * row'.length) := by
    rw [nI_l (by omega), show (4 : Int64) = lN 4 from rfl, lN_mul]
  have e6 : (nI c).toInt64 * (nI (rd_ b L + p)).toInt64 = lN (c * (rd_ b L + p)) := by
    rw [nI_l (by omega), nI_l (by omega), lN_mul]
  show (0 ≤ lg_cmp ((4 : Int64) * (nI row'.length).toInt64) ((nI c).toInt64 * (nI (rd_ b L + p)).toInt64) → _) ∧ (¬ 0 ≤ lg_cmp ((4 : Int64) * (nI row'.length).toInt64) ((nI c).toInt64 * (nI (rd_ b L + p)).toInt64) → _)
  rw [e5, e6, lg_cmp_ge, lN_le (by omega) (by omega)]
  refine ⟨fun z => h1 (fun q => ?_) _ ⟨_, _, R4⟩, fun z => sX_buckets K (by omega) hS4 (pk_le (rd_ b L + p) b (fun q => h1 (fun q2 => ?_) _ ⟨_, _, R4⟩) (fun q => ?_))⟩
  · have := q.1
    omega
  · have := q2.2
    omega
  · have hjp : jp_ b c (rd_ b L + p) row'.length := ⟨by omega, q⟩
    have hbn := bw_nb k1 w1 q
    have hbw := bw_fw k1 w1 q
    have hbt := bw_lt k1 w1
    have h2 := h2 hjp
    generalize hl : (bw_ b L p).1 = L' at *
    generalize hq' : (bw_ b L p).2 = p' at *
    refine sX_join K R4 w1 (by omega) q (by rw [hq']; exact decide_eq_true (by omega)) (decide_eq_true (by omega)) (fun u5 tk5 fr5 bk5 R5 a1 a2 => h2 u5 ⟨tk5, fr5, ?_⟩)
    rw [te_len]
    rw [hl, hq'] at R5
    rw [hq'] at a1 a2
    refine RX_bk R5 (fun z => ?_) (fun z hz => ?_)
    · by_cases ez : z = rd_ b L + p - 1
      · subst ez
        rw [vu_s]
        have : ¬ rd_ b L + p - 1 < rd_ b L' + p' := by omega
        simp [this]
      · rw [vu_n ez]
        have : (z < rd_ b L + p) = (z < rd_ b L' + p') := by
          apply propext
          omega
        simp only [this]
    · have hz2 : z < rd_ b L' + p' := by
        by_cases ez : z = rd_ b L + p - 1
        · subst ez
          rw [vu_s] at hz
          exact absurd hz (by simp)
        · rw [vu_n ez] at hz
          have := of_decide_eq_true hz
          omega
      have hfe : ∀ w, bkf b L p row' w = row'.filter (fun q => hm_ b L' (p' + 1) q.1 == w) := fun w => by
        have := fw_bkf (L := L') (p := p') k1 row' w
        rw [hbw] at this
        exact this
      have hte : (fun q : KV => hm_ b L p q.1 == rd_ b L + p - 1) = fun q : KV => hm_ b L' (p' + 1) q.1 == rd_ b L' + p' := by
        funext q
        have := fw_hm (L := L') (p := p') k1 q.1
        rw [hbw] at this
        rw [← this, show rd_ b L + p - 1 = rd_ b L' + p' by omega]
      rw [hte, te_bkf k1 hbt row' hz2]
      by_cases ez : z = p'
      · subst ez
        rw [if_pos rfl, a1, hfe, hfe, show rd_ b L + p - 1 = rd_ b L' + z by omega]
      · rw [if_neg ez, a2 z ez, hfe]
theorem oX_size {Q : Int32 → StX → Prop} (N : NX b c m u L p row) (h : Q (nI row.length) u) : wp_X_size (kx_ b c m t) u Q := by
  obtain ⟨tk, fr, R⟩ := N
  unfold wp_X_size
  rw [(RX_S R).2.2.1]
  exact h
theorem oX_level {Q : Int32 → StX → Prop} (N : NX b c m u L p row) (h : Q (nI L) u) : wp_X_level (kx_ b c m t) u Q := by
  obtain ⟨tk, fr, R⟩ := N
  unfold wp_X_level
  rw [(RX_S R).1]
  exact h
theorem oX_pointer {Q : Int32 → StX → Prop} (N : NX b c m u L p row) (h : Q (nI p) u) : wp_X_pointer (kx_ b c m t) u Q := by
  obtain ⟨tk, fr, R⟩ := N
  unfold wp_X_pointer
  rw [(RX_S R).2.1]
  exact h
theorem oX_free {Q : Int32 → StX → Prop} (K : KC b c m t) (W : WF b t L p row) (N : NX b c m u L p row) (h : need b c L p row ≤ m → Q (nI (m - need b c L p row)) u) : wp_X_free (kx_ b c m t) u Q := by
  obtain ⟨tk, fr, R⟩ := N
  have h1 := RX_fr R
  rw [SU_need (by have := W.2.1; have := K.2.2.2.2.2.2.2; omega)] at h1
  unfold wp_X_free
  rw [(RX_S R).2.2.2, show fr = m - need b c L p row by omega]
  exact h (by omega)
theorem oX_buckets {Q : Int32 → StX → Prop} (K : KC b c m t) (W : WF b t L p row) (N : NX b c m u L p row) (h : Q (nI (rd_ b L + p)) u) : wp_X_buckets (kx_ b c m t) u Q := by
  obtain ⟨tk, fr, R⟩ := N
  exact sX_buckets K (by have := W.2.1; have := K.2.2.2.2.2.2.2; omega) (RX_S R) h
theorem oX_bucketOf {Q : Int32 → StX → Prop} (K : KC b c m t) (W : WF b t L p row) (N : NX b c m u L p row) (key : Int32) (h : Q (nI (hm_ b L p key)) u) : wp_X_bucketOf (kx_ b c m t) key u Q := by
  obtain ⟨tk, fr, R⟩ := N
  exact sX_bucketOf K (by have := W.2.1; have := K.2.2.2.2.2.2.2; omega) (RX_S R) key h
theorem oX_isBucket {Q : Int32 → StX → Prop} (K : KC b c m t) (W : WF b t L p row) (N : NX b c m u L p row) (x : Int32) (h1 : ∀ a, a < rd_ b L + p → x = nI a → Q 1 u) (h2 : (¬ ∃ a, a < rd_ b L + p ∧ x = nI a) → Q 0 u) : wp_X_isBucket (kx_ b c m t) x u Q := by
  have hnb : rd_ b L + p ≤ 200 := by have := W.2.1; have := K.2.2.2.2.2.2.2; omega
  refine ⟨fun z => h2 ?_, fun z => ?_⟩
  · intro ⟨a, ha, e⟩
    subst e
    exact nI_pos (by omega) z
  · obtain ⟨a, ha, rfl⟩ := nI_of z
    refine oX_buckets K W N (pk_le (rd_ b L + p) a (fun q => h2 ?_) (fun q => h1 a q rfl))
    intro ⟨a', ha', e⟩
    have := (nI_eq ha (by omega)).mp e
    omega
theorem oX_pages {Q : Int32 → StX → Prop} (K : KC b c m t) (W : WF b t L p row) (N : NX b c m u L p row) (x : Int32) (h1 : ∀ a, a < rd_ b L + p → x = nI a → Q (nI (pgs c (bkf b L p row a).length)) u) (h2 : (¬ ∃ a, a < rd_ b L + p ∧ x = nI a) → Q (-1) u) : wp_X_pages (kx_ b c m t) x u Q := by
  have hnb : rd_ b L + p ≤ 200 := by have := W.2.1; have := K.2.2.2.2.2.2.2; omega
  refine oX_isBucket K W N x (fun a ha e => br_f (by decide) ?_) (fun hn => br_t rfl (h2 hn))
  subst e
  obtain ⟨tk, fr, R⟩ := N
  have hlv : (fun x => decide (x < rd_ b L + p)) a = true := decide_eq_true ha
  refine ⟨a, rfl, by omega, ?_⟩
  rw [RX_cnt R hlv]
  have := bkf_len (b := b) (L := L) (p := p) (row := row) (x := a)
  have := W.2.2.2
  exact sX_pagesOf K (by omega) (h1 a ha rfl)
theorem oX_key {Q : Int32 → StX → Prop} (K : KC b c m t) (W : WF b t L p row) (N : NX b c m u L p row) (x y : Int32) (h1 : ∀ a k, a < rd_ b L + p → x = nI a → k < (bkf b L p row a).length → y = nI k → Q ((bkf b L p row a).getD k (0, 0)).1 u) (h2 : (¬ ∃ a k, a < rd_ b L + p ∧ x = nI a ∧ k < (bkf b L p row a).length ∧ y = nI k) → Q (-1) u) : wp_X_key (kx_ b c m t) x y u Q := by
  have hnb : rd_ b L + p ≤ 200 := by have := W.2.1; have := K.2.2.2.2.2.2.2; omega
  have w4 := W.2.2.2
  refine oX_isBucket K W N x (fun a ha e => br_f (by decide) ?_) (fun hn => br_t rfl (h2 (fun ⟨a, k, q1, q2, _⟩ => hn ⟨a, q1, q2⟩)))
  subst e
  obtain ⟨tk, fr, R⟩ := N
  have hlv : (fun x => decide (x < rd_ b L + p)) a = true := decide_eq_true ha
  have hbl := bkf_len (b := b) (L := L) (p := p) (row := row) (x := a)
  refine ⟨fun z => h2 ?_, fun z => ?_⟩
  · intro ⟨a', k, q1, q2, q3, q4⟩
    have := (nI_eq (by omega) (by omega)).mp q2
    subst this
    subst q4
    exact nI_pos (by omega) z
  · obtain ⟨k, hk, rfl⟩ := nI_of z
    refine ⟨a, rfl, by omega, pk_le (bkf b L p row a).length k (fun q => h2 ?_) (fun q => ?_) (RX_cnt R hlv)⟩
    · intro ⟨a', k', q1, q2, q3, q4⟩
      have := (nI_eq (by omega) (by omega)).mp q2
      subst this
      have := (nI_eq hk (by omega)).mp q4
      omega
    · refine sX_place K R hlv q (fun j hj hp => ⟨j, rfl, hj, ?_⟩)
      rw [hp.1]
      exact h1 a k ha rfl q rfl
theorem oX_clear {Q : StX → Prop} (K : KC b c m t) (N : NX b c m u L p row) (h : ∀ u', NX b c m u' 0 0 [] → Q u') : wp_X_clear (kx_ b c m t) u Q := by
  obtain ⟨tk, fr, R⟩ := N
  refine sX_clear K (RX_T R) (fun u' R' => h u' ⟨_, _, RX_bk R' (fun y => ?_) (fun y _ => ?_)⟩)
  · rw [rd_0]
    rfl
  · rfl
end OPX
end
section
/-! the reference's state against a row of keys, values and homes (hand-written) -/
abbrev K3 : Type := Int32 × Int32 × Int32
abbrev km_ (b c m t : Nat) : KM := (nI b, nI c, nI m, nI t)
def RM (v : StM) (L p : Nat) (r : List K3) : Prop := mLevel v = nI L ∧ mPointer v = nI p ∧ mSize v = nI r.length ∧ r.length ≤ 2400 ∧ ∀ i, i < r.length → mKeys v i = (r.getD i (0, 0, 0)).1 ∧ mValues v i = (r.getD i (0, 0, 0)).2.1 ∧ mHomes v i = (r.getD i (0, 0, 0)).2.2
section RMS
variable {b c m t : Nat} {v : StM} {L p : Nat} {r : List K3}
theorem RM_len (R : RM v L p r) : r.length ≤ 2400 := R.2.2.2.1
theorem sM_round {Q : Int32 → StM → Prop} (K : KC b c m t) (hL : mLevel v = nI L) (hl : L ≤ 100) (h : Q (nI (rd_ b L)) v) : wp_M_round (km_ b c m t) v Q := by
  have go : ∀ d i, i + d = L → lp_M_round_7 (km_ b c m t) Q (d + 1) (nI (rd_ b i)) (nI i) v := by
    intro d
    induction d with
    | zero =>
      intro i hi
      have e : i = L := by omega
      subst e
      exact pk_le i i (fun _ => h) (fun z => absurd z (by omega)) hL
    | succ d ih =>
      intro i hi
      refine pk_le L i (fun z => absurd z (by omega)) (fun _ => nm_r (e' := nI (rd_ b (i + 1))) ?_ (nm_r (nI_1 i) (ih (i + 1) (by omega)))) hL
      rw [show (2 : Int32) = nI 2 from rfl, pk_mul, rd_s]
  refine nm_r (e' := nI (rd_ b 0)) ?_ ⟨_, go L 0 (by omega)⟩
  rw [rd_0]
theorem sM_buckets {Q : Int32 → StM → Prop} (K : KC b c m t) (hL : mLevel v = nI L) (hp : mPointer v = nI p) (hl : L ≤ 100) (h : Q (nI (rd_ b L + p)) v) : wp_M_buckets (km_ b c m t) v Q := by
  refine sM_round K hL hl ?_
  rw [hp, nI_add]
  exact h
theorem sM_bucketOf {Q : Int32 → StM → Prop} (K : KC b c m t) (hR : rd_ b L + p ≤ 200) (hL : mLevel v = nI L) (hp : mPointer v = nI p) (key : Int32) (h : Q (nI (hm_ b L p key)) v) : wp_M_bucketOf (km_ b c m t) key v Q := by
  have h1 := rd_pos L K.1
  have h2 := hs_lt key
  have h3 := rd_s b L
  have h4 : hs_ key % rd_ b L < rd_ b L := Nat.mod_lt _ h1
  have hl := rd_lev K.1 (show rd_ b L ≤ 200 by omega)
  refine nm_r (hs_eq key) (sM_round K hL (by omega) ⟨nI_ne0 (by omega) (by omega), nm_r (jr_nI h2 (by omega) (by omega)) (pk_le p (hs_ key % rd_ b L) (fun z => ?_) (fun z => sM_round K hL (by omega) ?_) hp)⟩)
  · unfold hm_ at h
    rw [if_neg (by omega)] at h
    exact h
  · rw [show (2 : Int32) = nI 2 from rfl, pk_mul, ← h3]
    refine ⟨nI_ne0 (by omega) (by omega), ?_⟩
    rw [jr_nI h2 (by omega) (by omega)]
    unfold hm_ at h
    rw [if_pos z] at h
    exact h
theorem sM_find {Q : Int32 → StM → Prop} (R : RM v L p r) (key : Int32) (h1 : ∀ j, j < r.length → (r.getD j (0, 0, 0)).1 = key → Q (nI j) v) (h2 : (∀ i, i < r.length → (r.getD i (0, 0, 0)).1 ≠ key) → Q (-1) v) : wp_M_find (km_ b c m t) key v Q := by
  obtain ⟨r1, r2, r3, r4, r5⟩ := R
  have go : ∀ d k (x : Int32), k + d = r.length → ((x = -1 ∧ ∀ i, i < k → (r.getD i (0, 0, 0)).1 ≠ key) ∨ ∃ j, j < k ∧ x = nI j ∧ (r.getD j (0, 0, 0)).1 = key) → lp_M_find_4 (km_ b c m t) Q (d + 1) key x (nI k) v := by
    intro d
    induction d with
    | zero =>
      intro k x hk hx
      have e : k = r.length := by omega
      subst e
      refine pk_le r.length r.length (fun _ => ?_) (fun z => absurd z (by omega)) r3
      rcases hx with ⟨rfl, hx⟩ | ⟨j, hj, rfl, hx⟩
      · exact h2 hx
      · exact h1 j hj hx
    | succ d ih =>
      intro k x hk hx
      have h5 := (r5 k (by omega)).1
      refine pk_le r.length k (fun z => absurd z (by omega)) (fun _ => ⟨k, rfl, by omega, br_c (fun z => nm_r (nI_1 k) (ih (k + 1) _ (by omega) (Or.inr ⟨k, by omega, rfl, h5.symm.trans z⟩))) (fun z => nm_r (nI_1 k) (ih (k + 1) x (by omega) ?_))⟩) r3
      rcases hx with ⟨rfl, hx⟩ | ⟨j, hj, rfl, hx⟩
      · refine Or.inl ⟨rfl, fun i hi => ?_⟩
        by_cases e : i = k
        · rw [e]
          exact fun w => z (h5.trans w)
        · exact hx i (by omega)
      · exact Or.inr ⟨j, by omega, rfl, hx⟩
  exact ⟨_, go r.length 0 (-1) (by omega) (Or.inl ⟨rfl, fun i hi => absurd hi (by omega)⟩)⟩
theorem k3_s {r : List K3} {k : Nat} (h : k < r.length) : r.take (k + 1) = r.take k ++ [r.getD k (0, 0, 0)] := by
  rw [List.take_succ, List.getD_eq_getElem?_getD, List.getElem?_eq_getElem h]
  rfl
theorem sM_count {Q : StM → Prop} (R : RM v L p r) (hh : ∀ i, i < r.length → ∃ h, h < 200 ∧ (r.getD i (0, 0, 0)).2.2 = nI h) (h : ∀ cf : ArrF, (∀ x, x < 200 → cf x = nI (r.filter (fun z => decide (z.2.2 = nI x))).length) → Q (mSetCounts cf v)) : wp_M_count (km_ b c m t) v Q := by
  obtain ⟨r1, r2, r3, r4, r5⟩ := R
  have go2 : ∀ d k (cf : ArrF), k + d = r.length → (∀ x, x < 200 → cf x = nI ((r.take k).filter (fun z => decide (z.2.2 = nI x))).length) → lp_M_count_24 (km_ b c m t) Q (d + 1) (nI k) (mSetCounts cf v) := by
    intro d
    induction d with
    | zero =>
      intro k cf hk hc
      have e : k = r.length := by omega
      subst e
      rw [List.take_length] at hc
      exact pk_le r.length r.length (fun _ => h cf hc) (fun z => absurd z (by omega)) r3
    | succ d ih =>
      intro k cf hk hc
      have hlt : k < r.length := by omega
      obtain ⟨g, hg, hge⟩ := hh k hlt
      have h5 := (r5 k hlt).2.2
      have hts := k3_s hlt
      generalize r.getD k (0, 0, 0) = z at hge h5 hts
      refine pk_le r.length k (fun z => absurd z (by omega)) (fun _ => ⟨k, rfl, by omega, g, h5.trans hge, hg, nm_r (nI_1 k) (ih (k + 1) _ (by omega) (fun x hx => ?_))⟩) r3
      show upd cf g (cf g + 1) x = _
      rw [hts, List.filter_append, List.length_append]
      by_cases e : x = g
      · subst e
        rw [up_s, hc x hx, nI_1]
        have : [z].filter (fun z => decide (z.2.2 = nI x)) = [z] := by simp [hge]
        rw [this]
        rfl
      · rw [up_n e, hc x hx]
        have : [z].filter (fun z => decide (z.2.2 = nI x)) = [] := by
          have hn : ¬ nI g = nI x := fun w => e ((nI_eq (by omega) (by omega)).mp w).symm
          simp only [List.filter_cons, hge, hn, decide_false, List.filter_nil]
          rfl
        rw [this]
        rfl
  have go1 : ∀ d i (cf : ArrF), i + d = 200 → (∀ x, x < i → cf x = 0) → lp_M_count_2 (km_ b c m t) Q (d + 1) (nI i) (mSetCounts cf v) := by
    intro d
    induction d with
    | zero =>
      intro i cf hi hc
      have e : i = 200 := by omega
      subst e
      refine pk_le 200 200 (fun _ => ⟨_, go2 r.length 0 cf (by omega) (fun x hx => ?_)⟩) (fun z => absurd z (by omega))
      rw [hc x hx]
      rfl
    | succ d ih =>
      intro i cf hi hc
      refine pk_le 200 i (fun z => absurd z (by omega)) (fun _ => ⟨i, rfl, by omega, nm_r (nI_1 i) (ih (i + 1) _ (by omega) (fun x hx => ?_))⟩)
      show upd cf i 0 x = 0
      by_cases e : x = i
      · rw [e, up_s]
      · rw [up_n e]
        exact hc x (by omega)
  exact ⟨_, go1 200 0 (mCounts v) (by omega) (fun x hx => absurd hx (by omega))⟩
theorem sM_pagesFor {Q : Int32 → StM → Prop} (K : KC b c m t) {n : Nat} (hn : n ≤ 100000) (h : Q (nI (pgs c n)) v) : wp_M_pagesFor (km_ b c m t) (nI n) v Q := by
  obtain ⟨k1, k2, k3, k4, k5, k6, k7, k8⟩ := K
  refine pk_eq n 0 (fun z => ?_) (fun z => ⟨nI_ne0 (by omega) (by omega), ?_⟩)
  · subst z
    have : pgs c 0 = 1 := by simp [pgs]
    rw [this] at h
    exact h
  · show Q ((nI n + nI c - 1) / nI c) v
    have e : nI n + nI c - 1 = nI (n + c - 1) := by
      rw [nI_add, show (1 : Int32) = nI 1 from rfl, pk_sub (by omega)]
    rw [e, pk_div (by omega) (by omega) (by omega), pgs_code k3 z]
    exact h
theorem sM_settle {Q : StM → Prop} (K : KC b c m t) (hR : rd_ b L + p ≤ 200) (R : RM v L p r) (h : ∀ v', RM v' L p (r.map (fun z => (z.1, z.2.1, nI (hm_ b L p z.1)))) → Q v') : wp_M_settle (km_ b c m t) v Q := by
  obtain ⟨r1, r2, r3, r4, r5⟩ := R
  have go : ∀ d k (hf : ArrF), k + d = r.length → (∀ i, i < k → hf i = nI (hm_ b L p (r.getD i (0, 0, 0)).1)) → lp_M_settle_2 (km_ b c m t) Q (d + 1) (nI k) (mSetHomes hf v) := by
    intro d
    induction d with
    | zero =>
      intro k hf hk hh
      have e : k = r.length := by omega
      subst e
      refine pk_le r.length r.length (fun _ => h _ ⟨r1, r2, ?_, ?_, fun i hi => ?_⟩) (fun z => absurd z (by omega)) r3
      · rw [List.length_map]
        exact r3
      · rw [List.length_map]
        exact r4
      · rw [List.length_map] at hi
        rw [gd_map (d := ((0, 0, 0) : K3)) hi]
        exact ⟨(r5 i hi).1, (r5 i hi).2.1, hh i hi⟩
    | succ d ih =>
      intro k hf hk hh
      have hlt : k < r.length := by omega
      refine pk_le r.length k (fun z => absurd z (by omega)) (fun _ => ⟨k, rfl, by omega, ?_⟩) r3
      show wp_M_bucketOf _ (mKeys v k) _ _
      rw [(r5 k hlt).1]
      refine sM_bucketOf (v := mSetHomes hf v) K hR r1 r2 _ (nm_r (nI_1 k) (ih (k + 1) _ (by omega) (fun i hi => ?_)))
      show upd hf k _ i = _
      by_cases e : i = k
      · subst e
        exact up_s
      · rw [up_n e]
        exact hh i (by omega)
  exact ⟨_, go r.length 0 (mHomes v) (by omega) (fun i hi => absurd hi (by omega))⟩
theorem sM_forth {Q : StM → Prop} (K : KC b c m t) (hp : p < rd_ b L) (hR : rd_ b L ≤ 200) (R : RM v L p r) (h : ∀ v', RM v' (fw_ b L p).1 (fw_ b L p).2 r → Q v') : wp_M_forth (km_ b c m t) v Q := by
  obtain ⟨r1, r2, r3, r4, r5⟩ := R
  have hl := rd_lev K.1 hR
  refine sM_round (L := L) K r1 (by omega) ?_
  show (mPointer v + 1 = nI (rd_ b L) → _) ∧ (¬ mPointer v + 1 = nI (rd_ b L) → _)
  have e0 : mPointer v + 1 = nI (p + 1) := by rw [r2, nI_1]
  rw [e0]
  refine pk_eq (p + 1) (rd_ b L) (fun z => h _ ⟨?_, ?_, r3, r4, r5⟩) (fun z => h _ ⟨?_, ?_, r3, r4, r5⟩)
  · show mLevel v + 1 = _
    unfold fw_
    rw [if_pos z, r1, nI_1]
  · show (0 : Int32) = _
    unfold fw_
    rw [if_pos z]
    rfl
  · unfold fw_
    rw [if_neg z]
    exact r1
  · unfold fw_
    rw [if_neg z]
theorem sM_back {Q : StM → Prop} (K : KC b c m t) (hp : p < rd_ b L) (hR : rd_ b L + p ≤ 1000) (hb : b < rd_ b L + p) (hl : L ≤ 100) (R : RM v L p r) (h : ∀ v', RM v' (bw_ b L p).1 (bw_ b L p).2 r → Q v') : wp_M_back (km_ b c m t) v Q := by
  obtain ⟨r1, r2, r3, r4, r5⟩ := R
  unfold wp_M_back
  rw [r2]
  refine pk_eq p 0 (fun z => ?_) (fun z => h _ ⟨?_, ?_, r3, r4, r5⟩)
  · have hL : L ≠ 0 := by
      intro e
      rw [e, rd_0] at hb
      omega
    have e1 : bw_ b L p = (L - 1, rd_ b (L - 1) - 1) := by
      unfold bw_
      rw [if_pos z]
    have hr1 := rd_pos (L - 1) K.1
    have e2 : mLevel v - 1 = nI (L - 1) := by rw [r1, show (1 : Int32) = nI 1 from rfl, pk_sub (by omega)]
    rw [e2]
    refine sM_round (L := L - 1) K rfl (by omega) (h _ ⟨?_, ?_, r3, r4, r5⟩)
    · rw [e1]
    · show nI (rd_ b (L - 1)) - 1 = _
      rw [e1, show (1 : Int32) = nI 1 from rfl, pk_sub hr1]
  · unfold bw_
    rw [if_neg z]
    exact r1
  · show nI p - 1 = _
    unfold bw_
    rw [if_neg z, show (1 : Int32) = nI 1 from rfl, pk_sub (by omega)]
theorem er_gd {r : List K3} {a i : Nat} (ha : a < r.length) (hi : i < r.length - 1) : (r.eraseIdx a).getD i (0, 0, 0) = if i < a then r.getD i (0, 0, 0) else r.getD (i + 1) (0, 0, 0) := by
  rw [List.getD_eq_getElem?_getD, List.getElem?_eraseIdx]
  by_cases e : i < a
  · rw [if_pos e, if_pos e, List.getD_eq_getElem?_getD]
  · rw [if_neg e, if_neg e, List.getD_eq_getElem?_getD]
theorem sM_cut {Q : StM → Prop} (R : RM v L p r) {a : Nat} (ha : a < r.length) (h : ∀ v', RM v' L p (r.eraseIdx a) → Q v') : wp_M_cut (km_ b c m t) (nI a) v Q := by
  obtain ⟨r1, r2, r3, r4, r5⟩ := R
  have el : (r.eraseIdx a).length = r.length - 1 := by rw [List.length_eraseIdx, if_pos ha]
  have es : mSize v - 1 = nI (r.length - 1) := by rw [r3, show (1 : Int32) = nI 1 from rfl, pk_sub (by omega)]
  have go : ∀ d k (kf vf hf : ArrF), k + d = r.length - 1 → a ≤ k → (∀ i, i < k → kf i = ((r.eraseIdx a).getD i (0, 0, 0)).1 ∧ vf i = ((r.eraseIdx a).getD i (0, 0, 0)).2.1 ∧ hf i = ((r.eraseIdx a).getD i (0, 0, 0)).2.2) → (∀ i, k ≤ i → i < r.length → kf i = (r.getD i (0, 0, 0)).1 ∧ vf i = (r.getD i (0, 0, 0)).2.1 ∧ hf i = (r.getD i (0, 0, 0)).2.2) → lp_M_cut_12 (km_ b c m t) Q (d + 1) (nI k) (mSetHomes hf (mSetValues vf (mSetKeys kf (mSetSize (nI (r.length - 1)) v)))) := by
    intro d
    induction d with
    | zero =>
      intro k kf vf hf hk hak h1 h2
      have e : k = r.length - 1 := by omega
      subst e
      refine pk_le (r.length - 1) (r.length - 1) (fun _ => h _ ⟨r1, r2, ?_, ?_, fun i hi => ?_⟩) (fun z => absurd z (by omega))
      · rw [el]
      · rw [el]
        omega
      · rw [el] at hi
        exact h1 i hi
    | succ d ih =>
      intro k kf vf hf hk hak h1 h2
      refine pk_le (r.length - 1) k (fun z => absurd z (by omega)) (fun _ => ⟨k + 1, nI_1 k, by omega, k, rfl, by omega, nm_r (nI_1 k) (ih (k + 1) _ _ _ (by omega) (by omega) (fun i hi => ?_) (fun i hi hi2 => ?_))⟩)
      · show upd kf k (kf (k + 1)) i = _ ∧ upd vf k (vf (k + 1)) i = _ ∧ upd hf k (hf (k + 1)) i = _
        by_cases e : i = k
        · subst e
          rw [up_s, up_s, up_s, er_gd ha (by omega), if_neg (by omega)]
          exact h2 (i + 1) (by omega) (by omega)
        · rw [up_n e, up_n e, up_n e]
          exact h1 i (by omega)
      · show upd kf k (kf (k + 1)) i = _ ∧ upd vf k (vf (k + 1)) i = _ ∧ upd hf k (hf (k + 1)) i = _
        rw [up_n (by omega), up_n (by omega), up_n (by omega)]
        exact h2 i (by omega) hi2
  unfold wp_M_cut
  rw [es]
  refine ⟨_, go (r.length - 1 - a) a (mKeys v) (mValues v) (mHomes v) (by omega) (by omega) (fun i hi => ?_) (fun i hi hi2 => r5 i hi2)⟩
  rw [er_gd ha (by omega), if_pos hi]
  exact r5 i (by omega)
theorem sM_toEnd {Q : StM → Prop} (R : RM v L p r) (g : Int32) (h : ∀ v', RM v' L p (r.filter (fun z => !decide (z.2.2 = g)) ++ r.filter (fun z => decide (z.2.2 = g))) → Q v') : wp_M_toEnd (km_ b c m t) g v Q := by
  have r4 := RM_len R
  have go : ∀ d i (v : StM), i + d = r.length → RM v L p ((r.take i).filter (fun z => !decide (z.2.2 = g)) ++ (r.drop i ++ (r.take i).filter (fun z => decide (z.2.2 = g)))) → lp_M_toEnd_7 (km_ b c m t) Q (d + 1) g (nI ((r.take i).filter (fun z => !decide (z.2.2 = g))).length) (nI d) v := by
    intro d
    induction d with
    | zero =>
      intro i v hi R
      rw [List.take_of_length_le (by omega), List.drop_of_length_le (by omega), List.nil_append] at R
      exact pk_le 0 0 (fun _ => h v R) (fun z => absurd z (by omega))
    | succ d ih =>
      intro i v hi R
      have hlt : i < r.length := by omega
      have hd : r.drop i = r.getD i (0, 0, 0) :: r.drop (i + 1) := by
        rw [List.drop_eq_getElem_cons hlt, List.getD_eq_getElem?_getD, List.getElem?_eq_getElem hlt]
        rfl
      have hts := k3_s hlt
      rw [hd] at R
      generalize hz : r.getD i (0, 0, 0) = z at *
      generalize hF : (r.take i).filter (fun z => !decide (z.2.2 = g)) = F at *
      generalize hG : (r.take i).filter (fun z => decide (z.2.2 = g)) = G at *
      have hat : (F ++ (z :: r.drop (i + 1) ++ G)).getD F.length (0, 0, 0) = z := by
        rw [gd_r (Nat.le_refl _), Nat.sub_self]
        rfl
      have hal : F.length < (F ++ (z :: r.drop (i + 1) ++ G)).length := by simp
      have hRl := RM_len R
      have h5 := R.2.2.2.2 _ hal
      rw [hat] at h5
      refine pk_le (d + 1) 0 (fun w => absurd w (by omega)) (fun _ => ⟨F.length, rfl, by omega, br_c (fun w => nm_r h5.1 (nm_r h5.2.1 (sM_cut R hal (fun v1 R1 => ?_)))) (fun w => nm_r (nI_1 _) (nm_r (pk_m1 d) ?_))⟩)
      · have hzg : z.2.2 = g := h5.2.2.symm.trans w
        have he : (F ++ (z :: r.drop (i + 1) ++ G)).eraseIdx F.length = F ++ (r.drop (i + 1) ++ G) := by
          rw [List.eraseIdx_append_of_length_le (Nat.le_refl _), Nat.sub_self]
          rfl
        rw [he] at R1
        have R1l := RM_len R1
        have hel : (F ++ (r.drop (i + 1) ++ G)).length + 1 = (F ++ (z :: r.drop (i + 1) ++ G)).length := by
          simp
          omega
        have key : RM (mSetHomes (upd (mHomes v1) (F ++ (r.drop (i + 1) ++ G)).length g) (mSetValues (upd (mValues v1) (F ++ (r.drop (i + 1) ++ G)).length z.2.1) (mSetKeys (upd (mKeys v1) (F ++ (r.drop (i + 1) ++ G)).length z.1) (mSetSize (mSize v1 + 1) v1)))) L p ((F ++ (r.drop (i + 1) ++ G)) ++ [z]) := by
          generalize (F ++ (r.drop (i + 1) ++ G)) = X at *
          obtain ⟨q1, q2, q3, q4, q5⟩ := R1
          refine ⟨q1, q2, ?_, by rw [List.length_append, List.length_singleton]; omega, fun j hj => ?_⟩
          · show mSize v1 + 1 = _
            rw [q3, nI_1, List.length_append, List.length_singleton]
          · show upd (mKeys v1) X.length z.1 j = _ ∧ upd (mValues v1) X.length z.2.1 j = _ ∧ upd (mHomes v1) X.length g j = _
            rw [List.length_append, List.length_singleton] at hj
            by_cases e : j = X.length
            · subst e
              rw [up_s, up_s, up_s, gd_r (Nat.le_refl _), Nat.sub_self]
              exact ⟨rfl, rfl, hzg.symm⟩
            · rw [up_n e, up_n e, up_n e, gd_l (by omega)]
              exact q5 j (by omega)
        refine ⟨_, R1.2.2.1, by omega, nm_r (pk_m1 d) ?_⟩
        have f1 : [z].filter (fun z => !decide (z.2.2 = g)) = [] := by simp [hzg]
        have f2 : [z].filter (fun z => decide (z.2.2 = g)) = [z] := by simp [hzg]
        have := ih (i + 1) (mSetHomes (upd (mHomes v1) (F ++ (r.drop (i + 1) ++ G)).length g) (mSetValues (upd (mValues v1) (F ++ (r.drop (i + 1) ++ G)).length z.2.1) (mSetKeys (upd (mKeys v1) (F ++ (r.drop (i + 1) ++ G)).length z.1) (mSetSize (mSize v1 + 1) v1)))) (by omega) (by
          rw [hts, List.filter_append, List.filter_append, f1, f2, hF, hG, List.append_nil]
          rw [List.append_assoc, List.append_assoc] at key
          exact key)
        rw [hts, List.filter_append, f1, hF, List.append_nil] at this
        exact this
      · have hzg : ¬ z.2.2 = g := fun q => w (h5.2.2.trans q)
        have f1 : [z].filter (fun z => !decide (z.2.2 = g)) = [z] := by simp [hzg]
        have f2 : [z].filter (fun z => decide (z.2.2 = g)) = [] := by simp [hzg]
        have := ih (i + 1) v (by omega) (by
          rw [hts, List.filter_append, List.filter_append, f1, f2, hF, hG, List.append_nil, List.append_assoc]
          exact R)
        rw [hts, List.filter_append, f1, hF, List.length_append, List.length_singleton] at this
        exact this
  refine nm_r R.2.2.1 ⟨_, go r.length 0 v (by omega) ?_⟩
  simpa using R
end RMS
end
section
/-! the reference's methods on the row (hand-written) -/
def tag (b L p : Nat) (row : List KV) : List K3 := row.map (fun z => (z.1, z.2, nI (hm_ b L p z.1)))
def NM (b : Nat) (v : StM) (L p : Nat) (row : List KV) : Prop := RM v L p (tag b L p row)
theorem tag_len {b L p : Nat} {row : List KV} : (tag b L p row).length = row.length := List.length_map _
theorem tag_gd {b L p : Nat} {row : List KV} {i : Nat} (h : i < row.length) : (tag b L p row).getD i (0, 0, 0) = ((row.getD i (0, 0)).1, (row.getD i (0, 0)).2, nI (hm_ b L p (row.getD i (0, 0)).1)) := gd_map (d := ((0, 0) : KV)) h
theorem tag_re {b L p L' p' : Nat} {row : List KV} : (tag b L p row).map (fun z => (z.1, z.2.1, nI (hm_ b L' p' z.1))) = tag b L' p' row := by
  unfold tag
  rw [List.map_map]
  rfl
theorem tag_fl {b L p : Nat} {row : List KV} {x : Nat} (hh : ∀ key, hm_ b L p key < 2 ^ 31) (hx : x < 2 ^ 31) : (tag b L p row).filter (fun z => decide (z.2.2 = nI x)) = tag b L p (bkf b L p row x) := by
  unfold tag bkf
  rw [List.filter_map]
  congr 1
  refine List.filter_congr (fun z _ => ?_)
  show decide (nI (hm_ b L p z.1) = nI x) = (hm_ b L p z.1 == x)
  by_cases e : hm_ b L p z.1 = x
  · simp [e]
  · have : ¬ nI (hm_ b L p z.1) = nI x := fun q => e ((nI_eq (hh _) hx).mp q)
    simp [this, e]
theorem tag_fn {b L p : Nat} {row : List KV} {x : Nat} (hh : ∀ key, hm_ b L p key < 2 ^ 31) (hx : x < 2 ^ 31) : (tag b L p row).filter (fun z => !decide (z.2.2 = nI x)) = tag b L p (row.filter (fun z => !(hm_ b L p z.1 == x))) := by
  unfold tag
  rw [List.filter_map]
  congr 1
  refine List.filter_congr (fun z _ => ?_)
  show (!decide (nI (hm_ b L p z.1) = nI x)) = !(hm_ b L p z.1 == x)
  by_cases e : hm_ b L p z.1 = x
  · simp [e]
  · have : ¬ nI (hm_ b L p z.1) = nI x := fun q => e ((nI_eq (hh _) hx).mp q)
    simp [this, e]
theorem sumN_B {f : Nat → Nat} {B : Nat} : ∀ {n : Nat}, (∀ i, i < n → f i ≤ B) → sumN f n ≤ n * B := by
  intro n
  induction n with
  | zero => intro _; exact Nat.le_of_eq (by simp [sumN])
  | succ n ih =>
    intro h
    have h1 := ih (fun i hi => h i (by omega))
    have h2 := h n (by omega)
    show sumN f n + f n ≤ (n + 1) * B
    rw [Nat.add_mul, Nat.one_mul]
    omega
theorem need_B {b c L p : Nat} {row : List KV} (hl : row.length ≤ 2001) (hn : rd_ b L + p ≤ 200) : need b c L p row ≤ 400400 := by
  have h1 : need b c L p row ≤ (rd_ b L + p) * 2002 := by
    refine sumN_B (fun i _ => ?_)
    have h2 := bkf_len (b := b) (L := L) (p := p) (row := row) (x := i)
    have h3 : ((bkf b L p row i).length - 1) / c ≤ (bkf b L p row i).length - 1 := Nat.div_le_self _ _
    unfold pgs
    omega
  have h4 : (rd_ b L + p) * 2002 ≤ 200 * 2002 := Nat.mul_le_mul_right _ hn
  omega
theorem er_map {α β : Type} (f : α → β) : ∀ (l : List α) (k : Nat), (l.map f).eraseIdx k = (l.eraseIdx k).map f := by
  intro l
  induction l with
  | nil => intro k; rfl
  | cons a l ih =>
    intro k
    cases k with
    | zero => rfl
    | succ k =>
      rw [List.map_cons, List.eraseIdx_cons_succ, List.eraseIdx_cons_succ, List.map_cons, ih]
section OPM
variable {b c m t : Nat} {v : StM} {L p : Nat} {row : List KV}
theorem oM_count {Q : StM → Prop} (K : KC b c m t) (hp : p < rd_ b L) (hn : rd_ b L + p ≤ 200) (N : NM b v L p row) (h : ∀ cf : ArrF, (∀ x, x < 200 → cf x = nI (bkf b L p row x).length) → Q (mSetCounts cf v)) : wp_M_count (km_ b c m t) v Q := by
  have hh : ∀ key, hm_ b L p key < 200 := fun key => by
    have := hm_lt K.1 (show p ≤ rd_ b L by omega) key
    omega
  refine sM_count N (fun i hi => ?_) (fun cf hc => h cf (fun x hx => ?_))
  · rw [tag_len] at hi
    rw [tag_gd hi]
    exact ⟨_, hh _, rfl⟩
  · rw [hc x hx, tag_fl (fun key => by have := hh key; omega) (by omega), tag_len]
theorem oM_needed {Q : Int32 → StM → Prop} (K : KC b c m t) (hp : p < rd_ b L) (hn : rd_ b L + p ≤ 200) (hl : row.length ≤ 2001) (N : NM b v L p row) (h : ∀ v', NM b v' L p row → Q (nI (need b c L p row)) v') : wp_M_needed (km_ b c m t) v Q := by
  obtain ⟨r1, r2, r3, r4, r5⟩ := id N
  have hlev := rd_lev K.1 (show rd_ b L ≤ 200 by omega)
  refine oM_count K hp hn N (fun cf hc => ?_)
  have hN : NM b (mSetCounts cf v) L p row := ⟨r1, r2, r3, r4, r5⟩
  have go : ∀ d i, i + d = rd_ b L + p → lp_M_needed_8 (km_ b c m t) Q (d + 1) (nI (sumN (fun x => pgs c (bkf b L p row x).length) i)) (nI i) (mSetCounts cf v) := by
    intro d
    induction d with
    | zero =>
      intro i hi
      have e : i = rd_ b L + p := by omega
      subst e
      exact sM_buckets (v := mSetCounts cf v) K r1 r2 (by omega) (pk_le (rd_ b L + p) (rd_ b L + p) (fun _ => h _ hN) (fun z => absurd z (by omega)))
    | succ d ih =>
      intro i hi
      refine sM_buckets (v := mSetCounts cf v) K r1 r2 (by omega) (pk_le (rd_ b L + p) i (fun z => absurd z (by omega)) (fun _ => ⟨i, rfl, by omega, ?_⟩))
      show wp_M_pagesFor _ (cf i) _ _
      rw [hc i (by omega)]
      have := bkf_len (b := b) (L := L) (p := p) (row := row) (x := i)
      refine sM_pagesFor K (by omega) (nm_r (nI_add _ _) (nm_r (nI_1 i) ?_))
      exact ih (i + 1) (by omega)
  exact ⟨_, go (rd_ b L + p) 0 (by omega)⟩
theorem oM_122 {Q : Int32 → StM → Prop} (K : KC b c m t) (hn : rd_ b L + p ≤ 200) {r : List K3} {z : K3} (R : RM v L p (r ++ [z])) (hr : r.map (fun z => (z.1, z.2.1, nI (hm_ b L p z.1))) = tag b L p row) (h : ∀ v', NM b v' L p row → Q 2 v') : jn_M_put_122 (km_ b c m t) Q v := by
  obtain ⟨r1, r2, r3, r4, r5⟩ := R
  have e : mSize v - 1 = nI r.length := by
    rw [r3, List.length_append, List.length_singleton]
    exact nI_p1 _
  unfold jn_M_put_122
  rw [e]
  rw [List.length_append, List.length_singleton] at r4 r5
  have R' : RM (mSetSize (nI r.length) v) L p r := ⟨r1, r2, rfl, by omega, fun i hi => by
    have := r5 i (by omega)
    rw [gd_l hi] at this
    exact this⟩
  refine sM_settle K hn R' (fun v' R2 => h v' ?_)
  rw [hr] at R2
  exact R2
theorem oM_put96 {Q : Int32 → StM → Prop} (K : KC b c m t) (hp : p < rd_ b L) (hn : rd_ b L + p ≤ 200) (hl : row.length ≤ 2001) (x4 : Int32) {r : List K3} (R : RM v L p r) (hr : r.map (fun z => (z.1, z.2.1, nI (hm_ b L p z.1))) = tag b L p row) (h0 : need b c L p row ≤ m → ∀ v', NM b v' L p row → Q 0 v') (h2 : ¬ need b c L p row ≤ m → ∀ v', NM b v' L p row → (x4 = 0 → jn_M_put_122 (km_ b c m t) Q v') ∧ (¬ x4 = 0 → wp_M_back (km_ b c m t) v' (fun w => jn_M_put_122 (km_ b c m t) Q w))) : jn_M_put_96 (km_ b c m t) Q x4 v := by
  have hB := need_B (c := c) hl hn
  have hm := K.2.2.2.2.2.1
  refine sM_settle K hn R (fun v1 R1 => ?_)
  rw [hr] at R1
  exact oM_needed K hp hn hl R1 (fun v2 N2 => pk_lt m (need b c L p row) (fun z => h2 (by omega) v2 N2) (fun z => h0 (by omega) v2 N2))
theorem oM_put {Q : Int32 → StM → Prop} (K : KC b c m t) (W : WF b t L p row) (N : NM b v L p row) (key val : Int32)
    (h1 : key ∈ row.map Prod.fst → ∀ v', NM b v' L p (sv_ row key val) → Q 1 v')
    (h0 : key ∉ row.map Prod.fst → need b c (st_ b c t L p row.length).1 (st_ b c t L p row.length).2 (row ++ [(key, val)]) ≤ m → ∀ v', NM b v' (st_ b c t L p row.length).1 (st_ b c t L p row.length).2 (row ++ [(key, val)]) → Q 0 v')
    (h2 : key ∉ row.map Prod.fst → ¬ need b c (st_ b c t L p row.length).1 (st_ b c t L p row.length).2 (row ++ [(key, val)]) ≤ m → ∀ v', NM b v' L p row → Q 2 v') : wp_M_put (km_ b c m t) key val v Q := by
  obtain ⟨w1, w2, w3, w4⟩ := W
  obtain ⟨k1, k2, k3, k4, k5, k6, k7, k8⟩ := id K
  obtain ⟨r1, r2, r3, r4, r5⟩ := id N
  have hlev := rd_lev k1 (show rd_ b L ≤ 200 by omega)
  rw [tag_len] at r3 r4 r5
  refine sM_find N key (fun j hj hk => ?_) (fun hno => ?_)
  · rw [tag_len] at hj
    rw [tag_gd hj] at hk
    have hin : key ∈ row.map Prod.fst := by
      have q := gd_mem1 hj
      rw [show (row.getD j (0, 0)).1 = key from hk] at q
      exact q
    refine br_f (nI_pos (by omega)) ⟨j, rfl, by omega, h1 hin _ ⟨r1, r2, ?_, ?_, fun i hi => ?_⟩⟩
    · rw [tag_len, sv_len]
      exact r3
    · rw [tag_len, sv_len]
      exact r4
    · rw [tag_len, sv_len] at hi
      rw [tag_gd (by rw [sv_len]; exact hi)]
      have h5 := r5 i hi
      rw [tag_gd hi] at h5
      have e1 : (sv_ row key val).getD i (0, 0) = if (row.getD i (0, 0)).1 = key then ((row.getD i (0, 0)).1, val) else row.getD i (0, 0) := gd_map (d := ((0, 0) : KV)) hi
      show mKeys v i = _ ∧ upd (mValues v) j val i = _ ∧ mHomes v i = _
      rw [e1]
      by_cases e : i = j
      · subst e
        rw [if_pos hk, up_s]
        exact ⟨h5.1, rfl, h5.2.2⟩
      · rw [if_neg (fun q => e (nd_at w3 hi hj (q.trans hk.symm))), up_n e]
        exact h5
  · have hnot : key ∉ row.map Prod.fst := by
      intro z
      obtain ⟨i, hi, e⟩ := mem_gd z
      have := hno i (by rw [tag_len]; exact hi)
      rw [tag_gd hi] at this
      exact this e
    have hrl : (row ++ [(key, val)]).length = row.length + 1 := by simp
    have R1 : RM (mSetValues (upd (mValues v) row.length val) (mSetKeys (upd (mKeys v) row.length key) (mSetSize (nI (row.length + 1)) v))) L p (tag b L p row ++ [(key, val, mHomes v row.length)]) := by
      refine ⟨r1, r2, ?_, ?_, fun i hi => ?_⟩
      · rw [List.length_append, List.length_singleton, tag_len]
      · rw [List.length_append, List.length_singleton, tag_len]
        omega
      · rw [List.length_append, List.length_singleton, tag_len] at hi
        show upd (mKeys v) row.length key i = _ ∧ upd (mValues v) row.length val i = _ ∧ mHomes v i = _
        by_cases e : i = row.length
        · subst e
          rw [up_s, up_s, gd_r (by rw [tag_len]; omega), tag_len, Nat.sub_self]
          exact ⟨rfl, rfl, rfl⟩
        · rw [up_n e, up_n e, gd_l (by rw [tag_len]; omega)]
          exact r5 i (by omega)
    have hmap : ∀ (L' p' : Nat), (tag b L p row ++ [(key, val, mHomes v row.length)]).map (fun z => (z.1, z.2.1, nI (hm_ b L' p' z.1))) = tag b L' p' (row ++ [(key, val)]) := by
      intro L' p'
      rw [List.map_append, tag_re]
      unfold tag
      rw [List.map_append]
      rfl
    have h1c : c * (rd_ b L + p) ≤ 8 * 200 := Nat.mul_le_mul k4 (by omega)
    have e3 : 3 * c * (rd_ b L + p) = 3 * (c * (rd_ b L + p)) := Nat.mul_assoc _ _ _
    refine br_t (by decide) ⟨row.length, r3, by omega, ?_⟩
    rw [r3, nI_1]
    refine sM_buckets (v := mSetValues (upd (mValues v) row.length val) (mSetKeys (upd (mKeys v) row.length key) (mSetSize (nI (row.length + 1)) v))) K r1 r2 (by omega) ?_
    have e4 : (4 : Int32) * nI (row.length + 1) = nI (4 * (row.length + 1)) := by rw [show (4 : Int32) = nI 4 from rfl, pk_mul]
    have e5 : (3 : Int32) * mCap (km_ b c m t) * nI (rd_ b L + p) = nI (3 * c * (rd_ b L + p)) := by
      show (3 : Int32) * nI c * nI (rd_ b L + p) = _
      rw [show (3 : Int32) = nI 3 from rfl, pk_mul, pk_mul]
    rw [e4, e5]
    have noPt : pt_ c t (rd_ b L + p) (row.length + 1) = false → jn_M_put_85 (km_ b c m t) Q 0 (mSetValues (upd (mValues v) row.length val) (mSetKeys (upd (mKeys v) row.length key) (mSetSize (nI (row.length + 1)) v))) := by
      intro hpt
      unfold st_ at h0 h2
      rw [hpt] at h0 h2
      exact br_t rfl (oM_put96 K w1 (by omega) (by omega) 0 R1 (hmap L p) (h0 hnot) (fun hq v2 N2 => br_t rfl (oM_122 (row := row) K (by omega) (r := tag b L p row) (z := (key, val, nI (hm_ b L p key))) (by
        have e : tag b L p (row ++ [(key, val)]) = tag b L p row ++ [(key, val, nI (hm_ b L p key))] := by
          unfold tag
          rw [List.map_append]
          rfl
        rw [← e]
        exact N2) tag_re (h2 hnot hq))))
    refine pk_le (4 * (row.length + 1)) (3 * c * (rd_ b L + p)) (fun z => noPt ?_) (fun z => sM_buckets (v := mSetValues (upd (mValues v) row.length val) (mSetKeys (upd (mKeys v) row.length key) (mSetSize (nI (row.length + 1)) v))) K r1 r2 (by omega) (pk_le t (rd_ b L + p) (fun y => noPt ?_) (fun y => ?_)))
    · unfold pt_
      rw [decide_eq_false (by omega)]
      rfl
    · unfold pt_
      rw [decide_eq_false (show ¬ rd_ b L + p < t by omega), Bool.and_false]
    · have hpt : pt_ c t (rd_ b L + p) (row.length + 1) = true := by
        unfold pt_
        rw [decide_eq_true (by omega), decide_eq_true (by omega)]
        rfl
      unfold st_ at h0 h2
      rw [if_pos hpt] at h0 h2
      have hfl := fw_lt k1 w1
      have hfn := fw_nb b L p
      refine br_f (by decide) (sM_forth K w1 (by omega) R1 (fun v1 R2 => oM_put96 K hfl (by omega) (by omega) 1 R2 (hmap _ _) (h0 hnot) (fun hq v2 N2 => br_f (by decide) ?_)))
      have hlev2 := rd_lev k1 (show rd_ b (fw_ b L p).1 ≤ 200 by omega)
      have hbase := rd_base (b := b) L
      refine sM_back K hfl (by omega) (by omega) (by omega) N2 (fun v3 R3 => ?_)
      rw [fw_bw k1] at R3
      have e : tag b (fw_ b L p).1 (fw_ b L p).2 (row ++ [(key, val)]) = tag b (fw_ b L p).1 (fw_ b L p).2 row ++ [(key, val, nI (hm_ b (fw_ b L p).1 (fw_ b L p).2 key))] := by
        unfold tag
        rw [List.map_append]
        rfl
      rw [e] at R3
      exact oM_122 (L := L) (p := p) (row := row) K (by omega) R3 tag_re (h2 hnot hq)
theorem oM_look {Q : Int32 → StM → Prop} (N : NM b v L p row) (key : Int32) (h1 : ∀ j, j < row.length → (row.getD j (0, 0)).1 = key → key ∈ row.map Prod.fst → Q (nI j) v) (h2 : key ∉ row.map Prod.fst → Q (-1) v) : wp_M_find (km_ b c m t) key v Q := by
  refine sM_find N key (fun j hj hk => ?_) (fun hno => h2 ?_)
  · rw [tag_len] at hj
    rw [tag_gd hj] at hk
    have q := gd_mem1 hj
    rw [show (row.getD j (0, 0)).1 = key from hk] at q
    exact h1 j hj hk q
  · intro z
    obtain ⟨i, hi, e⟩ := mem_gd z
    have := hno i (by rw [tag_len]; exact hi)
    rw [tag_gd hi] at this
    exact this e
theorem oM_get {Q : Int32 → StM → Prop} (W : WF b t L p row) (N : NM b v L p row) (key : Int32) (h1 : ∀ z, z ∈ row → z.1 = key → Q z.2 v) (h2 : key ∉ row.map Prod.fst → Q 0 v) : wp_M_get (km_ b c m t) key v Q := by
  have w4 := W.2.2.2
  refine oM_look N key (fun j hj hk _ => br_t (nI_pos' (by omega)) ⟨j, rfl, by omega, ?_⟩) (fun hn => br_f (by decide) (h2 hn))
  have h5 := (N.2.2.2.2 j (by rw [tag_len]; exact hj)).2.1
  rw [tag_gd hj] at h5
  rw [h5]
  exact h1 _ (gd_mem hj) hk
theorem oM_has {Q : Int32 → StM → Prop} (W : WF b t L p row) (N : NM b v L p row) (key : Int32) (h1 : key ∈ row.map Prod.fst → Q 1 v) (h2 : key ∉ row.map Prod.fst → Q 0 v) : wp_M_has (km_ b c m t) key v Q := by
  have w4 := W.2.2.2
  exact oM_look N key (fun j hj hk hin => br_f (nI_pos (by omega)) (h1 hin)) (fun hn => br_t (by decide) (h2 hn))
theorem oM_remove0 {Q : Int32 → StM → Prop} (N : NM b v L p row) (key : Int32) (hno : key ∉ row.map Prod.fst) (h : Q 0 v) : wp_M_remove (km_ b c m t) key v Q :=
  oM_look N key (fun j hj hk hin => absurd hin hno) (fun _ => br_f (by decide) h)
/-- the last of the bucket, behind the key's own place -/
theorem AR_at {key : Int32} {row' : List KV} (hA : AR b L p key row row') (hn : (row.map Prod.fst).Nodup) {a la : Nat} (ha : a < row.length) (hk : (row.getD a (0, 0)).1 = key) (h1 : a ≤ la) (h2 : la < row.length) (h3 : hm_ b L p (row.getD la (0, 0)).1 = hm_ b L p key) (h4 : ∀ i, la < i → i < row.length → hm_ b L p (row.getD i (0, 0)).1 ≠ hm_ b L p key) : (row.set a (row.getD la (0, 0))).eraseIdx la = row' := by
  obtain ⟨r1, e, r2, rfl, he, hc⟩ := hA
  have ea : a = r1.length := by
    refine nd_at hn ha (by simp) ?_
    rw [hk, gd_r (Nat.le_refl _), Nat.sub_self]
    exact he.symm
  subst ea
  rcases hc with ⟨hc, rfl⟩ | ⟨r3, f, r4, rfl, hf, hc, rfl⟩
  · have e1 : la = r1.length := by
      rcases Nat.eq_or_lt_of_le h1 with z | z
      · exact z.symm
      · rw [gd_r (by omega)] at h3
        obtain ⟨d, hd⟩ : ∃ d, la - r1.length = d + 1 := ⟨la - r1.length - 1, by omega⟩
        rw [hd, List.getD_cons_succ] at h3
        have hdl : d < r2.length := by
          simp at h2
          omega
        exact absurd h3 (hc _ (gd_mem hdl))
    subst e1
    rw [gd_r (Nat.le_refl _), Nat.sub_self, List.set_append_right _ _ (Nat.le_refl _), Nat.sub_self]
    rw [List.eraseIdx_append_of_length_le (Nat.le_refl _), Nat.sub_self]
    rfl
  · have hgf : (r1 ++ e :: (r3 ++ f :: r4)).getD (r1.length + (r3.length + 1)) (0, 0) = f := by
      rw [gd_r (by omega), show r1.length + (r3.length + 1) - r1.length = r3.length + 1 by omega, List.getD_cons_succ, gd_r (Nat.le_refl _), Nat.sub_self]
      rfl
    have e1 : la = r1.length + (r3.length + 1) := by
      rcases Nat.lt_trichotomy la (r1.length + (r3.length + 1)) with z | z | z
      · have := h4 _ z (by simp)
        rw [hgf] at this
        exact absurd hf this
      · exact z
      · rw [gd_r (by omega)] at h3
        obtain ⟨d, hd⟩ : ∃ d, la - r1.length = (r3.length + (d + 1)) + 1 := ⟨la - r1.length - r3.length - 2, by omega⟩
        rw [hd, List.getD_cons_succ, gd_r (by omega), show r3.length + (d + 1) - r3.length = d + 1 by omega, List.getD_cons_succ] at h3
        have hdl : d < r4.length := by
          simp at h2
          omega
        exact absurd h3 (hc _ (gd_mem hdl))
    subst e1
    rw [hgf, List.set_append_right _ _ (Nat.le_refl _), Nat.sub_self]
    show (r1 ++ f :: (r3 ++ f :: r4)).eraseIdx (r1.length + (r3.length + 1)) = _
    rw [List.eraseIdx_append_of_length_le (by omega), show r1.length + (r3.length + 1) - r1.length = r3.length + 1 by omega, List.eraseIdx_cons_succ, List.eraseIdx_append_of_length_le (Nat.le_refl _), Nat.sub_self]
    rfl
theorem oM_remove {Q : Int32 → StM → Prop} (K : KC b c m t) (W : WF b t L p row) (N : NM b v L p row) (key : Int32) (hin : key ∈ row.map Prod.fst) {row' : List KV} (hA : AR b L p key row row')
    (h1 : ¬ jp_ b c (rd_ b L + p) row'.length → ∀ v', NM b v' L p row' → Q 1 v')
    (h2 : jp_ b c (rd_ b L + p) row'.length → ∀ v', NM b v' (bw_ b L p).1 (bw_ b L p).2 (te_ (fun z => hm_ b L p z.1 == rd_ b L + p - 1) row') → Q 1 v') : wp_M_remove (km_ b c m t) key v Q := by
  obtain ⟨w1, w2, w3, w4⟩ := W
  obtain ⟨k1, k2, k3, k4, k5, k6, k7, k8⟩ := id K
  obtain ⟨r1, r2, r3, r4, r5⟩ := id N
  have hlev := rd_lev k1 (show rd_ b L ≤ 200 by omega)
  have hAl := AR_len hA
  have hh : ∀ key, hm_ b L p key < 200 := fun key => by
    have := hm_lt k1 (show p ≤ rd_ b L by omega) key
    omega
  rw [tag_len] at r3 r4 r5
  have r6 : ∀ i, i < row.length → mKeys v i = (row.getD i (0, 0)).1 ∧ mValues v i = (row.getD i (0, 0)).2 ∧ mHomes v i = nI (hm_ b L p (row.getD i (0, 0)).1) := fun i hi => by
    have := r5 i hi
    rw [tag_gd hi] at this
    exact this
  refine oM_look N key (fun a ha hk _ => br_t (nI_pos' (by omega)) ?_) (fun hn => absurd hin hn)
  have go : ∀ d k la, k + d = row.length → a ≤ la → la < row.length → (la < k ∨ la = a) → hm_ b L p (row.getD la (0, 0)).1 = hm_ b L p key → (∀ i, la < i → i < k → hm_ b L p (row.getD i (0, 0)).1 ≠ hm_ b L p key) → a ≤ k → lp_M_remove_17 (km_ b c m t) Q (d + 1) (nI a) (nI la) (nI k) v := by
    intro d
    induction d with
    | zero =>
      intro k la hkd q1 q2 q3 q4 q5 q6
      have ek : k = row.length := by omega
      subst ek
      refine pk_le row.length row.length (fun _ => ⟨la, rfl, by omega, a, rfl, by omega, ?_⟩) (fun z => absurd z (by omega)) r3
      have hsp := AR_at hA w3 ha hk q1 q2 q4 q5
      have R1 : RM (mSetValues (upd (mValues v) a (mValues v la)) (mSetKeys (upd (mKeys v) a (mKeys v la)) v)) L p (tag b L p (row.set a (row.getD la (0, 0)))) := by
        refine ⟨r1, r2, by rw [tag_len, List.length_set]; exact r3, by rw [tag_len, List.length_set]; exact r4, fun i hi => ?_⟩
        rw [tag_len, List.length_set] at hi
        rw [tag_gd (by rw [List.length_set]; exact hi), gd_set hi]
        show upd (mKeys v) a (mKeys v la) i = _ ∧ upd (mValues v) a (mValues v la) i = _ ∧ mHomes v i = _
        by_cases e : a = i
        · subst e
          rw [up_s, up_s, if_pos rfl, (r6 la q2).1, (r6 la q2).2.1, (r6 a ha).2.2, q4, hk]
          exact ⟨rfl, rfl, rfl⟩
        · rw [up_n (Ne.symm e), up_n (Ne.symm e), if_neg e]
          exact r6 i hi
      refine sM_cut R1 (by rw [tag_len, List.length_set]; exact q2) (fun v2 R2 => ?_)
      have e2 : (tag b L p (row.set a (row.getD la (0, 0)))).eraseIdx la = tag b L p row' := by
        unfold tag
        rw [er_map, hsp]
      rw [e2] at R2
      have N2 : NM b v2 L p row' := R2
      obtain ⟨s1, s2, s3, s4, s5⟩ := R2
      rw [tag_len] at s3
      have hmul : c * (rd_ b L + p) ≤ 8 * 200 := Nat.mul_le_mul k4 (by omega)
      refine sM_buckets K s1 s2 (by omega) ?_
      have e4 : (4 : Int32) * mSize v2 = nI (4 * row'.length) := by rw [s3, show (4 : Int32) = nI 4 from rfl, pk_mul]
      have e5 : mCap (km_ b c m t) * nI (rd_ b L + p) = nI (c * (rd_ b L + p)) := pk_mul _ _
      rw [e4, e5]
      refine pk_le (c * (rd_ b L + p)) (4 * row'.length) (fun z => h1 (fun q => ?_) v2 N2) (fun z => sM_buckets K s1 s2 (by omega) (pk_le (rd_ b L + p) b (fun y => h1 (fun q => ?_) v2 N2) (fun y => sM_buckets K s1 s2 (by omega) ?_)))
      · have := q.1
        omega
      · have := q.2
        omega
      · have hjp : jp_ b c (rd_ b L + p) row'.length := ⟨z, y⟩
        rw [show (1 : Int32) = nI 1 from rfl, pk_sub (by omega)]
        have hbn := bw_nb k1 w1 y
        refine sM_toEnd N2 _ (fun v3 R3 => ?_)
        rw [tag_fl (fun key => by have := hh key; omega) (by omega), tag_fn (fun key => by have := hh key; omega) (by omega)] at R3
        have e6 : tag b L p (row'.filter (fun z => !(hm_ b L p z.1 == rd_ b L + p - 1))) ++ tag b L p (bkf b L p row' (rd_ b L + p - 1)) = tag b L p (te_ (fun z => hm_ b L p z.1 == rd_ b L + p - 1) row') := by
          unfold tag te_ bkf
          rw [List.map_append]
        rw [e6] at R3
        refine sM_back K w1 (by omega) y (by omega) R3 (fun v4 R4 => sM_settle K (by omega) R4 (fun v5 R5 => h2 hjp v5 ?_))
        rw [tag_re] at R5
        exact R5
    | succ d ih =>
      intro k la hkd q1 q2 q3 q4 q5 q6
      have hlt : k < row.length := by omega
      refine pk_le row.length k (fun z => absurd z (by omega)) (fun _ => ⟨k, rfl, by omega, a, rfl, by omega, ?_⟩) r3
      rw [(r6 k hlt).2.2, (r6 a ha).2.2, hk]
      have b1 := hh (row.getD k (0, 0)).1
      have b2 := hh key
      refine pk_eq (hm_ b L p (row.getD k (0, 0)).1) (hm_ b L p key) (fun z => nm_r (nI_1 k) (ih (k + 1) k (by omega) (by omega) (by omega) (Or.inl (by omega)) z (fun i i1 i2 => absurd i1 (by omega)) (by omega))) (fun z => nm_r (nI_1 k) (ih (k + 1) la (by omega) q1 q2 ?_ q4 (fun i i1 i2 => ?_) (by omega)))
      · rcases q3 with q | q
        · exact Or.inl (by omega)
        · exact Or.inr q
      · by_cases e : i = k
        · rw [e]
          exact z
        · exact q5 i i1 (by omega)
  exact ⟨_, go (row.length - a) a a (by omega) (by omega) ha (Or.inr rfl) (by rw [hk]) (fun i i1 i2 => absurd i1 (by omega)) (by omega)⟩
theorem oM_size {Q : Int32 → StM → Prop} (N : NM b v L p row) (h : Q (nI row.length) v) : wp_M_size (km_ b c m t) v Q := by
  unfold wp_M_size
  rw [N.2.2.1, tag_len]
  exact h
theorem oM_level {Q : Int32 → StM → Prop} (N : NM b v L p row) (h : Q (nI L) v) : wp_M_level (km_ b c m t) v Q := by
  unfold wp_M_level
  rw [N.1]
  exact h
theorem oM_pointer {Q : Int32 → StM → Prop} (N : NM b v L p row) (h : Q (nI p) v) : wp_M_pointer (km_ b c m t) v Q := by
  unfold wp_M_pointer
  rw [N.2.1]
  exact h
theorem oM_buckets {Q : Int32 → StM → Prop} (K : KC b c m t) (W : WF b t L p row) (N : NM b v L p row) (h : Q (nI (rd_ b L + p)) v) : wp_M_buckets (km_ b c m t) v Q := by
  have hlev := rd_lev K.1 (show rd_ b L ≤ 200 by have := W.2.1; have := K.2.2.2.2.2.2.2; omega)
  exact sM_buckets K N.1 N.2.1 (by omega) h
theorem oM_bucketOf {Q : Int32 → StM → Prop} (K : KC b c m t) (W : WF b t L p row) (N : NM b v L p row) (key : Int32) (h : Q (nI (hm_ b L p key)) v) : wp_M_bucketOf (km_ b c m t) key v Q :=
  sM_bucketOf K (by have := W.2.1; have := K.2.2.2.2.2.2.2; omega) N.1 N.2.1 key h
theorem oM_free {Q : Int32 → StM → Prop} (K : KC b c m t) (W : WF b t L p row) (N : NM b v L p row) (hn : need b c L p row ≤ m) (h : ∀ v', NM b v' L p row → Q (nI (m - need b c L p row)) v') : wp_M_free (km_ b c m t) v Q := by
  refine oM_needed K W.1 (by have := W.2.1; have := K.2.2.2.2.2.2.2; omega) (by have := W.2.2.2; omega) N (fun v' N' => ?_)
  show Q (nI m - nI (need b c L p row)) v'
  rw [pk_sub hn]
  exact h v' N'
theorem oM_pages {Q : Int32 → StM → Prop} (K : KC b c m t) (W : WF b t L p row) (N : NM b v L p row) (x : Int32) (h1 : ∀ a, a < rd_ b L + p → x = nI a → ∀ v', NM b v' L p row → Q (nI (pgs c (bkf b L p row a).length)) v') (h2 : (¬ ∃ a, a < rd_ b L + p ∧ x = nI a) → Q (-1) v) : wp_M_pages (km_ b c m t) x v Q := by
  have hnb : rd_ b L + p ≤ 200 := by have := W.2.1; have := K.2.2.2.2.2.2.2; omega
  refine ⟨fun z => h2 ?_, fun z => ?_⟩
  · intro ⟨a, ha, e⟩
    subst e
    exact nI_pos (by omega) z
  · obtain ⟨a, ha, rfl⟩ := nI_of z
    refine oM_buckets K W N (pk_lt a (rd_ b L + p) (fun q => oM_count K W.1 hnb N (fun cf hc => ⟨a, rfl, by omega, ?_⟩)) (fun q => h2 ?_))
    · show wp_M_pagesFor _ (cf a) _ _
      rw [hc a (by omega)]
      have := bkf_len (b := b) (L := L) (p := p) (row := row) (x := a)
      have := W.2.2.2
      exact sM_pagesFor K (by omega) (h1 a q rfl _ N)
    · intro ⟨a', ha', e⟩
      have := (nI_eq ha (by omega)).mp e
      omega
theorem oM_key {Q : Int32 → StM → Prop} (K : KC b c m t) (W : WF b t L p row) (N : NM b v L p row) (x y : Int32) (h1 : ∀ a k, a < rd_ b L + p → x = nI a → k < (bkf b L p row a).length → y = nI k → Q ((bkf b L p row a).getD k (0, 0)).1 v) (h2 : (¬ ∃ a k, a < rd_ b L + p ∧ x = nI a ∧ k < (bkf b L p row a).length ∧ y = nI k) → Q (-1) v) : wp_M_key (km_ b c m t) x y v Q := by
  have hnb : rd_ b L + p ≤ 200 := by have := W.2.1; have := K.2.2.2.2.2.2.2; omega
  have w1 := W.1
  have w4 := W.2.2.2
  obtain ⟨r1, r2, r3, r4, r5⟩ := id N
  rw [tag_len] at r3 r4 r5
  have r6 : ∀ i, i < row.length → mKeys v i = (row.getD i (0, 0)).1 ∧ mHomes v i = nI (hm_ b L p (row.getD i (0, 0)).1) := fun i hi => by
    have := r5 i hi
    rw [tag_gd hi] at this
    exact ⟨this.1, this.2.2⟩
  refine ⟨fun z => h2 ?_, fun z => ?_⟩
  · intro ⟨a, k, ha, e, _⟩
    subst e
    exact nI_pos (by omega) z
  · obtain ⟨a, ha, rfl⟩ := nI_of z
    refine oM_buckets K W N (pk_le (rd_ b L + p) a (fun q => h2 ?_) (fun q => ⟨fun z2 => ?_, fun z2 => h2 ?_⟩))
    · intro ⟨a', k', q1, q2, _⟩
      have := (nI_eq ha (by omega)).mp q2
      omega
    · obtain ⟨k, hk, rfl⟩ := nI_of (x := y) (fun w => by
        have h0 : (0 : Int32).toInt = 0 := by decide
        rw [Int32.le_iff_toInt_le, h0] at z2
        rw [Int32.lt_iff_toInt_lt, h0] at w
        omega)
      have go : ∀ d i, i + d = row.length → (bkf b L p (row.take i) a).length ≤ k → lp_M_key_23 (km_ b c m t) Q (d + 1) (nI a) (nI (k - (bkf b L p (row.take i) a).length)) (nI i) v := by
        intro d
        induction d with
        | zero =>
          intro i hi hle
          have e : i = row.length := by omega
          subst e
          rw [List.take_length] at hle ⊢
          refine pk_le row.length row.length (fun _ => h2 ?_) (fun w => absurd w (by omega)) r3
          intro ⟨a', k', q1, q2, q3, q4⟩
          have e1 := (nI_eq ha (by omega)).mp q2
          subst e1
          have hb2 := bkf_len (b := b) (L := L) (p := p) (row := row) (x := a)
          have := (nI_eq hk (by omega)).mp q4
          omega
        | succ d ih =>
          intro i hi hle
          have hlt : i < row.length := by omega
          have hts := tk_s hlt
          have hbs := bkf_s (b := b) (L := L) (p := p) (row := row.take i) (z := row.getD i (0, 0)) a
          rw [← hts] at hbs
          have hb1 := hm_lt K.1 (show p ≤ rd_ b L by omega) (row.getD i (0, 0)).1
          refine pk_le row.length i (fun w => absurd w (by omega)) (fun _ => ⟨i, rfl, by omega, ?_⟩) r3
          rw [(r6 i hlt).2]
          refine pk_eq (hm_ b L p (row.getD i (0, 0)).1) a (fun w => ?_) (fun w => nm_r (nI_1 i) ?_)
          · rw [if_pos w] at hbs
            have hbl : (bkf b L p (row.take (i + 1)) a).length = (bkf b L p (row.take i) a).length + 1 := by
              rw [hbs]
              simp
            refine pk_eq (k - (bkf b L p (row.take i) a).length) 0 (fun w2 => ?_) (fun w2 => nm_r (e' := nI (k - (bkf b L p (row.take (i + 1)) a).length)) ?_ (nm_r (nI_1 i) (ih (i + 1) (by omega) (by omega))))
            · rw [(r6 i hlt).1]
              have hsplit : bkf b L p row a = bkf b L p (row.take (i + 1)) a ++ bkf b L p (row.drop (i + 1)) a := by
                unfold bkf
                rw [← List.filter_append, List.take_append_drop]
              have hkl : k < (bkf b L p row a).length := by
                rw [hsplit, List.length_append]
                omega
              have hge : (bkf b L p row a).getD k (0, 0) = row.getD i (0, 0) := by
                rw [hsplit, gd_l (by omega), hbs, gd_r (by omega), show k - (bkf b L p (row.take i) a).length = 0 from w2]
                rfl
              have := h1 a k q rfl hkl rfl
              rw [hge] at this
              exact this
            · rw [hbl, show k - (bkf b L p (row.take i) a).length = (k - ((bkf b L p (row.take i) a).length + 1)) + 1 by omega]
              exact pk_m1 _
          · rw [if_neg w] at hbs
            rw [← hbs]
            exact ih (i + 1) (by omega) (by rw [hbs]; exact hle)
      exact ⟨_, go row.length 0 (by omega) (by simp [bkf])⟩
    · intro ⟨a', k', q1, q2, q3, q4⟩
      subst q4
      have hb2 := bkf_len (b := b) (L := L) (p := p) (row := row) (x := a')
      exact z2 (nI_pos' (by omega))
theorem oM_clear {Q : StM → Prop} (h : ∀ v', NM b v' 0 0 [] → Q v') : wp_M_clear (km_ b c m t) v Q := by
  unfold wp_M_clear
  exact h _ ⟨rfl, rfl, rfl, by simp [tag], fun i hi => absurd hi (by simp [tag])⟩
end OPM
end
section
/-! the law on the two states (hand-written) -/
theorem WF_sv {b t L p : Nat} {row : List KV} (W : WF b t L p row) (key v : Int32) : WF b t L p (sv_ row key v) :=
  ⟨W.1, W.2.1, by rw [sv_k]; exact W.2.2.1, by rw [sv_len]; exact W.2.2.2⟩
theorem WF_st {b c t L p : Nat} {row : List KV} (hb : 1 ≤ b) (W : WF b t L p row) {key : Int32} (v : Int32) (hn : key ∉ row.map Prod.fst) (hl : row.length ≤ 1900) : WF b t (st_ b c t L p row.length).1 (st_ b c t L p row.length).2 (row ++ [(key, v)]) := by
  have h1 : ((row ++ [(key, v)]).map Prod.fst).Nodup := by
    rw [List.map_append, List.nodup_append]
    refine ⟨W.2.2.1, by simp, fun a ha c hc e => ?_⟩
    have : c = key := by simpa using hc
    exact hn (by rw [← this, ← e]; exact ha)
  have h2 : (row ++ [(key, v)]).length ≤ 2000 := by
    rw [List.length_append, List.length_singleton]
    omega
  unfold st_
  by_cases hpt : pt_ c t (rd_ b L + p) (row.length + 1) = true
  · rw [if_pos hpt]
    have hnb : rd_ b L + p < t := by
      unfold pt_ at hpt
      simp at hpt
      exact hpt.2
    exact ⟨fw_lt hb W.1, by rw [fw_nb]; omega, h1, h2⟩
  · rw [if_neg hpt]
    exact ⟨W.1, W.2.1, h1, h2⟩
theorem WF_ar {b t L p : Nat} {row row' : List KV} (W : WF b t L p row) {key : Int32} (hA : AR b L p key row row') : WF b t L p row' := by
  have := AR_len hA
  have := W.2.2.2
  exact ⟨W.1, W.2.1, AR_nd hA W.2.2.1, by omega⟩
theorem WF_bw {b t L p : Nat} {row : List KV} (hb : 1 ≤ b) (W : WF b t L p row) (h : b < rd_ b L + p) (f : KV → Bool) : WF b t (bw_ b L p).1 (bw_ b L p).2 (te_ f row) := by
  have h1 := bw_nb hb W.1 h
  have h2 := W.2.1
  exact ⟨bw_lt hb W.1, by omega, ((te_perm f row).map Prod.fst).nodup_iff.mpr W.2.2.1, by rw [te_len]; exact W.2.2.2⟩
theorem lw_cmp {a i : Nat} (ha : a ≤ 10000) (hi : i ≤ 10000) : nI a - 3 < nI i ↔ a < i + 3 := by
  rw [show (3 : Int32) = nI 3 from rfl, Int32.lt_iff_toInt_lt, pk_sub_toInt (by omega) (by omega), nI_toInt (by omega)]
  omega
set_option maxHeartbeats 4000000 in
theorem law_run {b c m t : Nat} (K : KC b c m t) {N : Nat} (hN : N ≤ 1540) (xs : Nat → Int32) : ∀ (n i : Nat) (u : StX) (v : StM) (L p : Nat) (row : List KV), NX b c m u L p row → NM b v L p row → WF b t L p row → row.length ≤ i → i ≤ N + 4 → N + 5 ≤ i + n → lp_L_law (kx_ b c m t) (km_ b c m t) N xs n (nI i) u v := by
  intro n
  induction n with
  | zero =>
    intro i u v L p row hX hM W hl h1 h2
    omega
  | succ n ih =>
    intro i u v L p row hX hM W hl h1 h2
    have hb := K.1
    unfold lp_L_law
    refine ⟨fun _ => trivial, fun hc => ?_⟩
    rw [lw_cmp (by omega) (by omega)] at hc
    have e1 : nI i + 1 = nI (i + 1) := nI_1 i
    have e2 : nI i + 2 = nI (i + 2) := nI_add i 2
    have go : ∀ (L' p' : Nat) (row' : List KV) (u' : StX) (v' : StM), NX b c m u' L' p' row' → NM b v' L' p' row' → WF b t L' p' row' → row'.length ≤ row.length + 1 → ∀ x : Int32, x = nI i + 3 → lp_L_law (kx_ b c m t) (km_ b c m t) N xs n x u' v' := by
      intro L' p' row' u' v' hX' hM' W' hl' x hx
      subst hx
      rw [show nI i + 3 = nI (i + 3) from nI_add i 3]
      exact ih (i + 3) u' v' L' p' row' hX' hM' W' (by omega) (by omega) (by omega)
    have fin : ∀ (r r' : Int32) (L' p' : Nat) (row' : List KV) (u' : StX) (v' : StM), r = r' → NX b c m u' L' p' row' → NM b v' L' p' row' → WF b t L' p' row' → row'.length ≤ row.length + 1 → (r = r' → ∀ x : Int32, x = nI i + 3 → lp_L_law (kx_ b c m t) (km_ b c m t) N xs n x u' v') ∧ (¬ r = r' → False) :=
      fun r r' L' p' row' u' v' e a1 a2 a3 a4 => ⟨fun _ => go L' p' row' u' v' a1 a2 a3 a4, fun z => z e⟩
    have same : ∀ (r r' : Int32) (v' : StM), r = r' → NM b v' L p row → (r = r' → ∀ x : Int32, x = nI i + 3 → lp_L_law (kx_ b c m t) (km_ b c m t) N xs n x u v') ∧ (¬ r = r' → False) :=
      fun r r' v' e a => fin r r' L p row u v' e hX a W (by omega)
    refine ⟨i, rfl, by omega, fun _ => ⟨i + 1, e1, by omega, i + 2, e2, by omega, ?_⟩, fun _ => ⟨i + 1, e1, by omega, ?_⟩, fun _ => ⟨i + 1, e1, by omega, ?_⟩, fun _ => ⟨i + 1, e1, by omega, ?_⟩, fun _ => ?_, fun _ => ?_, fun _ => ?_, fun _ => ?_, fun _ => ⟨i + 1, e1, by omega, ?_⟩, fun _ => ⟨i + 1, e1, by omega, ?_⟩, fun _ => ?_, fun _ => ⟨i + 1, e1, by omega, i + 2, e2, by omega, ?_⟩, fun _ => ?_, ?_⟩
    -- put
    · generalize xs (i + 1) = key
      generalize xs (i + 2) = val
      refine oX_put K W hX key val (fun hin u' hX' => ?_) (fun hn hle u' hX' => ?_) (fun hn hle => ?_)
      · exact oM_put K W hM key val (fun _ v' hM' => fin 1 1 _ _ _ _ _ rfl hX' hM' (WF_sv W key val) (by rw [sv_len]; omega)) (fun z => absurd hin z) (fun z => absurd hin z)
      · exact oM_put K W hM key val (fun z => absurd z hn) (fun _ _ v' hM' => fin 0 0 _ _ _ _ _ rfl hX' hM' (WF_st hb W val hn (by omega)) (by simp)) (fun _ z => absurd hle z)
      · exact oM_put K W hM key val (fun z => absurd z hn) (fun _ z => absurd z hle) (fun _ _ v' hM' => same 2 2 v' rfl hM')
    -- get
    · generalize xs (i + 1) = key
      refine oX_get K W hX key (fun z hz hk => ?_) (fun hn => ?_)
      · refine oM_get W hM key (fun z' hz' hk' => same _ _ v ?_ hM) (fun hn => absurd (List.mem_map.mpr ⟨z, hz, hk⟩) hn)
        obtain ⟨a, ha, ea⟩ := List.getElem_of_mem hz
        obtain ⟨a', ha', ea'⟩ := List.getElem_of_mem hz'
        have g1 : row.getD a (0, 0) = z := by rw [List.getD_eq_getElem?_getD, List.getElem?_eq_getElem ha]; exact ea
        have g2 : row.getD a' (0, 0) = z' := by rw [List.getD_eq_getElem?_getD, List.getElem?_eq_getElem ha']; exact ea'
        have := nd_at W.2.2.1 ha ha' (by rw [g1, g2, hk, hk'])
        subst this
        rw [← g1, ← g2]
      · exact oM_get W hM key (fun z hz hk => absurd (List.mem_map.mpr ⟨z, hz, hk⟩) hn) (fun _ => same _ _ v rfl hM)
    -- has
    · generalize xs (i + 1) = key
      refine oX_has K W hX key (fun hin => ?_) (fun hn => ?_)
      · exact oM_has W hM key (fun _ => same _ _ v rfl hM) (fun z => absurd hin z)
      · exact oM_has W hM key (fun z => absurd z hn) (fun _ => same _ _ v rfl hM)
    -- remove
    · generalize xs (i + 1) = key
      by_cases hin : key ∈ row.map Prod.fst
      · obtain ⟨row', hA⟩ := AR_ex (b := b) (L := L) (p := p) hin
        have hAl := AR_len hA
        refine oX_remove K W hX key hin hA (fun hj u' hX' => ?_) (fun hj u' hX' => ?_)
        · exact oM_remove K W hM key hin hA (fun _ v' hM' => fin 1 1 _ _ _ _ _ rfl hX' hM' (WF_ar W hA) (by omega)) (fun z => absurd z hj)
        · exact oM_remove K W hM key hin hA (fun z => absurd hj z) (fun _ v' hM' => fin 1 1 _ _ _ _ _ rfl hX' hM' (WF_bw hb (WF_ar W hA) hj.2 _) (by rw [te_len]; omega))
      · exact oX_remove0 K W hX key hin (oM_remove0 hM key hin (same _ _ v rfl hM))
    -- size
    · exact oX_size hX (oM_size hM (same _ _ v rfl hM))
    -- buckets
    · exact oX_buckets K W hX (oM_buckets K W hM (same _ _ v rfl hM))
    -- level
    · exact oX_level hX (oM_level hM (same _ _ v rfl hM))
    -- pointer
    · exact oX_pointer hX (oM_pointer hM (same _ _ v rfl hM))
    -- bucketOf
    · exact oX_bucketOf K W hX _ (oM_bucketOf K W hM _ (same _ _ v rfl hM))
    -- pages
    · generalize xs (i + 1) = x
      have hnb : rd_ b L + p ≤ 200 := by have := W.2.1; have := K.2.2.2.2.2.2.2; omega
      refine oX_pages K W hX x (fun a ha e => oM_pages K W hM x (fun a' ha' e' v' hM' => same _ _ v' ?_ hM') (fun hn => absurd ⟨a, ha, e⟩ hn)) (fun hn => oM_pages K W hM x (fun a' ha' e' v' hM' => absurd ⟨a', ha', e'⟩ hn) (fun _ => same _ _ v rfl hM))
      have := (nI_eq (by omega) (by omega)).mp (e.symm.trans e')
      subst this
      rfl
    -- free
    · exact oX_free K W hX (fun hle => oM_free K W hM hle (fun v' hM' => same _ _ v' rfl hM'))
    -- key
    · generalize xs (i + 1) = x
      generalize xs (i + 2) = y
      have hnb : rd_ b L + p ≤ 200 := by have := W.2.1; have := K.2.2.2.2.2.2.2; omega
      refine oX_key K W hX x y (fun a k ha e hk ek => oM_key K W hM x y (fun a' k' ha' e' hk' ek' => same _ _ v ?_ hM) (fun hn => absurd ⟨a, k, ha, e, hk, ek⟩ hn)) (fun hn => oM_key K W hM x y (fun a' k' ha' e' hk' ek' => absurd ⟨a', k', ha', e', hk', ek'⟩ hn) (fun _ => same _ _ v rfl hM))
      have := (nI_eq (by omega) (by omega)).mp (e.symm.trans e')
      subst this
      have hb1 := bkf_len (b := b) (L := L) (p := p) (row := row) (x := a)
      have := (nI_eq (by omega) (by omega)).mp (ek.symm.trans ek')
      subst this
      rfl
    -- clear
    · have hbt : b ≤ t := K.2.2.2.2.2.2.1
      exact oX_clear K hX (fun u' hX' => oM_clear (fun v' hM' => go 0 0 [] u' v' hX' hM' ⟨by rw [rd_0]; omega, by rw [rd_0]; omega, by simp, by simp⟩ (by simp)))
    -- any other
    · exact go L p row u v hX hM W (by omega)
theorem law_clamp (x1 x2 x3 x4 : Int32) : ∃ b c m t, KC b c m t ∧ k0X x1 x2 x3 x4 = kx_ b c m t ∧ k0M x1 x2 x3 x4 = km_ b c m t := by
  have a1 := cl_lo x1 1 8 (by decide) (by decide)
  have a2 := cl_hi x1 1 8 (by decide) (by decide)
  have a3 := cl_lo x2 1 8 (by decide) (by decide)
  have a4 := cl_hi x2 1 8 (by decide) (by decide)
  have a5 := cl_lo x3 8 300 (by decide) (by decide)
  have a6 := cl_hi x3 8 300 (by decide) (by decide)
  have a7 := cl_lo x4 (clampN x1 1 8) 200 (by omega) (by decide)
  have a8 := cl_hi x4 (clampN x1 1 8) 200 (by omega) (by decide)
  have e1 : jbring x1 1 8 = nI (clampN x1 1 8) := jb_nI x1 1 8 (by decide) (by decide)
  have e2 : jbring x2 1 8 = nI (clampN x2 1 8) := jb_nI x2 1 8 (by decide) (by decide)
  have e3 : jbring x3 8 300 = nI (clampN x3 8 300) := jb_nI x3 8 300 (by decide) (by decide)
  have e4 : jbring x4 (nI (clampN x1 1 8)) 200 = nI (clampN x4 (clampN x1 1 8) 200) := jb_nI x4 (clampN x1 1 8) 200 (by omega) (by decide)
  refine ⟨clampN x1 1 8, clampN x2 1 8, clampN x3 8 300, clampN x4 (clampN x1 1 8) 200, ⟨a1, a2, a3, a4, a5, a6, a7, a8⟩, ?_, ?_⟩
  · unfold k0X
    rw [e1, e2, e3, e4]
  · unfold k0M
    rw [e1, e2, e3, e4]
end
section
/-! the law's two states from the start (hand-written) -/
theorem law_pure (L : Nat) (xs : Nat → Int32) (hL : L ≤ 1540) : wp_X_clear (k0X (cellN L xs 0) (cellN L xs 1) (cellN L xs 2) (cellN L xs 3)) u0X (fun u => ∃ n : Nat, lp_L_law (k0X (cellN L xs 0) (cellN L xs 1) (cellN L xs 2) (cellN L xs 3)) (k0M (cellN L xs 0) (cellN L xs 1) (cellN L xs 2) (cellN L xs 3)) L xs n 4 u u0M) := by
  obtain ⟨b, c, m, t, K, e1, e2⟩ := law_clamp (cellN L xs 0) (cellN L xs 1) (cellN L xs 2) (cellN L xs 3)
  rw [e1, e2]
  have hb := K.1
  have hbt : b ≤ t := K.2.2.2.2.2.2.1
  refine sX_clear (tk := []) K ⟨rfl, by simp, fun i hi => absurd hi (by simp)⟩ (fun u R => ⟨L + 5, law_run K hL xs (L + 5) 4 u u0M 0 0 [] ⟨[], m - b, RX_bk R (fun y => ?_) (fun y _ => rfl)⟩ ⟨rfl, rfl, rfl, by simp [tag], fun i hi => absurd hi (by simp [tag])⟩ ⟨by rw [rd_0]; omega, by rw [rd_0]; omega, by simp, by simp⟩ (by simp) (by omega) (by omega)⟩)
  rw [rd_0]
  rfl
end
section
theorem l_preX {s : State} {D : va_G} {A : Nat → Prop} {ws : va_W} {H : Heap} {locs : List Loc} {b L : Nat} {xs : Nat → Int32} (hX : va_X b L xs s s.heap) (hbl : b < s.heap.size) (hbA : ¬ A b) (G : wG D A s ws H locs) (k : Nat) : PreS s H (fun a U => a = ([.ref b, .int (nI k)] : List Value).toArray ∧ va_X b L xs U U.heap ∧ b < U.heap.size) [.ref b, .int (nI k)] := by
  refine ⟨fun a U g mk q => ⟨q.1, va_X.moved (u := U) (U := U.calling g mk a) (Vm.Alike.refl U.vm) q.2.1, q.2.2⟩, fun U hU hW => ⟨rfl, ?_, ?_⟩⟩
  · rw [hU]
    exact va_X.moved hW.alike (hX.kept (G.2.2.2.1 b hbl hbA))
  · rw [hU]
    exact Nat.lt_of_lt_of_le hbl G.2.2.1
set_option maxHeartbeats 4000000 in
set_option maxRecDepth 100000 in
/-- THE LAW, from its entry -/
theorem whole_start {p : Program} {e : Env} {s : State} {m : MethodId} {below : List Frame} {meth : Method} {c : Code} (l : Launch) {b L : Nat} {xs : Nat → Int32} (hL : L ≤ 1540) (C0 : lw_At p s m meth c b L xs) : W p l e room_1 s m #[Value.ref b] below meth c s.heap [] 0 0 (lw_Z below #[Value.ref b] s) (entryFrame m ([Value.ref b] : List Value).toArray 4) := by
  obtain ⟨hx, hb, hr, hml, hown, hts, hX, hbl, hlocks, hgv⟩ := id C0
  have hA : ∀ q : Nat, s.heap.size ≤ q → (fun q : Nat => s.heap.size ≤ q) q := fun _ h => h
  have hbA : ¬ (fun q : Nat => s.heap.size ≤ q) b := Nat.not_le.mpr hbl
  have hLs : L < 2 ^ 31 := by omega
  have hg : ∀ w ∈ gw_tbl, w.before #[Value.ref b] s = true := fun w hw => hts w (List.mem_filter.mp hw).1
  obtain ⟨c0, iS0, hKn0⟩ := u_known (C := R_X) (T := F_X) (N := 18) (n := 18) hg i_X (hg (.instantiable R_X 18) (wd_in 29 rfl rfl))
  obtain ⟨c1, iS1, hKn1⟩ := u_known (C := R_M) (T := F_M) (N := 11) (n := 11) hg i_M (hg (.instantiable R_M 11) (wd_in 217 rfl rfl))
  obtain ⟨dC, dI, hKc⟩ : ∃ (dC : Nat → ClassId) (dI : Nat → Nat → Nat), ∀ (k : Nat) (q : vw_C), classes[k]? = some q → u_Kn s q.1 q.2.1 q.2.2 (dC k) (dI k) := by
    refine ⟨fun k => if k = 0 then c0 else c1, fun k => if k = 0 then iS0 else iS1, ?_⟩
    intro k q hq
    match k, hq with
    | 0, hq => cases hq; exact hKn0
    | 1, hq => cases hq; exact hKn1
    | k + 2, hq => simp [classes] at hq
  obtain ⟨cA, kA, comp, h1, h2, h3⟩ := Cond.arrayClass_spec (hg (.arrayClass .int) (wd_in 106 rfl rfl))
  have hK : va_K (dC, dI) classes [(cA, .int)] s := by
    refine ⟨hKc, fun k q h => ?_⟩
    match k, h with
    | 0, h => cases h; exact ⟨fun n z => ⟨fun k h => (by cases h), kA, h2, comp, h3⟩, h1⟩
    | k + 1, h => simp at h
  have C : wC p s m #[Value.ref b] c meth code 4 R_law (dC, dI) cA (fun q : Nat => s.heap.size ≤ q) := ⟨hx, hb, hml, hown, hg, hK, hA, hlocks⟩
  have hS : va_S (fun q : Nat => s.heap.size ≤ q) s.heap s.heap [] := va_S.rf
  have hP : va_P (dC, dI) classes [] s.heap := fun k q h => by simp at h
  have hD : va_D (fun q : Nat => s.heap.size ≤ q) [] := ⟨fun i j p q h => by simp at h, fun k q h => by simp at h⟩
  have hl := lv_entry ([.ref b]) (n := 4) (Nat.le_of_ble_eq_true rfl)
  rw [lg_entry_eq]
  generalize (lg_sl ([.ref b]) ++ List.replicate (4 - (lg_sl ([.ref b])).length) Slot.unset).toArray = ls at hl ⊢
  have hl : lv_has ls 4 [(0, .ref b)] := hl
  have hpure := law_pure L xs hL
  refine va_new (ci := 0) (fs := [.int 0, .int 0, .int 0, .int 0, .null, .null, .null, .null, .null, .null, .null, .null, .int 0, .int 0, .int 0, .int 0, .int 0, .int 0]) (C := R_X) (T := F_X) (N := 18) hx hb hg i_X t_X t_X_ok hown (hg (.classLink R_law 7 R_X) (wd_in 28 rfl rfl)) (hg (.instantiable R_X 18) (wd_in 29 rfl rfl)) (hg (.initialized R_X) (wd_in 26 rfl rfl)) hK hP hD hS hA rfl (fun j hj => by rcases (show j = 0 ∨ j = 1 ∨ j = 2 ∨ j = 3 ∨ j = 4 ∨ j = 5 ∨ j = 6 ∨ j = 7 ∨ j = 8 ∨ j = 9 ∨ j = 10 ∨ j = 11 ∨ j = 12 ∨ j = 13 ∨ j = 14 ∨ j = 15 ∨ j = 16 ∨ j = 17 by omega) with rfl | rfl | rfl | rfl | rfl | rfl | rfl | rfl | rfl | rfl | rfl | rfl | rfl | rfl | rfl | rfl | rfl | rfl <;> rfl) (Nat.le_of_ble_eq_true rfl) (Nat.le_of_ble_eq_true rfl) d_L_law_0 (fun q0 H hP hD hS => ?_)
  refine W.widen (k := 1) (n := 18) (Nat.le_of_ble_eq_true rfl) (Nat.le_of_ble_eq_true rfl) ?_
  have G : wG (dC, dI) (fun q : Nat => s.heap.size ≤ q) s [(q0, .inr (0, [.int 0, .int 0, .int 0, .int 0, .null, .null, .null, .null, .null, .null, .null, .null, .int 0, .int 0, .int 0, .int 0, .int 0, .int 0]))] H _ := ⟨hP, hD, hS⟩
  refine lv_dup hx hb d_L_law_3 rfl ?_
  refine lv_aload_n hx hb d_L_law_4 rfl (lv_at hl 0 rfl) ?_
  refine lv_iconst (v := 0) hx hb d_L_law_5 (by decide) ?_
  refine g_calls (np := 2) [.ref b, .int (nI 0)] C (c_L_cell l b L hLs xs 0 (by decide)) (wd_in 214 rfl rfl) (wd_in 25 rfl rfl) (wd_in 215 rfl rfl) (by decide +kernel) ml_L_9 rfl rfl ⟨Nat.le_of_ble_eq_true rfl, Nat.le_of_ble_eq_true rfl⟩ (l_preX hX hbl hbA G 0) rfl hl.1 (rest := [.ref q0, .ref q0]) rfl (lv_room (Nat.le_of_ble_eq_true rfl)) ⟨Nat.le_of_ble_eq_true rfl, Nat.le_of_ble_eq_true rfl⟩ d_L_law_6 ?_
  refine lv_aload_n hx hb d_L_law_9 rfl (lv_at hl 0 rfl) ?_
  refine lv_iconst (v := 1) hx hb d_L_law_10 (by decide) ?_
  refine g_calls (np := 2) [.ref b, .int (nI 1)] C (c_L_cell l b L hLs xs 1 (by decide)) (wd_in 214 rfl rfl) (wd_in 25 rfl rfl) (wd_in 215 rfl rfl) (by decide +kernel) ml_L_9 rfl rfl ⟨Nat.le_of_ble_eq_true rfl, Nat.le_of_ble_eq_true rfl⟩ (l_preX hX hbl hbA G 1) rfl hl.1 (rest := [.int (cellN L xs 0), .ref q0, .ref q0]) rfl (lv_room (Nat.le_of_ble_eq_true rfl)) ⟨Nat.le_of_ble_eq_true rfl, Nat.le_of_ble_eq_true rfl⟩ d_L_law_11 ?_
  refine lv_aload_n hx hb d_L_law_14 rfl (lv_at hl 0 rfl) ?_
  refine lv_iconst (v := 2) hx hb d_L_law_15 (by decide) ?_
  refine g_calls (np := 2) [.ref b, .int (nI 2)] C (c_L_cell l b L hLs xs 2 (by decide)) (wd_in 214 rfl rfl) (wd_in 25 rfl rfl) (wd_in 215 rfl rfl) (by decide +kernel) ml_L_9 rfl rfl ⟨Nat.le_of_ble_eq_true rfl, Nat.le_of_ble_eq_true rfl⟩ (l_preX hX hbl hbA G 2) rfl hl.1 (rest := [.int (cellN L xs 1), .int (cellN L xs 0), .ref q0, .ref q0]) rfl (lv_room (Nat.le_of_ble_eq_true rfl)) ⟨Nat.le_of_ble_eq_true rfl, Nat.le_of_ble_eq_true rfl⟩ d_L_law_16 ?_
  refine lv_aload_n hx hb d_L_law_19 rfl (lv_at hl 0 rfl) ?_
  refine lv_iconst (v := 3) hx hb d_L_law_20 (by decide) ?_
  refine g_calls (np := 2) [.ref b, .int (nI 3)] C (c_L_cell l b L hLs xs 3 (by decide)) (wd_in 214 rfl rfl) (wd_in 25 rfl rfl) (wd_in 215 rfl rfl) (by decide +kernel) ml_L_9 rfl rfl ⟨Nat.le_of_ble_eq_true rfl, Nat.le_of_ble_eq_true rfl⟩ (l_preX hX hbl hbA G 3) rfl hl.1 (rest := [.int (cellN L xs 2), .int (cellN L xs 1), .int (cellN L xs 0), .ref q0, .ref q0]) rfl (lv_room (Nat.le_of_ble_eq_true rfl)) ⟨Nat.le_of_ble_eq_true rfl, Nat.le_of_ble_eq_true rfl⟩ d_L_law_21 ?_
  have hF := g_free C G
  refine va_callv (va_runI (As := [.int (cellN L xs 0), .int (cellN L xs 1), .int (cellN L xs 2), .int (cellN L xs 3)]) (rest := [.ref q0]) ⟨hx, hb, hml, hown, hg⟩ (c_X_init l (dC, dI) cA q0 (cellN L xs 0) (cellN L xs 1) (cellN L xs 2) (cellN L xs 3) _ hpure H.size) ⟨callB_of 4 hg (wd_code (wd_in 32 rfl rfl)) rfl rfl rfl (hg _ (wd_in 26 rfl rfl)) (hg _ ml_L_15) (by decide +kernel) ⟨Nat.le_of_ble_eq_true rfl, Nat.le_of_ble_eq_true rfl⟩, rfl, hg _ (wd_in 31 rfl rfl)⟩ ⟨cB_blind, fun U hU hW => ⟨rfl, by rw [hU], by rw [hU]; exact G.1, va_K.moved hW.alike hK, G.2.1.weaken (fun _ _ _ _ => trivial)⟩⟩ rfl rfl hl.1 rfl (lv_room (Nat.le_of_ble_eq_true rfl)) d_L_law_24 ⟨Nat.le_of_ble_eq_true rfl, Nat.le_of_ble_eq_true rfl⟩) G.2.2 (fun q _ h => hF q h) hF (fun z t H1 locs ht hvm hq hB _ hk1 hS => ?_)
  obtain ⟨ad, u⟩ := z
  obtain ⟨hq0, n, h⟩ := hq
  obtain ⟨hP1, hK1, hD1⟩ := hB
  rw [ht] at hP1
  have hq0 : ad 0 = q0 := hq0
  subst hq0
  have hP : va_P (dC, dI) classes (wX cA ad (k0X (cellN L xs 0) (cellN L xs 1) (cellN L xs 2) (cellN L xs 3)) u) H1 := hP1
  have hD : va_D (fun q : Nat => s.heap.size ≤ q) (wX cA ad (k0X (cellN L xs 0) (cellN L xs 1) (cellN L xs 2) (cellN L xs 3)) u) := hD1.weaken (fun _ q _ h => hF q.1 h)
  refine W.widen (k := 9) (n := 10518) (Nat.le_of_ble_eq_true rfl) (Nat.le_of_ble_eq_true rfl) ?_
  refine lv_astore_n (lv' := [(1, .ref (ad 0)), (0, .ref b)]) hx hb d_L_law_27 rfl hl (by decide) rfl (fun ls hl => ?_)
  refine va_new (ci := 1) (fs := [.int 0, .int 0, .int 0, .int 0, .int 0, .null, .null, .null, .int 0, .int 0, .null]) (C := R_M) (T := F_M) (N := 11) hx hb hg i_M t_M t_M_ok hown (hg (.classLink R_law 18 R_M) (wd_in 216 rfl rfl)) (hg (.instantiable R_M 11) (wd_in 217 rfl rfl)) (hg (.initialized R_M) (wd_in 27 rfl rfl)) hK hP hD hS hA rfl (fun j hj => by rcases (show j = 0 ∨ j = 1 ∨ j = 2 ∨ j = 3 ∨ j = 4 ∨ j = 5 ∨ j = 6 ∨ j = 7 ∨ j = 8 ∨ j = 9 ∨ j = 10 by omega) with rfl | rfl | rfl | rfl | rfl | rfl | rfl | rfl | rfl | rfl | rfl <;> rfl) (Nat.le_of_ble_eq_true rfl) (Nat.le_of_ble_eq_true rfl) d_L_law_28 (fun q1 H hP hD hS => ?_)
  refine W.widen (k := 10) (n := 10529) (Nat.le_of_ble_eq_true rfl) (Nat.le_of_ble_eq_true rfl) ?_
  have G : wG (dC, dI) (fun q : Nat => s.heap.size ≤ q) s (wX cA ad (k0X (cellN L xs 0) (cellN L xs 1) (cellN L xs 2) (cellN L xs 3)) u ++ [(q1, .inr (1, [.int 0, .int 0, .int 0, .int 0, .int 0, .null, .null, .null, .int 0, .int 0, .null]))]) H _ := ⟨hP, hD, hS⟩
  refine lv_dup hx hb d_L_law_31 rfl ?_
  refine lv_aload_n hx hb d_L_law_32 rfl (lv_at hl 1 rfl) ?_
  refine lv_iconst (v := 0) hx hb d_L_law_33 (by decide) ?_
  refine g_calls (np := 2) [.ref b, .int (nI 0)] C (c_L_cell l b L hLs xs 0 (by decide)) (wd_in 214 rfl rfl) (wd_in 25 rfl rfl) (wd_in 215 rfl rfl) (by decide +kernel) ml_L_9 rfl rfl ⟨Nat.le_of_ble_eq_true rfl, Nat.le_of_ble_eq_true rfl⟩ (l_preX hX hbl hbA G 0) rfl hl.1 (rest := [.ref q1, .ref q1]) rfl (lv_room (Nat.le_of_ble_eq_true rfl)) ⟨Nat.le_of_ble_eq_true rfl, Nat.le_of_ble_eq_true rfl⟩ d_L_law_34 ?_
  refine lv_aload_n hx hb d_L_law_37 rfl (lv_at hl 1 rfl) ?_
  refine lv_iconst (v := 1) hx hb d_L_law_38 (by decide) ?_
  refine g_calls (np := 2) [.ref b, .int (nI 1)] C (c_L_cell l b L hLs xs 1 (by decide)) (wd_in 214 rfl rfl) (wd_in 25 rfl rfl) (wd_in 215 rfl rfl) (by decide +kernel) ml_L_9 rfl rfl ⟨Nat.le_of_ble_eq_true rfl, Nat.le_of_ble_eq_true rfl⟩ (l_preX hX hbl hbA G 1) rfl hl.1 (rest := [.int (cellN L xs 0), .ref q1, .ref q1]) rfl (lv_room (Nat.le_of_ble_eq_true rfl)) ⟨Nat.le_of_ble_eq_true rfl, Nat.le_of_ble_eq_true rfl⟩ d_L_law_39 ?_
  refine lv_aload_n hx hb d_L_law_42 rfl (lv_at hl 1 rfl) ?_
  refine lv_iconst (v := 2) hx hb d_L_law_43 (by decide) ?_
  refine g_calls (np := 2) [.ref b, .int (nI 2)] C (c_L_cell l b L hLs xs 2 (by decide)) (wd_in 214 rfl rfl) (wd_in 25 rfl rfl) (wd_in 215 rfl rfl) (by decide +kernel) ml_L_9 rfl rfl ⟨Nat.le_of_ble_eq_true rfl, Nat.le_of_ble_eq_true rfl⟩ (l_preX hX hbl hbA G 2) rfl hl.1 (rest := [.int (cellN L xs 1), .int (cellN L xs 0), .ref q1, .ref q1]) rfl (lv_room (Nat.le_of_ble_eq_true rfl)) ⟨Nat.le_of_ble_eq_true rfl, Nat.le_of_ble_eq_true rfl⟩ d_L_law_44 ?_
  refine lv_aload_n hx hb d_L_law_47 rfl (lv_at hl 1 rfl) ?_
  refine lv_iconst (v := 3) hx hb d_L_law_48 (by decide) ?_
  refine g_calls (np := 2) [.ref b, .int (nI 3)] C (c_L_cell l b L hLs xs 3 (by decide)) (wd_in 214 rfl rfl) (wd_in 25 rfl rfl) (wd_in 215 rfl rfl) (by decide +kernel) ml_L_9 rfl rfl ⟨Nat.le_of_ble_eq_true rfl, Nat.le_of_ble_eq_true rfl⟩ (l_preX hX hbl hbA G 3) rfl hl.1 (rest := [.int (cellN L xs 2), .int (cellN L xs 1), .int (cellN L xs 0), .ref q1, .ref q1]) rfl (lv_room (Nat.le_of_ble_eq_true rfl)) ⟨Nat.le_of_ble_eq_true rfl, Nat.le_of_ble_eq_true rfl⟩ d_L_law_49 ?_
  have G1 := wG_r G
  have hF := g_free C G1
  refine va_callv (va_runI (As := [.int (cellN L xs 0), .int (cellN L xs 1), .int (cellN L xs 2), .int (cellN L xs 3)]) (rest := [.ref q1]) ⟨hx, hb, hml, hown, hg⟩ (c_M_init l (dC, dI) cA q1 (cellN L xs 0) (cellN L xs 1) (cellN L xs 2) (cellN L xs 3) H.size) ⟨callB_of 4 hg (wd_code (wd_in 220 rfl rfl)) rfl rfl rfl (hg _ (wd_in 27 rfl rfl)) (hg _ ml_L_20) (by decide +kernel) ⟨Nat.le_of_ble_eq_true rfl, Nat.le_of_ble_eq_true rfl⟩, rfl, hg _ (wd_in 219 rfl rfl)⟩ ⟨cB_blind, fun U hU hW => ⟨rfl, by rw [hU], by rw [hU]; exact G1.1, va_K.moved hW.alike hK, G1.2.1.weaken (fun _ _ _ _ => trivial)⟩⟩ rfl rfl hl.1 rfl (lv_room (Nat.le_of_ble_eq_true rfl)) d_L_law_52 ⟨Nat.le_of_ble_eq_true rfl, Nat.le_of_ble_eq_true rfl⟩) G.2.2 (fun q _ h => hF q h) hF (fun z t H1 locs ht hvm hq hB _ hk1 hS => ?_)
  obtain ⟨am, v⟩ := z
  obtain ⟨hq1, hv⟩ := hq
  have hq1 : am 0 = q1 := hq1
  have hv : v = u0M := hv
  subst hq1
  subst hv
  obtain ⟨hP1, hK1, hD1⟩ := hB
  rw [ht] at hP1
  have G : wG (dC, dI) (fun q : Nat => s.heap.size ≤ q) s (wX cA ad (k0X (cellN L xs 0) (cellN L xs 1) (cellN L xs 2) (cellN L xs 3)) u ++ wM cA am (k0M (cellN L xs 0) (cellN L xs 1) (cellN L xs 2) (cellN L xs 3)) u0M) H1 locs := wG_joinr G hk1 hP1 hD1 hF hS
  refine W.widen (k := 14) (n := 20000) (Nat.le_of_ble_eq_true rfl) (Nat.le_of_ble_eq_true rfl) ?_
  refine lv_astore_n (lv' := [(2, .ref (am 0)), (1, .ref (ad 0)), (0, .ref b)]) hx hb d_L_law_55 rfl hl (by decide) rfl (fun ls hl => ?_)
  refine lv_iconst (v := 4) hx hb d_L_law_56 (by decide) ?_
  refine lv_istore_n (lv' := [(3, .int 4), (2, .ref (am 0)), (1, .ref (ad 0)), (0, .ref b)]) hx hb d_L_law_57 rfl hl (by decide) rfl (fun ls hl => ?_)
  exact wlp_L_law l hL C0 hK (k0X_ok _ _ _ _) n 4 u u0M h _ _ _ G (lv_sub hl [3, 2, 1, 0] rfl)
set_option maxHeartbeats 4000000 in
theorem lw_walk (l : Launch) (b : Addr) (xs : List Int32) : MetFree l x (headSpec (Jvm.Cond.code x code maxLocals ret :: tables_1) room_1) (lw_P b xs) (fun _ _ _ _ _ => True) lw_Q := by
  refine MetFree.of_bodyS (code := code) (maxLocals := maxLocals) (ret := ret) (by decide) ?_ ?_
  · intro args s m h hn
    obtain ⟨meth, c, h1, h2, h3, h4, h5, h6, -, -⟩ := Cond.code_spec hn (atoms_spec (ws := Jvm.Cond.code x code maxLocals ret :: tables_1) h _ List.mem_cons_self)
    exact ⟨meth, c, h1, h2, h3, h4, h5, h6⟩
  · intro p e s m args below meth c s₁ B hml0 hP _
    obtain ⟨rfl, hx, hbd, hgv⟩ := hP
    obtain ⟨scr, harrAt, hlist, hof, hsmall⟩ := hx
    obtain ⟨hcb, hkn, -, -⟩ := State.arrayAt?_spec harrAt
    have hown : s.vm.findClass R_law = some m.cls := findClass_of_methodNamed B.named
    have hts0 : ∀ c ∈ (Jvm.Cond.code x code maxLocals ret :: tables_1), c.before #[Value.ref b] s = true := atoms_spec (ws := Jvm.Cond.code x code maxLocals ret :: tables_1) B.pre
    have hts : ∀ w ∈ lw_tbl, w.before #[Value.ref b] s = true := k2_hts_sels lw_privs (fun w hw => hts0 w (List.mem_cons_of_mem _ hw)) lw_privs_ok
    have hml : c.maxLocals = 4 := B.maxLocals_eq (hts0 _ List.mem_cons_self)
    have X₀ : Stand p l e room_1 s m #[Value.ref b] below meth c s₁ [] 0 0 := Stand.of_body B
    have hh0 : s₁.heap = s.heap := by rw [B.state]; rfl
    have hsz : scr.slots.size = xs.length := by rw [← Array.length_toList, hlist, List.length_map]
    have hval : ∀ j : Nat, j < xs.length → scr.slots[j]? = some (.int (xs.getD j 0)) := fun j hj => by
      rw [← Array.getElem?_toList, hlist]
      simp [hj]
    have hbl : b < s.heap.size := (Array.getElem?_eq_some_iff.mp hcb).1
    have hX : va_X b xs.length (fun j => xs.getD j 0) s s.heap := ⟨scr, hcb, hof, hkn, hsz, hval⟩
    have K : W p l e room_1 s m #[Value.ref b] below meth c s₁.heap [] 0 0 (lw_Z below #[Value.ref b] s) (entryFrame m ([Value.ref b] : List Value).toArray 4) := by
      rw [hh0]
      exact whole_start l hbd ⟨B.exec, B.bytes, B.returns, hml, hown, hts, hX, hbl, B.notSynchronized, hgv⟩
    obtain ⟨t, a1, o, b1, b2, b3⟩ := K s₁ rfl X₀
    exact ⟨t, o, a1, b1, b2, b3⟩
theorem lw_pre_spec {args : Array Value} {s : State} (h : (Jvm.Cond.and given_1 narrow_1).before args s = true) (hr : rest_1_c.before args s = true) : ∃ (b : Addr) (xs : List Int32), lw_P b xs args s := by
  have hs := flat_of_before _ h
  have hq := flat_of_before _ hr
  have hc : (Cond.count 1).before args s = true := hs _ (by decide +kernel)
  have harr : (Cond.arrayOf (.arg 0) .int).before args s = true := hs _ (by decide +kernel)
  have hle : (Cond.le (.length (.arg 0)) (.int 1540)).before args s = true := hs _ (by decide +kernel)
  have hlen : (Cond.isInt (.length (.arg 0))).before args s = true := hq _ (by decide +kernel)
  have hall : (Cond.all (.arg 0) (.isInt (.elem (.arg 0) (.index 0)))).before args s = true := hq _ (by decide +kernel)
  obtain ⟨b, xs, hb, hx⟩ := State.ints_of_pre rfl harr hlen hall
  have hsm : xs.length < 2 ^ 31 := hx.choose_spec.2.2.2
  have hev : (Term.length (.arg 0)).eval args s none [] s = some (.int xs.length.toInt32) := hx.length_eval hb
  have hv := Cond.le_ints hev (show (Term.int 1540).eval args s none [] s = some (.int 1540) from rfl)
  have hd : xs.length.toInt32 ≤ 1540 := by
    simpa [Cond.before, Cond.holds, hv] using hle
  have hN : xs.length ≤ 1540 := (Int32.ofNat_le_ofNat hsm (by decide)).mp (show Int32.ofNat xs.length ≤ Int32.ofNat 1540 from hd)
  exact ⟨b, xs, Cond.one_arg hc (show args[0]? = some (.ref b) from hb), hx, hN, h⟩
theorem lw_comes (l : Launch) : Comes l x (Jvm.Cond.code x code maxLocals ret :: tables_1) room_1 (fun tb e args s => Calls_1 tb e args s ∧ rest_1 tb e args s ∧ Pre_1 tb e args s)
    (fun _ _ args s o t => lw_Q args s o t) := by
  intro p e ha hc hk s m args below hf hfit hheap happ hpre
  obtain ⟨b, xs, hP⟩ := lw_pre_spec hpre.2.2 hpre.2.1
  obtain ⟨k, o, h1, h2, h3, hQ⟩ := lw_walk l b xs p e ha hc hk s m args below hf ((Spec.applies_iff_loose hf).mp happ).1 hP trivial
  exact ⟨k, o, h1, h2, h3, hQ⟩
theorem lw_frame {s t : State} {o : Outcome} {args : Array Value} (h : Framed s o t [] 600000 7302250) :
    Framed s o t (fieldLocs frame_1_writes args s ++ arrayLocs frame_1_arrays args s ++ staticLocs frame_1_statics s) 600000 7302250 := h
theorem lw_limb (L : Cond) (hL : ∀ (args : Array Value) (s t : State), L.after args s (.returned (some (.int 1))) t = true) :
    ArmFor flags0 classFile x code maxLocals ret World_1 tables_1 room_1 Calls_1 rest_1 Pre_1
      (fun tb e a s o t => postC L tb e a s o t ∧ Framed s o t (fieldLocs frame_1_writes a s ++ arrayLocs frame_1_arrays a s ++ staticLocs frame_1_statics s) 600000 7302250) := by
  intro l _ _ _ p e ha hc hk s m args below hf hfit hheap happ hpre
  obtain ⟨k, o, h1, h2, h3, rfl, hF⟩ := lw_comes l p e ha hc hk s m args below hf hfit hheap happ hpre
  exact ⟨k, _, h1, h2, h3, hL args s _, lw_frame hF⟩
theorem i_vc : Claimed_1_1 ∧ Claimed_1_2 := ⟨lw_limb limb_1_1 (fun args s t => by simp [limb_1_1, Cond.after, Cond.holds, Cond.value]), lw_limb limb_1_2 (fun args s t => Cond.after_iff.mpr (by
  first | (rw [show limb_1_2 = Cond.eq .result (.int 1) from rfl, Cond.eq_ints (x := 1) (y := 1) rfl rfl]; simp; done) | (simp [limb_1_2, Cond.value, Term.eval]; done)))⟩
end
