section
-- ===== PART A: goes FIRST, ahead of the names: the tables' words, and 'selects' of the private methods out of them =====
/-- a private method of a class that the tables say can be made, by its rows of tables_1 -/
def lw_okq (q : MethodName × Nat) : Prop := (q.1.cls ≠ "java/lang/invoke/MethodHandle" ∧ q.1.cls ≠ "java/lang/invoke/VarHandle") ∧ Cond.instantiable q.1.cls q.2 ∈ tables_1 ∧ Cond.privateMethod q.1 ∈ tables_1 ∧ Cond.instanceMethod q.1 ∈ tables_1
theorem lw_p0 : lw_okq (⟨"ExprCrossword", "anyWord", "(I)V"⟩, 32) := ⟨⟨by decide +kernel, by decide +kernel⟩, List.mem_of_getElem? (i := 4) (by decide +kernel), List.mem_of_getElem? (i := 12) (by decide +kernel), List.mem_of_getElem? (i := 13) (by decide +kernel)⟩
theorem lw_p1 : lw_okq (⟨"ExprCrossword", "push", "(IIZ)V"⟩, 32) := ⟨⟨by decide +kernel, by decide +kernel⟩, List.mem_of_getElem? (i := 4) (by decide +kernel), List.mem_of_getElem? (i := 119) (by decide +kernel), List.mem_of_getElem? (i := 120) (by decide +kernel)⟩
theorem lw_p2 : lw_okq (⟨"ExprCrossword", "link", "(II)V"⟩, 32) := ⟨⟨by decide +kernel, by decide +kernel⟩, List.mem_of_getElem? (i := 4) (by decide +kernel), List.mem_of_getElem? (i := 131) (by decide +kernel), List.mem_of_getElem? (i := 132) (by decide +kernel)⟩
theorem lw_p3 : lw_okq (⟨"ExprCrossword", "turn", "(I)V"⟩, 32) := ⟨⟨by decide +kernel, by decide +kernel⟩, List.mem_of_getElem? (i := 4) (by decide +kernel), List.mem_of_getElem? (i := 147) (by decide +kernel), List.mem_of_getElem? (i := 148) (by decide +kernel)⟩
theorem lw_p4 : lw_okq (⟨"ExprCrossword", "inGrid", "(II)Z"⟩, 32) := ⟨⟨by decide +kernel, by decide +kernel⟩, List.mem_of_getElem? (i := 4) (by decide +kernel), List.mem_of_getElem? (i := 171) (by decide +kernel), List.mem_of_getElem? (i := 172) (by decide +kernel)⟩
theorem lw_p5 : lw_okq (⟨"ExprCrossword", "scan", "(II)V"⟩, 32) := ⟨⟨by decide +kernel, by decide +kernel⟩, List.mem_of_getElem? (i := 4) (by decide +kernel), List.mem_of_getElem? (i := 183) (by decide +kernel), List.mem_of_getElem? (i := 184) (by decide +kernel)⟩
theorem lw_p6 : lw_okq (⟨"ExprCrossword", "prepare", "()V"⟩, 32) := ⟨⟨by decide +kernel, by decide +kernel⟩, List.mem_of_getElem? (i := 4) (by decide +kernel), List.mem_of_getElem? (i := 187) (by decide +kernel), List.mem_of_getElem? (i := 188) (by decide +kernel)⟩
theorem lw_p7 : lw_okq (⟨"ExprCrossword", "prepareLine", "(I)V"⟩, 32) := ⟨⟨by decide +kernel, by decide +kernel⟩, List.mem_of_getElem? (i := 4) (by decide +kernel), List.mem_of_getElem? (i := 191) (by decide +kernel), List.mem_of_getElem? (i := 192) (by decide +kernel)⟩
theorem lw_p8 : lw_okq (⟨"ExprCrossword", "lineLength", "(I)I"⟩, 32) := ⟨⟨by decide +kernel, by decide +kernel⟩, List.mem_of_getElem? (i := 4) (by decide +kernel), List.mem_of_getElem? (i := 195) (by decide +kernel), List.mem_of_getElem? (i := 196) (by decide +kernel)⟩
theorem lw_p9 : lw_okq (⟨"ExprCrossword", "cellOf", "(II)I"⟩, 32) := ⟨⟨by decide +kernel, by decide +kernel⟩, List.mem_of_getElem? (i := 4) (by decide +kernel), List.mem_of_getElem? (i := 199) (by decide +kernel), List.mem_of_getElem? (i := 200) (by decide +kernel)⟩
theorem lw_p10 : lw_okq (⟨"ExprCrossword", "before", "(III)I"⟩, 32) := ⟨⟨by decide +kernel, by decide +kernel⟩, List.mem_of_getElem? (i := 4) (by decide +kernel), List.mem_of_getElem? (i := 203) (by decide +kernel), List.mem_of_getElem? (i := 204) (by decide +kernel)⟩
theorem lw_p11 : lw_okq (⟨"ExprCrossword", "place", "(II)Z"⟩, 32) := ⟨⟨by decide +kernel, by decide +kernel⟩, List.mem_of_getElem? (i := 4) (by decide +kernel), List.mem_of_getElem? (i := 207) (by decide +kernel), List.mem_of_getElem? (i := 208) (by decide +kernel)⟩
theorem lw_p12 : lw_okq (⟨"ExprCrossword", "step", "(III)I"⟩, 32) := ⟨⟨by decide +kernel, by decide +kernel⟩, List.mem_of_getElem? (i := 4) (by decide +kernel), List.mem_of_getElem? (i := 211) (by decide +kernel), List.mem_of_getElem? (i := 212) (by decide +kernel)⟩
theorem lw_p13 : lw_okq (⟨"ExprCrossword", "enter", "(II)Z"⟩, 32) := ⟨⟨by decide +kernel, by decide +kernel⟩, List.mem_of_getElem? (i := 4) (by decide +kernel), List.mem_of_getElem? (i := 215) (by decide +kernel), List.mem_of_getElem? (i := 216) (by decide +kernel)⟩
theorem lw_p14 : lw_okq (⟨"ExprCrossword", "spells", "(III)Z"⟩, 32) := ⟨⟨by decide +kernel, by decide +kernel⟩, List.mem_of_getElem? (i := 4) (by decide +kernel), List.mem_of_getElem? (i := 235) (by decide +kernel), List.mem_of_getElem? (i := 236) (by decide +kernel)⟩
theorem lw_p15 : lw_okq (⟨"ExprCrosswordModel", "push", "(II)I"⟩, 7) := ⟨⟨by decide +kernel, by decide +kernel⟩, List.mem_of_getElem? (i := 242) (by decide +kernel), List.mem_of_getElem? (i := 279) (by decide +kernel), List.mem_of_getElem? (i := 280) (by decide +kernel)⟩
def lw_privs_1 : List (MethodName × Nat) := [(⟨"ExprCrossword", "anyWord", "(I)V"⟩, 32), (⟨"ExprCrossword", "push", "(IIZ)V"⟩, 32), (⟨"ExprCrossword", "link", "(II)V"⟩, 32), (⟨"ExprCrossword", "turn", "(I)V"⟩, 32), (⟨"ExprCrossword", "inGrid", "(II)Z"⟩, 32), (⟨"ExprCrossword", "scan", "(II)V"⟩, 32), (⟨"ExprCrossword", "prepare", "()V"⟩, 32), (⟨"ExprCrossword", "prepareLine", "(I)V"⟩, 32), (⟨"ExprCrossword", "lineLength", "(I)I"⟩, 32), (⟨"ExprCrossword", "cellOf", "(II)I"⟩, 32), (⟨"ExprCrossword", "before", "(III)I"⟩, 32), (⟨"ExprCrossword", "place", "(II)Z"⟩, 32), (⟨"ExprCrossword", "step", "(III)I"⟩, 32), (⟨"ExprCrossword", "enter", "(II)Z"⟩, 32), (⟨"ExprCrossword", "spells", "(III)Z"⟩, 32), (⟨"ExprCrosswordModel", "push", "(II)I"⟩, 7)]
theorem lw_r1 : ∀ q ∈ lw_privs_1, lw_okq q := List.forall_mem_cons.mpr ⟨lw_p0, List.forall_mem_cons.mpr ⟨lw_p1, List.forall_mem_cons.mpr ⟨lw_p2, List.forall_mem_cons.mpr ⟨lw_p3, List.forall_mem_cons.mpr ⟨lw_p4, List.forall_mem_cons.mpr ⟨lw_p5, List.forall_mem_cons.mpr ⟨lw_p6, List.forall_mem_cons.mpr ⟨lw_p7, List.forall_mem_cons.mpr ⟨lw_p8, List.forall_mem_cons.mpr ⟨lw_p9, List.forall_mem_cons.mpr ⟨lw_p10, List.forall_mem_cons.mpr ⟨lw_p11, List.forall_mem_cons.mpr ⟨lw_p12, List.forall_mem_cons.mpr ⟨lw_p13, List.forall_mem_cons.mpr ⟨lw_p14, List.forall_mem_cons.mpr ⟨lw_p15, fun _ h => absurd h List.not_mem_nil⟩⟩⟩⟩⟩⟩⟩⟩⟩⟩⟩⟩⟩⟩⟩⟩
theorem lw_p16 : lw_okq (⟨"ExprCrosswordModel", "products", "(II)I"⟩, 7) := ⟨⟨by decide +kernel, by decide +kernel⟩, List.mem_of_getElem? (i := 242) (by decide +kernel), List.mem_of_getElem? (i := 291) (by decide +kernel), List.mem_of_getElem? (i := 292) (by decide +kernel)⟩
theorem lw_p17 : lw_okq (⟨"ExprCrosswordModel", "splits", "(IIIII)Z"⟩, 7) := ⟨⟨by decide +kernel, by decide +kernel⟩, List.mem_of_getElem? (i := 242) (by decide +kernel), List.mem_of_getElem? (i := 295) (by decide +kernel), List.mem_of_getElem? (i := 296) (by decide +kernel)⟩
theorem lw_p18 : lw_okq (⟨"ExprCrosswordModel", "holds", "(III)Z"⟩, 7) := ⟨⟨by decide +kernel, by decide +kernel⟩, List.mem_of_getElem? (i := 242) (by decide +kernel), List.mem_of_getElem? (i := 299) (by decide +kernel), List.mem_of_getElem? (i := 300) (by decide +kernel)⟩
theorem lw_p19 : lw_okq (⟨"ExprCrosswordModel", "word", "(II)I"⟩, 7) := ⟨⟨by decide +kernel, by decide +kernel⟩, List.mem_of_getElem? (i := 242) (by decide +kernel), List.mem_of_getElem? (i := 303) (by decide +kernel), List.mem_of_getElem? (i := 304) (by decide +kernel)⟩
theorem lw_p20 : lw_okq (⟨"ExprCrosswordModel", "pair", "(I)I"⟩, 7) := ⟨⟨by decide +kernel, by decide +kernel⟩, List.mem_of_getElem? (i := 242) (by decide +kernel), List.mem_of_getElem? (i := 307) (by decide +kernel), List.mem_of_getElem? (i := 308) (by decide +kernel)⟩
theorem lw_p21 : lw_okq (⟨"ExprCrosswordModel", "chains", "(I)I"⟩, 7) := ⟨⟨by decide +kernel, by decide +kernel⟩, List.mem_of_getElem? (i := 242) (by decide +kernel), List.mem_of_getElem? (i := 319) (by decide +kernel), List.mem_of_getElem? (i := 320) (by decide +kernel)⟩
theorem lw_p22 : lw_okq (⟨"ExprCrosswordModel", "mirrors", "(I)I"⟩, 7) := ⟨⟨by decide +kernel, by decide +kernel⟩, List.mem_of_getElem? (i := 242) (by decide +kernel), List.mem_of_getElem? (i := 327) (by decide +kernel), List.mem_of_getElem? (i := 328) (by decide +kernel)⟩
theorem lw_p23 : lw_okq (⟨"ExprCrosswordModel", "mirrored", "(II)I"⟩, 7) := ⟨⟨by decide +kernel, by decide +kernel⟩, List.mem_of_getElem? (i := 242) (by decide +kernel), List.mem_of_getElem? (i := 331) (by decide +kernel), List.mem_of_getElem? (i := 332) (by decide +kernel)⟩
theorem lw_p24 : lw_okq (⟨"ExprCrosswordModel", "isLine", "(I)Z"⟩, 7) := ⟨⟨by decide +kernel, by decide +kernel⟩, List.mem_of_getElem? (i := 242) (by decide +kernel), List.mem_of_getElem? (i := 339) (by decide +kernel), List.mem_of_getElem? (i := 340) (by decide +kernel)⟩
theorem lw_p25 : lw_okq (⟨"ExprCrosswordModel", "isCell", "(II)Z"⟩, 7) := ⟨⟨by decide +kernel, by decide +kernel⟩, List.mem_of_getElem? (i := 242) (by decide +kernel), List.mem_of_getElem? (i := 356) (by decide +kernel), List.mem_of_getElem? (i := 357) (by decide +kernel)⟩
theorem lw_p26 : lw_okq (⟨"ExprCrosswordModel", "fits", "(I)Z"⟩, 7) := ⟨⟨by decide +kernel, by decide +kernel⟩, List.mem_of_getElem? (i := 242) (by decide +kernel), List.mem_of_getElem? (i := 368) (by decide +kernel), List.mem_of_getElem? (i := 369) (by decide +kernel)⟩
theorem lw_p27 : lw_okq (⟨"ExprCrosswordModel", "pinsKept", "(I)Z"⟩, 7) := ⟨⟨by decide +kernel, by decide +kernel⟩, List.mem_of_getElem? (i := 242) (by decide +kernel), List.mem_of_getElem? (i := 372) (by decide +kernel), List.mem_of_getElem? (i := 373) (by decide +kernel)⟩
theorem lw_p28 : lw_okq (⟨"ExprCrosswordModel", "cellOf", "(III)I"⟩, 7) := ⟨⟨by decide +kernel, by decide +kernel⟩, List.mem_of_getElem? (i := 242) (by decide +kernel), List.mem_of_getElem? (i := 376) (by decide +kernel), List.mem_of_getElem? (i := 377) (by decide +kernel)⟩
theorem lw_p29 : lw_okq (⟨"ExprCrosswordModel", "wordOf", "(II)I"⟩, 7) := ⟨⟨by decide +kernel, by decide +kernel⟩, List.mem_of_getElem? (i := 242) (by decide +kernel), List.mem_of_getElem? (i := 380) (by decide +kernel), List.mem_of_getElem? (i := 381) (by decide +kernel)⟩
theorem lw_p30 : lw_okq (⟨"ExprCrosswordModel", "lengthOf", "(I)I"⟩, 7) := ⟨⟨by decide +kernel, by decide +kernel⟩, List.mem_of_getElem? (i := 242) (by decide +kernel), List.mem_of_getElem? (i := 384) (by decide +kernel), List.mem_of_getElem? (i := 385) (by decide +kernel)⟩
theorem lw_p31 : lw_okq (⟨"ExprCrosswordModel", "wordKeepsPins", "(III)Z"⟩, 7) := ⟨⟨by decide +kernel, by decide +kernel⟩, List.mem_of_getElem? (i := 242) (by decide +kernel), List.mem_of_getElem? (i := 404) (by decide +kernel), List.mem_of_getElem? (i := 405) (by decide +kernel)⟩
def lw_privs_2 : List (MethodName × Nat) := [(⟨"ExprCrosswordModel", "products", "(II)I"⟩, 7), (⟨"ExprCrosswordModel", "splits", "(IIIII)Z"⟩, 7), (⟨"ExprCrosswordModel", "holds", "(III)Z"⟩, 7), (⟨"ExprCrosswordModel", "word", "(II)I"⟩, 7), (⟨"ExprCrosswordModel", "pair", "(I)I"⟩, 7), (⟨"ExprCrosswordModel", "chains", "(I)I"⟩, 7), (⟨"ExprCrosswordModel", "mirrors", "(I)I"⟩, 7), (⟨"ExprCrosswordModel", "mirrored", "(II)I"⟩, 7), (⟨"ExprCrosswordModel", "isLine", "(I)Z"⟩, 7), (⟨"ExprCrosswordModel", "isCell", "(II)Z"⟩, 7), (⟨"ExprCrosswordModel", "fits", "(I)Z"⟩, 7), (⟨"ExprCrosswordModel", "pinsKept", "(I)Z"⟩, 7), (⟨"ExprCrosswordModel", "cellOf", "(III)I"⟩, 7), (⟨"ExprCrosswordModel", "wordOf", "(II)I"⟩, 7), (⟨"ExprCrosswordModel", "lengthOf", "(I)I"⟩, 7), (⟨"ExprCrosswordModel", "wordKeepsPins", "(III)Z"⟩, 7)]
theorem lw_r2 : ∀ q ∈ lw_privs_2, lw_okq q := List.forall_mem_cons.mpr ⟨lw_p16, List.forall_mem_cons.mpr ⟨lw_p17, List.forall_mem_cons.mpr ⟨lw_p18, List.forall_mem_cons.mpr ⟨lw_p19, List.forall_mem_cons.mpr ⟨lw_p20, List.forall_mem_cons.mpr ⟨lw_p21, List.forall_mem_cons.mpr ⟨lw_p22, List.forall_mem_cons.mpr ⟨lw_p23, List.forall_mem_cons.mpr ⟨lw_p24, List.forall_mem_cons.mpr ⟨lw_p25, List.forall_mem_cons.mpr ⟨lw_p26, List.forall_mem_cons.mpr ⟨lw_p27, List.forall_mem_cons.mpr ⟨lw_p28, List.forall_mem_cons.mpr ⟨lw_p29, List.forall_mem_cons.mpr ⟨lw_p30, List.forall_mem_cons.mpr ⟨lw_p31, fun _ h => absurd h List.not_mem_nil⟩⟩⟩⟩⟩⟩⟩⟩⟩⟩⟩⟩⟩⟩⟩⟩
def lw_privs : List (MethodName × Nat) := lw_privs_1 ++ (lw_privs_2)
def lw_tbl : List Cond := k2_sels lw_privs ++ tables_1
theorem lw_privs_ok : ∀ q ∈ lw_privs, lw_okq q := by
  show ∀ q ∈ lw_privs_1 ++ (lw_privs_2), lw_okq q
  exact List.forall_mem_append.mpr ⟨lw_r1, lw_r2⟩
end
section
-- names: the classes, their fields in the order of the slots, their types (printed by tools/gen1.py)
def R_X : String := "ExprCrossword"
def F_X : u_T := fun k => match k with
  | 0 => ("ExprCrossword", "rows", "I", true)
  | 1 => ("ExprCrossword", "columns", "I", true)
  | 2 => ("ExprCrossword", "lines", "I", true)
  | 3 => ("ExprCrossword", "cells", "I", true)
  | 4 => ("ExprCrossword", "rowOf", "[I", true)
  | 5 => ("ExprCrossword", "columnOf", "[I", true)
  | 6 => ("ExprCrossword", "pins", "[I", true)
  | 7 => ("ExprCrossword", "height", "I", false)
  | 8 => ("ExprCrossword", "places", "I", false)
  | 9 => ("ExprCrossword", "low", "[I", true)
  | 10 => ("ExprCrossword", "first", "[I", true)
  | 11 => ("ExprCrossword", "last", "[I", true)
  | 12 => ("ExprCrossword", "empty", "[Z", true)
  | 13 => ("ExprCrossword", "kind", "[I", true)
  | 14 => ("ExprCrossword", "follow", "[I", true)
  | 15 => ("ExprCrossword", "turned", "[I", true)
  | 16 => ("ExprCrossword", "lineFirst", "[I", true)
  | 17 => ("ExprCrossword", "lineLast", "[I", true)
  | 18 => ("ExprCrossword", "lineEmpty", "[Z", true)
  | 19 => ("ExprCrossword", "lineZeros", "[I", true)
  | 20 => ("ExprCrossword", "lineOnes", "[I", true)
  | 21 => ("ExprCrossword", "lineFollow", "[I", true)
  | 22 => ("ExprCrossword", "back", "[I", true)
  | 23 => ("ExprCrossword", "ready", "Z", false)
  | 24 => ("ExprCrossword", "digit", "[I", true)
  | 25 => ("ExprCrossword", "tried", "[I", true)
  | 26 => ("ExprCrossword", "rowSet", "[I", true)
  | 27 => ("ExprCrossword", "columnSet", "[I", true)
  | 28 => ("ExprCrossword", "found", "I", false)
  | 29 => ("ExprCrossword", "number", "I", false)
  | 30 => ("ExprCrossword", "allOnes", "I", false)
  | _ => ("ExprCrossword", "anyOnes", "I", false)
def t_X : Nat → FieldType := fun k => match k with
  | 0 => .int
  | 1 => .int
  | 2 => .int
  | 3 => .int
  | 4 => .array .int
  | 5 => .array .int
  | 6 => .array .int
  | 7 => .int
  | 8 => .int
  | 9 => .array .int
  | 10 => .array .int
  | 11 => .array .int
  | 12 => .array .boolean
  | 13 => .array .int
  | 14 => .array .int
  | 15 => .array .int
  | 16 => .array .int
  | 17 => .array .int
  | 18 => .array .boolean
  | 19 => .array .int
  | 20 => .array .int
  | 21 => .array .int
  | 22 => .array .int
  | 23 => .boolean
  | 24 => .array .int
  | 25 => .array .int
  | 26 => .array .int
  | 27 => .array .int
  | 28 => .int
  | 29 => .int
  | 30 => .int
  | _ => .int
def R_M : String := "ExprCrosswordModel"
def F_M : u_T := fun k => match k with
  | 0 => ("ExprCrosswordModel", "stack", "[I", true)
  | 1 => ("ExprCrosswordModel", "letterCount", "[I", true)
  | 2 => ("ExprCrosswordModel", "depth", "I", false)
  | 3 => ("ExprCrosswordModel", "lines", "[I", true)
  | 4 => ("ExprCrosswordModel", "pins", "[I", true)
  | 5 => ("ExprCrosswordModel", "rows", "I", false)
  | _ => ("ExprCrosswordModel", "columns", "I", false)
def t_M : Nat → FieldType := fun k => match k with
  | 0 => .array .int
  | 1 => .array .int
  | 2 => .int
  | 3 => .array .int
  | 4 => .array .int
  | 5 => .int
  | _ => .int
/-- the words of the tables that stay true as the machine warms up -/
def lw_g : List Cond := lw_tbl.filter goodWord
theorem lw_in {w : Cond} {i : Nat} (h : lw_tbl[i]? = some w) (hg : goodWord w = true) : w ∈ lw_g := List.mem_filter.mpr ⟨List.mem_of_getElem? h, hg⟩
abbrev classes : List vw_C := [(R_X, F_X, 32), (R_M, F_M, 7)]
def oQ (c : Nat) : vw_C := if c = 0 then (R_X, F_X, 32) else (R_M, F_M, 7)
/-- the place in the constant pool of slot k of class c -/
def oI (c k : Nat) : Nat := (if c = 0 then [74, 78, 81, 84, 7, 13, 16, 95, 98, 19, 22, 25, 28, 32, 35, 38, 41, 44, 47, 50, 53, 56, 59, 91, 62, 65, 68, 71, 137, 140, 143, 146] else [7, 13, 30, 16, 19, 22, 26]).getD k 0
/-- the slots that hold arrays -/
def oA (c : Nat) : List Nat := if c = 0 then [4, 5, 6, 9, 10, 11, 12, 13, 14, 15, 16, 17, 18, 19, 20, 21, 22, 24, 25, 26, 27] else [0, 1, 3, 4]
/-- their lengths -/
def oL (c k : Nat) : Nat := (if c = 0 then [0, 0, 0, 0, 12, 12, 12, 0, 0, 6, 6, 6, 6, 8, 8, 8, 7, 7, 7, 7, 7, 56, 35, 0, 12, 12, 12, 12, 0, 0, 0, 0] else [6, 6, 0, 7, 12, 0, 0]).getD k 0
/-- the arrays of booleans -/
def oZ (c k : Nat) : Bool := (c == 0) && [12, 18].contains k
/-- int fields, not final; final ones -/
def oN (c : Nat) : List Nat := if c = 0 then [7, 8, 28, 29, 30, 31] else [2, 5, 6]
def oG (c : Nat) : List Nat := if c = 0 then [0, 1, 2, 3] else []
theorem n_X : ∀ a, a < 32 → ∀ b, b < 32 → a ≠ b → (F_X a).2.1 ≠ (F_X b).2.1 := by decide +kernel
theorem t_X_ok : ∀ k, k < 32 → parseFieldDescriptor (F_X k).2.2.1 = some (t_X k) := by decide +kernel
theorem i_X : ∀ w ∈ u_ws R_X F_X 32, w ∈ lw_g := by decide +kernel
theorem lf_X : ∀ k, k < 32 → Cond.fieldLink R_X (oI 0 k) R_X (F_X k).2.1 (F_X k).2.2.1 ∈ lw_g := by decide +kernel
theorem n_M : ∀ a, a < 7 → ∀ b, b < 7 → a ≠ b → (F_M a).2.1 ≠ (F_M b).2.1 := by decide +kernel
theorem t_M_ok : ∀ k, k < 7 → parseFieldDescriptor (F_M k).2.2.1 = some (t_M k) := by decide +kernel
theorem i_M : ∀ w ∈ u_ws R_M F_M 7, w ∈ lw_g := by decide +kernel
theorem lf_M : ∀ k, k < 7 → Cond.fieldLink R_M (oI 1 k) R_M (F_M k).2.1 (F_M k).2.2.1 ∈ lw_g := by decide +kernel
-- methods: code and name
abbrev b_X_init : ByteArray := prog_1_method_1_code
def y_X_init : MethodName := ⟨"ExprCrossword", "<init>", "(II)V"⟩
abbrev b_X_anyWord : ByteArray := prog_1_method_2_code
def y_X_anyWord : MethodName := ⟨"ExprCrossword", "anyWord", "(I)V"⟩
abbrev b_X_letter : ByteArray := prog_1_method_3_code
def y_X_letter : MethodName := ⟨"ExprCrossword", "letter", "(I)I"⟩
abbrev b_X_push : ByteArray := prog_1_method_5_code
def y_X_push : MethodName := ⟨"ExprCrossword", "push", "(IIZ)V"⟩
abbrev b_X_unit : ByteArray := prog_1_method_4_code
def y_X_unit : MethodName := ⟨"ExprCrossword", "unit", "()I"⟩
abbrev b_X_cat : ByteArray := prog_1_method_6_code
def y_X_cat : MethodName := ⟨"ExprCrossword", "cat", "()I"⟩
abbrev b_X_link : ByteArray := prog_1_method_10_code
def y_X_link : MethodName := ⟨"ExprCrossword", "link", "(II)V"⟩
abbrev b_X_alt : ByteArray := prog_1_method_7_code
def y_X_alt : MethodName := ⟨"ExprCrossword", "alt", "()I"⟩
abbrev b_X_star : ByteArray := prog_1_method_8_code
def y_X_star : MethodName := ⟨"ExprCrossword", "star", "()I"⟩
abbrev b_X_reverse : ByteArray := prog_1_method_9_code
def y_X_reverse : MethodName := ⟨"ExprCrossword", "reverse", "()I"⟩
abbrev b_X_turn : ByteArray := prog_1_method_11_code
def y_X_turn : MethodName := ⟨"ExprCrossword", "turn", "(I)V"⟩
abbrev b_X_setLine : ByteArray := prog_1_method_12_code
def y_X_setLine : MethodName := ⟨"ExprCrossword", "setLine", "(I)I"⟩
abbrev b_X_depth : ByteArray := prog_1_method_13_code
def y_X_depth : MethodName := ⟨"ExprCrossword", "depth", "()I"⟩
abbrev b_X_letters : ByteArray := prog_1_method_14_code
def y_X_letters : MethodName := ⟨"ExprCrossword", "letters", "()I"⟩
abbrev b_X_freeLine : ByteArray := prog_1_method_15_code
def y_X_freeLine : MethodName := ⟨"ExprCrossword", "freeLine", "(I)I"⟩
abbrev b_X_pin : ByteArray := prog_1_method_17_code
def y_X_pin : MethodName := ⟨"ExprCrossword", "pin", "(III)I"⟩
abbrev b_X_inGrid : ByteArray := prog_1_method_16_code
def y_X_inGrid : MethodName := ⟨"ExprCrossword", "inGrid", "(II)Z"⟩
abbrev b_X_pinned : ByteArray := prog_1_method_18_code
def y_X_pinned : MethodName := ⟨"ExprCrossword", "pinned", "(II)I"⟩
abbrev b_X_fillings : ByteArray := prog_1_method_28_code
def y_X_fillings : MethodName := ⟨"ExprCrossword", "fillings", "()I"⟩
abbrev b_X_scan : ByteArray := prog_1_method_26_code
def y_X_scan : MethodName := ⟨"ExprCrossword", "scan", "(II)V"⟩
abbrev b_X_prepare : ByteArray := prog_1_method_23_code
def y_X_prepare : MethodName := ⟨"ExprCrossword", "prepare", "()V"⟩
abbrev b_X_prepareLine : ByteArray := prog_1_method_24_code
def y_X_prepareLine : MethodName := ⟨"ExprCrossword", "prepareLine", "(I)V"⟩
abbrev b_X_lineLength : ByteArray := prog_1_method_21_code
def y_X_lineLength : MethodName := ⟨"ExprCrossword", "lineLength", "(I)I"⟩
abbrev b_X_cellOf : ByteArray := prog_1_method_22_code
def y_X_cellOf : MethodName := ⟨"ExprCrossword", "cellOf", "(II)I"⟩
abbrev b_X_before : ByteArray := prog_1_method_20_code
def y_X_before : MethodName := ⟨"ExprCrossword", "before", "(III)I"⟩
abbrev b_X_place : ByteArray := prog_1_method_25_code
def y_X_place : MethodName := ⟨"ExprCrossword", "place", "(II)Z"⟩
abbrev b_X_step : ByteArray := prog_1_method_19_code
def y_X_step : MethodName := ⟨"ExprCrossword", "step", "(III)I"⟩
abbrev b_X_enter : ByteArray := prog_1_method_27_code
def y_X_enter : MethodName := ⟨"ExprCrossword", "enter", "(II)Z"⟩
abbrev b_X_filling : ByteArray := prog_1_method_29_code
def y_X_filling : MethodName := ⟨"ExprCrossword", "filling", "(I)I"⟩
abbrev b_X_below : ByteArray := prog_1_method_30_code
def y_X_below : MethodName := ⟨"ExprCrossword", "below", "(I)I"⟩
abbrev b_X_forced : ByteArray := prog_1_method_31_code
def y_X_forced : MethodName := ⟨"ExprCrossword", "forced", "(II)I"⟩
abbrev b_X_lineWords : ByteArray := prog_1_method_32_code
def y_X_lineWords : MethodName := ⟨"ExprCrossword", "lineWords", "(I)I"⟩
abbrev b_X_spells : ByteArray := prog_1_method_33_code
def y_X_spells : MethodName := ⟨"ExprCrossword", "spells", "(III)Z"⟩
abbrev b_L_cell : ByteArray := method_2_code
def y_L_cell : MethodName := ⟨"ExprCrosswordLaw", "cell", "([II)I"⟩
abbrev b_M_init : ByteArray := prog_3_method_1_code
def y_M_init : MethodName := ⟨"ExprCrosswordModel", "<init>", "(II)V"⟩
abbrev b_M_letter : ByteArray := prog_3_method_5_code
def y_M_letter : MethodName := ⟨"ExprCrosswordModel", "letter", "(I)I"⟩
abbrev b_M_letters : ByteArray := prog_3_method_20_code
def y_M_letters : MethodName := ⟨"ExprCrosswordModel", "letters", "()I"⟩
abbrev b_M_push : ByteArray := prog_3_method_4_code
def y_M_push : MethodName := ⟨"ExprCrosswordModel", "push", "(II)I"⟩
abbrev b_M_unit : ByteArray := prog_3_method_6_code
def y_M_unit : MethodName := ⟨"ExprCrosswordModel", "unit", "()I"⟩
abbrev b_M_cat : ByteArray := prog_3_method_13_code
def y_M_cat : MethodName := ⟨"ExprCrosswordModel", "cat", "()I"⟩
abbrev b_M_products : ByteArray := prog_3_method_8_code
def y_M_products : MethodName := ⟨"ExprCrosswordModel", "products", "(II)I"⟩
abbrev b_M_splits : ByteArray := prog_3_method_7_code
def y_M_splits : MethodName := ⟨"ExprCrosswordModel", "splits", "(IIIII)Z"⟩
abbrev b_M_holds : ByteArray := prog_3_method_2_code
def y_M_holds : MethodName := ⟨"ExprCrosswordModel", "holds", "(III)Z"⟩
abbrev b_M_word : ByteArray := prog_3_method_3_code
def y_M_word : MethodName := ⟨"ExprCrosswordModel", "word", "(II)I"⟩
abbrev b_M_pair : ByteArray := prog_3_method_12_code
def y_M_pair : MethodName := ⟨"ExprCrosswordModel", "pair", "(I)I"⟩
abbrev b_M_alt : ByteArray := prog_3_method_14_code
def y_M_alt : MethodName := ⟨"ExprCrosswordModel", "alt", "()I"⟩
abbrev b_M_star : ByteArray := prog_3_method_15_code
def y_M_star : MethodName := ⟨"ExprCrosswordModel", "star", "()I"⟩
abbrev b_M_chains : ByteArray := prog_3_method_9_code
def y_M_chains : MethodName := ⟨"ExprCrosswordModel", "chains", "(I)I"⟩
abbrev b_M_reverse : ByteArray := prog_3_method_16_code
def y_M_reverse : MethodName := ⟨"ExprCrosswordModel", "reverse", "()I"⟩
abbrev b_M_mirrors : ByteArray := prog_3_method_11_code
def y_M_mirrors : MethodName := ⟨"ExprCrosswordModel", "mirrors", "(I)I"⟩
abbrev b_M_mirrored : ByteArray := prog_3_method_10_code
def y_M_mirrored : MethodName := ⟨"ExprCrosswordModel", "mirrored", "(II)I"⟩
abbrev b_M_setLine : ByteArray := prog_3_method_18_code
def y_M_setLine : MethodName := ⟨"ExprCrosswordModel", "setLine", "(I)I"⟩
abbrev b_M_isLine : ByteArray := prog_3_method_17_code
def y_M_isLine : MethodName := ⟨"ExprCrosswordModel", "isLine", "(I)Z"⟩
abbrev b_M_depth : ByteArray := prog_3_method_19_code
def y_M_depth : MethodName := ⟨"ExprCrosswordModel", "depth", "()I"⟩
abbrev b_M_freeLine : ByteArray := prog_3_method_21_code
def y_M_freeLine : MethodName := ⟨"ExprCrosswordModel", "freeLine", "(I)I"⟩
abbrev b_M_pin : ByteArray := prog_3_method_23_code
def y_M_pin : MethodName := ⟨"ExprCrosswordModel", "pin", "(III)I"⟩
abbrev b_M_isCell : ByteArray := prog_3_method_22_code
def y_M_isCell : MethodName := ⟨"ExprCrosswordModel", "isCell", "(II)Z"⟩
abbrev b_M_pinned : ByteArray := prog_3_method_24_code
def y_M_pinned : MethodName := ⟨"ExprCrosswordModel", "pinned", "(II)I"⟩
abbrev b_M_fillings : ByteArray := prog_3_method_30_code
def y_M_fillings : MethodName := ⟨"ExprCrosswordModel", "fillings", "()I"⟩
abbrev b_M_fits : ByteArray := prog_3_method_29_code
def y_M_fits : MethodName := ⟨"ExprCrosswordModel", "fits", "(I)Z"⟩
abbrev b_M_pinsKept : ByteArray := prog_3_method_28_code
def y_M_pinsKept : MethodName := ⟨"ExprCrosswordModel", "pinsKept", "(I)Z"⟩
abbrev b_M_cellOf : ByteArray := prog_3_method_26_code
def y_M_cellOf : MethodName := ⟨"ExprCrosswordModel", "cellOf", "(III)I"⟩
abbrev b_M_wordOf : ByteArray := prog_3_method_27_code
def y_M_wordOf : MethodName := ⟨"ExprCrosswordModel", "wordOf", "(II)I"⟩
abbrev b_M_lengthOf : ByteArray := prog_3_method_25_code
def y_M_lengthOf : MethodName := ⟨"ExprCrosswordModel", "lengthOf", "(I)I"⟩
abbrev b_M_filling : ByteArray := prog_3_method_31_code
def y_M_filling : MethodName := ⟨"ExprCrosswordModel", "filling", "(I)I"⟩
abbrev b_M_below : ByteArray := prog_3_method_32_code
def y_M_below : MethodName := ⟨"ExprCrosswordModel", "below", "(I)I"⟩
abbrev b_M_forced : ByteArray := prog_3_method_33_code
def y_M_forced : MethodName := ⟨"ExprCrosswordModel", "forced", "(II)I"⟩
abbrev b_M_lineWords : ByteArray := prog_3_method_35_code
def y_M_lineWords : MethodName := ⟨"ExprCrosswordModel", "lineWords", "(I)I"⟩
abbrev b_M_wordKeepsPins : ByteArray := prog_3_method_34_code
def y_M_wordKeepsPins : MethodName := ⟨"ExprCrosswordModel", "wordKeepsPins", "(III)Z"⟩
abbrev b_L_law : ByteArray := code
-- the words of the tables that calls need, by their places
set_option maxRecDepth 20000 in
theorem mc_X_init : lw_tbl[39]? = some (Cond.code y_X_init b_X_init 8 none) := rfl
set_option maxRecDepth 20000 in
theorem mc_X_anyWord : lw_tbl[46]? = some (Cond.code y_X_anyWord b_X_anyWord 3 none) := rfl
set_option maxRecDepth 20000 in
theorem mc_X_letter : lw_tbl[149]? = some (Cond.code y_X_letter b_X_letter 3 (some .int)) := rfl
set_option maxRecDepth 20000 in
theorem mc_X_push : lw_tbl[153]? = some (Cond.code y_X_push b_X_push 4 none) := rfl
set_option maxRecDepth 20000 in
theorem mc_X_unit : lw_tbl[157]? = some (Cond.code y_X_unit b_X_unit 1 (some .int)) := rfl
set_option maxRecDepth 20000 in
theorem mc_X_cat : lw_tbl[161]? = some (Cond.code y_X_cat b_X_cat 3 (some .int)) := rfl
set_option maxRecDepth 20000 in
theorem mc_X_link : lw_tbl[165]? = some (Cond.code y_X_link b_X_link 4 none) := rfl
set_option maxRecDepth 20000 in
theorem mc_X_alt : lw_tbl[169]? = some (Cond.code y_X_alt b_X_alt 3 (some .int)) := rfl
set_option maxRecDepth 20000 in
theorem mc_X_star : lw_tbl[173]? = some (Cond.code y_X_star b_X_star 2 (some .int)) := rfl
set_option maxRecDepth 20000 in
theorem mc_X_reverse : lw_tbl[177]? = some (Cond.code y_X_reverse b_X_reverse 3 (some .int)) := rfl
set_option maxRecDepth 20000 in
theorem mc_X_turn : lw_tbl[181]? = some (Cond.code y_X_turn b_X_turn 3 none) := rfl
set_option maxRecDepth 20000 in
theorem mc_X_setLine : lw_tbl[185]? = some (Cond.code y_X_setLine b_X_setLine 6 (some .int)) := rfl
set_option maxRecDepth 20000 in
theorem mc_X_depth : lw_tbl[189]? = some (Cond.code y_X_depth b_X_depth 1 (some .int)) := rfl
set_option maxRecDepth 20000 in
theorem mc_X_letters : lw_tbl[193]? = some (Cond.code y_X_letters b_X_letters 1 (some .int)) := rfl
set_option maxRecDepth 20000 in
theorem mc_X_freeLine : lw_tbl[197]? = some (Cond.code y_X_freeLine b_X_freeLine 2 (some .int)) := rfl
set_option maxRecDepth 20000 in
theorem mc_X_pin : lw_tbl[201]? = some (Cond.code y_X_pin b_X_pin 6 (some .int)) := rfl
set_option maxRecDepth 20000 in
theorem mc_X_inGrid : lw_tbl[205]? = some (Cond.code y_X_inGrid b_X_inGrid 3 (some .boolean)) := rfl
set_option maxRecDepth 20000 in
theorem mc_X_pinned : lw_tbl[209]? = some (Cond.code y_X_pinned b_X_pinned 3 (some .int)) := rfl
set_option maxRecDepth 20000 in
theorem mc_X_fillings : lw_tbl[213]? = some (Cond.code y_X_fillings b_X_fillings 1 (some .int)) := rfl
set_option maxRecDepth 20000 in
theorem mc_X_scan : lw_tbl[217]? = some (Cond.code y_X_scan b_X_scan 8 none) := rfl
set_option maxRecDepth 20000 in
theorem mc_X_prepare : lw_tbl[221]? = some (Cond.code y_X_prepare b_X_prepare 2 none) := rfl
set_option maxRecDepth 20000 in
theorem mc_X_prepareLine : lw_tbl[225]? = some (Cond.code y_X_prepareLine b_X_prepareLine 8 none) := rfl
set_option maxRecDepth 20000 in
theorem mc_X_lineLength : lw_tbl[229]? = some (Cond.code y_X_lineLength b_X_lineLength 2 (some .int)) := rfl
set_option maxRecDepth 20000 in
theorem mc_X_cellOf : lw_tbl[233]? = some (Cond.code y_X_cellOf b_X_cellOf 3 (some .int)) := rfl
set_option maxRecDepth 20000 in
theorem mc_X_before : lw_tbl[237]? = some (Cond.code y_X_before b_X_before 7 (some .int)) := rfl
set_option maxRecDepth 20000 in
theorem mc_X_place : lw_tbl[241]? = some (Cond.code y_X_place b_X_place 9 (some .boolean)) := rfl
set_option maxRecDepth 20000 in
theorem mc_X_step : lw_tbl[245]? = some (Cond.code y_X_step b_X_step 6 (some .int)) := rfl
set_option maxRecDepth 20000 in
theorem mc_X_enter : lw_tbl[249]? = some (Cond.code y_X_enter b_X_enter 5 (some .boolean)) := rfl
set_option maxRecDepth 20000 in
theorem mc_X_filling : lw_tbl[253]? = some (Cond.code y_X_filling b_X_filling 2 (some .int)) := rfl
set_option maxRecDepth 20000 in
theorem mc_X_below : lw_tbl[257]? = some (Cond.code y_X_below b_X_below 2 (some .int)) := rfl
set_option maxRecDepth 20000 in
theorem mc_X_forced : lw_tbl[261]? = some (Cond.code y_X_forced b_X_forced 4 (some .int)) := rfl
set_option maxRecDepth 20000 in
theorem mc_X_lineWords : lw_tbl[265]? = some (Cond.code y_X_lineWords b_X_lineWords 5 (some .int)) := rfl
set_option maxRecDepth 20000 in
theorem mc_X_spells : lw_tbl[269]? = some (Cond.code y_X_spells b_X_spells 8 (some .boolean)) := rfl
set_option maxRecDepth 20000 in
theorem mc_L_cell : lw_tbl[272]? = some (Cond.code y_L_cell b_L_cell 2 (some .int)) := rfl
set_option maxRecDepth 20000 in
theorem mc_M_init : lw_tbl[277]? = some (Cond.code y_M_init b_M_init 4 none) := rfl
set_option maxRecDepth 20000 in
theorem mc_M_letter : lw_tbl[305]? = some (Cond.code y_M_letter b_M_letter 2 (some .int)) := rfl
set_option maxRecDepth 20000 in
theorem mc_M_letters : lw_tbl[309]? = some (Cond.code y_M_letters b_M_letters 3 (some .int)) := rfl
set_option maxRecDepth 20000 in
theorem mc_M_push : lw_tbl[313]? = some (Cond.code y_M_push b_M_push 3 (some .int)) := rfl
set_option maxRecDepth 20000 in
theorem mc_M_unit : lw_tbl[317]? = some (Cond.code y_M_unit b_M_unit 1 (some .int)) := rfl
set_option maxRecDepth 20000 in
theorem mc_M_cat : lw_tbl[321]? = some (Cond.code y_M_cat b_M_cat 2 (some .int)) := rfl
set_option maxRecDepth 20000 in
theorem mc_M_products : lw_tbl[325]? = some (Cond.code y_M_products b_M_products 6 (some .int)) := rfl
set_option maxRecDepth 20000 in
theorem mc_M_splits : lw_tbl[329]? = some (Cond.code y_M_splits b_M_splits 8 (some .boolean)) := rfl
set_option maxRecDepth 20000 in
theorem mc_M_holds : lw_tbl[333]? = some (Cond.code y_M_holds b_M_holds 4 (some .boolean)) := rfl
set_option maxRecDepth 20000 in
theorem mc_M_word : lw_tbl[337]? = some (Cond.code y_M_word b_M_word 3 (some .int)) := rfl
set_option maxRecDepth 20000 in
theorem mc_M_pair : lw_tbl[341]? = some (Cond.code y_M_pair b_M_pair 2 (some .int)) := rfl
set_option maxRecDepth 20000 in
theorem mc_M_alt : lw_tbl[345]? = some (Cond.code y_M_alt b_M_alt 1 (some .int)) := rfl
set_option maxRecDepth 20000 in
theorem mc_M_star : lw_tbl[349]? = some (Cond.code y_M_star b_M_star 1 (some .int)) := rfl
set_option maxRecDepth 20000 in
theorem mc_M_chains : lw_tbl[353]? = some (Cond.code y_M_chains b_M_chains 5 (some .int)) := rfl
set_option maxRecDepth 20000 in
theorem mc_M_reverse : lw_tbl[357]? = some (Cond.code y_M_reverse b_M_reverse 1 (some .int)) := rfl
set_option maxRecDepth 20000 in
theorem mc_M_mirrors : lw_tbl[361]? = some (Cond.code y_M_mirrors b_M_mirrors 6 (some .int)) := rfl
set_option maxRecDepth 20000 in
theorem mc_M_mirrored : lw_tbl[365]? = some (Cond.code y_M_mirrored b_M_mirrored 5 (some .int)) := rfl
set_option maxRecDepth 20000 in
theorem mc_M_setLine : lw_tbl[369]? = some (Cond.code y_M_setLine b_M_setLine 2 (some .int)) := rfl
set_option maxRecDepth 20000 in
theorem mc_M_isLine : lw_tbl[373]? = some (Cond.code y_M_isLine b_M_isLine 2 (some .boolean)) := rfl
set_option maxRecDepth 20000 in
theorem mc_M_depth : lw_tbl[377]? = some (Cond.code y_M_depth b_M_depth 1 (some .int)) := rfl
set_option maxRecDepth 20000 in
theorem mc_M_freeLine : lw_tbl[382]? = some (Cond.code y_M_freeLine b_M_freeLine 2 (some .int)) := rfl
set_option maxRecDepth 20000 in
theorem mc_M_pin : lw_tbl[386]? = some (Cond.code y_M_pin b_M_pin 5 (some .int)) := rfl
set_option maxRecDepth 20000 in
theorem mc_M_isCell : lw_tbl[390]? = some (Cond.code y_M_isCell b_M_isCell 3 (some .boolean)) := rfl
set_option maxRecDepth 20000 in
theorem mc_M_pinned : lw_tbl[394]? = some (Cond.code y_M_pinned b_M_pinned 3 (some .int)) := rfl
set_option maxRecDepth 20000 in
theorem mc_M_fillings : lw_tbl[398]? = some (Cond.code y_M_fillings b_M_fillings 3 (some .int)) := rfl
set_option maxRecDepth 20000 in
theorem mc_M_fits : lw_tbl[402]? = some (Cond.code y_M_fits b_M_fits 5 (some .boolean)) := rfl
set_option maxRecDepth 20000 in
theorem mc_M_pinsKept : lw_tbl[406]? = some (Cond.code y_M_pinsKept b_M_pinsKept 5 (some .boolean)) := rfl
set_option maxRecDepth 20000 in
theorem mc_M_cellOf : lw_tbl[410]? = some (Cond.code y_M_cellOf b_M_cellOf 4 (some .int)) := rfl
set_option maxRecDepth 20000 in
theorem mc_M_wordOf : lw_tbl[414]? = some (Cond.code y_M_wordOf b_M_wordOf 7 (some .int)) := rfl
set_option maxRecDepth 20000 in
theorem mc_M_lengthOf : lw_tbl[418]? = some (Cond.code y_M_lengthOf b_M_lengthOf 2 (some .int)) := rfl
set_option maxRecDepth 20000 in
theorem mc_M_filling : lw_tbl[422]? = some (Cond.code y_M_filling b_M_filling 4 (some .int)) := rfl
set_option maxRecDepth 20000 in
theorem mc_M_below : lw_tbl[426]? = some (Cond.code y_M_below b_M_below 4 (some .int)) := rfl
set_option maxRecDepth 20000 in
theorem mc_M_forced : lw_tbl[430]? = some (Cond.code y_M_forced b_M_forced 7 (some .int)) := rfl
set_option maxRecDepth 20000 in
theorem mc_M_lineWords : lw_tbl[434]? = some (Cond.code y_M_lineWords b_M_lineWords 5 (some .int)) := rfl
set_option maxRecDepth 20000 in
theorem mc_M_wordKeepsPins : lw_tbl[438]? = some (Cond.code y_M_wordKeepsPins b_M_wordKeepsPins 6 (some .boolean)) := rfl
set_option maxRecDepth 20000 in
theorem ml_L_X_init : lw_tbl[37]? = some (Cond.methodLink "ExprCrosswordLaw" 15 y_X_init) := rfl
set_option maxRecDepth 20000 in
theorem ml_X_X_anyWord : lw_tbl[43]? = some (Cond.methodLink "ExprCrossword" 87 y_X_anyWord) := rfl
set_option maxRecDepth 20000 in
theorem ml_L_X_letter : lw_tbl[146]? = some (Cond.methodLink "ExprCrosswordLaw" 21 y_X_letter) := rfl
set_option maxRecDepth 20000 in
theorem ml_X_X_push : lw_tbl[150]? = some (Cond.methodLink "ExprCrossword" 101 y_X_push) := rfl
set_option maxRecDepth 20000 in
theorem ml_L_X_unit : lw_tbl[154]? = some (Cond.methodLink "ExprCrosswordLaw" 26 y_X_unit) := rfl
set_option maxRecDepth 20000 in
theorem ml_L_X_cat : lw_tbl[158]? = some (Cond.methodLink "ExprCrosswordLaw" 31 y_X_cat) := rfl
set_option maxRecDepth 20000 in
theorem ml_X_X_link : lw_tbl[162]? = some (Cond.methodLink "ExprCrossword" 105 y_X_link) := rfl
set_option maxRecDepth 20000 in
theorem ml_L_X_alt : lw_tbl[166]? = some (Cond.methodLink "ExprCrosswordLaw" 35 y_X_alt) := rfl
set_option maxRecDepth 20000 in
theorem ml_L_X_star : lw_tbl[170]? = some (Cond.methodLink "ExprCrosswordLaw" 39 y_X_star) := rfl
set_option maxRecDepth 20000 in
theorem ml_L_X_reverse : lw_tbl[174]? = some (Cond.methodLink "ExprCrosswordLaw" 43 y_X_reverse) := rfl
set_option maxRecDepth 20000 in
theorem ml_X_X_turn : lw_tbl[178]? = some (Cond.methodLink "ExprCrossword" 109 y_X_turn) := rfl
set_option maxRecDepth 20000 in
theorem ml_L_X_setLine : lw_tbl[182]? = some (Cond.methodLink "ExprCrosswordLaw" 47 y_X_setLine) := rfl
set_option maxRecDepth 20000 in
theorem ml_L_X_depth : lw_tbl[186]? = some (Cond.methodLink "ExprCrosswordLaw" 51 y_X_depth) := rfl
set_option maxRecDepth 20000 in
theorem ml_L_X_letters : lw_tbl[190]? = some (Cond.methodLink "ExprCrosswordLaw" 55 y_X_letters) := rfl
set_option maxRecDepth 20000 in
theorem ml_L_X_freeLine : lw_tbl[194]? = some (Cond.methodLink "ExprCrosswordLaw" 59 y_X_freeLine) := rfl
set_option maxRecDepth 20000 in
theorem ml_L_X_pin : lw_tbl[198]? = some (Cond.methodLink "ExprCrosswordLaw" 63 y_X_pin) := rfl
set_option maxRecDepth 20000 in
theorem ml_X_X_inGrid : lw_tbl[202]? = some (Cond.methodLink "ExprCrossword" 112 y_X_inGrid) := rfl
set_option maxRecDepth 20000 in
theorem ml_L_X_pinned : lw_tbl[206]? = some (Cond.methodLink "ExprCrosswordLaw" 68 y_X_pinned) := rfl
set_option maxRecDepth 20000 in
theorem ml_L_X_fillings : lw_tbl[210]? = some (Cond.methodLink "ExprCrosswordLaw" 73 y_X_fillings) := rfl
set_option maxRecDepth 20000 in
theorem ml_X_X_scan : lw_tbl[214]? = some (Cond.methodLink "ExprCrossword" 155 y_X_scan) := rfl
set_option maxRecDepth 20000 in
theorem ml_X_X_prepare : lw_tbl[218]? = some (Cond.methodLink "ExprCrossword" 134 y_X_prepare) := rfl
set_option maxRecDepth 20000 in
theorem ml_X_X_prepareLine : lw_tbl[222]? = some (Cond.methodLink "ExprCrossword" 116 y_X_prepareLine) := rfl
set_option maxRecDepth 20000 in
theorem ml_X_X_lineLength : lw_tbl[226]? = some (Cond.methodLink "ExprCrossword" 119 y_X_lineLength) := rfl
set_option maxRecDepth 20000 in
theorem ml_X_X_cellOf : lw_tbl[230]? = some (Cond.methodLink "ExprCrossword" 123 y_X_cellOf) := rfl
set_option maxRecDepth 20000 in
theorem ml_X_X_before : lw_tbl[234]? = some (Cond.methodLink "ExprCrossword" 127 y_X_before) := rfl
set_option maxRecDepth 20000 in
theorem ml_X_X_place : lw_tbl[238]? = some (Cond.methodLink "ExprCrossword" 149 y_X_place) := rfl
set_option maxRecDepth 20000 in
theorem ml_X_X_step : lw_tbl[242]? = some (Cond.methodLink "ExprCrossword" 131 y_X_step) := rfl
set_option maxRecDepth 20000 in
theorem ml_X_X_enter : lw_tbl[246]? = some (Cond.methodLink "ExprCrossword" 152 y_X_enter) := rfl
set_option maxRecDepth 20000 in
theorem ml_L_X_filling : lw_tbl[250]? = some (Cond.methodLink "ExprCrosswordLaw" 77 y_X_filling) := rfl
set_option maxRecDepth 20000 in
theorem ml_L_X_below : lw_tbl[254]? = some (Cond.methodLink "ExprCrosswordLaw" 81 y_X_below) := rfl
set_option maxRecDepth 20000 in
theorem ml_L_X_forced : lw_tbl[258]? = some (Cond.methodLink "ExprCrosswordLaw" 85 y_X_forced) := rfl
set_option maxRecDepth 20000 in
theorem ml_L_X_lineWords : lw_tbl[262]? = some (Cond.methodLink "ExprCrosswordLaw" 89 y_X_lineWords) := rfl
set_option maxRecDepth 20000 in
theorem ml_X_X_spells : lw_tbl[266]? = some (Cond.methodLink "ExprCrossword" 158 y_X_spells) := rfl
set_option maxRecDepth 20000 in
theorem ml_L_L_cell : lw_tbl[270]? = some (Cond.methodLink "ExprCrosswordLaw" 9 y_L_cell) := rfl
set_option maxRecDepth 20000 in
theorem ml_L_M_init : lw_tbl[275]? = some (Cond.methodLink "ExprCrosswordLaw" 20 y_M_init) := rfl
set_option maxRecDepth 20000 in
theorem ml_L_M_letter : lw_tbl[302]? = some (Cond.methodLink "ExprCrosswordLaw" 25 y_M_letter) := rfl
set_option maxRecDepth 20000 in
theorem ml_M_M_letters : lw_tbl[306]? = some (Cond.methodLink "ExprCrosswordModel" 33 y_M_letters) := rfl
set_option maxRecDepth 20000 in
theorem ml_M_M_push : lw_tbl[310]? = some (Cond.methodLink "ExprCrosswordModel" 37 y_M_push) := rfl
set_option maxRecDepth 20000 in
theorem ml_L_M_unit : lw_tbl[314]? = some (Cond.methodLink "ExprCrosswordLaw" 30 y_M_unit) := rfl
set_option maxRecDepth 20000 in
theorem ml_L_M_cat : lw_tbl[318]? = some (Cond.methodLink "ExprCrosswordLaw" 34 y_M_cat) := rfl
set_option maxRecDepth 20000 in
theorem ml_M_M_products : lw_tbl[322]? = some (Cond.methodLink "ExprCrosswordModel" 55 y_M_products) := rfl
set_option maxRecDepth 20000 in
theorem ml_M_M_splits : lw_tbl[326]? = some (Cond.methodLink "ExprCrosswordModel" 45 y_M_splits) := rfl
set_option maxRecDepth 20000 in
theorem ml_M_M_holds : lw_tbl[330]? = some (Cond.methodLink "ExprCrosswordModel" 41 y_M_holds) := rfl
set_option maxRecDepth 20000 in
theorem ml_M_M_word : lw_tbl[334]? = some (Cond.methodLink "ExprCrosswordModel" 49 y_M_word) := rfl
set_option maxRecDepth 20000 in
theorem ml_M_M_pair : lw_tbl[338]? = some (Cond.methodLink "ExprCrosswordModel" 58 y_M_pair) := rfl
set_option maxRecDepth 20000 in
theorem ml_L_M_alt : lw_tbl[342]? = some (Cond.methodLink "ExprCrosswordLaw" 38 y_M_alt) := rfl
set_option maxRecDepth 20000 in
theorem ml_L_M_star : lw_tbl[346]? = some (Cond.methodLink "ExprCrosswordLaw" 42 y_M_star) := rfl
set_option maxRecDepth 20000 in
theorem ml_M_M_chains : lw_tbl[350]? = some (Cond.methodLink "ExprCrosswordModel" 62 y_M_chains) := rfl
set_option maxRecDepth 20000 in
theorem ml_L_M_reverse : lw_tbl[354]? = some (Cond.methodLink "ExprCrosswordLaw" 46 y_M_reverse) := rfl
set_option maxRecDepth 20000 in
theorem ml_M_M_mirrors : lw_tbl[358]? = some (Cond.methodLink "ExprCrosswordModel" 65 y_M_mirrors) := rfl
set_option maxRecDepth 20000 in
theorem ml_M_M_mirrored : lw_tbl[362]? = some (Cond.methodLink "ExprCrosswordModel" 52 y_M_mirrored) := rfl
set_option maxRecDepth 20000 in
theorem ml_L_M_setLine : lw_tbl[366]? = some (Cond.methodLink "ExprCrosswordLaw" 50 y_M_setLine) := rfl
set_option maxRecDepth 20000 in
theorem ml_M_M_isLine : lw_tbl[370]? = some (Cond.methodLink "ExprCrosswordModel" 68 y_M_isLine) := rfl
set_option maxRecDepth 20000 in
theorem ml_L_M_depth : lw_tbl[374]? = some (Cond.methodLink "ExprCrosswordLaw" 54 y_M_depth) := rfl
set_option maxRecDepth 20000 in
theorem ml_L_M_letters : lw_tbl[378]? = some (Cond.methodLink "ExprCrosswordLaw" 58 y_M_letters) := rfl
set_option maxRecDepth 20000 in
theorem ml_L_M_freeLine : lw_tbl[379]? = some (Cond.methodLink "ExprCrosswordLaw" 62 y_M_freeLine) := rfl
set_option maxRecDepth 20000 in
theorem ml_L_M_pin : lw_tbl[383]? = some (Cond.methodLink "ExprCrosswordLaw" 67 y_M_pin) := rfl
set_option maxRecDepth 20000 in
theorem ml_M_M_isCell : lw_tbl[387]? = some (Cond.methodLink "ExprCrosswordModel" 72 y_M_isCell) := rfl
set_option maxRecDepth 20000 in
theorem ml_L_M_pinned : lw_tbl[391]? = some (Cond.methodLink "ExprCrosswordLaw" 72 y_M_pinned) := rfl
set_option maxRecDepth 20000 in
theorem ml_L_M_fillings : lw_tbl[395]? = some (Cond.methodLink "ExprCrosswordLaw" 76 y_M_fillings) := rfl
set_option maxRecDepth 20000 in
theorem ml_M_M_fits : lw_tbl[399]? = some (Cond.methodLink "ExprCrosswordModel" 89 y_M_fits) := rfl
set_option maxRecDepth 20000 in
theorem ml_M_M_pinsKept : lw_tbl[403]? = some (Cond.methodLink "ExprCrosswordModel" 83 y_M_pinsKept) := rfl
set_option maxRecDepth 20000 in
theorem ml_M_M_cellOf : lw_tbl[407]? = some (Cond.methodLink "ExprCrosswordModel" 79 y_M_cellOf) := rfl
set_option maxRecDepth 20000 in
theorem ml_M_M_wordOf : lw_tbl[411]? = some (Cond.methodLink "ExprCrosswordModel" 86 y_M_wordOf) := rfl
set_option maxRecDepth 20000 in
theorem ml_M_M_lengthOf : lw_tbl[415]? = some (Cond.methodLink "ExprCrosswordModel" 76 y_M_lengthOf) := rfl
set_option maxRecDepth 20000 in
theorem ml_L_M_filling : lw_tbl[419]? = some (Cond.methodLink "ExprCrosswordLaw" 80 y_M_filling) := rfl
set_option maxRecDepth 20000 in
theorem ml_L_M_below : lw_tbl[423]? = some (Cond.methodLink "ExprCrosswordLaw" 84 y_M_below) := rfl
set_option maxRecDepth 20000 in
theorem ml_L_M_forced : lw_tbl[427]? = some (Cond.methodLink "ExprCrosswordLaw" 88 y_M_forced) := rfl
set_option maxRecDepth 20000 in
theorem ml_L_M_lineWords : lw_tbl[431]? = some (Cond.methodLink "ExprCrosswordLaw" 92 y_M_lineWords) := rfl
set_option maxRecDepth 20000 in
theorem ml_M_M_wordKeepsPins : lw_tbl[435]? = some (Cond.methodLink "ExprCrosswordModel" 92 y_M_wordKeepsPins) := rfl
set_option maxRecDepth 20000 in
theorem mi_X_init : lw_tbl[38]? = some (Cond.instanceMethod y_X_init) := rfl
set_option maxRecDepth 20000 in
theorem mi_X_anyWord : lw_tbl[45]? = some (Cond.instanceMethod y_X_anyWord) := rfl
set_option maxRecDepth 20000 in
theorem ms_X_anyWord : lw_tbl[0]? = some (Cond.selects "ExprCrossword" y_X_anyWord y_X_anyWord) := rfl
set_option maxRecDepth 20000 in
theorem mi_X_letter : lw_tbl[147]? = some (Cond.instanceMethod y_X_letter) := rfl
set_option maxRecDepth 20000 in
theorem ms_X_letter : lw_tbl[148]? = some (Cond.selects "ExprCrossword" y_X_letter y_X_letter) := rfl
set_option maxRecDepth 20000 in
theorem mi_X_push : lw_tbl[152]? = some (Cond.instanceMethod y_X_push) := rfl
set_option maxRecDepth 20000 in
theorem ms_X_push : lw_tbl[1]? = some (Cond.selects "ExprCrossword" y_X_push y_X_push) := rfl
set_option maxRecDepth 20000 in
theorem mi_X_unit : lw_tbl[155]? = some (Cond.instanceMethod y_X_unit) := rfl
set_option maxRecDepth 20000 in
theorem ms_X_unit : lw_tbl[156]? = some (Cond.selects "ExprCrossword" y_X_unit y_X_unit) := rfl
set_option maxRecDepth 20000 in
theorem mi_X_cat : lw_tbl[159]? = some (Cond.instanceMethod y_X_cat) := rfl
set_option maxRecDepth 20000 in
theorem ms_X_cat : lw_tbl[160]? = some (Cond.selects "ExprCrossword" y_X_cat y_X_cat) := rfl
set_option maxRecDepth 20000 in
theorem mi_X_link : lw_tbl[164]? = some (Cond.instanceMethod y_X_link) := rfl
set_option maxRecDepth 20000 in
theorem ms_X_link : lw_tbl[2]? = some (Cond.selects "ExprCrossword" y_X_link y_X_link) := rfl
set_option maxRecDepth 20000 in
theorem mi_X_alt : lw_tbl[167]? = some (Cond.instanceMethod y_X_alt) := rfl
set_option maxRecDepth 20000 in
theorem ms_X_alt : lw_tbl[168]? = some (Cond.selects "ExprCrossword" y_X_alt y_X_alt) := rfl
set_option maxRecDepth 20000 in
theorem mi_X_star : lw_tbl[171]? = some (Cond.instanceMethod y_X_star) := rfl
set_option maxRecDepth 20000 in
theorem ms_X_star : lw_tbl[172]? = some (Cond.selects "ExprCrossword" y_X_star y_X_star) := rfl
set_option maxRecDepth 20000 in
theorem mi_X_reverse : lw_tbl[175]? = some (Cond.instanceMethod y_X_reverse) := rfl
set_option maxRecDepth 20000 in
theorem ms_X_reverse : lw_tbl[176]? = some (Cond.selects "ExprCrossword" y_X_reverse y_X_reverse) := rfl
set_option maxRecDepth 20000 in
theorem mi_X_turn : lw_tbl[180]? = some (Cond.instanceMethod y_X_turn) := rfl
set_option maxRecDepth 20000 in
theorem ms_X_turn : lw_tbl[3]? = some (Cond.selects "ExprCrossword" y_X_turn y_X_turn) := rfl
set_option maxRecDepth 20000 in
theorem mi_X_setLine : lw_tbl[183]? = some (Cond.instanceMethod y_X_setLine) := rfl
set_option maxRecDepth 20000 in
theorem ms_X_setLine : lw_tbl[184]? = some (Cond.selects "ExprCrossword" y_X_setLine y_X_setLine) := rfl
set_option maxRecDepth 20000 in
theorem mi_X_depth : lw_tbl[187]? = some (Cond.instanceMethod y_X_depth) := rfl
set_option maxRecDepth 20000 in
theorem ms_X_depth : lw_tbl[188]? = some (Cond.selects "ExprCrossword" y_X_depth y_X_depth) := rfl
set_option maxRecDepth 20000 in
theorem mi_X_letters : lw_tbl[191]? = some (Cond.instanceMethod y_X_letters) := rfl
set_option maxRecDepth 20000 in
theorem ms_X_letters : lw_tbl[192]? = some (Cond.selects "ExprCrossword" y_X_letters y_X_letters) := rfl
set_option maxRecDepth 20000 in
theorem mi_X_freeLine : lw_tbl[195]? = some (Cond.instanceMethod y_X_freeLine) := rfl
set_option maxRecDepth 20000 in
theorem ms_X_freeLine : lw_tbl[196]? = some (Cond.selects "ExprCrossword" y_X_freeLine y_X_freeLine) := rfl
set_option maxRecDepth 20000 in
theorem mi_X_pin : lw_tbl[199]? = some (Cond.instanceMethod y_X_pin) := rfl
set_option maxRecDepth 20000 in
theorem ms_X_pin : lw_tbl[200]? = some (Cond.selects "ExprCrossword" y_X_pin y_X_pin) := rfl
set_option maxRecDepth 20000 in
theorem mi_X_inGrid : lw_tbl[204]? = some (Cond.instanceMethod y_X_inGrid) := rfl
set_option maxRecDepth 20000 in
theorem ms_X_inGrid : lw_tbl[4]? = some (Cond.selects "ExprCrossword" y_X_inGrid y_X_inGrid) := rfl
set_option maxRecDepth 20000 in
theorem mi_X_pinned : lw_tbl[207]? = some (Cond.instanceMethod y_X_pinned) := rfl
set_option maxRecDepth 20000 in
theorem ms_X_pinned : lw_tbl[208]? = some (Cond.selects "ExprCrossword" y_X_pinned y_X_pinned) := rfl
set_option maxRecDepth 20000 in
theorem mi_X_fillings : lw_tbl[211]? = some (Cond.instanceMethod y_X_fillings) := rfl
set_option maxRecDepth 20000 in
theorem ms_X_fillings : lw_tbl[212]? = some (Cond.selects "ExprCrossword" y_X_fillings y_X_fillings) := rfl
set_option maxRecDepth 20000 in
theorem mi_X_scan : lw_tbl[216]? = some (Cond.instanceMethod y_X_scan) := rfl
set_option maxRecDepth 20000 in
theorem ms_X_scan : lw_tbl[5]? = some (Cond.selects "ExprCrossword" y_X_scan y_X_scan) := rfl
set_option maxRecDepth 20000 in
theorem mi_X_prepare : lw_tbl[220]? = some (Cond.instanceMethod y_X_prepare) := rfl
set_option maxRecDepth 20000 in
theorem ms_X_prepare : lw_tbl[6]? = some (Cond.selects "ExprCrossword" y_X_prepare y_X_prepare) := rfl
set_option maxRecDepth 20000 in
theorem mi_X_prepareLine : lw_tbl[224]? = some (Cond.instanceMethod y_X_prepareLine) := rfl
set_option maxRecDepth 20000 in
theorem ms_X_prepareLine : lw_tbl[7]? = some (Cond.selects "ExprCrossword" y_X_prepareLine y_X_prepareLine) := rfl
set_option maxRecDepth 20000 in
theorem mi_X_lineLength : lw_tbl[228]? = some (Cond.instanceMethod y_X_lineLength) := rfl
set_option maxRecDepth 20000 in
theorem ms_X_lineLength : lw_tbl[8]? = some (Cond.selects "ExprCrossword" y_X_lineLength y_X_lineLength) := rfl
set_option maxRecDepth 20000 in
theorem mi_X_cellOf : lw_tbl[232]? = some (Cond.instanceMethod y_X_cellOf) := rfl
set_option maxRecDepth 20000 in
theorem ms_X_cellOf : lw_tbl[9]? = some (Cond.selects "ExprCrossword" y_X_cellOf y_X_cellOf) := rfl
set_option maxRecDepth 20000 in
theorem mi_X_before : lw_tbl[236]? = some (Cond.instanceMethod y_X_before) := rfl
set_option maxRecDepth 20000 in
theorem ms_X_before : lw_tbl[10]? = some (Cond.selects "ExprCrossword" y_X_before y_X_before) := rfl
set_option maxRecDepth 20000 in
theorem mi_X_place : lw_tbl[240]? = some (Cond.instanceMethod y_X_place) := rfl
set_option maxRecDepth 20000 in
theorem ms_X_place : lw_tbl[11]? = some (Cond.selects "ExprCrossword" y_X_place y_X_place) := rfl
set_option maxRecDepth 20000 in
theorem mi_X_step : lw_tbl[244]? = some (Cond.instanceMethod y_X_step) := rfl
set_option maxRecDepth 20000 in
theorem ms_X_step : lw_tbl[12]? = some (Cond.selects "ExprCrossword" y_X_step y_X_step) := rfl
set_option maxRecDepth 20000 in
theorem mi_X_enter : lw_tbl[248]? = some (Cond.instanceMethod y_X_enter) := rfl
set_option maxRecDepth 20000 in
theorem ms_X_enter : lw_tbl[13]? = some (Cond.selects "ExprCrossword" y_X_enter y_X_enter) := rfl
set_option maxRecDepth 20000 in
theorem mi_X_filling : lw_tbl[251]? = some (Cond.instanceMethod y_X_filling) := rfl
set_option maxRecDepth 20000 in
theorem ms_X_filling : lw_tbl[252]? = some (Cond.selects "ExprCrossword" y_X_filling y_X_filling) := rfl
set_option maxRecDepth 20000 in
theorem mi_X_below : lw_tbl[255]? = some (Cond.instanceMethod y_X_below) := rfl
set_option maxRecDepth 20000 in
theorem ms_X_below : lw_tbl[256]? = some (Cond.selects "ExprCrossword" y_X_below y_X_below) := rfl
set_option maxRecDepth 20000 in
theorem mi_X_forced : lw_tbl[259]? = some (Cond.instanceMethod y_X_forced) := rfl
set_option maxRecDepth 20000 in
theorem ms_X_forced : lw_tbl[260]? = some (Cond.selects "ExprCrossword" y_X_forced y_X_forced) := rfl
set_option maxRecDepth 20000 in
theorem mi_X_lineWords : lw_tbl[263]? = some (Cond.instanceMethod y_X_lineWords) := rfl
set_option maxRecDepth 20000 in
theorem ms_X_lineWords : lw_tbl[264]? = some (Cond.selects "ExprCrossword" y_X_lineWords y_X_lineWords) := rfl
set_option maxRecDepth 20000 in
theorem mi_X_spells : lw_tbl[268]? = some (Cond.instanceMethod y_X_spells) := rfl
set_option maxRecDepth 20000 in
theorem ms_X_spells : lw_tbl[14]? = some (Cond.selects "ExprCrossword" y_X_spells y_X_spells) := rfl
set_option maxRecDepth 20000 in
theorem mi_M_init : lw_tbl[276]? = some (Cond.instanceMethod y_M_init) := rfl
set_option maxRecDepth 20000 in
theorem mi_M_letter : lw_tbl[303]? = some (Cond.instanceMethod y_M_letter) := rfl
set_option maxRecDepth 20000 in
theorem ms_M_letter : lw_tbl[304]? = some (Cond.selects "ExprCrosswordModel" y_M_letter y_M_letter) := rfl
set_option maxRecDepth 20000 in
theorem mi_M_letters : lw_tbl[307]? = some (Cond.instanceMethod y_M_letters) := rfl
set_option maxRecDepth 20000 in
theorem ms_M_letters : lw_tbl[308]? = some (Cond.selects "ExprCrosswordModel" y_M_letters y_M_letters) := rfl
set_option maxRecDepth 20000 in
theorem mi_M_push : lw_tbl[312]? = some (Cond.instanceMethod y_M_push) := rfl
set_option maxRecDepth 20000 in
theorem ms_M_push : lw_tbl[15]? = some (Cond.selects "ExprCrosswordModel" y_M_push y_M_push) := rfl
set_option maxRecDepth 20000 in
theorem mi_M_unit : lw_tbl[315]? = some (Cond.instanceMethod y_M_unit) := rfl
set_option maxRecDepth 20000 in
theorem ms_M_unit : lw_tbl[316]? = some (Cond.selects "ExprCrosswordModel" y_M_unit y_M_unit) := rfl
set_option maxRecDepth 20000 in
theorem mi_M_cat : lw_tbl[319]? = some (Cond.instanceMethod y_M_cat) := rfl
set_option maxRecDepth 20000 in
theorem ms_M_cat : lw_tbl[320]? = some (Cond.selects "ExprCrosswordModel" y_M_cat y_M_cat) := rfl
set_option maxRecDepth 20000 in
theorem mi_M_products : lw_tbl[324]? = some (Cond.instanceMethod y_M_products) := rfl
set_option maxRecDepth 20000 in
theorem ms_M_products : lw_tbl[16]? = some (Cond.selects "ExprCrosswordModel" y_M_products y_M_products) := rfl
set_option maxRecDepth 20000 in
theorem mi_M_splits : lw_tbl[328]? = some (Cond.instanceMethod y_M_splits) := rfl
set_option maxRecDepth 20000 in
theorem ms_M_splits : lw_tbl[17]? = some (Cond.selects "ExprCrosswordModel" y_M_splits y_M_splits) := rfl
set_option maxRecDepth 20000 in
theorem mi_M_holds : lw_tbl[332]? = some (Cond.instanceMethod y_M_holds) := rfl
set_option maxRecDepth 20000 in
theorem ms_M_holds : lw_tbl[18]? = some (Cond.selects "ExprCrosswordModel" y_M_holds y_M_holds) := rfl
set_option maxRecDepth 20000 in
theorem mi_M_word : lw_tbl[336]? = some (Cond.instanceMethod y_M_word) := rfl
set_option maxRecDepth 20000 in
theorem ms_M_word : lw_tbl[19]? = some (Cond.selects "ExprCrosswordModel" y_M_word y_M_word) := rfl
set_option maxRecDepth 20000 in
theorem mi_M_pair : lw_tbl[340]? = some (Cond.instanceMethod y_M_pair) := rfl
set_option maxRecDepth 20000 in
theorem ms_M_pair : lw_tbl[20]? = some (Cond.selects "ExprCrosswordModel" y_M_pair y_M_pair) := rfl
set_option maxRecDepth 20000 in
theorem mi_M_alt : lw_tbl[343]? = some (Cond.instanceMethod y_M_alt) := rfl
set_option maxRecDepth 20000 in
theorem ms_M_alt : lw_tbl[344]? = some (Cond.selects "ExprCrosswordModel" y_M_alt y_M_alt) := rfl
set_option maxRecDepth 20000 in
theorem mi_M_star : lw_tbl[347]? = some (Cond.instanceMethod y_M_star) := rfl
set_option maxRecDepth 20000 in
theorem ms_M_star : lw_tbl[348]? = some (Cond.selects "ExprCrosswordModel" y_M_star y_M_star) := rfl
set_option maxRecDepth 20000 in
theorem mi_M_chains : lw_tbl[352]? = some (Cond.instanceMethod y_M_chains) := rfl
set_option maxRecDepth 20000 in
theorem ms_M_chains : lw_tbl[21]? = some (Cond.selects "ExprCrosswordModel" y_M_chains y_M_chains) := rfl
set_option maxRecDepth 20000 in
theorem mi_M_reverse : lw_tbl[355]? = some (Cond.instanceMethod y_M_reverse) := rfl
set_option maxRecDepth 20000 in
theorem ms_M_reverse : lw_tbl[356]? = some (Cond.selects "ExprCrosswordModel" y_M_reverse y_M_reverse) := rfl
set_option maxRecDepth 20000 in
theorem mi_M_mirrors : lw_tbl[360]? = some (Cond.instanceMethod y_M_mirrors) := rfl
set_option maxRecDepth 20000 in
theorem ms_M_mirrors : lw_tbl[22]? = some (Cond.selects "ExprCrosswordModel" y_M_mirrors y_M_mirrors) := rfl
set_option maxRecDepth 20000 in
theorem mi_M_mirrored : lw_tbl[364]? = some (Cond.instanceMethod y_M_mirrored) := rfl
set_option maxRecDepth 20000 in
theorem ms_M_mirrored : lw_tbl[23]? = some (Cond.selects "ExprCrosswordModel" y_M_mirrored y_M_mirrored) := rfl
set_option maxRecDepth 20000 in
theorem mi_M_setLine : lw_tbl[367]? = some (Cond.instanceMethod y_M_setLine) := rfl
set_option maxRecDepth 20000 in
theorem ms_M_setLine : lw_tbl[368]? = some (Cond.selects "ExprCrosswordModel" y_M_setLine y_M_setLine) := rfl
set_option maxRecDepth 20000 in
theorem mi_M_isLine : lw_tbl[372]? = some (Cond.instanceMethod y_M_isLine) := rfl
set_option maxRecDepth 20000 in
theorem ms_M_isLine : lw_tbl[24]? = some (Cond.selects "ExprCrosswordModel" y_M_isLine y_M_isLine) := rfl
set_option maxRecDepth 20000 in
theorem mi_M_depth : lw_tbl[375]? = some (Cond.instanceMethod y_M_depth) := rfl
set_option maxRecDepth 20000 in
theorem ms_M_depth : lw_tbl[376]? = some (Cond.selects "ExprCrosswordModel" y_M_depth y_M_depth) := rfl
set_option maxRecDepth 20000 in
theorem mi_M_freeLine : lw_tbl[380]? = some (Cond.instanceMethod y_M_freeLine) := rfl
set_option maxRecDepth 20000 in
theorem ms_M_freeLine : lw_tbl[381]? = some (Cond.selects "ExprCrosswordModel" y_M_freeLine y_M_freeLine) := rfl
set_option maxRecDepth 20000 in
theorem mi_M_pin : lw_tbl[384]? = some (Cond.instanceMethod y_M_pin) := rfl
set_option maxRecDepth 20000 in
theorem ms_M_pin : lw_tbl[385]? = some (Cond.selects "ExprCrosswordModel" y_M_pin y_M_pin) := rfl
set_option maxRecDepth 20000 in
theorem mi_M_isCell : lw_tbl[389]? = some (Cond.instanceMethod y_M_isCell) := rfl
set_option maxRecDepth 20000 in
theorem ms_M_isCell : lw_tbl[25]? = some (Cond.selects "ExprCrosswordModel" y_M_isCell y_M_isCell) := rfl
set_option maxRecDepth 20000 in
theorem mi_M_pinned : lw_tbl[392]? = some (Cond.instanceMethod y_M_pinned) := rfl
set_option maxRecDepth 20000 in
theorem ms_M_pinned : lw_tbl[393]? = some (Cond.selects "ExprCrosswordModel" y_M_pinned y_M_pinned) := rfl
set_option maxRecDepth 20000 in
theorem mi_M_fillings : lw_tbl[396]? = some (Cond.instanceMethod y_M_fillings) := rfl
set_option maxRecDepth 20000 in
theorem ms_M_fillings : lw_tbl[397]? = some (Cond.selects "ExprCrosswordModel" y_M_fillings y_M_fillings) := rfl
set_option maxRecDepth 20000 in
theorem mi_M_fits : lw_tbl[401]? = some (Cond.instanceMethod y_M_fits) := rfl
set_option maxRecDepth 20000 in
theorem ms_M_fits : lw_tbl[26]? = some (Cond.selects "ExprCrosswordModel" y_M_fits y_M_fits) := rfl
set_option maxRecDepth 20000 in
theorem mi_M_pinsKept : lw_tbl[405]? = some (Cond.instanceMethod y_M_pinsKept) := rfl
set_option maxRecDepth 20000 in
theorem ms_M_pinsKept : lw_tbl[27]? = some (Cond.selects "ExprCrosswordModel" y_M_pinsKept y_M_pinsKept) := rfl
set_option maxRecDepth 20000 in
theorem mi_M_cellOf : lw_tbl[409]? = some (Cond.instanceMethod y_M_cellOf) := rfl
set_option maxRecDepth 20000 in
theorem ms_M_cellOf : lw_tbl[28]? = some (Cond.selects "ExprCrosswordModel" y_M_cellOf y_M_cellOf) := rfl
set_option maxRecDepth 20000 in
theorem mi_M_wordOf : lw_tbl[413]? = some (Cond.instanceMethod y_M_wordOf) := rfl
set_option maxRecDepth 20000 in
theorem ms_M_wordOf : lw_tbl[29]? = some (Cond.selects "ExprCrosswordModel" y_M_wordOf y_M_wordOf) := rfl
set_option maxRecDepth 20000 in
theorem mi_M_lengthOf : lw_tbl[417]? = some (Cond.instanceMethod y_M_lengthOf) := rfl
set_option maxRecDepth 20000 in
theorem ms_M_lengthOf : lw_tbl[30]? = some (Cond.selects "ExprCrosswordModel" y_M_lengthOf y_M_lengthOf) := rfl
set_option maxRecDepth 20000 in
theorem mi_M_filling : lw_tbl[420]? = some (Cond.instanceMethod y_M_filling) := rfl
set_option maxRecDepth 20000 in
theorem ms_M_filling : lw_tbl[421]? = some (Cond.selects "ExprCrosswordModel" y_M_filling y_M_filling) := rfl
set_option maxRecDepth 20000 in
theorem mi_M_below : lw_tbl[424]? = some (Cond.instanceMethod y_M_below) := rfl
set_option maxRecDepth 20000 in
theorem ms_M_below : lw_tbl[425]? = some (Cond.selects "ExprCrosswordModel" y_M_below y_M_below) := rfl
set_option maxRecDepth 20000 in
theorem mi_M_forced : lw_tbl[428]? = some (Cond.instanceMethod y_M_forced) := rfl
set_option maxRecDepth 20000 in
theorem ms_M_forced : lw_tbl[429]? = some (Cond.selects "ExprCrosswordModel" y_M_forced y_M_forced) := rfl
set_option maxRecDepth 20000 in
theorem mi_M_lineWords : lw_tbl[432]? = some (Cond.instanceMethod y_M_lineWords) := rfl
set_option maxRecDepth 20000 in
theorem ms_M_lineWords : lw_tbl[433]? = some (Cond.selects "ExprCrosswordModel" y_M_lineWords y_M_lineWords) := rfl
set_option maxRecDepth 20000 in
theorem mi_M_wordKeepsPins : lw_tbl[437]? = some (Cond.instanceMethod y_M_wordKeepsPins) := rfl
set_option maxRecDepth 20000 in
theorem ms_M_wordKeepsPins : lw_tbl[31]? = some (Cond.selects "ExprCrosswordModel" y_M_wordKeepsPins y_M_wordKeepsPins) := rfl
set_option maxRecDepth 20000 in
theorem mn_L : lw_tbl[32]? = some (Cond.initialized "ExprCrosswordLaw") := rfl
set_option maxRecDepth 20000 in
theorem mn_X : lw_tbl[33]? = some (Cond.initialized "ExprCrossword") := rfl
set_option maxRecDepth 20000 in
theorem mn_M : lw_tbl[34]? = some (Cond.initialized "ExprCrosswordModel") := rfl
end
section
theorem d_X_init_0 : decode b_X_init 0 = .ok (.aload_n 0, 1) := by decide +kernel
theorem d_X_init_1 : decode b_X_init 1 = .ok (.invokespecial 1, 3) := by decide +kernel
theorem d_X_init_4 : decode b_X_init 4 = .ok (.aload_n 0, 1) := by decide +kernel
theorem d_X_init_5 : decode b_X_init 5 = .ok (.bipush 12, 2) := by decide +kernel
theorem d_X_init_7 : decode b_X_init 7 = .ok (.newarray .int, 2) := by decide +kernel
theorem d_X_init_9 : decode b_X_init 9 = .ok (.putfield 7, 3) := by decide +kernel
theorem d_X_init_12 : decode b_X_init 12 = .ok (.aload_n 0, 1) := by decide +kernel
theorem d_X_init_13 : decode b_X_init 13 = .ok (.bipush 12, 2) := by decide +kernel
theorem d_X_init_15 : decode b_X_init 15 = .ok (.newarray .int, 2) := by decide +kernel
theorem d_X_init_17 : decode b_X_init 17 = .ok (.putfield 13, 3) := by decide +kernel
theorem d_X_init_20 : decode b_X_init 20 = .ok (.aload_n 0, 1) := by decide +kernel
theorem d_X_init_21 : decode b_X_init 21 = .ok (.bipush 12, 2) := by decide +kernel
theorem d_X_init_23 : decode b_X_init 23 = .ok (.newarray .int, 2) := by decide +kernel
theorem d_X_init_25 : decode b_X_init 25 = .ok (.putfield 16, 3) := by decide +kernel
theorem d_X_init_28 : decode b_X_init 28 = .ok (.aload_n 0, 1) := by decide +kernel
theorem d_X_init_29 : decode b_X_init 29 = .ok (.bipush 6, 2) := by decide +kernel
theorem d_X_init_31 : decode b_X_init 31 = .ok (.newarray .int, 2) := by decide +kernel
theorem d_X_init_33 : decode b_X_init 33 = .ok (.putfield 19, 3) := by decide +kernel
theorem d_X_init_36 : decode b_X_init 36 = .ok (.aload_n 0, 1) := by decide +kernel
theorem d_X_init_37 : decode b_X_init 37 = .ok (.bipush 6, 2) := by decide +kernel
theorem d_X_init_39 : decode b_X_init 39 = .ok (.newarray .int, 2) := by decide +kernel
theorem d_X_init_41 : decode b_X_init 41 = .ok (.putfield 22, 3) := by decide +kernel
theorem d_X_init_44 : decode b_X_init 44 = .ok (.aload_n 0, 1) := by decide +kernel
theorem d_X_init_45 : decode b_X_init 45 = .ok (.bipush 6, 2) := by decide +kernel
theorem d_X_init_47 : decode b_X_init 47 = .ok (.newarray .int, 2) := by decide +kernel
theorem d_X_init_49 : decode b_X_init 49 = .ok (.putfield 25, 3) := by decide +kernel
theorem d_X_init_52 : decode b_X_init 52 = .ok (.aload_n 0, 1) := by decide +kernel
theorem d_X_init_53 : decode b_X_init 53 = .ok (.bipush 6, 2) := by decide +kernel
theorem d_X_init_55 : decode b_X_init 55 = .ok (.newarray .boolean, 2) := by decide +kernel
theorem d_X_init_57 : decode b_X_init 57 = .ok (.putfield 28, 3) := by decide +kernel
theorem d_X_init_60 : decode b_X_init 60 = .ok (.aload_n 0, 1) := by decide +kernel
theorem d_X_init_61 : decode b_X_init 61 = .ok (.bipush 8, 2) := by decide +kernel
theorem d_X_init_63 : decode b_X_init 63 = .ok (.newarray .int, 2) := by decide +kernel
theorem d_X_init_65 : decode b_X_init 65 = .ok (.putfield 32, 3) := by decide +kernel
theorem d_X_init_68 : decode b_X_init 68 = .ok (.aload_n 0, 1) := by decide +kernel
theorem d_X_init_69 : decode b_X_init 69 = .ok (.bipush 8, 2) := by decide +kernel
theorem d_X_init_71 : decode b_X_init 71 = .ok (.newarray .int, 2) := by decide +kernel
theorem d_X_init_73 : decode b_X_init 73 = .ok (.putfield 35, 3) := by decide +kernel
theorem d_X_init_76 : decode b_X_init 76 = .ok (.aload_n 0, 1) := by decide +kernel
theorem d_X_init_77 : decode b_X_init 77 = .ok (.bipush 8, 2) := by decide +kernel
theorem d_X_init_79 : decode b_X_init 79 = .ok (.newarray .int, 2) := by decide +kernel
theorem d_X_init_81 : decode b_X_init 81 = .ok (.putfield 38, 3) := by decide +kernel
theorem d_X_init_84 : decode b_X_init 84 = .ok (.aload_n 0, 1) := by decide +kernel
theorem d_X_init_85 : decode b_X_init 85 = .ok (.bipush 7, 2) := by decide +kernel
theorem d_X_init_87 : decode b_X_init 87 = .ok (.newarray .int, 2) := by decide +kernel
theorem d_X_init_89 : decode b_X_init 89 = .ok (.putfield 41, 3) := by decide +kernel
theorem d_X_init_92 : decode b_X_init 92 = .ok (.aload_n 0, 1) := by decide +kernel
theorem d_X_init_93 : decode b_X_init 93 = .ok (.bipush 7, 2) := by decide +kernel
theorem d_X_init_95 : decode b_X_init 95 = .ok (.newarray .int, 2) := by decide +kernel
theorem d_X_init_97 : decode b_X_init 97 = .ok (.putfield 44, 3) := by decide +kernel
theorem d_X_init_100 : decode b_X_init 100 = .ok (.aload_n 0, 1) := by decide +kernel
theorem d_X_init_101 : decode b_X_init 101 = .ok (.bipush 7, 2) := by decide +kernel
theorem d_X_init_103 : decode b_X_init 103 = .ok (.newarray .boolean, 2) := by decide +kernel
theorem d_X_init_105 : decode b_X_init 105 = .ok (.putfield 47, 3) := by decide +kernel
theorem d_X_init_108 : decode b_X_init 108 = .ok (.aload_n 0, 1) := by decide +kernel
theorem d_X_init_109 : decode b_X_init 109 = .ok (.bipush 7, 2) := by decide +kernel
theorem d_X_init_111 : decode b_X_init 111 = .ok (.newarray .int, 2) := by decide +kernel
theorem d_X_init_113 : decode b_X_init 113 = .ok (.putfield 50, 3) := by decide +kernel
theorem d_X_init_116 : decode b_X_init 116 = .ok (.aload_n 0, 1) := by decide +kernel
theorem d_X_init_117 : decode b_X_init 117 = .ok (.bipush 7, 2) := by decide +kernel
theorem d_X_init_119 : decode b_X_init 119 = .ok (.newarray .int, 2) := by decide +kernel
theorem d_X_init_121 : decode b_X_init 121 = .ok (.putfield 53, 3) := by decide +kernel
theorem d_X_init_124 : decode b_X_init 124 = .ok (.aload_n 0, 1) := by decide +kernel
theorem d_X_init_125 : decode b_X_init 125 = .ok (.bipush 56, 2) := by decide +kernel
theorem d_X_init_127 : decode b_X_init 127 = .ok (.newarray .int, 2) := by decide +kernel
theorem d_X_init_129 : decode b_X_init 129 = .ok (.putfield 56, 3) := by decide +kernel
theorem d_X_init_132 : decode b_X_init 132 = .ok (.aload_n 0, 1) := by decide +kernel
theorem d_X_init_133 : decode b_X_init 133 = .ok (.bipush 35, 2) := by decide +kernel
theorem d_X_init_135 : decode b_X_init 135 = .ok (.newarray .int, 2) := by decide +kernel
theorem d_X_init_137 : decode b_X_init 137 = .ok (.putfield 59, 3) := by decide +kernel
theorem d_X_init_140 : decode b_X_init 140 = .ok (.aload_n 0, 1) := by decide +kernel
theorem d_X_init_141 : decode b_X_init 141 = .ok (.bipush 12, 2) := by decide +kernel
theorem d_X_init_143 : decode b_X_init 143 = .ok (.newarray .int, 2) := by decide +kernel
theorem d_X_init_145 : decode b_X_init 145 = .ok (.putfield 62, 3) := by decide +kernel
theorem d_X_init_148 : decode b_X_init 148 = .ok (.aload_n 0, 1) := by decide +kernel
theorem d_X_init_149 : decode b_X_init 149 = .ok (.bipush 12, 2) := by decide +kernel
theorem d_X_init_151 : decode b_X_init 151 = .ok (.newarray .int, 2) := by decide +kernel
theorem d_X_init_153 : decode b_X_init 153 = .ok (.putfield 65, 3) := by decide +kernel
theorem d_X_init_156 : decode b_X_init 156 = .ok (.aload_n 0, 1) := by decide +kernel
theorem d_X_init_157 : decode b_X_init 157 = .ok (.bipush 12, 2) := by decide +kernel
theorem d_X_init_159 : decode b_X_init 159 = .ok (.newarray .int, 2) := by decide +kernel
theorem d_X_init_161 : decode b_X_init 161 = .ok (.putfield 68, 3) := by decide +kernel
theorem d_X_init_164 : decode b_X_init 164 = .ok (.aload_n 0, 1) := by decide +kernel
theorem d_X_init_165 : decode b_X_init 165 = .ok (.bipush 12, 2) := by decide +kernel
theorem d_X_init_167 : decode b_X_init 167 = .ok (.newarray .int, 2) := by decide +kernel
theorem d_X_init_169 : decode b_X_init 169 = .ok (.putfield 71, 3) := by decide +kernel
theorem d_X_init_172 : decode b_X_init 172 = .ok (.iload_n 1, 1) := by decide +kernel
theorem d_X_init_173 : decode b_X_init 173 = .ok (.istore_n 3, 1) := by decide +kernel
theorem d_X_init_174 : decode b_X_init 174 = .ok (.iload_n 3, 1) := by decide +kernel
theorem d_X_init_175 : decode b_X_init 175 = .ok (.iconst 1, 1) := by decide +kernel
theorem d_X_init_176 : decode b_X_init 176 = .ok (.if_icmp .ge 5, 3) := by decide +kernel
theorem d_X_init_179 : decode b_X_init 179 = .ok (.iconst 1, 1) := by decide +kernel
theorem d_X_init_180 : decode b_X_init 180 = .ok (.istore_n 3, 1) := by decide +kernel
theorem d_X_init_181 : decode b_X_init 181 = .ok (.iload_n 3, 1) := by decide +kernel
theorem d_X_init_182 : decode b_X_init 182 = .ok (.iconst 3, 1) := by decide +kernel
theorem d_X_init_183 : decode b_X_init 183 = .ok (.if_icmp .le 5, 3) := by decide +kernel
theorem d_X_init_186 : decode b_X_init 186 = .ok (.iconst 3, 1) := by decide +kernel
theorem d_X_init_187 : decode b_X_init 187 = .ok (.istore_n 3, 1) := by decide +kernel
theorem d_X_init_188 : decode b_X_init 188 = .ok (.iload_n 2, 1) := by decide +kernel
theorem d_X_init_189 : decode b_X_init 189 = .ok (.istore 4, 2) := by decide +kernel
theorem d_X_init_191 : decode b_X_init 191 = .ok (.iload 4, 2) := by decide +kernel
theorem d_X_init_193 : decode b_X_init 193 = .ok (.iconst 1, 1) := by decide +kernel
theorem d_X_init_194 : decode b_X_init 194 = .ok (.if_icmp .ge 6, 3) := by decide +kernel
theorem d_X_init_197 : decode b_X_init 197 = .ok (.iconst 1, 1) := by decide +kernel
theorem d_X_init_198 : decode b_X_init 198 = .ok (.istore 4, 2) := by decide +kernel
theorem d_X_init_200 : decode b_X_init 200 = .ok (.iload 4, 2) := by decide +kernel
theorem d_X_init_202 : decode b_X_init 202 = .ok (.iconst 4, 1) := by decide +kernel
theorem d_X_init_203 : decode b_X_init 203 = .ok (.if_icmp .le 6, 3) := by decide +kernel
theorem d_X_init_206 : decode b_X_init 206 = .ok (.iconst 4, 1) := by decide +kernel
theorem d_X_init_207 : decode b_X_init 207 = .ok (.istore 4, 2) := by decide +kernel
theorem d_X_init_209 : decode b_X_init 209 = .ok (.aload_n 0, 1) := by decide +kernel
theorem d_X_init_210 : decode b_X_init 210 = .ok (.iload_n 3, 1) := by decide +kernel
theorem d_X_init_211 : decode b_X_init 211 = .ok (.putfield 74, 3) := by decide +kernel
theorem d_X_init_214 : decode b_X_init 214 = .ok (.aload_n 0, 1) := by decide +kernel
theorem d_X_init_215 : decode b_X_init 215 = .ok (.iload 4, 2) := by decide +kernel
theorem d_X_init_217 : decode b_X_init 217 = .ok (.putfield 78, 3) := by decide +kernel
theorem d_X_init_220 : decode b_X_init 220 = .ok (.aload_n 0, 1) := by decide +kernel
theorem d_X_init_221 : decode b_X_init 221 = .ok (.iload_n 3, 1) := by decide +kernel
theorem d_X_init_222 : decode b_X_init 222 = .ok (.iload 4, 2) := by decide +kernel
theorem d_X_init_224 : decode b_X_init 224 = .ok (.iadd, 1) := by decide +kernel
theorem d_X_init_225 : decode b_X_init 225 = .ok (.putfield 81, 3) := by decide +kernel
theorem d_X_init_228 : decode b_X_init 228 = .ok (.aload_n 0, 1) := by decide +kernel
theorem d_X_init_229 : decode b_X_init 229 = .ok (.iload_n 3, 1) := by decide +kernel
theorem d_X_init_230 : decode b_X_init 230 = .ok (.iload 4, 2) := by decide +kernel
theorem d_X_init_232 : decode b_X_init 232 = .ok (.imul, 1) := by decide +kernel
theorem d_X_init_233 : decode b_X_init 233 = .ok (.putfield 84, 3) := by decide +kernel
theorem d_X_init_236 : decode b_X_init 236 = .ok (.iconst 0, 1) := by decide +kernel
theorem d_X_init_237 : decode b_X_init 237 = .ok (.istore 5, 2) := by decide +kernel
theorem d_X_init_239 : decode b_X_init 239 = .ok (.iconst 0, 1) := by decide +kernel
theorem d_X_init_240 : decode b_X_init 240 = .ok (.istore 6, 2) := by decide +kernel
theorem d_X_init_242 : decode b_X_init 242 = .ok (.iload 6, 2) := by decide +kernel
theorem d_X_init_244 : decode b_X_init 244 = .ok (.iload_n 3, 1) := by decide +kernel
theorem d_X_init_245 : decode b_X_init 245 = .ok (.if_icmp .ge 54, 3) := by decide +kernel
theorem d_X_init_248 : decode b_X_init 248 = .ok (.iconst 0, 1) := by decide +kernel
theorem d_X_init_249 : decode b_X_init 249 = .ok (.istore 7, 2) := by decide +kernel
theorem d_X_init_251 : decode b_X_init 251 = .ok (.iload 7, 2) := by decide +kernel
theorem d_X_init_253 : decode b_X_init 253 = .ok (.iload 4, 2) := by decide +kernel
theorem d_X_init_255 : decode b_X_init 255 = .ok (.if_icmp .ge 38, 3) := by decide +kernel
theorem d_X_init_258 : decode b_X_init 258 = .ok (.aload_n 0, 1) := by decide +kernel
theorem d_X_init_259 : decode b_X_init 259 = .ok (.getfield 7, 3) := by decide +kernel
theorem d_X_init_262 : decode b_X_init 262 = .ok (.iload 5, 2) := by decide +kernel
theorem d_X_init_264 : decode b_X_init 264 = .ok (.iload 6, 2) := by decide +kernel
theorem d_X_init_266 : decode b_X_init 266 = .ok (.iastore, 1) := by decide +kernel
theorem d_X_init_267 : decode b_X_init 267 = .ok (.aload_n 0, 1) := by decide +kernel
theorem d_X_init_268 : decode b_X_init 268 = .ok (.getfield 13, 3) := by decide +kernel
theorem d_X_init_271 : decode b_X_init 271 = .ok (.iload 5, 2) := by decide +kernel
theorem d_X_init_273 : decode b_X_init 273 = .ok (.iload 7, 2) := by decide +kernel
theorem d_X_init_275 : decode b_X_init 275 = .ok (.iastore, 1) := by decide +kernel
theorem d_X_init_276 : decode b_X_init 276 = .ok (.aload_n 0, 1) := by decide +kernel
theorem d_X_init_277 : decode b_X_init 277 = .ok (.getfield 16, 3) := by decide +kernel
theorem d_X_init_280 : decode b_X_init 280 = .ok (.iload 5, 2) := by decide +kernel
theorem d_X_init_282 : decode b_X_init 282 = .ok (.iconst 2, 1) := by decide +kernel
theorem d_X_init_283 : decode b_X_init 283 = .ok (.iastore, 1) := by decide +kernel
theorem d_X_init_284 : decode b_X_init 284 = .ok (.iinc 5 1, 3) := by decide +kernel
theorem d_X_init_287 : decode b_X_init 287 = .ok (.iinc 7 1, 3) := by decide +kernel
theorem d_X_init_290 : decode b_X_init 290 = .ok (.goto (-39), 3) := by decide +kernel
theorem d_X_init_293 : decode b_X_init 293 = .ok (.iinc 6 1, 3) := by decide +kernel
theorem d_X_init_296 : decode b_X_init 296 = .ok (.goto (-54), 3) := by decide +kernel
theorem d_X_init_299 : decode b_X_init 299 = .ok (.iconst 0, 1) := by decide +kernel
theorem d_X_init_300 : decode b_X_init 300 = .ok (.istore 6, 2) := by decide +kernel
theorem d_X_init_302 : decode b_X_init 302 = .ok (.iload 6, 2) := by decide +kernel
theorem d_X_init_304 : decode b_X_init 304 = .ok (.iload_n 3, 1) := by decide +kernel
theorem d_X_init_305 : decode b_X_init 305 = .ok (.iload 4, 2) := by decide +kernel
theorem d_X_init_307 : decode b_X_init 307 = .ok (.iadd, 1) := by decide +kernel
theorem d_X_init_308 : decode b_X_init 308 = .ok (.if_icmp .ge 15, 3) := by decide +kernel
theorem d_X_init_311 : decode b_X_init 311 = .ok (.aload_n 0, 1) := by decide +kernel
theorem d_X_init_312 : decode b_X_init 312 = .ok (.iload 6, 2) := by decide +kernel
theorem d_X_init_314 : decode b_X_init 314 = .ok (.invokevirtual 87, 3) := by decide +kernel
theorem d_X_init_317 : decode b_X_init 317 = .ok (.iinc 6 1, 3) := by decide +kernel
theorem d_X_init_320 : decode b_X_init 320 = .ok (.goto (-18), 3) := by decide +kernel
theorem d_X_init_323 : decode b_X_init 323 = .ok (.return_, 1) := by decide +kernel
theorem d_X_anyWord_0 : decode b_X_anyWord 0 = .ok (.aload_n 0, 1) := by decide +kernel
theorem d_X_anyWord_1 : decode b_X_anyWord 1 = .ok (.getfield 41, 3) := by decide +kernel
theorem d_X_anyWord_4 : decode b_X_anyWord 4 = .ok (.iload_n 1, 1) := by decide +kernel
theorem d_X_anyWord_5 : decode b_X_anyWord 5 = .ok (.iconst 1, 1) := by decide +kernel
theorem d_X_anyWord_6 : decode b_X_anyWord 6 = .ok (.iastore, 1) := by decide +kernel
theorem d_X_anyWord_7 : decode b_X_anyWord 7 = .ok (.aload_n 0, 1) := by decide +kernel
theorem d_X_anyWord_8 : decode b_X_anyWord 8 = .ok (.getfield 44, 3) := by decide +kernel
theorem d_X_anyWord_11 : decode b_X_anyWord 11 = .ok (.iload_n 1, 1) := by decide +kernel
theorem d_X_anyWord_12 : decode b_X_anyWord 12 = .ok (.iconst 1, 1) := by decide +kernel
theorem d_X_anyWord_13 : decode b_X_anyWord 13 = .ok (.iastore, 1) := by decide +kernel
theorem d_X_anyWord_14 : decode b_X_anyWord 14 = .ok (.aload_n 0, 1) := by decide +kernel
theorem d_X_anyWord_15 : decode b_X_anyWord 15 = .ok (.getfield 47, 3) := by decide +kernel
theorem d_X_anyWord_18 : decode b_X_anyWord 18 = .ok (.iload_n 1, 1) := by decide +kernel
theorem d_X_anyWord_19 : decode b_X_anyWord 19 = .ok (.iconst 1, 1) := by decide +kernel
theorem d_X_anyWord_20 : decode b_X_anyWord 20 = .ok (.bastore, 1) := by decide +kernel
theorem d_X_anyWord_21 : decode b_X_anyWord 21 = .ok (.aload_n 0, 1) := by decide +kernel
theorem d_X_anyWord_22 : decode b_X_anyWord 22 = .ok (.getfield 50, 3) := by decide +kernel
theorem d_X_anyWord_25 : decode b_X_anyWord 25 = .ok (.iload_n 1, 1) := by decide +kernel
theorem d_X_anyWord_26 : decode b_X_anyWord 26 = .ok (.iconst 1, 1) := by decide +kernel
theorem d_X_anyWord_27 : decode b_X_anyWord 27 = .ok (.iastore, 1) := by decide +kernel
theorem d_X_anyWord_28 : decode b_X_anyWord 28 = .ok (.aload_n 0, 1) := by decide +kernel
theorem d_X_anyWord_29 : decode b_X_anyWord 29 = .ok (.getfield 53, 3) := by decide +kernel
theorem d_X_anyWord_32 : decode b_X_anyWord 32 = .ok (.iload_n 1, 1) := by decide +kernel
theorem d_X_anyWord_33 : decode b_X_anyWord 33 = .ok (.iconst 1, 1) := by decide +kernel
theorem d_X_anyWord_34 : decode b_X_anyWord 34 = .ok (.iastore, 1) := by decide +kernel
theorem d_X_anyWord_35 : decode b_X_anyWord 35 = .ok (.iconst 0, 1) := by decide +kernel
theorem d_X_anyWord_36 : decode b_X_anyWord 36 = .ok (.istore_n 2, 1) := by decide +kernel
theorem d_X_anyWord_37 : decode b_X_anyWord 37 = .ok (.iload_n 2, 1) := by decide +kernel
theorem d_X_anyWord_38 : decode b_X_anyWord 38 = .ok (.bipush 8, 2) := by decide +kernel
theorem d_X_anyWord_40 : decode b_X_anyWord 40 = .ok (.if_icmp .ge 21, 3) := by decide +kernel
theorem d_X_anyWord_43 : decode b_X_anyWord 43 = .ok (.aload_n 0, 1) := by decide +kernel
theorem d_X_anyWord_44 : decode b_X_anyWord 44 = .ok (.getfield 56, 3) := by decide +kernel
theorem d_X_anyWord_47 : decode b_X_anyWord 47 = .ok (.iload_n 1, 1) := by decide +kernel
theorem d_X_anyWord_48 : decode b_X_anyWord 48 = .ok (.bipush 8, 2) := by decide +kernel
theorem d_X_anyWord_50 : decode b_X_anyWord 50 = .ok (.imul, 1) := by decide +kernel
theorem d_X_anyWord_51 : decode b_X_anyWord 51 = .ok (.iload_n 2, 1) := by decide +kernel
theorem d_X_anyWord_52 : decode b_X_anyWord 52 = .ok (.iadd, 1) := by decide +kernel
theorem d_X_anyWord_53 : decode b_X_anyWord 53 = .ok (.iconst 0, 1) := by decide +kernel
theorem d_X_anyWord_54 : decode b_X_anyWord 54 = .ok (.iastore, 1) := by decide +kernel
theorem d_X_anyWord_55 : decode b_X_anyWord 55 = .ok (.iinc 2 1, 3) := by decide +kernel
theorem d_X_anyWord_58 : decode b_X_anyWord 58 = .ok (.goto (-21), 3) := by decide +kernel
theorem d_X_anyWord_61 : decode b_X_anyWord 61 = .ok (.aload_n 0, 1) := by decide +kernel
theorem d_X_anyWord_62 : decode b_X_anyWord 62 = .ok (.getfield 56, 3) := by decide +kernel
theorem d_X_anyWord_65 : decode b_X_anyWord 65 = .ok (.iload_n 1, 1) := by decide +kernel
theorem d_X_anyWord_66 : decode b_X_anyWord 66 = .ok (.bipush 8, 2) := by decide +kernel
theorem d_X_anyWord_68 : decode b_X_anyWord 68 = .ok (.imul, 1) := by decide +kernel
theorem d_X_anyWord_69 : decode b_X_anyWord 69 = .ok (.iconst 1, 1) := by decide +kernel
theorem d_X_anyWord_70 : decode b_X_anyWord 70 = .ok (.iastore, 1) := by decide +kernel
theorem d_X_anyWord_71 : decode b_X_anyWord 71 = .ok (.aload_n 0, 1) := by decide +kernel
theorem d_X_anyWord_72 : decode b_X_anyWord 72 = .ok (.iconst 0, 1) := by decide +kernel
theorem d_X_anyWord_73 : decode b_X_anyWord 73 = .ok (.putfield 91, 3) := by decide +kernel
theorem d_X_anyWord_76 : decode b_X_anyWord 76 = .ok (.return_, 1) := by decide +kernel
theorem d_X_letter_0 : decode b_X_letter 0 = .ok (.iload_n 1, 1) := by decide +kernel
theorem d_X_letter_1 : decode b_X_letter 1 = .ok (.ifCond .lt 8, 3) := by decide +kernel
theorem d_X_letter_4 : decode b_X_letter 4 = .ok (.iload_n 1, 1) := by decide +kernel
theorem d_X_letter_5 : decode b_X_letter 5 = .ok (.iconst 2, 1) := by decide +kernel
theorem d_X_letter_6 : decode b_X_letter 6 = .ok (.if_icmp .le 5, 3) := by decide +kernel
theorem d_X_letter_9 : decode b_X_letter 9 = .ok (.iconst (-1), 1) := by decide +kernel
theorem d_X_letter_10 : decode b_X_letter 10 = .ok (.ireturn, 1) := by decide +kernel
theorem d_X_letter_11 : decode b_X_letter 11 = .ok (.aload_n 0, 1) := by decide +kernel
theorem d_X_letter_12 : decode b_X_letter 12 = .ok (.getfield 95, 3) := by decide +kernel
theorem d_X_letter_15 : decode b_X_letter 15 = .ok (.bipush 6, 2) := by decide +kernel
theorem d_X_letter_17 : decode b_X_letter 17 = .ok (.if_icmp .eq 12, 3) := by decide +kernel
theorem d_X_letter_20 : decode b_X_letter 20 = .ok (.aload_n 0, 1) := by decide +kernel
theorem d_X_letter_21 : decode b_X_letter 21 = .ok (.getfield 98, 3) := by decide +kernel
theorem d_X_letter_24 : decode b_X_letter 24 = .ok (.bipush 8, 2) := by decide +kernel
theorem d_X_letter_26 : decode b_X_letter 26 = .ok (.if_icmp .ne 6, 3) := by decide +kernel
theorem d_X_letter_29 : decode b_X_letter 29 = .ok (.bipush (-2), 2) := by decide +kernel
theorem d_X_letter_31 : decode b_X_letter 31 = .ok (.ireturn, 1) := by decide +kernel
theorem d_X_letter_32 : decode b_X_letter 32 = .ok (.iconst 1, 1) := by decide +kernel
theorem d_X_letter_33 : decode b_X_letter 33 = .ok (.aload_n 0, 1) := by decide +kernel
theorem d_X_letter_34 : decode b_X_letter 34 = .ok (.getfield 98, 3) := by decide +kernel
theorem d_X_letter_37 : decode b_X_letter 37 = .ok (.ishl, 1) := by decide +kernel
theorem d_X_letter_38 : decode b_X_letter 38 = .ok (.istore_n 2, 1) := by decide +kernel
theorem d_X_letter_39 : decode b_X_letter 39 = .ok (.aload_n 0, 1) := by decide +kernel
theorem d_X_letter_40 : decode b_X_letter 40 = .ok (.iload_n 2, 1) := by decide +kernel
theorem d_X_letter_41 : decode b_X_letter 41 = .ok (.iload_n 2, 1) := by decide +kernel
theorem d_X_letter_42 : decode b_X_letter 42 = .ok (.iconst 0, 1) := by decide +kernel
theorem d_X_letter_43 : decode b_X_letter 43 = .ok (.invokevirtual 101, 3) := by decide +kernel
theorem d_X_letter_46 : decode b_X_letter 46 = .ok (.aload_n 0, 1) := by decide +kernel
theorem d_X_letter_47 : decode b_X_letter 47 = .ok (.getfield 32, 3) := by decide +kernel
theorem d_X_letter_50 : decode b_X_letter 50 = .ok (.aload_n 0, 1) := by decide +kernel
theorem d_X_letter_51 : decode b_X_letter 51 = .ok (.getfield 98, 3) := by decide +kernel
theorem d_X_letter_54 : decode b_X_letter 54 = .ok (.iload_n 1, 1) := by decide +kernel
theorem d_X_letter_55 : decode b_X_letter 55 = .ok (.iastore, 1) := by decide +kernel
theorem d_X_letter_56 : decode b_X_letter 56 = .ok (.aload_n 0, 1) := by decide +kernel
theorem d_X_letter_57 : decode b_X_letter 57 = .ok (.getfield 35, 3) := by decide +kernel
theorem d_X_letter_60 : decode b_X_letter 60 = .ok (.aload_n 0, 1) := by decide +kernel
theorem d_X_letter_61 : decode b_X_letter 61 = .ok (.getfield 98, 3) := by decide +kernel
theorem d_X_letter_64 : decode b_X_letter 64 = .ok (.iconst 0, 1) := by decide +kernel
theorem d_X_letter_65 : decode b_X_letter 65 = .ok (.iastore, 1) := by decide +kernel
theorem d_X_letter_66 : decode b_X_letter 66 = .ok (.aload_n 0, 1) := by decide +kernel
theorem d_X_letter_67 : decode b_X_letter 67 = .ok (.dup, 1) := by decide +kernel
theorem d_X_letter_68 : decode b_X_letter 68 = .ok (.getfield 98, 3) := by decide +kernel
theorem d_X_letter_71 : decode b_X_letter 71 = .ok (.iconst 1, 1) := by decide +kernel
theorem d_X_letter_72 : decode b_X_letter 72 = .ok (.iadd, 1) := by decide +kernel
theorem d_X_letter_73 : decode b_X_letter 73 = .ok (.putfield 98, 3) := by decide +kernel
theorem d_X_letter_76 : decode b_X_letter 76 = .ok (.aload_n 0, 1) := by decide +kernel
theorem d_X_letter_77 : decode b_X_letter 77 = .ok (.getfield 95, 3) := by decide +kernel
theorem d_X_letter_80 : decode b_X_letter 80 = .ok (.ireturn, 1) := by decide +kernel
theorem d_X_push_0 : decode b_X_push 0 = .ok (.aload_n 0, 1) := by decide +kernel
theorem d_X_push_1 : decode b_X_push 1 = .ok (.getfield 19, 3) := by decide +kernel
theorem d_X_push_4 : decode b_X_push 4 = .ok (.aload_n 0, 1) := by decide +kernel
theorem d_X_push_5 : decode b_X_push 5 = .ok (.getfield 95, 3) := by decide +kernel
theorem d_X_push_8 : decode b_X_push 8 = .ok (.aload_n 0, 1) := by decide +kernel
theorem d_X_push_9 : decode b_X_push 9 = .ok (.getfield 98, 3) := by decide +kernel
theorem d_X_push_12 : decode b_X_push 12 = .ok (.iastore, 1) := by decide +kernel
theorem d_X_push_13 : decode b_X_push 13 = .ok (.aload_n 0, 1) := by decide +kernel
theorem d_X_push_14 : decode b_X_push 14 = .ok (.getfield 22, 3) := by decide +kernel
theorem d_X_push_17 : decode b_X_push 17 = .ok (.aload_n 0, 1) := by decide +kernel
theorem d_X_push_18 : decode b_X_push 18 = .ok (.getfield 95, 3) := by decide +kernel
theorem d_X_push_21 : decode b_X_push 21 = .ok (.iload_n 1, 1) := by decide +kernel
theorem d_X_push_22 : decode b_X_push 22 = .ok (.iastore, 1) := by decide +kernel
theorem d_X_push_23 : decode b_X_push 23 = .ok (.aload_n 0, 1) := by decide +kernel
theorem d_X_push_24 : decode b_X_push 24 = .ok (.getfield 25, 3) := by decide +kernel
theorem d_X_push_27 : decode b_X_push 27 = .ok (.aload_n 0, 1) := by decide +kernel
theorem d_X_push_28 : decode b_X_push 28 = .ok (.getfield 95, 3) := by decide +kernel
theorem d_X_push_31 : decode b_X_push 31 = .ok (.iload_n 2, 1) := by decide +kernel
theorem d_X_push_32 : decode b_X_push 32 = .ok (.iastore, 1) := by decide +kernel
theorem d_X_push_33 : decode b_X_push 33 = .ok (.aload_n 0, 1) := by decide +kernel
theorem d_X_push_34 : decode b_X_push 34 = .ok (.getfield 28, 3) := by decide +kernel
theorem d_X_push_37 : decode b_X_push 37 = .ok (.aload_n 0, 1) := by decide +kernel
theorem d_X_push_38 : decode b_X_push 38 = .ok (.getfield 95, 3) := by decide +kernel
theorem d_X_push_41 : decode b_X_push 41 = .ok (.iload_n 3, 1) := by decide +kernel
theorem d_X_push_42 : decode b_X_push 42 = .ok (.bastore, 1) := by decide +kernel
theorem d_X_push_43 : decode b_X_push 43 = .ok (.aload_n 0, 1) := by decide +kernel
theorem d_X_push_44 : decode b_X_push 44 = .ok (.dup, 1) := by decide +kernel
theorem d_X_push_45 : decode b_X_push 45 = .ok (.getfield 95, 3) := by decide +kernel
theorem d_X_push_48 : decode b_X_push 48 = .ok (.iconst 1, 1) := by decide +kernel
theorem d_X_push_49 : decode b_X_push 49 = .ok (.iadd, 1) := by decide +kernel
theorem d_X_push_50 : decode b_X_push 50 = .ok (.putfield 95, 3) := by decide +kernel
theorem d_X_push_53 : decode b_X_push 53 = .ok (.return_, 1) := by decide +kernel
theorem d_X_unit_0 : decode b_X_unit 0 = .ok (.aload_n 0, 1) := by decide +kernel
theorem d_X_unit_1 : decode b_X_unit 1 = .ok (.getfield 95, 3) := by decide +kernel
theorem d_X_unit_4 : decode b_X_unit 4 = .ok (.bipush 6, 2) := by decide +kernel
theorem d_X_unit_6 : decode b_X_unit 6 = .ok (.if_icmp .ne 6, 3) := by decide +kernel
theorem d_X_unit_9 : decode b_X_unit 9 = .ok (.bipush (-2), 2) := by decide +kernel
theorem d_X_unit_11 : decode b_X_unit 11 = .ok (.ireturn, 1) := by decide +kernel
theorem d_X_unit_12 : decode b_X_unit 12 = .ok (.aload_n 0, 1) := by decide +kernel
theorem d_X_unit_13 : decode b_X_unit 13 = .ok (.iconst 0, 1) := by decide +kernel
theorem d_X_unit_14 : decode b_X_unit 14 = .ok (.iconst 0, 1) := by decide +kernel
theorem d_X_unit_15 : decode b_X_unit 15 = .ok (.iconst 1, 1) := by decide +kernel
theorem d_X_unit_16 : decode b_X_unit 16 = .ok (.invokevirtual 101, 3) := by decide +kernel
theorem d_X_unit_19 : decode b_X_unit 19 = .ok (.aload_n 0, 1) := by decide +kernel
theorem d_X_unit_20 : decode b_X_unit 20 = .ok (.getfield 95, 3) := by decide +kernel
theorem d_X_unit_23 : decode b_X_unit 23 = .ok (.ireturn, 1) := by decide +kernel
theorem d_X_cat_0 : decode b_X_cat 0 = .ok (.aload_n 0, 1) := by decide +kernel
theorem d_X_cat_1 : decode b_X_cat 1 = .ok (.getfield 95, 3) := by decide +kernel
theorem d_X_cat_4 : decode b_X_cat 4 = .ok (.iconst 2, 1) := by decide +kernel
theorem d_X_cat_5 : decode b_X_cat 5 = .ok (.if_icmp .ge 6, 3) := by decide +kernel
theorem d_X_cat_8 : decode b_X_cat 8 = .ok (.bipush (-3), 2) := by decide +kernel
theorem d_X_cat_10 : decode b_X_cat 10 = .ok (.ireturn, 1) := by decide +kernel
theorem d_X_cat_11 : decode b_X_cat 11 = .ok (.aload_n 0, 1) := by decide +kernel
theorem d_X_cat_12 : decode b_X_cat 12 = .ok (.getfield 95, 3) := by decide +kernel
theorem d_X_cat_15 : decode b_X_cat 15 = .ok (.iconst 1, 1) := by decide +kernel
theorem d_X_cat_16 : decode b_X_cat 16 = .ok (.isub, 1) := by decide +kernel
theorem d_X_cat_17 : decode b_X_cat 17 = .ok (.istore_n 1, 1) := by decide +kernel
theorem d_X_cat_18 : decode b_X_cat 18 = .ok (.aload_n 0, 1) := by decide +kernel
theorem d_X_cat_19 : decode b_X_cat 19 = .ok (.getfield 95, 3) := by decide +kernel
theorem d_X_cat_22 : decode b_X_cat 22 = .ok (.iconst 2, 1) := by decide +kernel
theorem d_X_cat_23 : decode b_X_cat 23 = .ok (.isub, 1) := by decide +kernel
theorem d_X_cat_24 : decode b_X_cat 24 = .ok (.istore_n 2, 1) := by decide +kernel
theorem d_X_cat_25 : decode b_X_cat 25 = .ok (.aload_n 0, 1) := by decide +kernel
theorem d_X_cat_26 : decode b_X_cat 26 = .ok (.aload_n 0, 1) := by decide +kernel
theorem d_X_cat_27 : decode b_X_cat 27 = .ok (.getfield 25, 3) := by decide +kernel
theorem d_X_cat_30 : decode b_X_cat 30 = .ok (.iload_n 2, 1) := by decide +kernel
theorem d_X_cat_31 : decode b_X_cat 31 = .ok (.iaload, 1) := by decide +kernel
theorem d_X_cat_32 : decode b_X_cat 32 = .ok (.aload_n 0, 1) := by decide +kernel
theorem d_X_cat_33 : decode b_X_cat 33 = .ok (.getfield 22, 3) := by decide +kernel
theorem d_X_cat_36 : decode b_X_cat 36 = .ok (.iload_n 1, 1) := by decide +kernel
theorem d_X_cat_37 : decode b_X_cat 37 = .ok (.iaload, 1) := by decide +kernel
theorem d_X_cat_38 : decode b_X_cat 38 = .ok (.invokevirtual 105, 3) := by decide +kernel
theorem d_X_cat_41 : decode b_X_cat 41 = .ok (.aload_n 0, 1) := by decide +kernel
theorem d_X_cat_42 : decode b_X_cat 42 = .ok (.getfield 28, 3) := by decide +kernel
theorem d_X_cat_45 : decode b_X_cat 45 = .ok (.iload_n 2, 1) := by decide +kernel
theorem d_X_cat_46 : decode b_X_cat 46 = .ok (.baload, 1) := by decide +kernel
theorem d_X_cat_47 : decode b_X_cat 47 = .ok (.ifCond .eq 22, 3) := by decide +kernel
theorem d_X_cat_50 : decode b_X_cat 50 = .ok (.aload_n 0, 1) := by decide +kernel
theorem d_X_cat_51 : decode b_X_cat 51 = .ok (.getfield 22, 3) := by decide +kernel
theorem d_X_cat_54 : decode b_X_cat 54 = .ok (.iload_n 2, 1) := by decide +kernel
theorem d_X_cat_55 : decode b_X_cat 55 = .ok (.aload_n 0, 1) := by decide +kernel
theorem d_X_cat_56 : decode b_X_cat 56 = .ok (.getfield 22, 3) := by decide +kernel
theorem d_X_cat_59 : decode b_X_cat 59 = .ok (.iload_n 2, 1) := by decide +kernel
theorem d_X_cat_60 : decode b_X_cat 60 = .ok (.iaload, 1) := by decide +kernel
theorem d_X_cat_61 : decode b_X_cat 61 = .ok (.aload_n 0, 1) := by decide +kernel
theorem d_X_cat_62 : decode b_X_cat 62 = .ok (.getfield 22, 3) := by decide +kernel
theorem d_X_cat_65 : decode b_X_cat 65 = .ok (.iload_n 1, 1) := by decide +kernel
theorem d_X_cat_66 : decode b_X_cat 66 = .ok (.iaload, 1) := by decide +kernel
theorem d_X_cat_67 : decode b_X_cat 67 = .ok (.ior, 1) := by decide +kernel
theorem d_X_cat_68 : decode b_X_cat 68 = .ok (.iastore, 1) := by decide +kernel
theorem d_X_cat_69 : decode b_X_cat 69 = .ok (.aload_n 0, 1) := by decide +kernel
theorem d_X_cat_70 : decode b_X_cat 70 = .ok (.getfield 28, 3) := by decide +kernel
theorem d_X_cat_73 : decode b_X_cat 73 = .ok (.iload_n 1, 1) := by decide +kernel
theorem d_X_cat_74 : decode b_X_cat 74 = .ok (.baload, 1) := by decide +kernel
theorem d_X_cat_75 : decode b_X_cat 75 = .ok (.ifCond .eq 25, 3) := by decide +kernel
theorem d_X_cat_78 : decode b_X_cat 78 = .ok (.aload_n 0, 1) := by decide +kernel
theorem d_X_cat_79 : decode b_X_cat 79 = .ok (.getfield 25, 3) := by decide +kernel
theorem d_X_cat_82 : decode b_X_cat 82 = .ok (.iload_n 2, 1) := by decide +kernel
theorem d_X_cat_83 : decode b_X_cat 83 = .ok (.aload_n 0, 1) := by decide +kernel
theorem d_X_cat_84 : decode b_X_cat 84 = .ok (.getfield 25, 3) := by decide +kernel
theorem d_X_cat_87 : decode b_X_cat 87 = .ok (.iload_n 2, 1) := by decide +kernel
theorem d_X_cat_88 : decode b_X_cat 88 = .ok (.iaload, 1) := by decide +kernel
theorem d_X_cat_89 : decode b_X_cat 89 = .ok (.aload_n 0, 1) := by decide +kernel
theorem d_X_cat_90 : decode b_X_cat 90 = .ok (.getfield 25, 3) := by decide +kernel
theorem d_X_cat_93 : decode b_X_cat 93 = .ok (.iload_n 1, 1) := by decide +kernel
theorem d_X_cat_94 : decode b_X_cat 94 = .ok (.iaload, 1) := by decide +kernel
theorem d_X_cat_95 : decode b_X_cat 95 = .ok (.ior, 1) := by decide +kernel
theorem d_X_cat_96 : decode b_X_cat 96 = .ok (.iastore, 1) := by decide +kernel
theorem d_X_cat_97 : decode b_X_cat 97 = .ok (.goto 15, 3) := by decide +kernel
theorem d_X_cat_100 : decode b_X_cat 100 = .ok (.aload_n 0, 1) := by decide +kernel
theorem d_X_cat_101 : decode b_X_cat 101 = .ok (.getfield 25, 3) := by decide +kernel
theorem d_X_cat_104 : decode b_X_cat 104 = .ok (.iload_n 2, 1) := by decide +kernel
theorem d_X_cat_105 : decode b_X_cat 105 = .ok (.aload_n 0, 1) := by decide +kernel
theorem d_X_cat_106 : decode b_X_cat 106 = .ok (.getfield 25, 3) := by decide +kernel
theorem d_X_cat_109 : decode b_X_cat 109 = .ok (.iload_n 1, 1) := by decide +kernel
theorem d_X_cat_110 : decode b_X_cat 110 = .ok (.iaload, 1) := by decide +kernel
theorem d_X_cat_111 : decode b_X_cat 111 = .ok (.iastore, 1) := by decide +kernel
theorem d_X_cat_112 : decode b_X_cat 112 = .ok (.aload_n 0, 1) := by decide +kernel
theorem d_X_cat_113 : decode b_X_cat 113 = .ok (.getfield 28, 3) := by decide +kernel
theorem d_X_cat_116 : decode b_X_cat 116 = .ok (.iload_n 2, 1) := by decide +kernel
theorem d_X_cat_117 : decode b_X_cat 117 = .ok (.aload_n 0, 1) := by decide +kernel
theorem d_X_cat_118 : decode b_X_cat 118 = .ok (.getfield 28, 3) := by decide +kernel
theorem d_X_cat_121 : decode b_X_cat 121 = .ok (.iload_n 2, 1) := by decide +kernel
theorem d_X_cat_122 : decode b_X_cat 122 = .ok (.baload, 1) := by decide +kernel
theorem d_X_cat_123 : decode b_X_cat 123 = .ok (.ifCond .eq 16, 3) := by decide +kernel
theorem d_X_cat_126 : decode b_X_cat 126 = .ok (.aload_n 0, 1) := by decide +kernel
theorem d_X_cat_127 : decode b_X_cat 127 = .ok (.getfield 28, 3) := by decide +kernel
theorem d_X_cat_130 : decode b_X_cat 130 = .ok (.iload_n 1, 1) := by decide +kernel
theorem d_X_cat_131 : decode b_X_cat 131 = .ok (.baload, 1) := by decide +kernel
theorem d_X_cat_132 : decode b_X_cat 132 = .ok (.ifCond .eq 7, 3) := by decide +kernel
theorem d_X_cat_135 : decode b_X_cat 135 = .ok (.iconst 1, 1) := by decide +kernel
theorem d_X_cat_136 : decode b_X_cat 136 = .ok (.goto 4, 3) := by decide +kernel
theorem d_X_cat_139 : decode b_X_cat 139 = .ok (.iconst 0, 1) := by decide +kernel
theorem d_X_cat_140 : decode b_X_cat 140 = .ok (.bastore, 1) := by decide +kernel
theorem d_X_cat_141 : decode b_X_cat 141 = .ok (.aload_n 0, 1) := by decide +kernel
theorem d_X_cat_142 : decode b_X_cat 142 = .ok (.iload_n 1, 1) := by decide +kernel
theorem d_X_cat_143 : decode b_X_cat 143 = .ok (.putfield 95, 3) := by decide +kernel
theorem d_X_cat_146 : decode b_X_cat 146 = .ok (.aload_n 0, 1) := by decide +kernel
theorem d_X_cat_147 : decode b_X_cat 147 = .ok (.getfield 95, 3) := by decide +kernel
theorem d_X_cat_150 : decode b_X_cat 150 = .ok (.ireturn, 1) := by decide +kernel
theorem d_X_link_0 : decode b_X_link 0 = .ok (.iconst 0, 1) := by decide +kernel
theorem d_X_link_1 : decode b_X_link 1 = .ok (.istore_n 3, 1) := by decide +kernel
theorem d_X_link_2 : decode b_X_link 2 = .ok (.iload_n 3, 1) := by decide +kernel
theorem d_X_link_3 : decode b_X_link 3 = .ok (.bipush 8, 2) := by decide +kernel
theorem d_X_link_5 : decode b_X_link 5 = .ok (.if_icmp .ge 32, 3) := by decide +kernel
theorem d_X_link_8 : decode b_X_link 8 = .ok (.iload_n 1, 1) := by decide +kernel
theorem d_X_link_9 : decode b_X_link 9 = .ok (.iload_n 3, 1) := by decide +kernel
theorem d_X_link_10 : decode b_X_link 10 = .ok (.ishr, 1) := by decide +kernel
theorem d_X_link_11 : decode b_X_link 11 = .ok (.iconst 1, 1) := by decide +kernel
theorem d_X_link_12 : decode b_X_link 12 = .ok (.iand, 1) := by decide +kernel
theorem d_X_link_13 : decode b_X_link 13 = .ok (.iconst 1, 1) := by decide +kernel
theorem d_X_link_14 : decode b_X_link 14 = .ok (.if_icmp .ne 17, 3) := by decide +kernel
theorem d_X_link_17 : decode b_X_link 17 = .ok (.aload_n 0, 1) := by decide +kernel
theorem d_X_link_18 : decode b_X_link 18 = .ok (.getfield 35, 3) := by decide +kernel
theorem d_X_link_21 : decode b_X_link 21 = .ok (.iload_n 3, 1) := by decide +kernel
theorem d_X_link_22 : decode b_X_link 22 = .ok (.aload_n 0, 1) := by decide +kernel
theorem d_X_link_23 : decode b_X_link 23 = .ok (.getfield 35, 3) := by decide +kernel
theorem d_X_link_26 : decode b_X_link 26 = .ok (.iload_n 3, 1) := by decide +kernel
theorem d_X_link_27 : decode b_X_link 27 = .ok (.iaload, 1) := by decide +kernel
theorem d_X_link_28 : decode b_X_link 28 = .ok (.iload_n 2, 1) := by decide +kernel
theorem d_X_link_29 : decode b_X_link 29 = .ok (.ior, 1) := by decide +kernel
theorem d_X_link_30 : decode b_X_link 30 = .ok (.iastore, 1) := by decide +kernel
theorem d_X_link_31 : decode b_X_link 31 = .ok (.iinc 3 1, 3) := by decide +kernel
theorem d_X_link_34 : decode b_X_link 34 = .ok (.goto (-32), 3) := by decide +kernel
theorem d_X_link_37 : decode b_X_link 37 = .ok (.return_, 1) := by decide +kernel
end
section
theorem d_X_alt_0 : decode b_X_alt 0 = .ok (.aload_n 0, 1) := by decide +kernel
theorem d_X_alt_1 : decode b_X_alt 1 = .ok (.getfield 95, 3) := by decide +kernel
theorem d_X_alt_4 : decode b_X_alt 4 = .ok (.iconst 2, 1) := by decide +kernel
theorem d_X_alt_5 : decode b_X_alt 5 = .ok (.if_icmp .ge 6, 3) := by decide +kernel
theorem d_X_alt_8 : decode b_X_alt 8 = .ok (.bipush (-3), 2) := by decide +kernel
theorem d_X_alt_10 : decode b_X_alt 10 = .ok (.ireturn, 1) := by decide +kernel
theorem d_X_alt_11 : decode b_X_alt 11 = .ok (.aload_n 0, 1) := by decide +kernel
theorem d_X_alt_12 : decode b_X_alt 12 = .ok (.getfield 95, 3) := by decide +kernel
theorem d_X_alt_15 : decode b_X_alt 15 = .ok (.iconst 1, 1) := by decide +kernel
theorem d_X_alt_16 : decode b_X_alt 16 = .ok (.isub, 1) := by decide +kernel
theorem d_X_alt_17 : decode b_X_alt 17 = .ok (.istore_n 1, 1) := by decide +kernel
theorem d_X_alt_18 : decode b_X_alt 18 = .ok (.aload_n 0, 1) := by decide +kernel
theorem d_X_alt_19 : decode b_X_alt 19 = .ok (.getfield 95, 3) := by decide +kernel
theorem d_X_alt_22 : decode b_X_alt 22 = .ok (.iconst 2, 1) := by decide +kernel
theorem d_X_alt_23 : decode b_X_alt 23 = .ok (.isub, 1) := by decide +kernel
theorem d_X_alt_24 : decode b_X_alt 24 = .ok (.istore_n 2, 1) := by decide +kernel
theorem d_X_alt_25 : decode b_X_alt 25 = .ok (.aload_n 0, 1) := by decide +kernel
theorem d_X_alt_26 : decode b_X_alt 26 = .ok (.getfield 22, 3) := by decide +kernel
theorem d_X_alt_29 : decode b_X_alt 29 = .ok (.iload_n 2, 1) := by decide +kernel
theorem d_X_alt_30 : decode b_X_alt 30 = .ok (.aload_n 0, 1) := by decide +kernel
theorem d_X_alt_31 : decode b_X_alt 31 = .ok (.getfield 22, 3) := by decide +kernel
theorem d_X_alt_34 : decode b_X_alt 34 = .ok (.iload_n 2, 1) := by decide +kernel
theorem d_X_alt_35 : decode b_X_alt 35 = .ok (.iaload, 1) := by decide +kernel
theorem d_X_alt_36 : decode b_X_alt 36 = .ok (.aload_n 0, 1) := by decide +kernel
theorem d_X_alt_37 : decode b_X_alt 37 = .ok (.getfield 22, 3) := by decide +kernel
theorem d_X_alt_40 : decode b_X_alt 40 = .ok (.iload_n 1, 1) := by decide +kernel
theorem d_X_alt_41 : decode b_X_alt 41 = .ok (.iaload, 1) := by decide +kernel
theorem d_X_alt_42 : decode b_X_alt 42 = .ok (.ior, 1) := by decide +kernel
theorem d_X_alt_43 : decode b_X_alt 43 = .ok (.iastore, 1) := by decide +kernel
theorem d_X_alt_44 : decode b_X_alt 44 = .ok (.aload_n 0, 1) := by decide +kernel
theorem d_X_alt_45 : decode b_X_alt 45 = .ok (.getfield 25, 3) := by decide +kernel
theorem d_X_alt_48 : decode b_X_alt 48 = .ok (.iload_n 2, 1) := by decide +kernel
theorem d_X_alt_49 : decode b_X_alt 49 = .ok (.aload_n 0, 1) := by decide +kernel
theorem d_X_alt_50 : decode b_X_alt 50 = .ok (.getfield 25, 3) := by decide +kernel
theorem d_X_alt_53 : decode b_X_alt 53 = .ok (.iload_n 2, 1) := by decide +kernel
theorem d_X_alt_54 : decode b_X_alt 54 = .ok (.iaload, 1) := by decide +kernel
theorem d_X_alt_55 : decode b_X_alt 55 = .ok (.aload_n 0, 1) := by decide +kernel
theorem d_X_alt_56 : decode b_X_alt 56 = .ok (.getfield 25, 3) := by decide +kernel
theorem d_X_alt_59 : decode b_X_alt 59 = .ok (.iload_n 1, 1) := by decide +kernel
theorem d_X_alt_60 : decode b_X_alt 60 = .ok (.iaload, 1) := by decide +kernel
theorem d_X_alt_61 : decode b_X_alt 61 = .ok (.ior, 1) := by decide +kernel
theorem d_X_alt_62 : decode b_X_alt 62 = .ok (.iastore, 1) := by decide +kernel
theorem d_X_alt_63 : decode b_X_alt 63 = .ok (.aload_n 0, 1) := by decide +kernel
theorem d_X_alt_64 : decode b_X_alt 64 = .ok (.getfield 28, 3) := by decide +kernel
theorem d_X_alt_67 : decode b_X_alt 67 = .ok (.iload_n 2, 1) := by decide +kernel
theorem d_X_alt_68 : decode b_X_alt 68 = .ok (.aload_n 0, 1) := by decide +kernel
theorem d_X_alt_69 : decode b_X_alt 69 = .ok (.getfield 28, 3) := by decide +kernel
theorem d_X_alt_72 : decode b_X_alt 72 = .ok (.iload_n 2, 1) := by decide +kernel
theorem d_X_alt_73 : decode b_X_alt 73 = .ok (.baload, 1) := by decide +kernel
theorem d_X_alt_74 : decode b_X_alt 74 = .ok (.ifCond .ne 12, 3) := by decide +kernel
theorem d_X_alt_77 : decode b_X_alt 77 = .ok (.aload_n 0, 1) := by decide +kernel
theorem d_X_alt_78 : decode b_X_alt 78 = .ok (.getfield 28, 3) := by decide +kernel
theorem d_X_alt_81 : decode b_X_alt 81 = .ok (.iload_n 1, 1) := by decide +kernel
theorem d_X_alt_82 : decode b_X_alt 82 = .ok (.baload, 1) := by decide +kernel
theorem d_X_alt_83 : decode b_X_alt 83 = .ok (.ifCond .eq 7, 3) := by decide +kernel
theorem d_X_alt_86 : decode b_X_alt 86 = .ok (.iconst 1, 1) := by decide +kernel
theorem d_X_alt_87 : decode b_X_alt 87 = .ok (.goto 4, 3) := by decide +kernel
theorem d_X_alt_90 : decode b_X_alt 90 = .ok (.iconst 0, 1) := by decide +kernel
theorem d_X_alt_91 : decode b_X_alt 91 = .ok (.bastore, 1) := by decide +kernel
theorem d_X_alt_92 : decode b_X_alt 92 = .ok (.aload_n 0, 1) := by decide +kernel
theorem d_X_alt_93 : decode b_X_alt 93 = .ok (.iload_n 1, 1) := by decide +kernel
theorem d_X_alt_94 : decode b_X_alt 94 = .ok (.putfield 95, 3) := by decide +kernel
theorem d_X_alt_97 : decode b_X_alt 97 = .ok (.aload_n 0, 1) := by decide +kernel
theorem d_X_alt_98 : decode b_X_alt 98 = .ok (.getfield 95, 3) := by decide +kernel
theorem d_X_alt_101 : decode b_X_alt 101 = .ok (.ireturn, 1) := by decide +kernel
theorem d_X_star_0 : decode b_X_star 0 = .ok (.aload_n 0, 1) := by decide +kernel
theorem d_X_star_1 : decode b_X_star 1 = .ok (.getfield 95, 3) := by decide +kernel
theorem d_X_star_4 : decode b_X_star 4 = .ok (.iconst 1, 1) := by decide +kernel
theorem d_X_star_5 : decode b_X_star 5 = .ok (.if_icmp .ge 6, 3) := by decide +kernel
theorem d_X_star_8 : decode b_X_star 8 = .ok (.bipush (-3), 2) := by decide +kernel
theorem d_X_star_10 : decode b_X_star 10 = .ok (.ireturn, 1) := by decide +kernel
theorem d_X_star_11 : decode b_X_star 11 = .ok (.aload_n 0, 1) := by decide +kernel
theorem d_X_star_12 : decode b_X_star 12 = .ok (.getfield 95, 3) := by decide +kernel
theorem d_X_star_15 : decode b_X_star 15 = .ok (.iconst 1, 1) := by decide +kernel
theorem d_X_star_16 : decode b_X_star 16 = .ok (.isub, 1) := by decide +kernel
theorem d_X_star_17 : decode b_X_star 17 = .ok (.istore_n 1, 1) := by decide +kernel
theorem d_X_star_18 : decode b_X_star 18 = .ok (.aload_n 0, 1) := by decide +kernel
theorem d_X_star_19 : decode b_X_star 19 = .ok (.aload_n 0, 1) := by decide +kernel
theorem d_X_star_20 : decode b_X_star 20 = .ok (.getfield 25, 3) := by decide +kernel
theorem d_X_star_23 : decode b_X_star 23 = .ok (.iload_n 1, 1) := by decide +kernel
theorem d_X_star_24 : decode b_X_star 24 = .ok (.iaload, 1) := by decide +kernel
theorem d_X_star_25 : decode b_X_star 25 = .ok (.aload_n 0, 1) := by decide +kernel
theorem d_X_star_26 : decode b_X_star 26 = .ok (.getfield 22, 3) := by decide +kernel
theorem d_X_star_29 : decode b_X_star 29 = .ok (.iload_n 1, 1) := by decide +kernel
theorem d_X_star_30 : decode b_X_star 30 = .ok (.iaload, 1) := by decide +kernel
theorem d_X_star_31 : decode b_X_star 31 = .ok (.invokevirtual 105, 3) := by decide +kernel
theorem d_X_star_34 : decode b_X_star 34 = .ok (.aload_n 0, 1) := by decide +kernel
theorem d_X_star_35 : decode b_X_star 35 = .ok (.getfield 28, 3) := by decide +kernel
theorem d_X_star_38 : decode b_X_star 38 = .ok (.iload_n 1, 1) := by decide +kernel
theorem d_X_star_39 : decode b_X_star 39 = .ok (.iconst 1, 1) := by decide +kernel
theorem d_X_star_40 : decode b_X_star 40 = .ok (.bastore, 1) := by decide +kernel
theorem d_X_star_41 : decode b_X_star 41 = .ok (.aload_n 0, 1) := by decide +kernel
theorem d_X_star_42 : decode b_X_star 42 = .ok (.getfield 95, 3) := by decide +kernel
theorem d_X_star_45 : decode b_X_star 45 = .ok (.ireturn, 1) := by decide +kernel
theorem d_X_reverse_0 : decode b_X_reverse 0 = .ok (.aload_n 0, 1) := by decide +kernel
theorem d_X_reverse_1 : decode b_X_reverse 1 = .ok (.getfield 95, 3) := by decide +kernel
theorem d_X_reverse_4 : decode b_X_reverse 4 = .ok (.iconst 1, 1) := by decide +kernel
theorem d_X_reverse_5 : decode b_X_reverse 5 = .ok (.if_icmp .ge 6, 3) := by decide +kernel
theorem d_X_reverse_8 : decode b_X_reverse 8 = .ok (.bipush (-3), 2) := by decide +kernel
theorem d_X_reverse_10 : decode b_X_reverse 10 = .ok (.ireturn, 1) := by decide +kernel
theorem d_X_reverse_11 : decode b_X_reverse 11 = .ok (.aload_n 0, 1) := by decide +kernel
theorem d_X_reverse_12 : decode b_X_reverse 12 = .ok (.getfield 95, 3) := by decide +kernel
theorem d_X_reverse_15 : decode b_X_reverse 15 = .ok (.iconst 1, 1) := by decide +kernel
theorem d_X_reverse_16 : decode b_X_reverse 16 = .ok (.isub, 1) := by decide +kernel
theorem d_X_reverse_17 : decode b_X_reverse 17 = .ok (.istore_n 1, 1) := by decide +kernel
theorem d_X_reverse_18 : decode b_X_reverse 18 = .ok (.iconst 0, 1) := by decide +kernel
theorem d_X_reverse_19 : decode b_X_reverse 19 = .ok (.istore_n 2, 1) := by decide +kernel
theorem d_X_reverse_20 : decode b_X_reverse 20 = .ok (.iload_n 2, 1) := by decide +kernel
theorem d_X_reverse_21 : decode b_X_reverse 21 = .ok (.bipush 8, 2) := by decide +kernel
theorem d_X_reverse_23 : decode b_X_reverse 23 = .ok (.if_icmp .ge 16, 3) := by decide +kernel
theorem d_X_reverse_26 : decode b_X_reverse 26 = .ok (.aload_n 0, 1) := by decide +kernel
theorem d_X_reverse_27 : decode b_X_reverse 27 = .ok (.getfield 38, 3) := by decide +kernel
theorem d_X_reverse_30 : decode b_X_reverse 30 = .ok (.iload_n 2, 1) := by decide +kernel
theorem d_X_reverse_31 : decode b_X_reverse 31 = .ok (.iconst 0, 1) := by decide +kernel
theorem d_X_reverse_32 : decode b_X_reverse 32 = .ok (.iastore, 1) := by decide +kernel
theorem d_X_reverse_33 : decode b_X_reverse 33 = .ok (.iinc 2 1, 3) := by decide +kernel
theorem d_X_reverse_36 : decode b_X_reverse 36 = .ok (.goto (-16), 3) := by decide +kernel
theorem d_X_reverse_39 : decode b_X_reverse 39 = .ok (.aload_n 0, 1) := by decide +kernel
theorem d_X_reverse_40 : decode b_X_reverse 40 = .ok (.getfield 19, 3) := by decide +kernel
theorem d_X_reverse_43 : decode b_X_reverse 43 = .ok (.iload_n 1, 1) := by decide +kernel
theorem d_X_reverse_44 : decode b_X_reverse 44 = .ok (.iaload, 1) := by decide +kernel
theorem d_X_reverse_45 : decode b_X_reverse 45 = .ok (.istore_n 2, 1) := by decide +kernel
theorem d_X_reverse_46 : decode b_X_reverse 46 = .ok (.iload_n 2, 1) := by decide +kernel
theorem d_X_reverse_47 : decode b_X_reverse 47 = .ok (.aload_n 0, 1) := by decide +kernel
theorem d_X_reverse_48 : decode b_X_reverse 48 = .ok (.getfield 98, 3) := by decide +kernel
theorem d_X_reverse_51 : decode b_X_reverse 51 = .ok (.if_icmp .ge 14, 3) := by decide +kernel
theorem d_X_reverse_54 : decode b_X_reverse 54 = .ok (.aload_n 0, 1) := by decide +kernel
theorem d_X_reverse_55 : decode b_X_reverse 55 = .ok (.iload_n 2, 1) := by decide +kernel
theorem d_X_reverse_56 : decode b_X_reverse 56 = .ok (.invokevirtual 109, 3) := by decide +kernel
theorem d_X_reverse_59 : decode b_X_reverse 59 = .ok (.iinc 2 1, 3) := by decide +kernel
theorem d_X_reverse_62 : decode b_X_reverse 62 = .ok (.goto (-16), 3) := by decide +kernel
theorem d_X_reverse_65 : decode b_X_reverse 65 = .ok (.aload_n 0, 1) := by decide +kernel
theorem d_X_reverse_66 : decode b_X_reverse 66 = .ok (.getfield 19, 3) := by decide +kernel
theorem d_X_reverse_69 : decode b_X_reverse 69 = .ok (.iload_n 1, 1) := by decide +kernel
theorem d_X_reverse_70 : decode b_X_reverse 70 = .ok (.iaload, 1) := by decide +kernel
theorem d_X_reverse_71 : decode b_X_reverse 71 = .ok (.istore_n 2, 1) := by decide +kernel
theorem d_X_reverse_72 : decode b_X_reverse 72 = .ok (.iload_n 2, 1) := by decide +kernel
theorem d_X_reverse_73 : decode b_X_reverse 73 = .ok (.aload_n 0, 1) := by decide +kernel
theorem d_X_reverse_74 : decode b_X_reverse 74 = .ok (.getfield 98, 3) := by decide +kernel
theorem d_X_reverse_77 : decode b_X_reverse 77 = .ok (.if_icmp .ge 21, 3) := by decide +kernel
theorem d_X_reverse_80 : decode b_X_reverse 80 = .ok (.aload_n 0, 1) := by decide +kernel
theorem d_X_reverse_81 : decode b_X_reverse 81 = .ok (.getfield 35, 3) := by decide +kernel
theorem d_X_reverse_84 : decode b_X_reverse 84 = .ok (.iload_n 2, 1) := by decide +kernel
theorem d_X_reverse_85 : decode b_X_reverse 85 = .ok (.aload_n 0, 1) := by decide +kernel
theorem d_X_reverse_86 : decode b_X_reverse 86 = .ok (.getfield 38, 3) := by decide +kernel
theorem d_X_reverse_89 : decode b_X_reverse 89 = .ok (.iload_n 2, 1) := by decide +kernel
theorem d_X_reverse_90 : decode b_X_reverse 90 = .ok (.iaload, 1) := by decide +kernel
theorem d_X_reverse_91 : decode b_X_reverse 91 = .ok (.iastore, 1) := by decide +kernel
theorem d_X_reverse_92 : decode b_X_reverse 92 = .ok (.iinc 2 1, 3) := by decide +kernel
theorem d_X_reverse_95 : decode b_X_reverse 95 = .ok (.goto (-23), 3) := by decide +kernel
theorem d_X_reverse_98 : decode b_X_reverse 98 = .ok (.aload_n 0, 1) := by decide +kernel
theorem d_X_reverse_99 : decode b_X_reverse 99 = .ok (.getfield 22, 3) := by decide +kernel
theorem d_X_reverse_102 : decode b_X_reverse 102 = .ok (.iload_n 1, 1) := by decide +kernel
theorem d_X_reverse_103 : decode b_X_reverse 103 = .ok (.iaload, 1) := by decide +kernel
theorem d_X_reverse_104 : decode b_X_reverse 104 = .ok (.istore_n 2, 1) := by decide +kernel
theorem d_X_reverse_105 : decode b_X_reverse 105 = .ok (.aload_n 0, 1) := by decide +kernel
theorem d_X_reverse_106 : decode b_X_reverse 106 = .ok (.getfield 22, 3) := by decide +kernel
theorem d_X_reverse_109 : decode b_X_reverse 109 = .ok (.iload_n 1, 1) := by decide +kernel
theorem d_X_reverse_110 : decode b_X_reverse 110 = .ok (.aload_n 0, 1) := by decide +kernel
theorem d_X_reverse_111 : decode b_X_reverse 111 = .ok (.getfield 25, 3) := by decide +kernel
theorem d_X_reverse_114 : decode b_X_reverse 114 = .ok (.iload_n 1, 1) := by decide +kernel
theorem d_X_reverse_115 : decode b_X_reverse 115 = .ok (.iaload, 1) := by decide +kernel
theorem d_X_reverse_116 : decode b_X_reverse 116 = .ok (.iastore, 1) := by decide +kernel
theorem d_X_reverse_117 : decode b_X_reverse 117 = .ok (.aload_n 0, 1) := by decide +kernel
theorem d_X_reverse_118 : decode b_X_reverse 118 = .ok (.getfield 25, 3) := by decide +kernel
theorem d_X_reverse_121 : decode b_X_reverse 121 = .ok (.iload_n 1, 1) := by decide +kernel
theorem d_X_reverse_122 : decode b_X_reverse 122 = .ok (.iload_n 2, 1) := by decide +kernel
theorem d_X_reverse_123 : decode b_X_reverse 123 = .ok (.iastore, 1) := by decide +kernel
theorem d_X_reverse_124 : decode b_X_reverse 124 = .ok (.aload_n 0, 1) := by decide +kernel
theorem d_X_reverse_125 : decode b_X_reverse 125 = .ok (.getfield 95, 3) := by decide +kernel
theorem d_X_reverse_128 : decode b_X_reverse 128 = .ok (.ireturn, 1) := by decide +kernel
theorem d_X_turn_0 : decode b_X_turn 0 = .ok (.iconst 0, 1) := by decide +kernel
theorem d_X_turn_1 : decode b_X_turn 1 = .ok (.istore_n 2, 1) := by decide +kernel
theorem d_X_turn_2 : decode b_X_turn 2 = .ok (.iload_n 2, 1) := by decide +kernel
theorem d_X_turn_3 : decode b_X_turn 3 = .ok (.bipush 8, 2) := by decide +kernel
theorem d_X_turn_5 : decode b_X_turn 5 = .ok (.if_icmp .ge 39, 3) := by decide +kernel
theorem d_X_turn_8 : decode b_X_turn 8 = .ok (.aload_n 0, 1) := by decide +kernel
theorem d_X_turn_9 : decode b_X_turn 9 = .ok (.getfield 35, 3) := by decide +kernel
theorem d_X_turn_12 : decode b_X_turn 12 = .ok (.iload_n 1, 1) := by decide +kernel
theorem d_X_turn_13 : decode b_X_turn 13 = .ok (.iaload, 1) := by decide +kernel
theorem d_X_turn_14 : decode b_X_turn 14 = .ok (.iload_n 2, 1) := by decide +kernel
theorem d_X_turn_15 : decode b_X_turn 15 = .ok (.ishr, 1) := by decide +kernel
theorem d_X_turn_16 : decode b_X_turn 16 = .ok (.iconst 1, 1) := by decide +kernel
theorem d_X_turn_17 : decode b_X_turn 17 = .ok (.iand, 1) := by decide +kernel
theorem d_X_turn_18 : decode b_X_turn 18 = .ok (.iconst 1, 1) := by decide +kernel
theorem d_X_turn_19 : decode b_X_turn 19 = .ok (.if_icmp .ne 19, 3) := by decide +kernel
theorem d_X_turn_22 : decode b_X_turn 22 = .ok (.aload_n 0, 1) := by decide +kernel
theorem d_X_turn_23 : decode b_X_turn 23 = .ok (.getfield 38, 3) := by decide +kernel
theorem d_X_turn_26 : decode b_X_turn 26 = .ok (.iload_n 2, 1) := by decide +kernel
theorem d_X_turn_27 : decode b_X_turn 27 = .ok (.aload_n 0, 1) := by decide +kernel
theorem d_X_turn_28 : decode b_X_turn 28 = .ok (.getfield 38, 3) := by decide +kernel
theorem d_X_turn_31 : decode b_X_turn 31 = .ok (.iload_n 2, 1) := by decide +kernel
theorem d_X_turn_32 : decode b_X_turn 32 = .ok (.iaload, 1) := by decide +kernel
theorem d_X_turn_33 : decode b_X_turn 33 = .ok (.iconst 1, 1) := by decide +kernel
theorem d_X_turn_34 : decode b_X_turn 34 = .ok (.iload_n 1, 1) := by decide +kernel
theorem d_X_turn_35 : decode b_X_turn 35 = .ok (.ishl, 1) := by decide +kernel
theorem d_X_turn_36 : decode b_X_turn 36 = .ok (.ior, 1) := by decide +kernel
theorem d_X_turn_37 : decode b_X_turn 37 = .ok (.iastore, 1) := by decide +kernel
theorem d_X_turn_38 : decode b_X_turn 38 = .ok (.iinc 2 1, 3) := by decide +kernel
theorem d_X_turn_41 : decode b_X_turn 41 = .ok (.goto (-39), 3) := by decide +kernel
theorem d_X_turn_44 : decode b_X_turn 44 = .ok (.return_, 1) := by decide +kernel
theorem d_X_setLine_0 : decode b_X_setLine 0 = .ok (.iload_n 1, 1) := by decide +kernel
theorem d_X_setLine_1 : decode b_X_setLine 1 = .ok (.ifCond .lt 11, 3) := by decide +kernel
theorem d_X_setLine_4 : decode b_X_setLine 4 = .ok (.iload_n 1, 1) := by decide +kernel
theorem d_X_setLine_5 : decode b_X_setLine 5 = .ok (.aload_n 0, 1) := by decide +kernel
theorem d_X_setLine_6 : decode b_X_setLine 6 = .ok (.getfield 81, 3) := by decide +kernel
theorem d_X_setLine_9 : decode b_X_setLine 9 = .ok (.if_icmp .lt 5, 3) := by decide +kernel
theorem d_X_setLine_12 : decode b_X_setLine 12 = .ok (.iconst (-1), 1) := by decide +kernel
theorem d_X_setLine_13 : decode b_X_setLine 13 = .ok (.ireturn, 1) := by decide +kernel
theorem d_X_setLine_14 : decode b_X_setLine 14 = .ok (.aload_n 0, 1) := by decide +kernel
theorem d_X_setLine_15 : decode b_X_setLine 15 = .ok (.getfield 95, 3) := by decide +kernel
theorem d_X_setLine_18 : decode b_X_setLine 18 = .ok (.iconst 1, 1) := by decide +kernel
theorem d_X_setLine_19 : decode b_X_setLine 19 = .ok (.if_icmp .ge 6, 3) := by decide +kernel
theorem d_X_setLine_22 : decode b_X_setLine 22 = .ok (.bipush (-3), 2) := by decide +kernel
theorem d_X_setLine_24 : decode b_X_setLine 24 = .ok (.ireturn, 1) := by decide +kernel
theorem d_X_setLine_25 : decode b_X_setLine 25 = .ok (.aload_n 0, 1) := by decide +kernel
theorem d_X_setLine_26 : decode b_X_setLine 26 = .ok (.getfield 95, 3) := by decide +kernel
theorem d_X_setLine_29 : decode b_X_setLine 29 = .ok (.iconst 1, 1) := by decide +kernel
theorem d_X_setLine_30 : decode b_X_setLine 30 = .ok (.isub, 1) := by decide +kernel
theorem d_X_setLine_31 : decode b_X_setLine 31 = .ok (.istore_n 2, 1) := by decide +kernel
theorem d_X_setLine_32 : decode b_X_setLine 32 = .ok (.aload_n 0, 1) := by decide +kernel
theorem d_X_setLine_33 : decode b_X_setLine 33 = .ok (.getfield 19, 3) := by decide +kernel
theorem d_X_setLine_36 : decode b_X_setLine 36 = .ok (.iload_n 2, 1) := by decide +kernel
theorem d_X_setLine_37 : decode b_X_setLine 37 = .ok (.iaload, 1) := by decide +kernel
theorem d_X_setLine_38 : decode b_X_setLine 38 = .ok (.istore_n 3, 1) := by decide +kernel
theorem d_X_setLine_39 : decode b_X_setLine 39 = .ok (.aload_n 0, 1) := by decide +kernel
theorem d_X_setLine_40 : decode b_X_setLine 40 = .ok (.getfield 41, 3) := by decide +kernel
theorem d_X_setLine_43 : decode b_X_setLine 43 = .ok (.iload_n 1, 1) := by decide +kernel
theorem d_X_setLine_44 : decode b_X_setLine 44 = .ok (.aload_n 0, 1) := by decide +kernel
theorem d_X_setLine_45 : decode b_X_setLine 45 = .ok (.getfield 22, 3) := by decide +kernel
theorem d_X_setLine_48 : decode b_X_setLine 48 = .ok (.iload_n 2, 1) := by decide +kernel
theorem d_X_setLine_49 : decode b_X_setLine 49 = .ok (.iaload, 1) := by decide +kernel
theorem d_X_setLine_50 : decode b_X_setLine 50 = .ok (.iload_n 3, 1) := by decide +kernel
theorem d_X_setLine_51 : decode b_X_setLine 51 = .ok (.ishr, 1) := by decide +kernel
theorem d_X_setLine_52 : decode b_X_setLine 52 = .ok (.iastore, 1) := by decide +kernel
theorem d_X_setLine_53 : decode b_X_setLine 53 = .ok (.aload_n 0, 1) := by decide +kernel
theorem d_X_setLine_54 : decode b_X_setLine 54 = .ok (.getfield 44, 3) := by decide +kernel
theorem d_X_setLine_57 : decode b_X_setLine 57 = .ok (.iload_n 1, 1) := by decide +kernel
theorem d_X_setLine_58 : decode b_X_setLine 58 = .ok (.aload_n 0, 1) := by decide +kernel
theorem d_X_setLine_59 : decode b_X_setLine 59 = .ok (.getfield 25, 3) := by decide +kernel
theorem d_X_setLine_62 : decode b_X_setLine 62 = .ok (.iload_n 2, 1) := by decide +kernel
theorem d_X_setLine_63 : decode b_X_setLine 63 = .ok (.iaload, 1) := by decide +kernel
theorem d_X_setLine_64 : decode b_X_setLine 64 = .ok (.iload_n 3, 1) := by decide +kernel
theorem d_X_setLine_65 : decode b_X_setLine 65 = .ok (.ishr, 1) := by decide +kernel
theorem d_X_setLine_66 : decode b_X_setLine 66 = .ok (.iastore, 1) := by decide +kernel
theorem d_X_setLine_67 : decode b_X_setLine 67 = .ok (.aload_n 0, 1) := by decide +kernel
theorem d_X_setLine_68 : decode b_X_setLine 68 = .ok (.getfield 47, 3) := by decide +kernel
theorem d_X_setLine_71 : decode b_X_setLine 71 = .ok (.iload_n 1, 1) := by decide +kernel
theorem d_X_setLine_72 : decode b_X_setLine 72 = .ok (.aload_n 0, 1) := by decide +kernel
theorem d_X_setLine_73 : decode b_X_setLine 73 = .ok (.getfield 28, 3) := by decide +kernel
theorem d_X_setLine_76 : decode b_X_setLine 76 = .ok (.iload_n 2, 1) := by decide +kernel
theorem d_X_setLine_77 : decode b_X_setLine 77 = .ok (.baload, 1) := by decide +kernel
theorem d_X_setLine_78 : decode b_X_setLine 78 = .ok (.bastore, 1) := by decide +kernel
theorem d_X_setLine_79 : decode b_X_setLine 79 = .ok (.aload_n 0, 1) := by decide +kernel
theorem d_X_setLine_80 : decode b_X_setLine 80 = .ok (.getfield 50, 3) := by decide +kernel
theorem d_X_setLine_83 : decode b_X_setLine 83 = .ok (.iload_n 1, 1) := by decide +kernel
theorem d_X_setLine_84 : decode b_X_setLine 84 = .ok (.iconst 0, 1) := by decide +kernel
theorem d_X_setLine_85 : decode b_X_setLine 85 = .ok (.iastore, 1) := by decide +kernel
theorem d_X_setLine_86 : decode b_X_setLine 86 = .ok (.aload_n 0, 1) := by decide +kernel
theorem d_X_setLine_87 : decode b_X_setLine 87 = .ok (.getfield 53, 3) := by decide +kernel
theorem d_X_setLine_90 : decode b_X_setLine 90 = .ok (.iload_n 1, 1) := by decide +kernel
theorem d_X_setLine_91 : decode b_X_setLine 91 = .ok (.iconst 0, 1) := by decide +kernel
theorem d_X_setLine_92 : decode b_X_setLine 92 = .ok (.iastore, 1) := by decide +kernel
theorem d_X_setLine_93 : decode b_X_setLine 93 = .ok (.iload_n 3, 1) := by decide +kernel
theorem d_X_setLine_94 : decode b_X_setLine 94 = .ok (.istore 4, 2) := by decide +kernel
theorem d_X_setLine_96 : decode b_X_setLine 96 = .ok (.iload 4, 2) := by decide +kernel
theorem d_X_setLine_98 : decode b_X_setLine 98 = .ok (.aload_n 0, 1) := by decide +kernel
theorem d_X_setLine_99 : decode b_X_setLine 99 = .ok (.getfield 98, 3) := by decide +kernel
theorem d_X_setLine_102 : decode b_X_setLine 102 = .ok (.if_icmp .ge 91, 3) := by decide +kernel
theorem d_X_setLine_105 : decode b_X_setLine 105 = .ok (.iconst 1, 1) := by decide +kernel
theorem d_X_setLine_106 : decode b_X_setLine 106 = .ok (.iload 4, 2) := by decide +kernel
theorem d_X_setLine_108 : decode b_X_setLine 108 = .ok (.iload_n 3, 1) := by decide +kernel
theorem d_X_setLine_109 : decode b_X_setLine 109 = .ok (.isub, 1) := by decide +kernel
theorem d_X_setLine_110 : decode b_X_setLine 110 = .ok (.ishl, 1) := by decide +kernel
theorem d_X_setLine_111 : decode b_X_setLine 111 = .ok (.istore 5, 2) := by decide +kernel
theorem d_X_setLine_113 : decode b_X_setLine 113 = .ok (.aload_n 0, 1) := by decide +kernel
theorem d_X_setLine_114 : decode b_X_setLine 114 = .ok (.getfield 32, 3) := by decide +kernel
theorem d_X_setLine_117 : decode b_X_setLine 117 = .ok (.iload 4, 2) := by decide +kernel
theorem d_X_setLine_119 : decode b_X_setLine 119 = .ok (.iaload, 1) := by decide +kernel
theorem d_X_setLine_120 : decode b_X_setLine 120 = .ok (.iconst 1, 1) := by decide +kernel
theorem d_X_setLine_121 : decode b_X_setLine 121 = .ok (.if_icmp .eq 18, 3) := by decide +kernel
theorem d_X_setLine_124 : decode b_X_setLine 124 = .ok (.aload_n 0, 1) := by decide +kernel
theorem d_X_setLine_125 : decode b_X_setLine 125 = .ok (.getfield 50, 3) := by decide +kernel
theorem d_X_setLine_128 : decode b_X_setLine 128 = .ok (.iload_n 1, 1) := by decide +kernel
theorem d_X_setLine_129 : decode b_X_setLine 129 = .ok (.aload_n 0, 1) := by decide +kernel
theorem d_X_setLine_130 : decode b_X_setLine 130 = .ok (.getfield 50, 3) := by decide +kernel
theorem d_X_setLine_133 : decode b_X_setLine 133 = .ok (.iload_n 1, 1) := by decide +kernel
theorem d_X_setLine_134 : decode b_X_setLine 134 = .ok (.iaload, 1) := by decide +kernel
theorem d_X_setLine_135 : decode b_X_setLine 135 = .ok (.iload 5, 2) := by decide +kernel
theorem d_X_setLine_137 : decode b_X_setLine 137 = .ok (.ior, 1) := by decide +kernel
theorem d_X_setLine_138 : decode b_X_setLine 138 = .ok (.iastore, 1) := by decide +kernel
theorem d_X_setLine_139 : decode b_X_setLine 139 = .ok (.aload_n 0, 1) := by decide +kernel
theorem d_X_setLine_140 : decode b_X_setLine 140 = .ok (.getfield 32, 3) := by decide +kernel
theorem d_X_setLine_143 : decode b_X_setLine 143 = .ok (.iload 4, 2) := by decide +kernel
theorem d_X_setLine_145 : decode b_X_setLine 145 = .ok (.iaload, 1) := by decide +kernel
theorem d_X_setLine_146 : decode b_X_setLine 146 = .ok (.ifCond .eq 18, 3) := by decide +kernel
theorem d_X_setLine_149 : decode b_X_setLine 149 = .ok (.aload_n 0, 1) := by decide +kernel
theorem d_X_setLine_150 : decode b_X_setLine 150 = .ok (.getfield 53, 3) := by decide +kernel
theorem d_X_setLine_153 : decode b_X_setLine 153 = .ok (.iload_n 1, 1) := by decide +kernel
theorem d_X_setLine_154 : decode b_X_setLine 154 = .ok (.aload_n 0, 1) := by decide +kernel
theorem d_X_setLine_155 : decode b_X_setLine 155 = .ok (.getfield 53, 3) := by decide +kernel
theorem d_X_setLine_158 : decode b_X_setLine 158 = .ok (.iload_n 1, 1) := by decide +kernel
theorem d_X_setLine_159 : decode b_X_setLine 159 = .ok (.iaload, 1) := by decide +kernel
theorem d_X_setLine_160 : decode b_X_setLine 160 = .ok (.iload 5, 2) := by decide +kernel
theorem d_X_setLine_162 : decode b_X_setLine 162 = .ok (.ior, 1) := by decide +kernel
theorem d_X_setLine_163 : decode b_X_setLine 163 = .ok (.iastore, 1) := by decide +kernel
theorem d_X_setLine_164 : decode b_X_setLine 164 = .ok (.aload_n 0, 1) := by decide +kernel
theorem d_X_setLine_165 : decode b_X_setLine 165 = .ok (.getfield 56, 3) := by decide +kernel
theorem d_X_setLine_168 : decode b_X_setLine 168 = .ok (.iload_n 1, 1) := by decide +kernel
theorem d_X_setLine_169 : decode b_X_setLine 169 = .ok (.bipush 8, 2) := by decide +kernel
theorem d_X_setLine_171 : decode b_X_setLine 171 = .ok (.imul, 1) := by decide +kernel
theorem d_X_setLine_172 : decode b_X_setLine 172 = .ok (.iload 4, 2) := by decide +kernel
theorem d_X_setLine_174 : decode b_X_setLine 174 = .ok (.iadd, 1) := by decide +kernel
theorem d_X_setLine_175 : decode b_X_setLine 175 = .ok (.iload_n 3, 1) := by decide +kernel
theorem d_X_setLine_176 : decode b_X_setLine 176 = .ok (.isub, 1) := by decide +kernel
theorem d_X_setLine_177 : decode b_X_setLine 177 = .ok (.aload_n 0, 1) := by decide +kernel
theorem d_X_setLine_178 : decode b_X_setLine 178 = .ok (.getfield 35, 3) := by decide +kernel
theorem d_X_setLine_181 : decode b_X_setLine 181 = .ok (.iload 4, 2) := by decide +kernel
theorem d_X_setLine_183 : decode b_X_setLine 183 = .ok (.iaload, 1) := by decide +kernel
theorem d_X_setLine_184 : decode b_X_setLine 184 = .ok (.iload_n 3, 1) := by decide +kernel
theorem d_X_setLine_185 : decode b_X_setLine 185 = .ok (.ishr, 1) := by decide +kernel
theorem d_X_setLine_186 : decode b_X_setLine 186 = .ok (.iastore, 1) := by decide +kernel
theorem d_X_setLine_187 : decode b_X_setLine 187 = .ok (.iinc 4 1, 3) := by decide +kernel
theorem d_X_setLine_190 : decode b_X_setLine 190 = .ok (.goto (-94), 3) := by decide +kernel
theorem d_X_setLine_193 : decode b_X_setLine 193 = .ok (.aload_n 0, 1) := by decide +kernel
theorem d_X_setLine_194 : decode b_X_setLine 194 = .ok (.iload_n 3, 1) := by decide +kernel
theorem d_X_setLine_195 : decode b_X_setLine 195 = .ok (.putfield 98, 3) := by decide +kernel
theorem d_X_setLine_198 : decode b_X_setLine 198 = .ok (.aload_n 0, 1) := by decide +kernel
theorem d_X_setLine_199 : decode b_X_setLine 199 = .ok (.iload_n 2, 1) := by decide +kernel
theorem d_X_setLine_200 : decode b_X_setLine 200 = .ok (.putfield 95, 3) := by decide +kernel
theorem d_X_setLine_203 : decode b_X_setLine 203 = .ok (.aload_n 0, 1) := by decide +kernel
theorem d_X_setLine_204 : decode b_X_setLine 204 = .ok (.iconst 0, 1) := by decide +kernel
theorem d_X_setLine_205 : decode b_X_setLine 205 = .ok (.putfield 91, 3) := by decide +kernel
theorem d_X_setLine_208 : decode b_X_setLine 208 = .ok (.aload_n 0, 1) := by decide +kernel
theorem d_X_setLine_209 : decode b_X_setLine 209 = .ok (.getfield 95, 3) := by decide +kernel
theorem d_X_setLine_212 : decode b_X_setLine 212 = .ok (.ireturn, 1) := by decide +kernel
theorem d_X_depth_0 : decode b_X_depth 0 = .ok (.aload_n 0, 1) := by decide +kernel
theorem d_X_depth_1 : decode b_X_depth 1 = .ok (.getfield 95, 3) := by decide +kernel
theorem d_X_depth_4 : decode b_X_depth 4 = .ok (.ireturn, 1) := by decide +kernel
theorem d_X_letters_0 : decode b_X_letters 0 = .ok (.aload_n 0, 1) := by decide +kernel
theorem d_X_letters_1 : decode b_X_letters 1 = .ok (.getfield 98, 3) := by decide +kernel
theorem d_X_letters_4 : decode b_X_letters 4 = .ok (.ireturn, 1) := by decide +kernel
theorem d_X_freeLine_0 : decode b_X_freeLine 0 = .ok (.iload_n 1, 1) := by decide +kernel
theorem d_X_freeLine_1 : decode b_X_freeLine 1 = .ok (.ifCond .lt 11, 3) := by decide +kernel
theorem d_X_freeLine_4 : decode b_X_freeLine 4 = .ok (.iload_n 1, 1) := by decide +kernel
theorem d_X_freeLine_5 : decode b_X_freeLine 5 = .ok (.aload_n 0, 1) := by decide +kernel
theorem d_X_freeLine_6 : decode b_X_freeLine 6 = .ok (.getfield 81, 3) := by decide +kernel
theorem d_X_freeLine_9 : decode b_X_freeLine 9 = .ok (.if_icmp .lt 5, 3) := by decide +kernel
theorem d_X_freeLine_12 : decode b_X_freeLine 12 = .ok (.iconst (-1), 1) := by decide +kernel
theorem d_X_freeLine_13 : decode b_X_freeLine 13 = .ok (.ireturn, 1) := by decide +kernel
theorem d_X_freeLine_14 : decode b_X_freeLine 14 = .ok (.aload_n 0, 1) := by decide +kernel
theorem d_X_freeLine_15 : decode b_X_freeLine 15 = .ok (.iload_n 1, 1) := by decide +kernel
theorem d_X_freeLine_16 : decode b_X_freeLine 16 = .ok (.invokevirtual 87, 3) := by decide +kernel
theorem d_X_freeLine_19 : decode b_X_freeLine 19 = .ok (.iconst 0, 1) := by decide +kernel
theorem d_X_freeLine_20 : decode b_X_freeLine 20 = .ok (.ireturn, 1) := by decide +kernel
theorem d_X_pin_0 : decode b_X_pin 0 = .ok (.aload_n 0, 1) := by decide +kernel
theorem d_X_pin_1 : decode b_X_pin 1 = .ok (.iload_n 1, 1) := by decide +kernel
theorem d_X_pin_2 : decode b_X_pin 2 = .ok (.iload_n 2, 1) := by decide +kernel
theorem d_X_pin_3 : decode b_X_pin 3 = .ok (.invokevirtual 112, 3) := by decide +kernel
theorem d_X_pin_6 : decode b_X_pin 6 = .ok (.ifCond .eq 12, 3) := by decide +kernel
theorem d_X_pin_9 : decode b_X_pin 9 = .ok (.iload_n 3, 1) := by decide +kernel
theorem d_X_pin_10 : decode b_X_pin 10 = .ok (.ifCond .lt 8, 3) := by decide +kernel
theorem d_X_pin_13 : decode b_X_pin 13 = .ok (.iload_n 3, 1) := by decide +kernel
theorem d_X_pin_14 : decode b_X_pin 14 = .ok (.iconst 2, 1) := by decide +kernel
theorem d_X_pin_15 : decode b_X_pin 15 = .ok (.if_icmp .le 5, 3) := by decide +kernel
theorem d_X_pin_18 : decode b_X_pin 18 = .ok (.iconst (-1), 1) := by decide +kernel
theorem d_X_pin_19 : decode b_X_pin 19 = .ok (.ireturn, 1) := by decide +kernel
theorem d_X_pin_20 : decode b_X_pin 20 = .ok (.iload_n 1, 1) := by decide +kernel
theorem d_X_pin_21 : decode b_X_pin 21 = .ok (.aload_n 0, 1) := by decide +kernel
theorem d_X_pin_22 : decode b_X_pin 22 = .ok (.getfield 78, 3) := by decide +kernel
theorem d_X_pin_25 : decode b_X_pin 25 = .ok (.imul, 1) := by decide +kernel
theorem d_X_pin_26 : decode b_X_pin 26 = .ok (.iload_n 2, 1) := by decide +kernel
theorem d_X_pin_27 : decode b_X_pin 27 = .ok (.iadd, 1) := by decide +kernel
theorem d_X_pin_28 : decode b_X_pin 28 = .ok (.istore 4, 2) := by decide +kernel
theorem d_X_pin_30 : decode b_X_pin 30 = .ok (.aload_n 0, 1) := by decide +kernel
theorem d_X_pin_31 : decode b_X_pin 31 = .ok (.getfield 16, 3) := by decide +kernel
theorem d_X_pin_34 : decode b_X_pin 34 = .ok (.iload 4, 2) := by decide +kernel
theorem d_X_pin_36 : decode b_X_pin 36 = .ok (.iaload, 1) := by decide +kernel
theorem d_X_pin_37 : decode b_X_pin 37 = .ok (.istore 5, 2) := by decide +kernel
theorem d_X_pin_39 : decode b_X_pin 39 = .ok (.aload_n 0, 1) := by decide +kernel
theorem d_X_pin_40 : decode b_X_pin 40 = .ok (.getfield 16, 3) := by decide +kernel
theorem d_X_pin_43 : decode b_X_pin 43 = .ok (.iload 4, 2) := by decide +kernel
theorem d_X_pin_45 : decode b_X_pin 45 = .ok (.iload_n 3, 1) := by decide +kernel
theorem d_X_pin_46 : decode b_X_pin 46 = .ok (.iastore, 1) := by decide +kernel
theorem d_X_pin_47 : decode b_X_pin 47 = .ok (.aload_n 0, 1) := by decide +kernel
theorem d_X_pin_48 : decode b_X_pin 48 = .ok (.iconst 0, 1) := by decide +kernel
theorem d_X_pin_49 : decode b_X_pin 49 = .ok (.putfield 91, 3) := by decide +kernel
theorem d_X_pin_52 : decode b_X_pin 52 = .ok (.iload 5, 2) := by decide +kernel
theorem d_X_pin_54 : decode b_X_pin 54 = .ok (.ireturn, 1) := by decide +kernel
theorem d_X_inGrid_0 : decode b_X_inGrid 0 = .ok (.iconst 0, 1) := by decide +kernel
theorem d_X_inGrid_1 : decode b_X_inGrid 1 = .ok (.iload_n 1, 1) := by decide +kernel
theorem d_X_inGrid_2 : decode b_X_inGrid 2 = .ok (.if_icmp .gt 28, 3) := by decide +kernel
theorem d_X_inGrid_5 : decode b_X_inGrid 5 = .ok (.iload_n 1, 1) := by decide +kernel
theorem d_X_inGrid_6 : decode b_X_inGrid 6 = .ok (.aload_n 0, 1) := by decide +kernel
theorem d_X_inGrid_7 : decode b_X_inGrid 7 = .ok (.getfield 74, 3) := by decide +kernel
theorem d_X_inGrid_10 : decode b_X_inGrid 10 = .ok (.if_icmp .ge 20, 3) := by decide +kernel
theorem d_X_inGrid_13 : decode b_X_inGrid 13 = .ok (.iconst 0, 1) := by decide +kernel
theorem d_X_inGrid_14 : decode b_X_inGrid 14 = .ok (.iload_n 2, 1) := by decide +kernel
theorem d_X_inGrid_15 : decode b_X_inGrid 15 = .ok (.if_icmp .gt 15, 3) := by decide +kernel
theorem d_X_inGrid_18 : decode b_X_inGrid 18 = .ok (.iload_n 2, 1) := by decide +kernel
theorem d_X_inGrid_19 : decode b_X_inGrid 19 = .ok (.aload_n 0, 1) := by decide +kernel
theorem d_X_inGrid_20 : decode b_X_inGrid 20 = .ok (.getfield 78, 3) := by decide +kernel
theorem d_X_inGrid_23 : decode b_X_inGrid 23 = .ok (.if_icmp .ge 7, 3) := by decide +kernel
theorem d_X_inGrid_26 : decode b_X_inGrid 26 = .ok (.iconst 1, 1) := by decide +kernel
theorem d_X_inGrid_27 : decode b_X_inGrid 27 = .ok (.goto 4, 3) := by decide +kernel
theorem d_X_inGrid_30 : decode b_X_inGrid 30 = .ok (.iconst 0, 1) := by decide +kernel
theorem d_X_inGrid_31 : decode b_X_inGrid 31 = .ok (.ireturn, 1) := by decide +kernel
theorem d_X_pinned_0 : decode b_X_pinned 0 = .ok (.aload_n 0, 1) := by decide +kernel
theorem d_X_pinned_1 : decode b_X_pinned 1 = .ok (.iload_n 1, 1) := by decide +kernel
theorem d_X_pinned_2 : decode b_X_pinned 2 = .ok (.iload_n 2, 1) := by decide +kernel
theorem d_X_pinned_3 : decode b_X_pinned 3 = .ok (.invokevirtual 112, 3) := by decide +kernel
theorem d_X_pinned_6 : decode b_X_pinned 6 = .ok (.ifCond .ne 5, 3) := by decide +kernel
theorem d_X_pinned_9 : decode b_X_pinned 9 = .ok (.iconst (-1), 1) := by decide +kernel
theorem d_X_pinned_10 : decode b_X_pinned 10 = .ok (.ireturn, 1) := by decide +kernel
theorem d_X_pinned_11 : decode b_X_pinned 11 = .ok (.aload_n 0, 1) := by decide +kernel
theorem d_X_pinned_12 : decode b_X_pinned 12 = .ok (.getfield 16, 3) := by decide +kernel
theorem d_X_pinned_15 : decode b_X_pinned 15 = .ok (.iload_n 1, 1) := by decide +kernel
theorem d_X_pinned_16 : decode b_X_pinned 16 = .ok (.aload_n 0, 1) := by decide +kernel
theorem d_X_pinned_17 : decode b_X_pinned 17 = .ok (.getfield 78, 3) := by decide +kernel
theorem d_X_pinned_20 : decode b_X_pinned 20 = .ok (.imul, 1) := by decide +kernel
theorem d_X_pinned_21 : decode b_X_pinned 21 = .ok (.iload_n 2, 1) := by decide +kernel
theorem d_X_pinned_22 : decode b_X_pinned 22 = .ok (.iadd, 1) := by decide +kernel
theorem d_X_pinned_23 : decode b_X_pinned 23 = .ok (.iaload, 1) := by decide +kernel
theorem d_X_pinned_24 : decode b_X_pinned 24 = .ok (.ireturn, 1) := by decide +kernel
theorem d_X_fillings_0 : decode b_X_fillings 0 = .ok (.aload_n 0, 1) := by decide +kernel
theorem d_X_fillings_1 : decode b_X_fillings 1 = .ok (.sipush 4096, 3) := by decide +kernel
theorem d_X_fillings_4 : decode b_X_fillings 4 = .ok (.sipush 4096, 3) := by decide +kernel
theorem d_X_fillings_7 : decode b_X_fillings 7 = .ok (.invokevirtual 155, 3) := by decide +kernel
theorem d_X_fillings_10 : decode b_X_fillings 10 = .ok (.aload_n 0, 1) := by decide +kernel
theorem d_X_fillings_11 : decode b_X_fillings 11 = .ok (.getfield 137, 3) := by decide +kernel
theorem d_X_fillings_14 : decode b_X_fillings 14 = .ok (.ireturn, 1) := by decide +kernel
end
section
theorem d_X_scan_0 : decode b_X_scan 0 = .ok (.aload_n 0, 1) := by decide +kernel
theorem d_X_scan_1 : decode b_X_scan 1 = .ok (.invokevirtual 134, 3) := by decide +kernel
theorem d_X_scan_4 : decode b_X_scan 4 = .ok (.aload_n 0, 1) := by decide +kernel
theorem d_X_scan_5 : decode b_X_scan 5 = .ok (.iconst 0, 1) := by decide +kernel
theorem d_X_scan_6 : decode b_X_scan 6 = .ok (.putfield 137, 3) := by decide +kernel
theorem d_X_scan_9 : decode b_X_scan 9 = .ok (.aload_n 0, 1) := by decide +kernel
theorem d_X_scan_10 : decode b_X_scan 10 = .ok (.iconst (-1), 1) := by decide +kernel
theorem d_X_scan_11 : decode b_X_scan 11 = .ok (.putfield 140, 3) := by decide +kernel
theorem d_X_scan_14 : decode b_X_scan 14 = .ok (.aload_n 0, 1) := by decide +kernel
theorem d_X_scan_15 : decode b_X_scan 15 = .ok (.sipush 4095, 3) := by decide +kernel
theorem d_X_scan_18 : decode b_X_scan 18 = .ok (.putfield 143, 3) := by decide +kernel
theorem d_X_scan_21 : decode b_X_scan 21 = .ok (.aload_n 0, 1) := by decide +kernel
theorem d_X_scan_22 : decode b_X_scan 22 = .ok (.iconst 0, 1) := by decide +kernel
theorem d_X_scan_23 : decode b_X_scan 23 = .ok (.putfield 146, 3) := by decide +kernel
theorem d_X_scan_26 : decode b_X_scan 26 = .ok (.iconst 0, 1) := by decide +kernel
theorem d_X_scan_27 : decode b_X_scan 27 = .ok (.istore_n 3, 1) := by decide +kernel
theorem d_X_scan_28 : decode b_X_scan 28 = .ok (.aload_n 0, 1) := by decide +kernel
theorem d_X_scan_29 : decode b_X_scan 29 = .ok (.getfield 65, 3) := by decide +kernel
theorem d_X_scan_32 : decode b_X_scan 32 = .ok (.iconst 0, 1) := by decide +kernel
theorem d_X_scan_33 : decode b_X_scan 33 = .ok (.iconst 0, 1) := by decide +kernel
theorem d_X_scan_34 : decode b_X_scan 34 = .ok (.iastore, 1) := by decide +kernel
theorem d_X_scan_35 : decode b_X_scan 35 = .ok (.iload_n 1, 1) := by decide +kernel
theorem d_X_scan_36 : decode b_X_scan 36 = .ok (.ifCond .gt 7, 3) := by decide +kernel
theorem d_X_scan_39 : decode b_X_scan 39 = .ok (.iconst 1, 1) := by decide +kernel
theorem d_X_scan_40 : decode b_X_scan 40 = .ok (.goto 4, 3) := by decide +kernel
theorem d_X_scan_43 : decode b_X_scan 43 = .ok (.iconst 0, 1) := by decide +kernel
theorem d_X_scan_44 : decode b_X_scan 44 = .ok (.istore 4, 2) := by decide +kernel
theorem d_X_scan_46 : decode b_X_scan 46 = .ok (.iconst 0, 1) := by decide +kernel
theorem d_X_scan_47 : decode b_X_scan 47 = .ok (.istore 5, 2) := by decide +kernel
theorem d_X_scan_49 : decode b_X_scan 49 = .ok (.iload 5, 2) := by decide +kernel
theorem d_X_scan_51 : decode b_X_scan 51 = .ok (.sipush 20000, 3) := by decide +kernel
theorem d_X_scan_54 : decode b_X_scan 54 = .ok (.if_icmp .ge 98, 3) := by decide +kernel
theorem d_X_scan_57 : decode b_X_scan 57 = .ok (.iload_n 3, 1) := by decide +kernel
theorem d_X_scan_58 : decode b_X_scan 58 = .ok (.ifCond .lt 94, 3) := by decide +kernel
theorem d_X_scan_61 : decode b_X_scan 61 = .ok (.iload 4, 2) := by decide +kernel
theorem d_X_scan_63 : decode b_X_scan 63 = .ok (.ifCond .ne 89, 3) := by decide +kernel
theorem d_X_scan_66 : decode b_X_scan 66 = .ok (.aload_n 0, 1) := by decide +kernel
theorem d_X_scan_67 : decode b_X_scan 67 = .ok (.getfield 65, 3) := by decide +kernel
theorem d_X_scan_70 : decode b_X_scan 70 = .ok (.iload_n 3, 1) := by decide +kernel
theorem d_X_scan_71 : decode b_X_scan 71 = .ok (.iaload, 1) := by decide +kernel
theorem d_X_scan_72 : decode b_X_scan 72 = .ok (.istore 6, 2) := by decide +kernel
theorem d_X_scan_74 : decode b_X_scan 74 = .ok (.iload 6, 2) := by decide +kernel
theorem d_X_scan_76 : decode b_X_scan 76 = .ok (.iconst 2, 1) := by decide +kernel
theorem d_X_scan_77 : decode b_X_scan 77 = .ok (.if_icmp .ne 9, 3) := by decide +kernel
theorem d_X_scan_80 : decode b_X_scan 80 = .ok (.iinc 3 (-1), 3) := by decide +kernel
theorem d_X_scan_83 : decode b_X_scan 83 = .ok (.goto 63, 3) := by decide +kernel
theorem d_X_scan_86 : decode b_X_scan 86 = .ok (.aload_n 0, 1) := by decide +kernel
theorem d_X_scan_87 : decode b_X_scan 87 = .ok (.getfield 65, 3) := by decide +kernel
theorem d_X_scan_90 : decode b_X_scan 90 = .ok (.iload_n 3, 1) := by decide +kernel
theorem d_X_scan_91 : decode b_X_scan 91 = .ok (.iload 6, 2) := by decide +kernel
theorem d_X_scan_93 : decode b_X_scan 93 = .ok (.iconst 1, 1) := by decide +kernel
theorem d_X_scan_94 : decode b_X_scan 94 = .ok (.iadd, 1) := by decide +kernel
theorem d_X_scan_95 : decode b_X_scan 95 = .ok (.iastore, 1) := by decide +kernel
theorem d_X_scan_96 : decode b_X_scan 96 = .ok (.aload_n 0, 1) := by decide +kernel
theorem d_X_scan_97 : decode b_X_scan 97 = .ok (.iload_n 3, 1) := by decide +kernel
theorem d_X_scan_98 : decode b_X_scan 98 = .ok (.iload 6, 2) := by decide +kernel
theorem d_X_scan_100 : decode b_X_scan 100 = .ok (.invokevirtual 149, 3) := by decide +kernel
theorem d_X_scan_103 : decode b_X_scan 103 = .ok (.istore 7, 2) := by decide +kernel
theorem d_X_scan_105 : decode b_X_scan 105 = .ok (.iload 7, 2) := by decide +kernel
theorem d_X_scan_107 : decode b_X_scan 107 = .ok (.ifCond .eq 24, 3) := by decide +kernel
theorem d_X_scan_110 : decode b_X_scan 110 = .ok (.iload_n 3, 1) := by decide +kernel
theorem d_X_scan_111 : decode b_X_scan 111 = .ok (.aload_n 0, 1) := by decide +kernel
theorem d_X_scan_112 : decode b_X_scan 112 = .ok (.getfield 84, 3) := by decide +kernel
theorem d_X_scan_115 : decode b_X_scan 115 = .ok (.iconst 1, 1) := by decide +kernel
theorem d_X_scan_116 : decode b_X_scan 116 = .ok (.isub, 1) := by decide +kernel
theorem d_X_scan_117 : decode b_X_scan 117 = .ok (.if_icmp .ne 14, 3) := by decide +kernel
theorem d_X_scan_120 : decode b_X_scan 120 = .ok (.aload_n 0, 1) := by decide +kernel
theorem d_X_scan_121 : decode b_X_scan 121 = .ok (.iload_n 1, 1) := by decide +kernel
theorem d_X_scan_122 : decode b_X_scan 122 = .ok (.iload_n 2, 1) := by decide +kernel
theorem d_X_scan_123 : decode b_X_scan 123 = .ok (.invokevirtual 152, 3) := by decide +kernel
theorem d_X_scan_126 : decode b_X_scan 126 = .ok (.istore 4, 2) := by decide +kernel
theorem d_X_scan_128 : decode b_X_scan 128 = .ok (.goto 18, 3) := by decide +kernel
theorem d_X_scan_131 : decode b_X_scan 131 = .ok (.iload 7, 2) := by decide +kernel
theorem d_X_scan_133 : decode b_X_scan 133 = .ok (.ifCond .eq 13, 3) := by decide +kernel
theorem d_X_scan_136 : decode b_X_scan 136 = .ok (.iinc 3 1, 3) := by decide +kernel
theorem d_X_scan_139 : decode b_X_scan 139 = .ok (.aload_n 0, 1) := by decide +kernel
theorem d_X_scan_140 : decode b_X_scan 140 = .ok (.getfield 65, 3) := by decide +kernel
theorem d_X_scan_143 : decode b_X_scan 143 = .ok (.iload_n 3, 1) := by decide +kernel
theorem d_X_scan_144 : decode b_X_scan 144 = .ok (.iconst 0, 1) := by decide +kernel
theorem d_X_scan_145 : decode b_X_scan 145 = .ok (.iastore, 1) := by decide +kernel
theorem d_X_scan_146 : decode b_X_scan 146 = .ok (.iinc 5 1, 3) := by decide +kernel
theorem d_X_scan_149 : decode b_X_scan 149 = .ok (.goto (-100), 3) := by decide +kernel
theorem d_X_scan_152 : decode b_X_scan 152 = .ok (.return_, 1) := by decide +kernel
theorem d_X_prepare_0 : decode b_X_prepare 0 = .ok (.aload_n 0, 1) := by decide +kernel
theorem d_X_prepare_1 : decode b_X_prepare 1 = .ok (.getfield 91, 3) := by decide +kernel
theorem d_X_prepare_4 : decode b_X_prepare 4 = .ok (.ifCond .eq 4, 3) := by decide +kernel
theorem d_X_prepare_7 : decode b_X_prepare 7 = .ok (.return_, 1) := by decide +kernel
theorem d_X_prepare_8 : decode b_X_prepare 8 = .ok (.iconst 0, 1) := by decide +kernel
theorem d_X_prepare_9 : decode b_X_prepare 9 = .ok (.istore_n 1, 1) := by decide +kernel
theorem d_X_prepare_10 : decode b_X_prepare 10 = .ok (.iload_n 1, 1) := by decide +kernel
theorem d_X_prepare_11 : decode b_X_prepare 11 = .ok (.aload_n 0, 1) := by decide +kernel
theorem d_X_prepare_12 : decode b_X_prepare 12 = .ok (.getfield 81, 3) := by decide +kernel
theorem d_X_prepare_15 : decode b_X_prepare 15 = .ok (.if_icmp .ge 14, 3) := by decide +kernel
theorem d_X_prepare_18 : decode b_X_prepare 18 = .ok (.aload_n 0, 1) := by decide +kernel
theorem d_X_prepare_19 : decode b_X_prepare 19 = .ok (.iload_n 1, 1) := by decide +kernel
theorem d_X_prepare_20 : decode b_X_prepare 20 = .ok (.invokevirtual 116, 3) := by decide +kernel
theorem d_X_prepare_23 : decode b_X_prepare 23 = .ok (.iinc 1 1, 3) := by decide +kernel
theorem d_X_prepare_26 : decode b_X_prepare 26 = .ok (.goto (-16), 3) := by decide +kernel
theorem d_X_prepare_29 : decode b_X_prepare 29 = .ok (.aload_n 0, 1) := by decide +kernel
theorem d_X_prepare_30 : decode b_X_prepare 30 = .ok (.iconst 1, 1) := by decide +kernel
theorem d_X_prepare_31 : decode b_X_prepare 31 = .ok (.putfield 91, 3) := by decide +kernel
theorem d_X_prepare_34 : decode b_X_prepare 34 = .ok (.return_, 1) := by decide +kernel
theorem d_X_prepareLine_0 : decode b_X_prepareLine 0 = .ok (.aload_n 0, 1) := by decide +kernel
theorem d_X_prepareLine_1 : decode b_X_prepareLine 1 = .ok (.iload_n 1, 1) := by decide +kernel
theorem d_X_prepareLine_2 : decode b_X_prepareLine 2 = .ok (.invokevirtual 119, 3) := by decide +kernel
theorem d_X_prepareLine_5 : decode b_X_prepareLine 5 = .ok (.istore_n 2, 1) := by decide +kernel
theorem d_X_prepareLine_6 : decode b_X_prepareLine 6 = .ok (.aload_n 0, 1) := by decide +kernel
theorem d_X_prepareLine_7 : decode b_X_prepareLine 7 = .ok (.getfield 44, 3) := by decide +kernel
theorem d_X_prepareLine_10 : decode b_X_prepareLine 10 = .ok (.iload_n 1, 1) := by decide +kernel
theorem d_X_prepareLine_11 : decode b_X_prepareLine 11 = .ok (.iaload, 1) := by decide +kernel
theorem d_X_prepareLine_12 : decode b_X_prepareLine 12 = .ok (.istore_n 3, 1) := by decide +kernel
theorem d_X_prepareLine_13 : decode b_X_prepareLine 13 = .ok (.aload_n 0, 1) := by decide +kernel
theorem d_X_prepareLine_14 : decode b_X_prepareLine 14 = .ok (.getfield 47, 3) := by decide +kernel
theorem d_X_prepareLine_17 : decode b_X_prepareLine 17 = .ok (.iload_n 1, 1) := by decide +kernel
theorem d_X_prepareLine_18 : decode b_X_prepareLine 18 = .ok (.baload, 1) := by decide +kernel
theorem d_X_prepareLine_19 : decode b_X_prepareLine 19 = .ok (.ifCond .eq 9, 3) := by decide +kernel
theorem d_X_prepareLine_22 : decode b_X_prepareLine 22 = .ok (.iload_n 3, 1) := by decide +kernel
theorem d_X_prepareLine_23 : decode b_X_prepareLine 23 = .ok (.sipush 256, 3) := by decide +kernel
theorem d_X_prepareLine_26 : decode b_X_prepareLine 26 = .ok (.ior, 1) := by decide +kernel
theorem d_X_prepareLine_27 : decode b_X_prepareLine 27 = .ok (.istore_n 3, 1) := by decide +kernel
theorem d_X_prepareLine_28 : decode b_X_prepareLine 28 = .ok (.aload_n 0, 1) := by decide +kernel
theorem d_X_prepareLine_29 : decode b_X_prepareLine 29 = .ok (.getfield 59, 3) := by decide +kernel
theorem d_X_prepareLine_32 : decode b_X_prepareLine 32 = .ok (.iload_n 1, 1) := by decide +kernel
theorem d_X_prepareLine_33 : decode b_X_prepareLine 33 = .ok (.iconst 5, 1) := by decide +kernel
theorem d_X_prepareLine_34 : decode b_X_prepareLine 34 = .ok (.imul, 1) := by decide +kernel
theorem d_X_prepareLine_35 : decode b_X_prepareLine 35 = .ok (.iload_n 2, 1) := by decide +kernel
theorem d_X_prepareLine_36 : decode b_X_prepareLine 36 = .ok (.iadd, 1) := by decide +kernel
theorem d_X_prepareLine_37 : decode b_X_prepareLine 37 = .ok (.iload_n 3, 1) := by decide +kernel
theorem d_X_prepareLine_38 : decode b_X_prepareLine 38 = .ok (.iastore, 1) := by decide +kernel
theorem d_X_prepareLine_39 : decode b_X_prepareLine 39 = .ok (.iload_n 2, 1) := by decide +kernel
theorem d_X_prepareLine_40 : decode b_X_prepareLine 40 = .ok (.iconst 1, 1) := by decide +kernel
theorem d_X_prepareLine_41 : decode b_X_prepareLine 41 = .ok (.isub, 1) := by decide +kernel
theorem d_X_prepareLine_42 : decode b_X_prepareLine 42 = .ok (.istore 4, 2) := by decide +kernel
theorem d_X_prepareLine_44 : decode b_X_prepareLine 44 = .ok (.iload 4, 2) := by decide +kernel
theorem d_X_prepareLine_46 : decode b_X_prepareLine 46 = .ok (.ifCond .lt 82, 3) := by decide +kernel
theorem d_X_prepareLine_49 : decode b_X_prepareLine 49 = .ok (.aload_n 0, 1) := by decide +kernel
theorem d_X_prepareLine_50 : decode b_X_prepareLine 50 = .ok (.iload_n 1, 1) := by decide +kernel
theorem d_X_prepareLine_51 : decode b_X_prepareLine 51 = .ok (.iload 4, 2) := by decide +kernel
theorem d_X_prepareLine_53 : decode b_X_prepareLine 53 = .ok (.invokevirtual 123, 3) := by decide +kernel
theorem d_X_prepareLine_56 : decode b_X_prepareLine 56 = .ok (.istore 5, 2) := by decide +kernel
theorem d_X_prepareLine_58 : decode b_X_prepareLine 58 = .ok (.iconst 0, 1) := by decide +kernel
theorem d_X_prepareLine_59 : decode b_X_prepareLine 59 = .ok (.istore 6, 2) := by decide +kernel
theorem d_X_prepareLine_61 : decode b_X_prepareLine 61 = .ok (.aload_n 0, 1) := by decide +kernel
theorem d_X_prepareLine_62 : decode b_X_prepareLine 62 = .ok (.getfield 16, 3) := by decide +kernel
theorem d_X_prepareLine_65 : decode b_X_prepareLine 65 = .ok (.iload 5, 2) := by decide +kernel
theorem d_X_prepareLine_67 : decode b_X_prepareLine 67 = .ok (.iaload, 1) := by decide +kernel
theorem d_X_prepareLine_68 : decode b_X_prepareLine 68 = .ok (.iconst 1, 1) := by decide +kernel
theorem d_X_prepareLine_69 : decode b_X_prepareLine 69 = .ok (.if_icmp .eq 12, 3) := by decide +kernel
theorem d_X_prepareLine_72 : decode b_X_prepareLine 72 = .ok (.aload_n 0, 1) := by decide +kernel
theorem d_X_prepareLine_73 : decode b_X_prepareLine 73 = .ok (.iload_n 1, 1) := by decide +kernel
theorem d_X_prepareLine_74 : decode b_X_prepareLine 74 = .ok (.iload_n 3, 1) := by decide +kernel
theorem d_X_prepareLine_75 : decode b_X_prepareLine 75 = .ok (.iconst 0, 1) := by decide +kernel
theorem d_X_prepareLine_76 : decode b_X_prepareLine 76 = .ok (.invokevirtual 127, 3) := by decide +kernel
theorem d_X_prepareLine_79 : decode b_X_prepareLine 79 = .ok (.istore 6, 2) := by decide +kernel
theorem d_X_prepareLine_81 : decode b_X_prepareLine 81 = .ok (.aload_n 0, 1) := by decide +kernel
theorem d_X_prepareLine_82 : decode b_X_prepareLine 82 = .ok (.getfield 16, 3) := by decide +kernel
theorem d_X_prepareLine_85 : decode b_X_prepareLine 85 = .ok (.iload 5, 2) := by decide +kernel
theorem d_X_prepareLine_87 : decode b_X_prepareLine 87 = .ok (.iaload, 1) := by decide +kernel
theorem d_X_prepareLine_88 : decode b_X_prepareLine 88 = .ok (.ifCond .eq 19, 3) := by decide +kernel
theorem d_X_prepareLine_91 : decode b_X_prepareLine 91 = .ok (.aload_n 0, 1) := by decide +kernel
theorem d_X_prepareLine_92 : decode b_X_prepareLine 92 = .ok (.iload_n 1, 1) := by decide +kernel
theorem d_X_prepareLine_93 : decode b_X_prepareLine 93 = .ok (.iload_n 3, 1) := by decide +kernel
theorem d_X_prepareLine_94 : decode b_X_prepareLine 94 = .ok (.iconst 1, 1) := by decide +kernel
theorem d_X_prepareLine_95 : decode b_X_prepareLine 95 = .ok (.invokevirtual 127, 3) := by decide +kernel
theorem d_X_prepareLine_98 : decode b_X_prepareLine 98 = .ok (.istore 7, 2) := by decide +kernel
theorem d_X_prepareLine_100 : decode b_X_prepareLine 100 = .ok (.iload 6, 2) := by decide +kernel
theorem d_X_prepareLine_102 : decode b_X_prepareLine 102 = .ok (.iload 7, 2) := by decide +kernel
theorem d_X_prepareLine_104 : decode b_X_prepareLine 104 = .ok (.ior, 1) := by decide +kernel
theorem d_X_prepareLine_105 : decode b_X_prepareLine 105 = .ok (.istore 6, 2) := by decide +kernel
theorem d_X_prepareLine_107 : decode b_X_prepareLine 107 = .ok (.iload 6, 2) := by decide +kernel
theorem d_X_prepareLine_109 : decode b_X_prepareLine 109 = .ok (.istore_n 3, 1) := by decide +kernel
theorem d_X_prepareLine_110 : decode b_X_prepareLine 110 = .ok (.aload_n 0, 1) := by decide +kernel
theorem d_X_prepareLine_111 : decode b_X_prepareLine 111 = .ok (.getfield 59, 3) := by decide +kernel
theorem d_X_prepareLine_114 : decode b_X_prepareLine 114 = .ok (.iload_n 1, 1) := by decide +kernel
theorem d_X_prepareLine_115 : decode b_X_prepareLine 115 = .ok (.iconst 5, 1) := by decide +kernel
theorem d_X_prepareLine_116 : decode b_X_prepareLine 116 = .ok (.imul, 1) := by decide +kernel
theorem d_X_prepareLine_117 : decode b_X_prepareLine 117 = .ok (.iload 4, 2) := by decide +kernel
theorem d_X_prepareLine_119 : decode b_X_prepareLine 119 = .ok (.iadd, 1) := by decide +kernel
theorem d_X_prepareLine_120 : decode b_X_prepareLine 120 = .ok (.iload_n 3, 1) := by decide +kernel
theorem d_X_prepareLine_121 : decode b_X_prepareLine 121 = .ok (.iastore, 1) := by decide +kernel
theorem d_X_prepareLine_122 : decode b_X_prepareLine 122 = .ok (.iinc 4 (-1), 3) := by decide +kernel
theorem d_X_prepareLine_125 : decode b_X_prepareLine 125 = .ok (.goto (-81), 3) := by decide +kernel
theorem d_X_prepareLine_128 : decode b_X_prepareLine 128 = .ok (.return_, 1) := by decide +kernel
theorem d_X_lineLength_0 : decode b_X_lineLength 0 = .ok (.iload_n 1, 1) := by decide +kernel
theorem d_X_lineLength_1 : decode b_X_lineLength 1 = .ok (.aload_n 0, 1) := by decide +kernel
theorem d_X_lineLength_2 : decode b_X_lineLength 2 = .ok (.getfield 74, 3) := by decide +kernel
theorem d_X_lineLength_5 : decode b_X_lineLength 5 = .ok (.if_icmp .ge 10, 3) := by decide +kernel
theorem d_X_lineLength_8 : decode b_X_lineLength 8 = .ok (.aload_n 0, 1) := by decide +kernel
theorem d_X_lineLength_9 : decode b_X_lineLength 9 = .ok (.getfield 78, 3) := by decide +kernel
theorem d_X_lineLength_12 : decode b_X_lineLength 12 = .ok (.goto 7, 3) := by decide +kernel
theorem d_X_lineLength_15 : decode b_X_lineLength 15 = .ok (.aload_n 0, 1) := by decide +kernel
theorem d_X_lineLength_16 : decode b_X_lineLength 16 = .ok (.getfield 74, 3) := by decide +kernel
theorem d_X_lineLength_19 : decode b_X_lineLength 19 = .ok (.ireturn, 1) := by decide +kernel
theorem d_X_cellOf_0 : decode b_X_cellOf 0 = .ok (.iload_n 1, 1) := by decide +kernel
theorem d_X_cellOf_1 : decode b_X_cellOf 1 = .ok (.aload_n 0, 1) := by decide +kernel
theorem d_X_cellOf_2 : decode b_X_cellOf 2 = .ok (.getfield 74, 3) := by decide +kernel
theorem d_X_cellOf_5 : decode b_X_cellOf 5 = .ok (.if_icmp .ge 14, 3) := by decide +kernel
theorem d_X_cellOf_8 : decode b_X_cellOf 8 = .ok (.iload_n 1, 1) := by decide +kernel
theorem d_X_cellOf_9 : decode b_X_cellOf 9 = .ok (.aload_n 0, 1) := by decide +kernel
theorem d_X_cellOf_10 : decode b_X_cellOf 10 = .ok (.getfield 78, 3) := by decide +kernel
theorem d_X_cellOf_13 : decode b_X_cellOf 13 = .ok (.imul, 1) := by decide +kernel
theorem d_X_cellOf_14 : decode b_X_cellOf 14 = .ok (.iload_n 2, 1) := by decide +kernel
theorem d_X_cellOf_15 : decode b_X_cellOf 15 = .ok (.iadd, 1) := by decide +kernel
theorem d_X_cellOf_16 : decode b_X_cellOf 16 = .ok (.goto 16, 3) := by decide +kernel
theorem d_X_cellOf_19 : decode b_X_cellOf 19 = .ok (.iload_n 2, 1) := by decide +kernel
theorem d_X_cellOf_20 : decode b_X_cellOf 20 = .ok (.aload_n 0, 1) := by decide +kernel
theorem d_X_cellOf_21 : decode b_X_cellOf 21 = .ok (.getfield 78, 3) := by decide +kernel
theorem d_X_cellOf_24 : decode b_X_cellOf 24 = .ok (.imul, 1) := by decide +kernel
theorem d_X_cellOf_25 : decode b_X_cellOf 25 = .ok (.iload_n 1, 1) := by decide +kernel
theorem d_X_cellOf_26 : decode b_X_cellOf 26 = .ok (.iadd, 1) := by decide +kernel
theorem d_X_cellOf_27 : decode b_X_cellOf 27 = .ok (.aload_n 0, 1) := by decide +kernel
theorem d_X_cellOf_28 : decode b_X_cellOf 28 = .ok (.getfield 74, 3) := by decide +kernel
theorem d_X_cellOf_31 : decode b_X_cellOf 31 = .ok (.isub, 1) := by decide +kernel
theorem d_X_cellOf_32 : decode b_X_cellOf 32 = .ok (.ireturn, 1) := by decide +kernel
theorem d_X_before_0 : decode b_X_before 0 = .ok (.iload_n 3, 1) := by decide +kernel
theorem d_X_before_1 : decode b_X_before 1 = .ok (.ifCond .ne 14, 3) := by decide +kernel
theorem d_X_before_4 : decode b_X_before 4 = .ok (.iload_n 2, 1) := by decide +kernel
theorem d_X_before_5 : decode b_X_before 5 = .ok (.aload_n 0, 1) := by decide +kernel
theorem d_X_before_6 : decode b_X_before 6 = .ok (.getfield 50, 3) := by decide +kernel
theorem d_X_before_9 : decode b_X_before 9 = .ok (.iload_n 1, 1) := by decide +kernel
theorem d_X_before_10 : decode b_X_before 10 = .ok (.iaload, 1) := by decide +kernel
theorem d_X_before_11 : decode b_X_before 11 = .ok (.iand, 1) := by decide +kernel
theorem d_X_before_12 : decode b_X_before 12 = .ok (.goto 11, 3) := by decide +kernel
theorem d_X_before_15 : decode b_X_before 15 = .ok (.iload_n 2, 1) := by decide +kernel
theorem d_X_before_16 : decode b_X_before 16 = .ok (.aload_n 0, 1) := by decide +kernel
theorem d_X_before_17 : decode b_X_before 17 = .ok (.getfield 53, 3) := by decide +kernel
theorem d_X_before_20 : decode b_X_before 20 = .ok (.iload_n 1, 1) := by decide +kernel
theorem d_X_before_21 : decode b_X_before 21 = .ok (.iaload, 1) := by decide +kernel
theorem d_X_before_22 : decode b_X_before 22 = .ok (.iand, 1) := by decide +kernel
theorem d_X_before_23 : decode b_X_before 23 = .ok (.istore 4, 2) := by decide +kernel
theorem d_X_before_25 : decode b_X_before 25 = .ok (.iconst 0, 1) := by decide +kernel
theorem d_X_before_26 : decode b_X_before 26 = .ok (.istore 5, 2) := by decide +kernel
theorem d_X_before_28 : decode b_X_before 28 = .ok (.aload_n 0, 1) := by decide +kernel
theorem d_X_before_29 : decode b_X_before 29 = .ok (.getfield 41, 3) := by decide +kernel
theorem d_X_before_32 : decode b_X_before 32 = .ok (.iload_n 1, 1) := by decide +kernel
theorem d_X_before_33 : decode b_X_before 33 = .ok (.iaload, 1) := by decide +kernel
theorem d_X_before_34 : decode b_X_before 34 = .ok (.iload 4, 2) := by decide +kernel
theorem d_X_before_36 : decode b_X_before 36 = .ok (.iand, 1) := by decide +kernel
theorem d_X_before_37 : decode b_X_before 37 = .ok (.ifCond .eq 8, 3) := by decide +kernel
theorem d_X_before_40 : decode b_X_before 40 = .ok (.sipush 256, 3) := by decide +kernel
theorem d_X_before_43 : decode b_X_before 43 = .ok (.istore 5, 2) := by decide +kernel
theorem d_X_before_45 : decode b_X_before 45 = .ok (.iconst 0, 1) := by decide +kernel
theorem d_X_before_46 : decode b_X_before 46 = .ok (.istore 6, 2) := by decide +kernel
theorem d_X_before_48 : decode b_X_before 48 = .ok (.iload 6, 2) := by decide +kernel
theorem d_X_before_50 : decode b_X_before 50 = .ok (.bipush 8, 2) := by decide +kernel
theorem d_X_before_52 : decode b_X_before 52 = .ok (.if_icmp .ge 36, 3) := by decide +kernel
theorem d_X_before_55 : decode b_X_before 55 = .ok (.aload_n 0, 1) := by decide +kernel
theorem d_X_before_56 : decode b_X_before 56 = .ok (.getfield 56, 3) := by decide +kernel
theorem d_X_before_59 : decode b_X_before 59 = .ok (.iload_n 1, 1) := by decide +kernel
theorem d_X_before_60 : decode b_X_before 60 = .ok (.bipush 8, 2) := by decide +kernel
theorem d_X_before_62 : decode b_X_before 62 = .ok (.imul, 1) := by decide +kernel
theorem d_X_before_63 : decode b_X_before 63 = .ok (.iload 6, 2) := by decide +kernel
theorem d_X_before_65 : decode b_X_before 65 = .ok (.iadd, 1) := by decide +kernel
theorem d_X_before_66 : decode b_X_before 66 = .ok (.iaload, 1) := by decide +kernel
theorem d_X_before_67 : decode b_X_before 67 = .ok (.iload 4, 2) := by decide +kernel
theorem d_X_before_69 : decode b_X_before 69 = .ok (.iand, 1) := by decide +kernel
theorem d_X_before_70 : decode b_X_before 70 = .ok (.ifCond .eq 12, 3) := by decide +kernel
theorem d_X_before_73 : decode b_X_before 73 = .ok (.iload 5, 2) := by decide +kernel
theorem d_X_before_75 : decode b_X_before 75 = .ok (.iconst 1, 1) := by decide +kernel
theorem d_X_before_76 : decode b_X_before 76 = .ok (.iload 6, 2) := by decide +kernel
theorem d_X_before_78 : decode b_X_before 78 = .ok (.ishl, 1) := by decide +kernel
theorem d_X_before_79 : decode b_X_before 79 = .ok (.ior, 1) := by decide +kernel
theorem d_X_before_80 : decode b_X_before 80 = .ok (.istore 5, 2) := by decide +kernel
theorem d_X_before_82 : decode b_X_before 82 = .ok (.iinc 6 1, 3) := by decide +kernel
theorem d_X_before_85 : decode b_X_before 85 = .ok (.goto (-37), 3) := by decide +kernel
theorem d_X_before_88 : decode b_X_before 88 = .ok (.iload 5, 2) := by decide +kernel
theorem d_X_before_90 : decode b_X_before 90 = .ok (.ireturn, 1) := by decide +kernel
theorem d_X_place_0 : decode b_X_place 0 = .ok (.aload_n 0, 1) := by decide +kernel
theorem d_X_place_1 : decode b_X_place 1 = .ok (.getfield 16, 3) := by decide +kernel
theorem d_X_place_4 : decode b_X_place 4 = .ok (.iload_n 1, 1) := by decide +kernel
theorem d_X_place_5 : decode b_X_place 5 = .ok (.iaload, 1) := by decide +kernel
theorem d_X_place_6 : decode b_X_place 6 = .ok (.iconst 2, 1) := by decide +kernel
theorem d_X_place_7 : decode b_X_place 7 = .ok (.if_icmp .eq 15, 3) := by decide +kernel
theorem d_X_place_10 : decode b_X_place 10 = .ok (.aload_n 0, 1) := by decide +kernel
theorem d_X_place_11 : decode b_X_place 11 = .ok (.getfield 16, 3) := by decide +kernel
theorem d_X_place_14 : decode b_X_place 14 = .ok (.iload_n 1, 1) := by decide +kernel
theorem d_X_place_15 : decode b_X_place 15 = .ok (.iaload, 1) := by decide +kernel
theorem d_X_place_16 : decode b_X_place 16 = .ok (.iload_n 2, 1) := by decide +kernel
theorem d_X_place_17 : decode b_X_place 17 = .ok (.if_icmp .eq 5, 3) := by decide +kernel
theorem d_X_place_20 : decode b_X_place 20 = .ok (.iconst 0, 1) := by decide +kernel
theorem d_X_place_21 : decode b_X_place 21 = .ok (.ireturn, 1) := by decide +kernel
theorem d_X_place_22 : decode b_X_place 22 = .ok (.aload_n 0, 1) := by decide +kernel
theorem d_X_place_23 : decode b_X_place 23 = .ok (.getfield 7, 3) := by decide +kernel
theorem d_X_place_26 : decode b_X_place 26 = .ok (.iload_n 1, 1) := by decide +kernel
theorem d_X_place_27 : decode b_X_place 27 = .ok (.iaload, 1) := by decide +kernel
theorem d_X_place_28 : decode b_X_place 28 = .ok (.istore_n 3, 1) := by decide +kernel
theorem d_X_place_29 : decode b_X_place 29 = .ok (.aload_n 0, 1) := by decide +kernel
theorem d_X_place_30 : decode b_X_place 30 = .ok (.getfield 13, 3) := by decide +kernel
theorem d_X_place_33 : decode b_X_place 33 = .ok (.iload_n 1, 1) := by decide +kernel
theorem d_X_place_34 : decode b_X_place 34 = .ok (.iaload, 1) := by decide +kernel
theorem d_X_place_35 : decode b_X_place 35 = .ok (.istore 4, 2) := by decide +kernel
theorem d_X_place_37 : decode b_X_place 37 = .ok (.sipush 256, 3) := by decide +kernel
theorem d_X_place_40 : decode b_X_place 40 = .ok (.istore 5, 2) := by decide +kernel
theorem d_X_place_42 : decode b_X_place 42 = .ok (.iload 4, 2) := by decide +kernel
theorem d_X_place_44 : decode b_X_place 44 = .ok (.ifCond .le 13, 3) := by decide +kernel
theorem d_X_place_47 : decode b_X_place 47 = .ok (.aload_n 0, 1) := by decide +kernel
theorem d_X_place_48 : decode b_X_place 48 = .ok (.getfield 68, 3) := by decide +kernel
theorem d_X_place_51 : decode b_X_place 51 = .ok (.iload_n 1, 1) := by decide +kernel
theorem d_X_place_52 : decode b_X_place 52 = .ok (.iconst 1, 1) := by decide +kernel
theorem d_X_place_53 : decode b_X_place 53 = .ok (.isub, 1) := by decide +kernel
theorem d_X_place_54 : decode b_X_place 54 = .ok (.iaload, 1) := by decide +kernel
theorem d_X_place_55 : decode b_X_place 55 = .ok (.istore 5, 2) := by decide +kernel
theorem d_X_place_57 : decode b_X_place 57 = .ok (.aload_n 0, 1) := by decide +kernel
theorem d_X_place_58 : decode b_X_place 58 = .ok (.iload_n 3, 1) := by decide +kernel
theorem d_X_place_59 : decode b_X_place 59 = .ok (.iload 5, 2) := by decide +kernel
theorem d_X_place_61 : decode b_X_place 61 = .ok (.iload_n 2, 1) := by decide +kernel
theorem d_X_place_62 : decode b_X_place 62 = .ok (.invokevirtual 131, 3) := by decide +kernel
theorem d_X_place_65 : decode b_X_place 65 = .ok (.istore 6, 2) := by decide +kernel
theorem d_X_place_67 : decode b_X_place 67 = .ok (.iload 6, 2) := by decide +kernel
theorem d_X_place_69 : decode b_X_place 69 = .ok (.aload_n 0, 1) := by decide +kernel
theorem d_X_place_70 : decode b_X_place 70 = .ok (.getfield 59, 3) := by decide +kernel
theorem d_X_place_73 : decode b_X_place 73 = .ok (.iload_n 3, 1) := by decide +kernel
theorem d_X_place_74 : decode b_X_place 74 = .ok (.iconst 5, 1) := by decide +kernel
theorem d_X_place_75 : decode b_X_place 75 = .ok (.imul, 1) := by decide +kernel
theorem d_X_place_76 : decode b_X_place 76 = .ok (.iload 4, 2) := by decide +kernel
theorem d_X_place_78 : decode b_X_place 78 = .ok (.iadd, 1) := by decide +kernel
theorem d_X_place_79 : decode b_X_place 79 = .ok (.iconst 1, 1) := by decide +kernel
theorem d_X_place_80 : decode b_X_place 80 = .ok (.iadd, 1) := by decide +kernel
theorem d_X_place_81 : decode b_X_place 81 = .ok (.iaload, 1) := by decide +kernel
theorem d_X_place_82 : decode b_X_place 82 = .ok (.iand, 1) := by decide +kernel
theorem d_X_place_83 : decode b_X_place 83 = .ok (.istore 6, 2) := by decide +kernel
theorem d_X_place_85 : decode b_X_place 85 = .ok (.iload 6, 2) := by decide +kernel
theorem d_X_place_87 : decode b_X_place 87 = .ok (.ifCond .ne 5, 3) := by decide +kernel
theorem d_X_place_90 : decode b_X_place 90 = .ok (.iconst 0, 1) := by decide +kernel
theorem d_X_place_91 : decode b_X_place 91 = .ok (.ireturn, 1) := by decide +kernel
theorem d_X_place_92 : decode b_X_place 92 = .ok (.sipush 256, 3) := by decide +kernel
theorem d_X_place_95 : decode b_X_place 95 = .ok (.istore 7, 2) := by decide +kernel
theorem d_X_place_97 : decode b_X_place 97 = .ok (.iload_n 3, 1) := by decide +kernel
theorem d_X_place_98 : decode b_X_place 98 = .ok (.ifCond .le 16, 3) := by decide +kernel
theorem d_X_place_101 : decode b_X_place 101 = .ok (.aload_n 0, 1) := by decide +kernel
theorem d_X_place_102 : decode b_X_place 102 = .ok (.getfield 71, 3) := by decide +kernel
theorem d_X_place_105 : decode b_X_place 105 = .ok (.iload_n 1, 1) := by decide +kernel
theorem d_X_place_106 : decode b_X_place 106 = .ok (.aload_n 0, 1) := by decide +kernel
theorem d_X_place_107 : decode b_X_place 107 = .ok (.getfield 78, 3) := by decide +kernel
theorem d_X_place_110 : decode b_X_place 110 = .ok (.isub, 1) := by decide +kernel
theorem d_X_place_111 : decode b_X_place 111 = .ok (.iaload, 1) := by decide +kernel
theorem d_X_place_112 : decode b_X_place 112 = .ok (.istore 7, 2) := by decide +kernel
theorem d_X_place_114 : decode b_X_place 114 = .ok (.aload_n 0, 1) := by decide +kernel
theorem d_X_place_115 : decode b_X_place 115 = .ok (.aload_n 0, 1) := by decide +kernel
theorem d_X_place_116 : decode b_X_place 116 = .ok (.getfield 74, 3) := by decide +kernel
theorem d_X_place_119 : decode b_X_place 119 = .ok (.iload 4, 2) := by decide +kernel
theorem d_X_place_121 : decode b_X_place 121 = .ok (.iadd, 1) := by decide +kernel
theorem d_X_place_122 : decode b_X_place 122 = .ok (.iload 7, 2) := by decide +kernel
theorem d_X_place_124 : decode b_X_place 124 = .ok (.iload_n 2, 1) := by decide +kernel
theorem d_X_place_125 : decode b_X_place 125 = .ok (.invokevirtual 131, 3) := by decide +kernel
theorem d_X_place_128 : decode b_X_place 128 = .ok (.istore 8, 2) := by decide +kernel
theorem d_X_place_130 : decode b_X_place 130 = .ok (.iload 8, 2) := by decide +kernel
theorem d_X_place_132 : decode b_X_place 132 = .ok (.aload_n 0, 1) := by decide +kernel
theorem d_X_place_133 : decode b_X_place 133 = .ok (.getfield 59, 3) := by decide +kernel
theorem d_X_place_136 : decode b_X_place 136 = .ok (.aload_n 0, 1) := by decide +kernel
theorem d_X_place_137 : decode b_X_place 137 = .ok (.getfield 74, 3) := by decide +kernel
theorem d_X_place_140 : decode b_X_place 140 = .ok (.iload 4, 2) := by decide +kernel
theorem d_X_place_142 : decode b_X_place 142 = .ok (.iadd, 1) := by decide +kernel
theorem d_X_place_143 : decode b_X_place 143 = .ok (.iconst 5, 1) := by decide +kernel
theorem d_X_place_144 : decode b_X_place 144 = .ok (.imul, 1) := by decide +kernel
theorem d_X_place_145 : decode b_X_place 145 = .ok (.iload_n 3, 1) := by decide +kernel
theorem d_X_place_146 : decode b_X_place 146 = .ok (.iadd, 1) := by decide +kernel
theorem d_X_place_147 : decode b_X_place 147 = .ok (.iconst 1, 1) := by decide +kernel
theorem d_X_place_148 : decode b_X_place 148 = .ok (.iadd, 1) := by decide +kernel
theorem d_X_place_149 : decode b_X_place 149 = .ok (.iaload, 1) := by decide +kernel
theorem d_X_place_150 : decode b_X_place 150 = .ok (.iand, 1) := by decide +kernel
theorem d_X_place_151 : decode b_X_place 151 = .ok (.istore 8, 2) := by decide +kernel
theorem d_X_place_153 : decode b_X_place 153 = .ok (.iload 8, 2) := by decide +kernel
theorem d_X_place_155 : decode b_X_place 155 = .ok (.ifCond .ne 5, 3) := by decide +kernel
theorem d_X_place_158 : decode b_X_place 158 = .ok (.iconst 0, 1) := by decide +kernel
theorem d_X_place_159 : decode b_X_place 159 = .ok (.ireturn, 1) := by decide +kernel
theorem d_X_place_160 : decode b_X_place 160 = .ok (.aload_n 0, 1) := by decide +kernel
theorem d_X_place_161 : decode b_X_place 161 = .ok (.getfield 62, 3) := by decide +kernel
theorem d_X_place_164 : decode b_X_place 164 = .ok (.iload_n 1, 1) := by decide +kernel
theorem d_X_place_165 : decode b_X_place 165 = .ok (.iload_n 2, 1) := by decide +kernel
theorem d_X_place_166 : decode b_X_place 166 = .ok (.iastore, 1) := by decide +kernel
theorem d_X_place_167 : decode b_X_place 167 = .ok (.aload_n 0, 1) := by decide +kernel
theorem d_X_place_168 : decode b_X_place 168 = .ok (.getfield 68, 3) := by decide +kernel
theorem d_X_place_171 : decode b_X_place 171 = .ok (.iload_n 1, 1) := by decide +kernel
theorem d_X_place_172 : decode b_X_place 172 = .ok (.iload 6, 2) := by decide +kernel
theorem d_X_place_174 : decode b_X_place 174 = .ok (.iastore, 1) := by decide +kernel
theorem d_X_place_175 : decode b_X_place 175 = .ok (.aload_n 0, 1) := by decide +kernel
theorem d_X_place_176 : decode b_X_place 176 = .ok (.getfield 71, 3) := by decide +kernel
theorem d_X_place_179 : decode b_X_place 179 = .ok (.iload_n 1, 1) := by decide +kernel
theorem d_X_place_180 : decode b_X_place 180 = .ok (.iload 8, 2) := by decide +kernel
theorem d_X_place_182 : decode b_X_place 182 = .ok (.iastore, 1) := by decide +kernel
theorem d_X_place_183 : decode b_X_place 183 = .ok (.iconst 1, 1) := by decide +kernel
theorem d_X_place_184 : decode b_X_place 184 = .ok (.ireturn, 1) := by decide +kernel
theorem d_X_step_0 : decode b_X_step 0 = .ok (.iconst 0, 1) := by decide +kernel
theorem d_X_step_1 : decode b_X_step 1 = .ok (.istore 4, 2) := by decide +kernel
theorem d_X_step_3 : decode b_X_step 3 = .ok (.iload_n 2, 1) := by decide +kernel
theorem d_X_step_4 : decode b_X_step 4 = .ok (.sipush 256, 3) := by decide +kernel
theorem d_X_step_7 : decode b_X_step 7 = .ok (.iand, 1) := by decide +kernel
theorem d_X_step_8 : decode b_X_step 8 = .ok (.ifCond .eq 11, 3) := by decide +kernel
theorem d_X_step_11 : decode b_X_step 11 = .ok (.aload_n 0, 1) := by decide +kernel
theorem d_X_step_12 : decode b_X_step 12 = .ok (.getfield 41, 3) := by decide +kernel
theorem d_X_step_15 : decode b_X_step 15 = .ok (.iload_n 1, 1) := by decide +kernel
theorem d_X_step_16 : decode b_X_step 16 = .ok (.iaload, 1) := by decide +kernel
theorem d_X_step_17 : decode b_X_step 17 = .ok (.istore 4, 2) := by decide +kernel
theorem d_X_step_19 : decode b_X_step 19 = .ok (.iconst 0, 1) := by decide +kernel
theorem d_X_step_20 : decode b_X_step 20 = .ok (.istore 5, 2) := by decide +kernel
theorem d_X_step_22 : decode b_X_step 22 = .ok (.iload 5, 2) := by decide +kernel
theorem d_X_step_24 : decode b_X_step 24 = .ok (.bipush 8, 2) := by decide +kernel
theorem d_X_step_26 : decode b_X_step 26 = .ok (.if_icmp .ge 36, 3) := by decide +kernel
theorem d_X_step_29 : decode b_X_step 29 = .ok (.iload_n 2, 1) := by decide +kernel
theorem d_X_step_30 : decode b_X_step 30 = .ok (.iload 5, 2) := by decide +kernel
theorem d_X_step_32 : decode b_X_step 32 = .ok (.ishr, 1) := by decide +kernel
theorem d_X_step_33 : decode b_X_step 33 = .ok (.iconst 1, 1) := by decide +kernel
theorem d_X_step_34 : decode b_X_step 34 = .ok (.iand, 1) := by decide +kernel
theorem d_X_step_35 : decode b_X_step 35 = .ok (.iconst 1, 1) := by decide +kernel
theorem d_X_step_36 : decode b_X_step 36 = .ok (.if_icmp .ne 20, 3) := by decide +kernel
theorem d_X_step_39 : decode b_X_step 39 = .ok (.iload 4, 2) := by decide +kernel
theorem d_X_step_41 : decode b_X_step 41 = .ok (.aload_n 0, 1) := by decide +kernel
theorem d_X_step_42 : decode b_X_step 42 = .ok (.getfield 56, 3) := by decide +kernel
theorem d_X_step_45 : decode b_X_step 45 = .ok (.iload_n 1, 1) := by decide +kernel
theorem d_X_step_46 : decode b_X_step 46 = .ok (.bipush 8, 2) := by decide +kernel
theorem d_X_step_48 : decode b_X_step 48 = .ok (.imul, 1) := by decide +kernel
theorem d_X_step_49 : decode b_X_step 49 = .ok (.iload 5, 2) := by decide +kernel
theorem d_X_step_51 : decode b_X_step 51 = .ok (.iadd, 1) := by decide +kernel
theorem d_X_step_52 : decode b_X_step 52 = .ok (.iaload, 1) := by decide +kernel
theorem d_X_step_53 : decode b_X_step 53 = .ok (.ior, 1) := by decide +kernel
theorem d_X_step_54 : decode b_X_step 54 = .ok (.istore 4, 2) := by decide +kernel
theorem d_X_step_56 : decode b_X_step 56 = .ok (.iinc 5 1, 3) := by decide +kernel
theorem d_X_step_59 : decode b_X_step 59 = .ok (.goto (-37), 3) := by decide +kernel
theorem d_X_step_62 : decode b_X_step 62 = .ok (.iload_n 3, 1) := by decide +kernel
theorem d_X_step_63 : decode b_X_step 63 = .ok (.ifCond .ne 15, 3) := by decide +kernel
theorem d_X_step_66 : decode b_X_step 66 = .ok (.iload 4, 2) := by decide +kernel
theorem d_X_step_68 : decode b_X_step 68 = .ok (.aload_n 0, 1) := by decide +kernel
theorem d_X_step_69 : decode b_X_step 69 = .ok (.getfield 50, 3) := by decide +kernel
theorem d_X_step_72 : decode b_X_step 72 = .ok (.iload_n 1, 1) := by decide +kernel
theorem d_X_step_73 : decode b_X_step 73 = .ok (.iaload, 1) := by decide +kernel
theorem d_X_step_74 : decode b_X_step 74 = .ok (.iand, 1) := by decide +kernel
theorem d_X_step_75 : decode b_X_step 75 = .ok (.goto 12, 3) := by decide +kernel
theorem d_X_step_78 : decode b_X_step 78 = .ok (.iload 4, 2) := by decide +kernel
theorem d_X_step_80 : decode b_X_step 80 = .ok (.aload_n 0, 1) := by decide +kernel
theorem d_X_step_81 : decode b_X_step 81 = .ok (.getfield 53, 3) := by decide +kernel
theorem d_X_step_84 : decode b_X_step 84 = .ok (.iload_n 1, 1) := by decide +kernel
theorem d_X_step_85 : decode b_X_step 85 = .ok (.iaload, 1) := by decide +kernel
theorem d_X_step_86 : decode b_X_step 86 = .ok (.iand, 1) := by decide +kernel
theorem d_X_step_87 : decode b_X_step 87 = .ok (.ireturn, 1) := by decide +kernel
end
section
theorem d_X_enter_0 : decode b_X_enter 0 = .ok (.iconst 0, 1) := by decide +kernel
theorem d_X_enter_1 : decode b_X_enter 1 = .ok (.istore_n 3, 1) := by decide +kernel
theorem d_X_enter_2 : decode b_X_enter 2 = .ok (.iconst 0, 1) := by decide +kernel
theorem d_X_enter_3 : decode b_X_enter 3 = .ok (.istore 4, 2) := by decide +kernel
theorem d_X_enter_5 : decode b_X_enter 5 = .ok (.iload 4, 2) := by decide +kernel
theorem d_X_enter_7 : decode b_X_enter 7 = .ok (.aload_n 0, 1) := by decide +kernel
theorem d_X_enter_8 : decode b_X_enter 8 = .ok (.getfield 84, 3) := by decide +kernel
theorem d_X_enter_11 : decode b_X_enter 11 = .ok (.if_icmp .ge 21, 3) := by decide +kernel
theorem d_X_enter_14 : decode b_X_enter 14 = .ok (.iload_n 3, 1) := by decide +kernel
theorem d_X_enter_15 : decode b_X_enter 15 = .ok (.iconst 2, 1) := by decide +kernel
theorem d_X_enter_16 : decode b_X_enter 16 = .ok (.imul, 1) := by decide +kernel
theorem d_X_enter_17 : decode b_X_enter 17 = .ok (.aload_n 0, 1) := by decide +kernel
theorem d_X_enter_18 : decode b_X_enter 18 = .ok (.getfield 62, 3) := by decide +kernel
theorem d_X_enter_21 : decode b_X_enter 21 = .ok (.iload 4, 2) := by decide +kernel
theorem d_X_enter_23 : decode b_X_enter 23 = .ok (.iaload, 1) := by decide +kernel
theorem d_X_enter_24 : decode b_X_enter 24 = .ok (.iadd, 1) := by decide +kernel
theorem d_X_enter_25 : decode b_X_enter 25 = .ok (.istore_n 3, 1) := by decide +kernel
theorem d_X_enter_26 : decode b_X_enter 26 = .ok (.iinc 4 1, 3) := by decide +kernel
theorem d_X_enter_29 : decode b_X_enter 29 = .ok (.goto (-24), 3) := by decide +kernel
theorem d_X_enter_32 : decode b_X_enter 32 = .ok (.iload_n 3, 1) := by decide +kernel
theorem d_X_enter_33 : decode b_X_enter 33 = .ok (.iload_n 2, 1) := by decide +kernel
theorem d_X_enter_34 : decode b_X_enter 34 = .ok (.if_icmp .lt 5, 3) := by decide +kernel
theorem d_X_enter_37 : decode b_X_enter 37 = .ok (.iconst 1, 1) := by decide +kernel
theorem d_X_enter_38 : decode b_X_enter 38 = .ok (.ireturn, 1) := by decide +kernel
theorem d_X_enter_39 : decode b_X_enter 39 = .ok (.aload_n 0, 1) := by decide +kernel
theorem d_X_enter_40 : decode b_X_enter 40 = .ok (.iload_n 3, 1) := by decide +kernel
theorem d_X_enter_41 : decode b_X_enter 41 = .ok (.putfield 140, 3) := by decide +kernel
theorem d_X_enter_44 : decode b_X_enter 44 = .ok (.aload_n 0, 1) := by decide +kernel
theorem d_X_enter_45 : decode b_X_enter 45 = .ok (.aload_n 0, 1) := by decide +kernel
theorem d_X_enter_46 : decode b_X_enter 46 = .ok (.getfield 143, 3) := by decide +kernel
theorem d_X_enter_49 : decode b_X_enter 49 = .ok (.iload_n 3, 1) := by decide +kernel
theorem d_X_enter_50 : decode b_X_enter 50 = .ok (.iand, 1) := by decide +kernel
theorem d_X_enter_51 : decode b_X_enter 51 = .ok (.putfield 143, 3) := by decide +kernel
theorem d_X_enter_54 : decode b_X_enter 54 = .ok (.aload_n 0, 1) := by decide +kernel
theorem d_X_enter_55 : decode b_X_enter 55 = .ok (.aload_n 0, 1) := by decide +kernel
theorem d_X_enter_56 : decode b_X_enter 56 = .ok (.getfield 146, 3) := by decide +kernel
theorem d_X_enter_59 : decode b_X_enter 59 = .ok (.iload_n 3, 1) := by decide +kernel
theorem d_X_enter_60 : decode b_X_enter 60 = .ok (.ior, 1) := by decide +kernel
theorem d_X_enter_61 : decode b_X_enter 61 = .ok (.putfield 146, 3) := by decide +kernel
theorem d_X_enter_64 : decode b_X_enter 64 = .ok (.aload_n 0, 1) := by decide +kernel
theorem d_X_enter_65 : decode b_X_enter 65 = .ok (.dup, 1) := by decide +kernel
theorem d_X_enter_66 : decode b_X_enter 66 = .ok (.getfield 137, 3) := by decide +kernel
theorem d_X_enter_69 : decode b_X_enter 69 = .ok (.iconst 1, 1) := by decide +kernel
theorem d_X_enter_70 : decode b_X_enter 70 = .ok (.iadd, 1) := by decide +kernel
theorem d_X_enter_71 : decode b_X_enter 71 = .ok (.putfield 137, 3) := by decide +kernel
theorem d_X_enter_74 : decode b_X_enter 74 = .ok (.aload_n 0, 1) := by decide +kernel
theorem d_X_enter_75 : decode b_X_enter 75 = .ok (.getfield 137, 3) := by decide +kernel
theorem d_X_enter_78 : decode b_X_enter 78 = .ok (.iload_n 1, 1) := by decide +kernel
theorem d_X_enter_79 : decode b_X_enter 79 = .ok (.if_icmp .ne 7, 3) := by decide +kernel
theorem d_X_enter_82 : decode b_X_enter 82 = .ok (.iconst 1, 1) := by decide +kernel
theorem d_X_enter_83 : decode b_X_enter 83 = .ok (.goto 4, 3) := by decide +kernel
theorem d_X_enter_86 : decode b_X_enter 86 = .ok (.iconst 0, 1) := by decide +kernel
theorem d_X_enter_87 : decode b_X_enter 87 = .ok (.ireturn, 1) := by decide +kernel
theorem d_X_filling_0 : decode b_X_filling 0 = .ok (.iload_n 1, 1) := by decide +kernel
theorem d_X_filling_1 : decode b_X_filling 1 = .ok (.ifCond .ge 5, 3) := by decide +kernel
theorem d_X_filling_4 : decode b_X_filling 4 = .ok (.iconst (-1), 1) := by decide +kernel
theorem d_X_filling_5 : decode b_X_filling 5 = .ok (.ireturn, 1) := by decide +kernel
theorem d_X_filling_6 : decode b_X_filling 6 = .ok (.iload_n 1, 1) := by decide +kernel
theorem d_X_filling_7 : decode b_X_filling 7 = .ok (.sipush 4096, 3) := by decide +kernel
theorem d_X_filling_10 : decode b_X_filling 10 = .ok (.if_icmp .lt 6, 3) := by decide +kernel
theorem d_X_filling_13 : decode b_X_filling 13 = .ok (.bipush (-4), 2) := by decide +kernel
theorem d_X_filling_15 : decode b_X_filling 15 = .ok (.ireturn, 1) := by decide +kernel
theorem d_X_filling_16 : decode b_X_filling 16 = .ok (.aload_n 0, 1) := by decide +kernel
theorem d_X_filling_17 : decode b_X_filling 17 = .ok (.iload_n 1, 1) := by decide +kernel
theorem d_X_filling_18 : decode b_X_filling 18 = .ok (.iconst 1, 1) := by decide +kernel
theorem d_X_filling_19 : decode b_X_filling 19 = .ok (.iadd, 1) := by decide +kernel
theorem d_X_filling_20 : decode b_X_filling 20 = .ok (.sipush 4096, 3) := by decide +kernel
theorem d_X_filling_23 : decode b_X_filling 23 = .ok (.invokevirtual 155, 3) := by decide +kernel
theorem d_X_filling_26 : decode b_X_filling 26 = .ok (.aload_n 0, 1) := by decide +kernel
theorem d_X_filling_27 : decode b_X_filling 27 = .ok (.getfield 137, 3) := by decide +kernel
theorem d_X_filling_30 : decode b_X_filling 30 = .ok (.iload_n 1, 1) := by decide +kernel
theorem d_X_filling_31 : decode b_X_filling 31 = .ok (.iconst 1, 1) := by decide +kernel
theorem d_X_filling_32 : decode b_X_filling 32 = .ok (.iadd, 1) := by decide +kernel
theorem d_X_filling_33 : decode b_X_filling 33 = .ok (.if_icmp .ne 10, 3) := by decide +kernel
theorem d_X_filling_36 : decode b_X_filling 36 = .ok (.aload_n 0, 1) := by decide +kernel
theorem d_X_filling_37 : decode b_X_filling 37 = .ok (.getfield 140, 3) := by decide +kernel
theorem d_X_filling_40 : decode b_X_filling 40 = .ok (.goto 5, 3) := by decide +kernel
theorem d_X_filling_43 : decode b_X_filling 43 = .ok (.bipush (-4), 2) := by decide +kernel
theorem d_X_filling_45 : decode b_X_filling 45 = .ok (.ireturn, 1) := by decide +kernel
theorem d_X_below_0 : decode b_X_below 0 = .ok (.aload_n 0, 1) := by decide +kernel
theorem d_X_below_1 : decode b_X_below 1 = .ok (.sipush 4096, 3) := by decide +kernel
theorem d_X_below_4 : decode b_X_below 4 = .ok (.iload_n 1, 1) := by decide +kernel
theorem d_X_below_5 : decode b_X_below 5 = .ok (.invokevirtual 155, 3) := by decide +kernel
theorem d_X_below_8 : decode b_X_below 8 = .ok (.aload_n 0, 1) := by decide +kernel
theorem d_X_below_9 : decode b_X_below 9 = .ok (.getfield 137, 3) := by decide +kernel
theorem d_X_below_12 : decode b_X_below 12 = .ok (.ireturn, 1) := by decide +kernel
theorem d_X_forced_0 : decode b_X_forced 0 = .ok (.aload_n 0, 1) := by decide +kernel
theorem d_X_forced_1 : decode b_X_forced 1 = .ok (.iload_n 1, 1) := by decide +kernel
theorem d_X_forced_2 : decode b_X_forced 2 = .ok (.iload_n 2, 1) := by decide +kernel
theorem d_X_forced_3 : decode b_X_forced 3 = .ok (.invokevirtual 112, 3) := by decide +kernel
theorem d_X_forced_6 : decode b_X_forced 6 = .ok (.ifCond .ne 5, 3) := by decide +kernel
theorem d_X_forced_9 : decode b_X_forced 9 = .ok (.iconst (-1), 1) := by decide +kernel
theorem d_X_forced_10 : decode b_X_forced 10 = .ok (.ireturn, 1) := by decide +kernel
theorem d_X_forced_11 : decode b_X_forced 11 = .ok (.aload_n 0, 1) := by decide +kernel
theorem d_X_forced_12 : decode b_X_forced 12 = .ok (.sipush 4096, 3) := by decide +kernel
theorem d_X_forced_15 : decode b_X_forced 15 = .ok (.sipush 4096, 3) := by decide +kernel
theorem d_X_forced_18 : decode b_X_forced 18 = .ok (.invokevirtual 155, 3) := by decide +kernel
theorem d_X_forced_21 : decode b_X_forced 21 = .ok (.aload_n 0, 1) := by decide +kernel
theorem d_X_forced_22 : decode b_X_forced 22 = .ok (.getfield 137, 3) := by decide +kernel
theorem d_X_forced_25 : decode b_X_forced 25 = .ok (.ifCond .ne 6, 3) := by decide +kernel
theorem d_X_forced_28 : decode b_X_forced 28 = .ok (.bipush (-4), 2) := by decide +kernel
theorem d_X_forced_30 : decode b_X_forced 30 = .ok (.ireturn, 1) := by decide +kernel
theorem d_X_forced_31 : decode b_X_forced 31 = .ok (.aload_n 0, 1) := by decide +kernel
theorem d_X_forced_32 : decode b_X_forced 32 = .ok (.getfield 84, 3) := by decide +kernel
theorem d_X_forced_35 : decode b_X_forced 35 = .ok (.iconst 1, 1) := by decide +kernel
theorem d_X_forced_36 : decode b_X_forced 36 = .ok (.isub, 1) := by decide +kernel
theorem d_X_forced_37 : decode b_X_forced 37 = .ok (.iload_n 1, 1) := by decide +kernel
theorem d_X_forced_38 : decode b_X_forced 38 = .ok (.aload_n 0, 1) := by decide +kernel
theorem d_X_forced_39 : decode b_X_forced 39 = .ok (.getfield 78, 3) := by decide +kernel
theorem d_X_forced_42 : decode b_X_forced 42 = .ok (.imul, 1) := by decide +kernel
theorem d_X_forced_43 : decode b_X_forced 43 = .ok (.isub, 1) := by decide +kernel
theorem d_X_forced_44 : decode b_X_forced 44 = .ok (.iload_n 2, 1) := by decide +kernel
theorem d_X_forced_45 : decode b_X_forced 45 = .ok (.isub, 1) := by decide +kernel
theorem d_X_forced_46 : decode b_X_forced 46 = .ok (.istore_n 3, 1) := by decide +kernel
theorem d_X_forced_47 : decode b_X_forced 47 = .ok (.aload_n 0, 1) := by decide +kernel
theorem d_X_forced_48 : decode b_X_forced 48 = .ok (.getfield 143, 3) := by decide +kernel
theorem d_X_forced_51 : decode b_X_forced 51 = .ok (.iload_n 3, 1) := by decide +kernel
theorem d_X_forced_52 : decode b_X_forced 52 = .ok (.ishr, 1) := by decide +kernel
theorem d_X_forced_53 : decode b_X_forced 53 = .ok (.iconst 1, 1) := by decide +kernel
theorem d_X_forced_54 : decode b_X_forced 54 = .ok (.iand, 1) := by decide +kernel
theorem d_X_forced_55 : decode b_X_forced 55 = .ok (.iconst 1, 1) := by decide +kernel
theorem d_X_forced_56 : decode b_X_forced 56 = .ok (.if_icmp .ne 5, 3) := by decide +kernel
theorem d_X_forced_59 : decode b_X_forced 59 = .ok (.iconst 1, 1) := by decide +kernel
theorem d_X_forced_60 : decode b_X_forced 60 = .ok (.ireturn, 1) := by decide +kernel
theorem d_X_forced_61 : decode b_X_forced 61 = .ok (.aload_n 0, 1) := by decide +kernel
theorem d_X_forced_62 : decode b_X_forced 62 = .ok (.getfield 146, 3) := by decide +kernel
theorem d_X_forced_65 : decode b_X_forced 65 = .ok (.iload_n 3, 1) := by decide +kernel
theorem d_X_forced_66 : decode b_X_forced 66 = .ok (.ishr, 1) := by decide +kernel
theorem d_X_forced_67 : decode b_X_forced 67 = .ok (.iconst 1, 1) := by decide +kernel
theorem d_X_forced_68 : decode b_X_forced 68 = .ok (.iand, 1) := by decide +kernel
theorem d_X_forced_69 : decode b_X_forced 69 = .ok (.iconst 1, 1) := by decide +kernel
theorem d_X_forced_70 : decode b_X_forced 70 = .ok (.if_icmp .ne 7, 3) := by decide +kernel
theorem d_X_forced_73 : decode b_X_forced 73 = .ok (.iconst 2, 1) := by decide +kernel
theorem d_X_forced_74 : decode b_X_forced 74 = .ok (.goto 4, 3) := by decide +kernel
theorem d_X_forced_77 : decode b_X_forced 77 = .ok (.iconst 0, 1) := by decide +kernel
theorem d_X_forced_78 : decode b_X_forced 78 = .ok (.ireturn, 1) := by decide +kernel
theorem d_X_lineWords_0 : decode b_X_lineWords 0 = .ok (.iload_n 1, 1) := by decide +kernel
theorem d_X_lineWords_1 : decode b_X_lineWords 1 = .ok (.ifCond .lt 11, 3) := by decide +kernel
theorem d_X_lineWords_4 : decode b_X_lineWords 4 = .ok (.iload_n 1, 1) := by decide +kernel
theorem d_X_lineWords_5 : decode b_X_lineWords 5 = .ok (.aload_n 0, 1) := by decide +kernel
theorem d_X_lineWords_6 : decode b_X_lineWords 6 = .ok (.getfield 81, 3) := by decide +kernel
theorem d_X_lineWords_9 : decode b_X_lineWords 9 = .ok (.if_icmp .lt 5, 3) := by decide +kernel
theorem d_X_lineWords_12 : decode b_X_lineWords 12 = .ok (.iconst (-1), 1) := by decide +kernel
theorem d_X_lineWords_13 : decode b_X_lineWords 13 = .ok (.ireturn, 1) := by decide +kernel
theorem d_X_lineWords_14 : decode b_X_lineWords 14 = .ok (.aload_n 0, 1) := by decide +kernel
theorem d_X_lineWords_15 : decode b_X_lineWords 15 = .ok (.invokevirtual 134, 3) := by decide +kernel
theorem d_X_lineWords_18 : decode b_X_lineWords 18 = .ok (.aload_n 0, 1) := by decide +kernel
theorem d_X_lineWords_19 : decode b_X_lineWords 19 = .ok (.iload_n 1, 1) := by decide +kernel
theorem d_X_lineWords_20 : decode b_X_lineWords 20 = .ok (.invokevirtual 119, 3) := by decide +kernel
theorem d_X_lineWords_23 : decode b_X_lineWords 23 = .ok (.istore_n 2, 1) := by decide +kernel
theorem d_X_lineWords_24 : decode b_X_lineWords 24 = .ok (.iconst 0, 1) := by decide +kernel
theorem d_X_lineWords_25 : decode b_X_lineWords 25 = .ok (.istore_n 3, 1) := by decide +kernel
theorem d_X_lineWords_26 : decode b_X_lineWords 26 = .ok (.iconst 0, 1) := by decide +kernel
theorem d_X_lineWords_27 : decode b_X_lineWords 27 = .ok (.istore 4, 2) := by decide +kernel
theorem d_X_lineWords_29 : decode b_X_lineWords 29 = .ok (.iload 4, 2) := by decide +kernel
theorem d_X_lineWords_31 : decode b_X_lineWords 31 = .ok (.iconst 1, 1) := by decide +kernel
theorem d_X_lineWords_32 : decode b_X_lineWords 32 = .ok (.iload_n 2, 1) := by decide +kernel
theorem d_X_lineWords_33 : decode b_X_lineWords 33 = .ok (.ishl, 1) := by decide +kernel
theorem d_X_lineWords_34 : decode b_X_lineWords 34 = .ok (.if_icmp .ge 23, 3) := by decide +kernel
theorem d_X_lineWords_37 : decode b_X_lineWords 37 = .ok (.aload_n 0, 1) := by decide +kernel
theorem d_X_lineWords_38 : decode b_X_lineWords 38 = .ok (.iload_n 1, 1) := by decide +kernel
theorem d_X_lineWords_39 : decode b_X_lineWords 39 = .ok (.iload_n 2, 1) := by decide +kernel
theorem d_X_lineWords_40 : decode b_X_lineWords 40 = .ok (.iload 4, 2) := by decide +kernel
theorem d_X_lineWords_42 : decode b_X_lineWords 42 = .ok (.invokevirtual 158, 3) := by decide +kernel
theorem d_X_lineWords_45 : decode b_X_lineWords 45 = .ok (.ifCond .eq 6, 3) := by decide +kernel
theorem d_X_lineWords_48 : decode b_X_lineWords 48 = .ok (.iinc 3 1, 3) := by decide +kernel
theorem d_X_lineWords_51 : decode b_X_lineWords 51 = .ok (.iinc 4 1, 3) := by decide +kernel
theorem d_X_lineWords_54 : decode b_X_lineWords 54 = .ok (.goto (-25), 3) := by decide +kernel
theorem d_X_lineWords_57 : decode b_X_lineWords 57 = .ok (.iload_n 3, 1) := by decide +kernel
theorem d_X_lineWords_58 : decode b_X_lineWords 58 = .ok (.ireturn, 1) := by decide +kernel
theorem d_X_spells_0 : decode b_X_spells 0 = .ok (.sipush 256, 3) := by decide +kernel
theorem d_X_spells_3 : decode b_X_spells 3 = .ok (.istore 4, 2) := by decide +kernel
theorem d_X_spells_5 : decode b_X_spells 5 = .ok (.iconst 0, 1) := by decide +kernel
theorem d_X_spells_6 : decode b_X_spells 6 = .ok (.istore 5, 2) := by decide +kernel
theorem d_X_spells_8 : decode b_X_spells 8 = .ok (.iload 5, 2) := by decide +kernel
theorem d_X_spells_10 : decode b_X_spells 10 = .ok (.iload_n 2, 1) := by decide +kernel
theorem d_X_spells_11 : decode b_X_spells 11 = .ok (.if_icmp .ge 79, 3) := by decide +kernel
theorem d_X_spells_14 : decode b_X_spells 14 = .ok (.iload_n 3, 1) := by decide +kernel
theorem d_X_spells_15 : decode b_X_spells 15 = .ok (.iload_n 2, 1) := by decide +kernel
theorem d_X_spells_16 : decode b_X_spells 16 = .ok (.iconst 1, 1) := by decide +kernel
theorem d_X_spells_17 : decode b_X_spells 17 = .ok (.isub, 1) := by decide +kernel
theorem d_X_spells_18 : decode b_X_spells 18 = .ok (.iload 5, 2) := by decide +kernel
theorem d_X_spells_20 : decode b_X_spells 20 = .ok (.isub, 1) := by decide +kernel
theorem d_X_spells_21 : decode b_X_spells 21 = .ok (.ishr, 1) := by decide +kernel
theorem d_X_spells_22 : decode b_X_spells 22 = .ok (.iconst 1, 1) := by decide +kernel
theorem d_X_spells_23 : decode b_X_spells 23 = .ok (.iand, 1) := by decide +kernel
theorem d_X_spells_24 : decode b_X_spells 24 = .ok (.istore 6, 2) := by decide +kernel
theorem d_X_spells_26 : decode b_X_spells 26 = .ok (.aload_n 0, 1) := by decide +kernel
theorem d_X_spells_27 : decode b_X_spells 27 = .ok (.getfield 16, 3) := by decide +kernel
theorem d_X_spells_30 : decode b_X_spells 30 = .ok (.aload_n 0, 1) := by decide +kernel
theorem d_X_spells_31 : decode b_X_spells 31 = .ok (.iload_n 1, 1) := by decide +kernel
theorem d_X_spells_32 : decode b_X_spells 32 = .ok (.iload 5, 2) := by decide +kernel
theorem d_X_spells_34 : decode b_X_spells 34 = .ok (.invokevirtual 123, 3) := by decide +kernel
theorem d_X_spells_37 : decode b_X_spells 37 = .ok (.iaload, 1) := by decide +kernel
theorem d_X_spells_38 : decode b_X_spells 38 = .ok (.istore 7, 2) := by decide +kernel
theorem d_X_spells_40 : decode b_X_spells 40 = .ok (.iload 7, 2) := by decide +kernel
theorem d_X_spells_42 : decode b_X_spells 42 = .ok (.iconst 2, 1) := by decide +kernel
theorem d_X_spells_43 : decode b_X_spells 43 = .ok (.if_icmp .eq 12, 3) := by decide +kernel
theorem d_X_spells_46 : decode b_X_spells 46 = .ok (.iload 7, 2) := by decide +kernel
theorem d_X_spells_48 : decode b_X_spells 48 = .ok (.iload 6, 2) := by decide +kernel
theorem d_X_spells_50 : decode b_X_spells 50 = .ok (.if_icmp .eq 5, 3) := by decide +kernel
theorem d_X_spells_53 : decode b_X_spells 53 = .ok (.iconst 0, 1) := by decide +kernel
theorem d_X_spells_54 : decode b_X_spells 54 = .ok (.ireturn, 1) := by decide +kernel
theorem d_X_spells_55 : decode b_X_spells 55 = .ok (.aload_n 0, 1) := by decide +kernel
theorem d_X_spells_56 : decode b_X_spells 56 = .ok (.iload_n 1, 1) := by decide +kernel
theorem d_X_spells_57 : decode b_X_spells 57 = .ok (.iload 4, 2) := by decide +kernel
theorem d_X_spells_59 : decode b_X_spells 59 = .ok (.iload 6, 2) := by decide +kernel
theorem d_X_spells_61 : decode b_X_spells 61 = .ok (.invokevirtual 131, 3) := by decide +kernel
theorem d_X_spells_64 : decode b_X_spells 64 = .ok (.istore 4, 2) := by decide +kernel
theorem d_X_spells_66 : decode b_X_spells 66 = .ok (.iload 4, 2) := by decide +kernel
theorem d_X_spells_68 : decode b_X_spells 68 = .ok (.aload_n 0, 1) := by decide +kernel
theorem d_X_spells_69 : decode b_X_spells 69 = .ok (.getfield 59, 3) := by decide +kernel
theorem d_X_spells_72 : decode b_X_spells 72 = .ok (.iload_n 1, 1) := by decide +kernel
theorem d_X_spells_73 : decode b_X_spells 73 = .ok (.iconst 5, 1) := by decide +kernel
theorem d_X_spells_74 : decode b_X_spells 74 = .ok (.imul, 1) := by decide +kernel
theorem d_X_spells_75 : decode b_X_spells 75 = .ok (.iload 5, 2) := by decide +kernel
theorem d_X_spells_77 : decode b_X_spells 77 = .ok (.iadd, 1) := by decide +kernel
theorem d_X_spells_78 : decode b_X_spells 78 = .ok (.iconst 1, 1) := by decide +kernel
theorem d_X_spells_79 : decode b_X_spells 79 = .ok (.iadd, 1) := by decide +kernel
theorem d_X_spells_80 : decode b_X_spells 80 = .ok (.iaload, 1) := by decide +kernel
theorem d_X_spells_81 : decode b_X_spells 81 = .ok (.iand, 1) := by decide +kernel
theorem d_X_spells_82 : decode b_X_spells 82 = .ok (.istore 4, 2) := by decide +kernel
theorem d_X_spells_84 : decode b_X_spells 84 = .ok (.iinc 5 1, 3) := by decide +kernel
theorem d_X_spells_87 : decode b_X_spells 87 = .ok (.goto (-79), 3) := by decide +kernel
theorem d_X_spells_90 : decode b_X_spells 90 = .ok (.iload 4, 2) := by decide +kernel
theorem d_X_spells_92 : decode b_X_spells 92 = .ok (.ifCond .eq 7, 3) := by decide +kernel
theorem d_X_spells_95 : decode b_X_spells 95 = .ok (.iconst 1, 1) := by decide +kernel
theorem d_X_spells_96 : decode b_X_spells 96 = .ok (.goto 4, 3) := by decide +kernel
theorem d_X_spells_99 : decode b_X_spells 99 = .ok (.iconst 0, 1) := by decide +kernel
theorem d_X_spells_100 : decode b_X_spells 100 = .ok (.ireturn, 1) := by decide +kernel
theorem d_L_cell_0 : decode b_L_cell 0 = .ok (.iload_n 1, 1) := by decide +kernel
theorem d_L_cell_1 : decode b_L_cell 1 = .ok (.aload_n 0, 1) := by decide +kernel
theorem d_L_cell_2 : decode b_L_cell 2 = .ok (.arraylength, 1) := by decide +kernel
theorem d_L_cell_3 : decode b_L_cell 3 = .ok (.if_icmp .ge 9, 3) := by decide +kernel
theorem d_L_cell_6 : decode b_L_cell 6 = .ok (.aload_n 0, 1) := by decide +kernel
theorem d_L_cell_7 : decode b_L_cell 7 = .ok (.iload_n 1, 1) := by decide +kernel
theorem d_L_cell_8 : decode b_L_cell 8 = .ok (.iaload, 1) := by decide +kernel
theorem d_L_cell_9 : decode b_L_cell 9 = .ok (.goto 4, 3) := by decide +kernel
theorem d_L_cell_12 : decode b_L_cell 12 = .ok (.iconst 0, 1) := by decide +kernel
theorem d_L_cell_13 : decode b_L_cell 13 = .ok (.ireturn, 1) := by decide +kernel
theorem d_M_init_0 : decode b_M_init 0 = .ok (.aload_n 0, 1) := by decide +kernel
theorem d_M_init_1 : decode b_M_init 1 = .ok (.invokespecial 1, 3) := by decide +kernel
theorem d_M_init_4 : decode b_M_init 4 = .ok (.aload_n 0, 1) := by decide +kernel
theorem d_M_init_5 : decode b_M_init 5 = .ok (.bipush 6, 2) := by decide +kernel
theorem d_M_init_7 : decode b_M_init 7 = .ok (.newarray .int, 2) := by decide +kernel
theorem d_M_init_9 : decode b_M_init 9 = .ok (.putfield 7, 3) := by decide +kernel
theorem d_M_init_12 : decode b_M_init 12 = .ok (.aload_n 0, 1) := by decide +kernel
theorem d_M_init_13 : decode b_M_init 13 = .ok (.bipush 6, 2) := by decide +kernel
theorem d_M_init_15 : decode b_M_init 15 = .ok (.newarray .int, 2) := by decide +kernel
theorem d_M_init_17 : decode b_M_init 17 = .ok (.putfield 13, 3) := by decide +kernel
theorem d_M_init_20 : decode b_M_init 20 = .ok (.aload_n 0, 1) := by decide +kernel
theorem d_M_init_21 : decode b_M_init 21 = .ok (.bipush 7, 2) := by decide +kernel
theorem d_M_init_23 : decode b_M_init 23 = .ok (.newarray .int, 2) := by decide +kernel
theorem d_M_init_25 : decode b_M_init 25 = .ok (.putfield 16, 3) := by decide +kernel
theorem d_M_init_28 : decode b_M_init 28 = .ok (.aload_n 0, 1) := by decide +kernel
theorem d_M_init_29 : decode b_M_init 29 = .ok (.bipush 12, 2) := by decide +kernel
theorem d_M_init_31 : decode b_M_init 31 = .ok (.newarray .int, 2) := by decide +kernel
theorem d_M_init_33 : decode b_M_init 33 = .ok (.putfield 19, 3) := by decide +kernel
theorem d_M_init_36 : decode b_M_init 36 = .ok (.aload_n 0, 1) := by decide +kernel
theorem d_M_init_37 : decode b_M_init 37 = .ok (.iload_n 1, 1) := by decide +kernel
theorem d_M_init_38 : decode b_M_init 38 = .ok (.iconst 1, 1) := by decide +kernel
theorem d_M_init_39 : decode b_M_init 39 = .ok (.if_icmp .ge 7, 3) := by decide +kernel
theorem d_M_init_42 : decode b_M_init 42 = .ok (.iconst 1, 1) := by decide +kernel
theorem d_M_init_43 : decode b_M_init 43 = .ok (.goto 13, 3) := by decide +kernel
theorem d_M_init_46 : decode b_M_init 46 = .ok (.iload_n 1, 1) := by decide +kernel
theorem d_M_init_47 : decode b_M_init 47 = .ok (.iconst 3, 1) := by decide +kernel
theorem d_M_init_48 : decode b_M_init 48 = .ok (.if_icmp .le 7, 3) := by decide +kernel
theorem d_M_init_51 : decode b_M_init 51 = .ok (.iconst 3, 1) := by decide +kernel
theorem d_M_init_52 : decode b_M_init 52 = .ok (.goto 4, 3) := by decide +kernel
theorem d_M_init_55 : decode b_M_init 55 = .ok (.iload_n 1, 1) := by decide +kernel
theorem d_M_init_56 : decode b_M_init 56 = .ok (.putfield 22, 3) := by decide +kernel
theorem d_M_init_59 : decode b_M_init 59 = .ok (.aload_n 0, 1) := by decide +kernel
theorem d_M_init_60 : decode b_M_init 60 = .ok (.iload_n 2, 1) := by decide +kernel
theorem d_M_init_61 : decode b_M_init 61 = .ok (.iconst 1, 1) := by decide +kernel
theorem d_M_init_62 : decode b_M_init 62 = .ok (.if_icmp .ge 7, 3) := by decide +kernel
theorem d_M_init_65 : decode b_M_init 65 = .ok (.iconst 1, 1) := by decide +kernel
theorem d_M_init_66 : decode b_M_init 66 = .ok (.goto 13, 3) := by decide +kernel
theorem d_M_init_69 : decode b_M_init 69 = .ok (.iload_n 2, 1) := by decide +kernel
theorem d_M_init_70 : decode b_M_init 70 = .ok (.iconst 4, 1) := by decide +kernel
theorem d_M_init_71 : decode b_M_init 71 = .ok (.if_icmp .le 7, 3) := by decide +kernel
theorem d_M_init_74 : decode b_M_init 74 = .ok (.iconst 4, 1) := by decide +kernel
theorem d_M_init_75 : decode b_M_init 75 = .ok (.goto 4, 3) := by decide +kernel
theorem d_M_init_78 : decode b_M_init 78 = .ok (.iload_n 2, 1) := by decide +kernel
theorem d_M_init_79 : decode b_M_init 79 = .ok (.putfield 26, 3) := by decide +kernel
theorem d_M_init_82 : decode b_M_init 82 = .ok (.iconst 0, 1) := by decide +kernel
theorem d_M_init_83 : decode b_M_init 83 = .ok (.istore_n 3, 1) := by decide +kernel
theorem d_M_init_84 : decode b_M_init 84 = .ok (.iload_n 3, 1) := by decide +kernel
theorem d_M_init_85 : decode b_M_init 85 = .ok (.bipush 7, 2) := by decide +kernel
theorem d_M_init_87 : decode b_M_init 87 = .ok (.if_icmp .ge 17, 3) := by decide +kernel
theorem d_M_init_90 : decode b_M_init 90 = .ok (.aload_n 0, 1) := by decide +kernel
theorem d_M_init_91 : decode b_M_init 91 = .ok (.getfield 16, 3) := by decide +kernel
theorem d_M_init_94 : decode b_M_init 94 = .ok (.iload_n 3, 1) := by decide +kernel
theorem d_M_init_95 : decode b_M_init 95 = .ok (.ldc 29, 2) := by decide +kernel
theorem d_M_init_97 : decode b_M_init 97 = .ok (.iastore, 1) := by decide +kernel
theorem d_M_init_98 : decode b_M_init 98 = .ok (.iinc 3 1, 3) := by decide +kernel
theorem d_M_init_101 : decode b_M_init 101 = .ok (.goto (-17), 3) := by decide +kernel
theorem d_M_init_104 : decode b_M_init 104 = .ok (.iconst 0, 1) := by decide +kernel
theorem d_M_init_105 : decode b_M_init 105 = .ok (.istore_n 3, 1) := by decide +kernel
theorem d_M_init_106 : decode b_M_init 106 = .ok (.iload_n 3, 1) := by decide +kernel
theorem d_M_init_107 : decode b_M_init 107 = .ok (.bipush 12, 2) := by decide +kernel
theorem d_M_init_109 : decode b_M_init 109 = .ok (.if_icmp .ge 16, 3) := by decide +kernel
theorem d_M_init_112 : decode b_M_init 112 = .ok (.aload_n 0, 1) := by decide +kernel
theorem d_M_init_113 : decode b_M_init 113 = .ok (.getfield 19, 3) := by decide +kernel
theorem d_M_init_116 : decode b_M_init 116 = .ok (.iload_n 3, 1) := by decide +kernel
theorem d_M_init_117 : decode b_M_init 117 = .ok (.iconst 2, 1) := by decide +kernel
theorem d_M_init_118 : decode b_M_init 118 = .ok (.iastore, 1) := by decide +kernel
theorem d_M_init_119 : decode b_M_init 119 = .ok (.iinc 3 1, 3) := by decide +kernel
theorem d_M_init_122 : decode b_M_init 122 = .ok (.goto (-16), 3) := by decide +kernel
theorem d_M_init_125 : decode b_M_init 125 = .ok (.return_, 1) := by decide +kernel
theorem d_M_letter_0 : decode b_M_letter 0 = .ok (.iload_n 1, 1) := by decide +kernel
theorem d_M_letter_1 : decode b_M_letter 1 = .ok (.ifCond .lt 8, 3) := by decide +kernel
theorem d_M_letter_4 : decode b_M_letter 4 = .ok (.iload_n 1, 1) := by decide +kernel
theorem d_M_letter_5 : decode b_M_letter 5 = .ok (.iconst 2, 1) := by decide +kernel
theorem d_M_letter_6 : decode b_M_letter 6 = .ok (.if_icmp .le 5, 3) := by decide +kernel
theorem d_M_letter_9 : decode b_M_letter 9 = .ok (.iconst (-1), 1) := by decide +kernel
theorem d_M_letter_10 : decode b_M_letter 10 = .ok (.ireturn, 1) := by decide +kernel
theorem d_M_letter_11 : decode b_M_letter 11 = .ok (.aload_n 0, 1) := by decide +kernel
theorem d_M_letter_12 : decode b_M_letter 12 = .ok (.getfield 30, 3) := by decide +kernel
theorem d_M_letter_15 : decode b_M_letter 15 = .ok (.bipush 6, 2) := by decide +kernel
theorem d_M_letter_17 : decode b_M_letter 17 = .ok (.if_icmp .eq 12, 3) := by decide +kernel
theorem d_M_letter_20 : decode b_M_letter 20 = .ok (.aload_n 0, 1) := by decide +kernel
theorem d_M_letter_21 : decode b_M_letter 21 = .ok (.invokevirtual 33, 3) := by decide +kernel
theorem d_M_letter_24 : decode b_M_letter 24 = .ok (.bipush 8, 2) := by decide +kernel
theorem d_M_letter_26 : decode b_M_letter 26 = .ok (.if_icmp .ne 6, 3) := by decide +kernel
theorem d_M_letter_29 : decode b_M_letter 29 = .ok (.bipush (-2), 2) := by decide +kernel
theorem d_M_letter_31 : decode b_M_letter 31 = .ok (.ireturn, 1) := by decide +kernel
theorem d_M_letter_32 : decode b_M_letter 32 = .ok (.aload_n 0, 1) := by decide +kernel
theorem d_M_letter_33 : decode b_M_letter 33 = .ok (.iload_n 1, 1) := by decide +kernel
theorem d_M_letter_34 : decode b_M_letter 34 = .ok (.ifCond .ne 7, 3) := by decide +kernel
theorem d_M_letter_37 : decode b_M_letter 37 = .ok (.iconst 2, 1) := by decide +kernel
theorem d_M_letter_38 : decode b_M_letter 38 = .ok (.goto 14, 3) := by decide +kernel
theorem d_M_letter_41 : decode b_M_letter 41 = .ok (.iload_n 1, 1) := by decide +kernel
theorem d_M_letter_42 : decode b_M_letter 42 = .ok (.iconst 1, 1) := by decide +kernel
theorem d_M_letter_43 : decode b_M_letter 43 = .ok (.if_icmp .ne 7, 3) := by decide +kernel
theorem d_M_letter_46 : decode b_M_letter 46 = .ok (.iconst 4, 1) := by decide +kernel
theorem d_M_letter_47 : decode b_M_letter 47 = .ok (.goto 5, 3) := by decide +kernel
theorem d_M_letter_50 : decode b_M_letter 50 = .ok (.bipush 6, 2) := by decide +kernel
theorem d_M_letter_52 : decode b_M_letter 52 = .ok (.iconst 1, 1) := by decide +kernel
theorem d_M_letter_53 : decode b_M_letter 53 = .ok (.invokevirtual 37, 3) := by decide +kernel
theorem d_M_letter_56 : decode b_M_letter 56 = .ok (.ireturn, 1) := by decide +kernel
theorem d_M_letters_0 : decode b_M_letters 0 = .ok (.iconst 0, 1) := by decide +kernel
theorem d_M_letters_1 : decode b_M_letters 1 = .ok (.istore_n 1, 1) := by decide +kernel
theorem d_M_letters_2 : decode b_M_letters 2 = .ok (.iconst 0, 1) := by decide +kernel
theorem d_M_letters_3 : decode b_M_letters 3 = .ok (.istore_n 2, 1) := by decide +kernel
theorem d_M_letters_4 : decode b_M_letters 4 = .ok (.iload_n 2, 1) := by decide +kernel
theorem d_M_letters_5 : decode b_M_letters 5 = .ok (.aload_n 0, 1) := by decide +kernel
theorem d_M_letters_6 : decode b_M_letters 6 = .ok (.getfield 30, 3) := by decide +kernel
theorem d_M_letters_9 : decode b_M_letters 9 = .ok (.if_icmp .ge 18, 3) := by decide +kernel
theorem d_M_letters_12 : decode b_M_letters 12 = .ok (.iload_n 1, 1) := by decide +kernel
theorem d_M_letters_13 : decode b_M_letters 13 = .ok (.aload_n 0, 1) := by decide +kernel
theorem d_M_letters_14 : decode b_M_letters 14 = .ok (.getfield 13, 3) := by decide +kernel
theorem d_M_letters_17 : decode b_M_letters 17 = .ok (.iload_n 2, 1) := by decide +kernel
theorem d_M_letters_18 : decode b_M_letters 18 = .ok (.iaload, 1) := by decide +kernel
theorem d_M_letters_19 : decode b_M_letters 19 = .ok (.iadd, 1) := by decide +kernel
theorem d_M_letters_20 : decode b_M_letters 20 = .ok (.istore_n 1, 1) := by decide +kernel
theorem d_M_letters_21 : decode b_M_letters 21 = .ok (.iinc 2 1, 3) := by decide +kernel
theorem d_M_letters_24 : decode b_M_letters 24 = .ok (.goto (-20), 3) := by decide +kernel
theorem d_M_letters_27 : decode b_M_letters 27 = .ok (.iload_n 1, 1) := by decide +kernel
theorem d_M_letters_28 : decode b_M_letters 28 = .ok (.ireturn, 1) := by decide +kernel
theorem d_M_push_0 : decode b_M_push 0 = .ok (.aload_n 0, 1) := by decide +kernel
theorem d_M_push_1 : decode b_M_push 1 = .ok (.getfield 7, 3) := by decide +kernel
theorem d_M_push_4 : decode b_M_push 4 = .ok (.aload_n 0, 1) := by decide +kernel
theorem d_M_push_5 : decode b_M_push 5 = .ok (.getfield 30, 3) := by decide +kernel
theorem d_M_push_8 : decode b_M_push 8 = .ok (.iload_n 1, 1) := by decide +kernel
theorem d_M_push_9 : decode b_M_push 9 = .ok (.iastore, 1) := by decide +kernel
theorem d_M_push_10 : decode b_M_push 10 = .ok (.aload_n 0, 1) := by decide +kernel
theorem d_M_push_11 : decode b_M_push 11 = .ok (.getfield 13, 3) := by decide +kernel
theorem d_M_push_14 : decode b_M_push 14 = .ok (.aload_n 0, 1) := by decide +kernel
theorem d_M_push_15 : decode b_M_push 15 = .ok (.getfield 30, 3) := by decide +kernel
theorem d_M_push_18 : decode b_M_push 18 = .ok (.iload_n 2, 1) := by decide +kernel
theorem d_M_push_19 : decode b_M_push 19 = .ok (.iastore, 1) := by decide +kernel
theorem d_M_push_20 : decode b_M_push 20 = .ok (.aload_n 0, 1) := by decide +kernel
theorem d_M_push_21 : decode b_M_push 21 = .ok (.dup, 1) := by decide +kernel
theorem d_M_push_22 : decode b_M_push 22 = .ok (.getfield 30, 3) := by decide +kernel
theorem d_M_push_25 : decode b_M_push 25 = .ok (.iconst 1, 1) := by decide +kernel
theorem d_M_push_26 : decode b_M_push 26 = .ok (.iadd, 1) := by decide +kernel
theorem d_M_push_27 : decode b_M_push 27 = .ok (.putfield 30, 3) := by decide +kernel
theorem d_M_push_30 : decode b_M_push 30 = .ok (.aload_n 0, 1) := by decide +kernel
theorem d_M_push_31 : decode b_M_push 31 = .ok (.getfield 30, 3) := by decide +kernel
theorem d_M_push_34 : decode b_M_push 34 = .ok (.ireturn, 1) := by decide +kernel
theorem d_M_unit_0 : decode b_M_unit 0 = .ok (.aload_n 0, 1) := by decide +kernel
theorem d_M_unit_1 : decode b_M_unit 1 = .ok (.getfield 30, 3) := by decide +kernel
theorem d_M_unit_4 : decode b_M_unit 4 = .ok (.bipush 6, 2) := by decide +kernel
theorem d_M_unit_6 : decode b_M_unit 6 = .ok (.if_icmp .ne 6, 3) := by decide +kernel
theorem d_M_unit_9 : decode b_M_unit 9 = .ok (.bipush (-2), 2) := by decide +kernel
theorem d_M_unit_11 : decode b_M_unit 11 = .ok (.ireturn, 1) := by decide +kernel
theorem d_M_unit_12 : decode b_M_unit 12 = .ok (.aload_n 0, 1) := by decide +kernel
theorem d_M_unit_13 : decode b_M_unit 13 = .ok (.iconst 1, 1) := by decide +kernel
theorem d_M_unit_14 : decode b_M_unit 14 = .ok (.iconst 0, 1) := by decide +kernel
theorem d_M_unit_15 : decode b_M_unit 15 = .ok (.invokevirtual 37, 3) := by decide +kernel
theorem d_M_unit_18 : decode b_M_unit 18 = .ok (.ireturn, 1) := by decide +kernel
theorem d_M_cat_0 : decode b_M_cat 0 = .ok (.aload_n 0, 1) := by decide +kernel
theorem d_M_cat_1 : decode b_M_cat 1 = .ok (.getfield 30, 3) := by decide +kernel
theorem d_M_cat_4 : decode b_M_cat 4 = .ok (.iconst 2, 1) := by decide +kernel
theorem d_M_cat_5 : decode b_M_cat 5 = .ok (.if_icmp .ge 6, 3) := by decide +kernel
theorem d_M_cat_8 : decode b_M_cat 8 = .ok (.bipush (-3), 2) := by decide +kernel
theorem d_M_cat_10 : decode b_M_cat 10 = .ok (.ireturn, 1) := by decide +kernel
theorem d_M_cat_11 : decode b_M_cat 11 = .ok (.aload_n 0, 1) := by decide +kernel
theorem d_M_cat_12 : decode b_M_cat 12 = .ok (.aload_n 0, 1) := by decide +kernel
theorem d_M_cat_13 : decode b_M_cat 13 = .ok (.getfield 7, 3) := by decide +kernel
theorem d_M_cat_16 : decode b_M_cat 16 = .ok (.aload_n 0, 1) := by decide +kernel
theorem d_M_cat_17 : decode b_M_cat 17 = .ok (.getfield 30, 3) := by decide +kernel
theorem d_M_cat_20 : decode b_M_cat 20 = .ok (.iconst 2, 1) := by decide +kernel
theorem d_M_cat_21 : decode b_M_cat 21 = .ok (.isub, 1) := by decide +kernel
theorem d_M_cat_22 : decode b_M_cat 22 = .ok (.iaload, 1) := by decide +kernel
theorem d_M_cat_23 : decode b_M_cat 23 = .ok (.aload_n 0, 1) := by decide +kernel
theorem d_M_cat_24 : decode b_M_cat 24 = .ok (.getfield 7, 3) := by decide +kernel
theorem d_M_cat_27 : decode b_M_cat 27 = .ok (.aload_n 0, 1) := by decide +kernel
theorem d_M_cat_28 : decode b_M_cat 28 = .ok (.getfield 30, 3) := by decide +kernel
theorem d_M_cat_31 : decode b_M_cat 31 = .ok (.iconst 1, 1) := by decide +kernel
theorem d_M_cat_32 : decode b_M_cat 32 = .ok (.isub, 1) := by decide +kernel
theorem d_M_cat_33 : decode b_M_cat 33 = .ok (.iaload, 1) := by decide +kernel
theorem d_M_cat_34 : decode b_M_cat 34 = .ok (.invokevirtual 55, 3) := by decide +kernel
theorem d_M_cat_37 : decode b_M_cat 37 = .ok (.istore_n 1, 1) := by decide +kernel
theorem d_M_cat_38 : decode b_M_cat 38 = .ok (.aload_n 0, 1) := by decide +kernel
theorem d_M_cat_39 : decode b_M_cat 39 = .ok (.iload_n 1, 1) := by decide +kernel
theorem d_M_cat_40 : decode b_M_cat 40 = .ok (.invokevirtual 58, 3) := by decide +kernel
theorem d_M_cat_43 : decode b_M_cat 43 = .ok (.ireturn, 1) := by decide +kernel
theorem d_M_products_0 : decode b_M_products 0 = .ok (.iconst 0, 1) := by decide +kernel
theorem d_M_products_1 : decode b_M_products 1 = .ok (.istore_n 3, 1) := by decide +kernel
theorem d_M_products_2 : decode b_M_products 2 = .ok (.iconst 0, 1) := by decide +kernel
theorem d_M_products_3 : decode b_M_products 3 = .ok (.istore 4, 2) := by decide +kernel
theorem d_M_products_5 : decode b_M_products 5 = .ok (.iload 4, 2) := by decide +kernel
theorem d_M_products_7 : decode b_M_products 7 = .ok (.iconst 4, 1) := by decide +kernel
theorem d_M_products_8 : decode b_M_products 8 = .ok (.if_icmp .gt 52, 3) := by decide +kernel
theorem d_M_products_11 : decode b_M_products 11 = .ok (.iconst 0, 1) := by decide +kernel
theorem d_M_products_12 : decode b_M_products 12 = .ok (.istore 5, 2) := by decide +kernel
theorem d_M_products_14 : decode b_M_products 14 = .ok (.iload 5, 2) := by decide +kernel
theorem d_M_products_16 : decode b_M_products 16 = .ok (.iconst 1, 1) := by decide +kernel
theorem d_M_products_17 : decode b_M_products 17 = .ok (.iload 4, 2) := by decide +kernel
theorem d_M_products_19 : decode b_M_products 19 = .ok (.ishl, 1) := by decide +kernel
theorem d_M_products_20 : decode b_M_products 20 = .ok (.if_icmp .ge 34, 3) := by decide +kernel
theorem d_M_products_23 : decode b_M_products 23 = .ok (.aload_n 0, 1) := by decide +kernel
theorem d_M_products_24 : decode b_M_products 24 = .ok (.iload_n 1, 1) := by decide +kernel
theorem d_M_products_25 : decode b_M_products 25 = .ok (.iload_n 2, 1) := by decide +kernel
theorem d_M_products_26 : decode b_M_products 26 = .ok (.iconst 0, 1) := by decide +kernel
theorem d_M_products_27 : decode b_M_products 27 = .ok (.iload 4, 2) := by decide +kernel
theorem d_M_products_29 : decode b_M_products 29 = .ok (.iload 5, 2) := by decide +kernel
theorem d_M_products_31 : decode b_M_products 31 = .ok (.invokevirtual 45, 3) := by decide +kernel
theorem d_M_products_34 : decode b_M_products 34 = .ok (.ifCond .eq 14, 3) := by decide +kernel
theorem d_M_products_37 : decode b_M_products 37 = .ok (.iload_n 3, 1) := by decide +kernel
theorem d_M_products_38 : decode b_M_products 38 = .ok (.aload_n 0, 1) := by decide +kernel
theorem d_M_products_39 : decode b_M_products 39 = .ok (.iload 4, 2) := by decide +kernel
theorem d_M_products_41 : decode b_M_products 41 = .ok (.iload 5, 2) := by decide +kernel
theorem d_M_products_43 : decode b_M_products 43 = .ok (.invokevirtual 49, 3) := by decide +kernel
theorem d_M_products_46 : decode b_M_products 46 = .ok (.ior, 1) := by decide +kernel
theorem d_M_products_47 : decode b_M_products 47 = .ok (.istore_n 3, 1) := by decide +kernel
theorem d_M_products_48 : decode b_M_products 48 = .ok (.iinc 5 1, 3) := by decide +kernel
theorem d_M_products_51 : decode b_M_products 51 = .ok (.goto (-37), 3) := by decide +kernel
theorem d_M_products_54 : decode b_M_products 54 = .ok (.iinc 4 1, 3) := by decide +kernel
theorem d_M_products_57 : decode b_M_products 57 = .ok (.goto (-52), 3) := by decide +kernel
theorem d_M_products_60 : decode b_M_products 60 = .ok (.iload_n 3, 1) := by decide +kernel
theorem d_M_products_61 : decode b_M_products 61 = .ok (.ireturn, 1) := by decide +kernel
end
section
theorem d_M_splits_0 : decode b_M_splits 0 = .ok (.iload_n 3, 1) := by decide +kernel
theorem d_M_splits_1 : decode b_M_splits 1 = .ok (.istore 6, 2) := by decide +kernel
theorem d_M_splits_3 : decode b_M_splits 3 = .ok (.iload 6, 2) := by decide +kernel
theorem d_M_splits_5 : decode b_M_splits 5 = .ok (.iload 4, 2) := by decide +kernel
theorem d_M_splits_7 : decode b_M_splits 7 = .ok (.if_icmp .gt 52, 3) := by decide +kernel
theorem d_M_splits_10 : decode b_M_splits 10 = .ok (.iload 4, 2) := by decide +kernel
theorem d_M_splits_12 : decode b_M_splits 12 = .ok (.iload 6, 2) := by decide +kernel
theorem d_M_splits_14 : decode b_M_splits 14 = .ok (.isub, 1) := by decide +kernel
theorem d_M_splits_15 : decode b_M_splits 15 = .ok (.istore 7, 2) := by decide +kernel
theorem d_M_splits_17 : decode b_M_splits 17 = .ok (.aload_n 0, 1) := by decide +kernel
theorem d_M_splits_18 : decode b_M_splits 18 = .ok (.iload_n 1, 1) := by decide +kernel
theorem d_M_splits_19 : decode b_M_splits 19 = .ok (.iload 6, 2) := by decide +kernel
theorem d_M_splits_21 : decode b_M_splits 21 = .ok (.iload 5, 2) := by decide +kernel
theorem d_M_splits_23 : decode b_M_splits 23 = .ok (.iload 7, 2) := by decide +kernel
theorem d_M_splits_25 : decode b_M_splits 25 = .ok (.ishr, 1) := by decide +kernel
theorem d_M_splits_26 : decode b_M_splits 26 = .ok (.invokevirtual 41, 3) := by decide +kernel
theorem d_M_splits_29 : decode b_M_splits 29 = .ok (.ifCond .eq 24, 3) := by decide +kernel
theorem d_M_splits_32 : decode b_M_splits 32 = .ok (.aload_n 0, 1) := by decide +kernel
theorem d_M_splits_33 : decode b_M_splits 33 = .ok (.iload_n 2, 1) := by decide +kernel
theorem d_M_splits_34 : decode b_M_splits 34 = .ok (.iload 7, 2) := by decide +kernel
theorem d_M_splits_36 : decode b_M_splits 36 = .ok (.iload 5, 2) := by decide +kernel
theorem d_M_splits_38 : decode b_M_splits 38 = .ok (.iconst 1, 1) := by decide +kernel
theorem d_M_splits_39 : decode b_M_splits 39 = .ok (.iload 7, 2) := by decide +kernel
theorem d_M_splits_41 : decode b_M_splits 41 = .ok (.ishl, 1) := by decide +kernel
theorem d_M_splits_42 : decode b_M_splits 42 = .ok (.iconst 1, 1) := by decide +kernel
theorem d_M_splits_43 : decode b_M_splits 43 = .ok (.isub, 1) := by decide +kernel
theorem d_M_splits_44 : decode b_M_splits 44 = .ok (.iand, 1) := by decide +kernel
theorem d_M_splits_45 : decode b_M_splits 45 = .ok (.invokevirtual 41, 3) := by decide +kernel
theorem d_M_splits_48 : decode b_M_splits 48 = .ok (.ifCond .eq 5, 3) := by decide +kernel
theorem d_M_splits_51 : decode b_M_splits 51 = .ok (.iconst 1, 1) := by decide +kernel
theorem d_M_splits_52 : decode b_M_splits 52 = .ok (.ireturn, 1) := by decide +kernel
theorem d_M_splits_53 : decode b_M_splits 53 = .ok (.iinc 6 1, 3) := by decide +kernel
theorem d_M_splits_56 : decode b_M_splits 56 = .ok (.goto (-53), 3) := by decide +kernel
theorem d_M_splits_59 : decode b_M_splits 59 = .ok (.iconst 0, 1) := by decide +kernel
theorem d_M_splits_60 : decode b_M_splits 60 = .ok (.ireturn, 1) := by decide +kernel
theorem d_M_holds_0 : decode b_M_holds 0 = .ok (.iload_n 1, 1) := by decide +kernel
theorem d_M_holds_1 : decode b_M_holds 1 = .ok (.iconst 1, 1) := by decide +kernel
theorem d_M_holds_2 : decode b_M_holds 2 = .ok (.iload_n 2, 1) := by decide +kernel
theorem d_M_holds_3 : decode b_M_holds 3 = .ok (.ishl, 1) := by decide +kernel
theorem d_M_holds_4 : decode b_M_holds 4 = .ok (.iconst 1, 1) := by decide +kernel
theorem d_M_holds_5 : decode b_M_holds 5 = .ok (.isub, 1) := by decide +kernel
theorem d_M_holds_6 : decode b_M_holds 6 = .ok (.iload_n 3, 1) := by decide +kernel
theorem d_M_holds_7 : decode b_M_holds 7 = .ok (.iadd, 1) := by decide +kernel
theorem d_M_holds_8 : decode b_M_holds 8 = .ok (.ishr, 1) := by decide +kernel
theorem d_M_holds_9 : decode b_M_holds 9 = .ok (.iconst 1, 1) := by decide +kernel
theorem d_M_holds_10 : decode b_M_holds 10 = .ok (.iand, 1) := by decide +kernel
theorem d_M_holds_11 : decode b_M_holds 11 = .ok (.iconst 1, 1) := by decide +kernel
theorem d_M_holds_12 : decode b_M_holds 12 = .ok (.if_icmp .ne 7, 3) := by decide +kernel
theorem d_M_holds_15 : decode b_M_holds 15 = .ok (.iconst 1, 1) := by decide +kernel
theorem d_M_holds_16 : decode b_M_holds 16 = .ok (.goto 4, 3) := by decide +kernel
theorem d_M_holds_19 : decode b_M_holds 19 = .ok (.iconst 0, 1) := by decide +kernel
theorem d_M_holds_20 : decode b_M_holds 20 = .ok (.ireturn, 1) := by decide +kernel
theorem d_M_word_0 : decode b_M_word 0 = .ok (.iconst 1, 1) := by decide +kernel
theorem d_M_word_1 : decode b_M_word 1 = .ok (.iconst 1, 1) := by decide +kernel
theorem d_M_word_2 : decode b_M_word 2 = .ok (.iload_n 1, 1) := by decide +kernel
theorem d_M_word_3 : decode b_M_word 3 = .ok (.ishl, 1) := by decide +kernel
theorem d_M_word_4 : decode b_M_word 4 = .ok (.iconst 1, 1) := by decide +kernel
theorem d_M_word_5 : decode b_M_word 5 = .ok (.isub, 1) := by decide +kernel
theorem d_M_word_6 : decode b_M_word 6 = .ok (.iload_n 2, 1) := by decide +kernel
theorem d_M_word_7 : decode b_M_word 7 = .ok (.iadd, 1) := by decide +kernel
theorem d_M_word_8 : decode b_M_word 8 = .ok (.ishl, 1) := by decide +kernel
theorem d_M_word_9 : decode b_M_word 9 = .ok (.ireturn, 1) := by decide +kernel
theorem d_M_pair_0 : decode b_M_pair 0 = .ok (.aload_n 0, 1) := by decide +kernel
theorem d_M_pair_1 : decode b_M_pair 1 = .ok (.getfield 7, 3) := by decide +kernel
theorem d_M_pair_4 : decode b_M_pair 4 = .ok (.aload_n 0, 1) := by decide +kernel
theorem d_M_pair_5 : decode b_M_pair 5 = .ok (.getfield 30, 3) := by decide +kernel
theorem d_M_pair_8 : decode b_M_pair 8 = .ok (.iconst 2, 1) := by decide +kernel
theorem d_M_pair_9 : decode b_M_pair 9 = .ok (.isub, 1) := by decide +kernel
theorem d_M_pair_10 : decode b_M_pair 10 = .ok (.iload_n 1, 1) := by decide +kernel
theorem d_M_pair_11 : decode b_M_pair 11 = .ok (.iastore, 1) := by decide +kernel
theorem d_M_pair_12 : decode b_M_pair 12 = .ok (.aload_n 0, 1) := by decide +kernel
theorem d_M_pair_13 : decode b_M_pair 13 = .ok (.getfield 13, 3) := by decide +kernel
theorem d_M_pair_16 : decode b_M_pair 16 = .ok (.aload_n 0, 1) := by decide +kernel
theorem d_M_pair_17 : decode b_M_pair 17 = .ok (.getfield 30, 3) := by decide +kernel
theorem d_M_pair_20 : decode b_M_pair 20 = .ok (.iconst 2, 1) := by decide +kernel
theorem d_M_pair_21 : decode b_M_pair 21 = .ok (.isub, 1) := by decide +kernel
theorem d_M_pair_22 : decode b_M_pair 22 = .ok (.aload_n 0, 1) := by decide +kernel
theorem d_M_pair_23 : decode b_M_pair 23 = .ok (.getfield 13, 3) := by decide +kernel
theorem d_M_pair_26 : decode b_M_pair 26 = .ok (.aload_n 0, 1) := by decide +kernel
theorem d_M_pair_27 : decode b_M_pair 27 = .ok (.getfield 30, 3) := by decide +kernel
theorem d_M_pair_30 : decode b_M_pair 30 = .ok (.iconst 2, 1) := by decide +kernel
theorem d_M_pair_31 : decode b_M_pair 31 = .ok (.isub, 1) := by decide +kernel
theorem d_M_pair_32 : decode b_M_pair 32 = .ok (.iaload, 1) := by decide +kernel
theorem d_M_pair_33 : decode b_M_pair 33 = .ok (.aload_n 0, 1) := by decide +kernel
theorem d_M_pair_34 : decode b_M_pair 34 = .ok (.getfield 13, 3) := by decide +kernel
theorem d_M_pair_37 : decode b_M_pair 37 = .ok (.aload_n 0, 1) := by decide +kernel
theorem d_M_pair_38 : decode b_M_pair 38 = .ok (.getfield 30, 3) := by decide +kernel
theorem d_M_pair_41 : decode b_M_pair 41 = .ok (.iconst 1, 1) := by decide +kernel
theorem d_M_pair_42 : decode b_M_pair 42 = .ok (.isub, 1) := by decide +kernel
theorem d_M_pair_43 : decode b_M_pair 43 = .ok (.iaload, 1) := by decide +kernel
theorem d_M_pair_44 : decode b_M_pair 44 = .ok (.iadd, 1) := by decide +kernel
theorem d_M_pair_45 : decode b_M_pair 45 = .ok (.iastore, 1) := by decide +kernel
theorem d_M_pair_46 : decode b_M_pair 46 = .ok (.aload_n 0, 1) := by decide +kernel
theorem d_M_pair_47 : decode b_M_pair 47 = .ok (.dup, 1) := by decide +kernel
theorem d_M_pair_48 : decode b_M_pair 48 = .ok (.getfield 30, 3) := by decide +kernel
theorem d_M_pair_51 : decode b_M_pair 51 = .ok (.iconst 1, 1) := by decide +kernel
theorem d_M_pair_52 : decode b_M_pair 52 = .ok (.isub, 1) := by decide +kernel
theorem d_M_pair_53 : decode b_M_pair 53 = .ok (.putfield 30, 3) := by decide +kernel
theorem d_M_pair_56 : decode b_M_pair 56 = .ok (.aload_n 0, 1) := by decide +kernel
theorem d_M_pair_57 : decode b_M_pair 57 = .ok (.getfield 30, 3) := by decide +kernel
theorem d_M_pair_60 : decode b_M_pair 60 = .ok (.ireturn, 1) := by decide +kernel
theorem d_M_alt_0 : decode b_M_alt 0 = .ok (.aload_n 0, 1) := by decide +kernel
theorem d_M_alt_1 : decode b_M_alt 1 = .ok (.getfield 30, 3) := by decide +kernel
theorem d_M_alt_4 : decode b_M_alt 4 = .ok (.iconst 2, 1) := by decide +kernel
theorem d_M_alt_5 : decode b_M_alt 5 = .ok (.if_icmp .ge 6, 3) := by decide +kernel
theorem d_M_alt_8 : decode b_M_alt 8 = .ok (.bipush (-3), 2) := by decide +kernel
theorem d_M_alt_10 : decode b_M_alt 10 = .ok (.ireturn, 1) := by decide +kernel
theorem d_M_alt_11 : decode b_M_alt 11 = .ok (.aload_n 0, 1) := by decide +kernel
theorem d_M_alt_12 : decode b_M_alt 12 = .ok (.aload_n 0, 1) := by decide +kernel
theorem d_M_alt_13 : decode b_M_alt 13 = .ok (.getfield 7, 3) := by decide +kernel
theorem d_M_alt_16 : decode b_M_alt 16 = .ok (.aload_n 0, 1) := by decide +kernel
theorem d_M_alt_17 : decode b_M_alt 17 = .ok (.getfield 30, 3) := by decide +kernel
theorem d_M_alt_20 : decode b_M_alt 20 = .ok (.iconst 2, 1) := by decide +kernel
theorem d_M_alt_21 : decode b_M_alt 21 = .ok (.isub, 1) := by decide +kernel
theorem d_M_alt_22 : decode b_M_alt 22 = .ok (.iaload, 1) := by decide +kernel
theorem d_M_alt_23 : decode b_M_alt 23 = .ok (.aload_n 0, 1) := by decide +kernel
theorem d_M_alt_24 : decode b_M_alt 24 = .ok (.getfield 7, 3) := by decide +kernel
theorem d_M_alt_27 : decode b_M_alt 27 = .ok (.aload_n 0, 1) := by decide +kernel
theorem d_M_alt_28 : decode b_M_alt 28 = .ok (.getfield 30, 3) := by decide +kernel
theorem d_M_alt_31 : decode b_M_alt 31 = .ok (.iconst 1, 1) := by decide +kernel
theorem d_M_alt_32 : decode b_M_alt 32 = .ok (.isub, 1) := by decide +kernel
theorem d_M_alt_33 : decode b_M_alt 33 = .ok (.iaload, 1) := by decide +kernel
theorem d_M_alt_34 : decode b_M_alt 34 = .ok (.ior, 1) := by decide +kernel
theorem d_M_alt_35 : decode b_M_alt 35 = .ok (.invokevirtual 58, 3) := by decide +kernel
theorem d_M_alt_38 : decode b_M_alt 38 = .ok (.ireturn, 1) := by decide +kernel
theorem d_M_star_0 : decode b_M_star 0 = .ok (.aload_n 0, 1) := by decide +kernel
theorem d_M_star_1 : decode b_M_star 1 = .ok (.getfield 30, 3) := by decide +kernel
theorem d_M_star_4 : decode b_M_star 4 = .ok (.ifCond .ne 6, 3) := by decide +kernel
theorem d_M_star_7 : decode b_M_star 7 = .ok (.bipush (-3), 2) := by decide +kernel
theorem d_M_star_9 : decode b_M_star 9 = .ok (.ireturn, 1) := by decide +kernel
theorem d_M_star_10 : decode b_M_star 10 = .ok (.aload_n 0, 1) := by decide +kernel
theorem d_M_star_11 : decode b_M_star 11 = .ok (.getfield 7, 3) := by decide +kernel
theorem d_M_star_14 : decode b_M_star 14 = .ok (.aload_n 0, 1) := by decide +kernel
theorem d_M_star_15 : decode b_M_star 15 = .ok (.getfield 30, 3) := by decide +kernel
theorem d_M_star_18 : decode b_M_star 18 = .ok (.iconst 1, 1) := by decide +kernel
theorem d_M_star_19 : decode b_M_star 19 = .ok (.isub, 1) := by decide +kernel
theorem d_M_star_20 : decode b_M_star 20 = .ok (.aload_n 0, 1) := by decide +kernel
theorem d_M_star_21 : decode b_M_star 21 = .ok (.aload_n 0, 1) := by decide +kernel
theorem d_M_star_22 : decode b_M_star 22 = .ok (.getfield 7, 3) := by decide +kernel
theorem d_M_star_25 : decode b_M_star 25 = .ok (.aload_n 0, 1) := by decide +kernel
theorem d_M_star_26 : decode b_M_star 26 = .ok (.getfield 30, 3) := by decide +kernel
theorem d_M_star_29 : decode b_M_star 29 = .ok (.iconst 1, 1) := by decide +kernel
theorem d_M_star_30 : decode b_M_star 30 = .ok (.isub, 1) := by decide +kernel
theorem d_M_star_31 : decode b_M_star 31 = .ok (.iaload, 1) := by decide +kernel
theorem d_M_star_32 : decode b_M_star 32 = .ok (.invokevirtual 62, 3) := by decide +kernel
theorem d_M_star_35 : decode b_M_star 35 = .ok (.iastore, 1) := by decide +kernel
theorem d_M_star_36 : decode b_M_star 36 = .ok (.aload_n 0, 1) := by decide +kernel
theorem d_M_star_37 : decode b_M_star 37 = .ok (.getfield 30, 3) := by decide +kernel
theorem d_M_star_40 : decode b_M_star 40 = .ok (.ireturn, 1) := by decide +kernel
theorem d_M_chains_0 : decode b_M_chains 0 = .ok (.iconst 1, 1) := by decide +kernel
theorem d_M_chains_1 : decode b_M_chains 1 = .ok (.istore_n 2, 1) := by decide +kernel
theorem d_M_chains_2 : decode b_M_chains 2 = .ok (.iconst 1, 1) := by decide +kernel
theorem d_M_chains_3 : decode b_M_chains 3 = .ok (.istore_n 3, 1) := by decide +kernel
theorem d_M_chains_4 : decode b_M_chains 4 = .ok (.iload_n 3, 1) := by decide +kernel
theorem d_M_chains_5 : decode b_M_chains 5 = .ok (.iconst 4, 1) := by decide +kernel
theorem d_M_chains_6 : decode b_M_chains 6 = .ok (.if_icmp .gt 49, 3) := by decide +kernel
theorem d_M_chains_9 : decode b_M_chains 9 = .ok (.iconst 0, 1) := by decide +kernel
theorem d_M_chains_10 : decode b_M_chains 10 = .ok (.istore 4, 2) := by decide +kernel
theorem d_M_chains_12 : decode b_M_chains 12 = .ok (.iload 4, 2) := by decide +kernel
theorem d_M_chains_14 : decode b_M_chains 14 = .ok (.iconst 1, 1) := by decide +kernel
theorem d_M_chains_15 : decode b_M_chains 15 = .ok (.iload_n 3, 1) := by decide +kernel
theorem d_M_chains_16 : decode b_M_chains 16 = .ok (.ishl, 1) := by decide +kernel
theorem d_M_chains_17 : decode b_M_chains 17 = .ok (.if_icmp .ge 32, 3) := by decide +kernel
theorem d_M_chains_20 : decode b_M_chains 20 = .ok (.aload_n 0, 1) := by decide +kernel
theorem d_M_chains_21 : decode b_M_chains 21 = .ok (.iload_n 1, 1) := by decide +kernel
theorem d_M_chains_22 : decode b_M_chains 22 = .ok (.iload_n 2, 1) := by decide +kernel
theorem d_M_chains_23 : decode b_M_chains 23 = .ok (.iconst 1, 1) := by decide +kernel
theorem d_M_chains_24 : decode b_M_chains 24 = .ok (.iload_n 3, 1) := by decide +kernel
theorem d_M_chains_25 : decode b_M_chains 25 = .ok (.iload 4, 2) := by decide +kernel
theorem d_M_chains_27 : decode b_M_chains 27 = .ok (.invokevirtual 45, 3) := by decide +kernel
theorem d_M_chains_30 : decode b_M_chains 30 = .ok (.ifCond .eq 13, 3) := by decide +kernel
theorem d_M_chains_33 : decode b_M_chains 33 = .ok (.iload_n 2, 1) := by decide +kernel
theorem d_M_chains_34 : decode b_M_chains 34 = .ok (.aload_n 0, 1) := by decide +kernel
theorem d_M_chains_35 : decode b_M_chains 35 = .ok (.iload_n 3, 1) := by decide +kernel
theorem d_M_chains_36 : decode b_M_chains 36 = .ok (.iload 4, 2) := by decide +kernel
theorem d_M_chains_38 : decode b_M_chains 38 = .ok (.invokevirtual 49, 3) := by decide +kernel
theorem d_M_chains_41 : decode b_M_chains 41 = .ok (.ior, 1) := by decide +kernel
theorem d_M_chains_42 : decode b_M_chains 42 = .ok (.istore_n 2, 1) := by decide +kernel
theorem d_M_chains_43 : decode b_M_chains 43 = .ok (.iinc 4 1, 3) := by decide +kernel
theorem d_M_chains_46 : decode b_M_chains 46 = .ok (.goto (-34), 3) := by decide +kernel
theorem d_M_chains_49 : decode b_M_chains 49 = .ok (.iinc 3 1, 3) := by decide +kernel
theorem d_M_chains_52 : decode b_M_chains 52 = .ok (.goto (-48), 3) := by decide +kernel
theorem d_M_chains_55 : decode b_M_chains 55 = .ok (.iload_n 2, 1) := by decide +kernel
theorem d_M_chains_56 : decode b_M_chains 56 = .ok (.ireturn, 1) := by decide +kernel
theorem d_M_reverse_0 : decode b_M_reverse 0 = .ok (.aload_n 0, 1) := by decide +kernel
theorem d_M_reverse_1 : decode b_M_reverse 1 = .ok (.getfield 30, 3) := by decide +kernel
theorem d_M_reverse_4 : decode b_M_reverse 4 = .ok (.ifCond .ne 6, 3) := by decide +kernel
theorem d_M_reverse_7 : decode b_M_reverse 7 = .ok (.bipush (-3), 2) := by decide +kernel
theorem d_M_reverse_9 : decode b_M_reverse 9 = .ok (.ireturn, 1) := by decide +kernel
theorem d_M_reverse_10 : decode b_M_reverse 10 = .ok (.aload_n 0, 1) := by decide +kernel
theorem d_M_reverse_11 : decode b_M_reverse 11 = .ok (.getfield 7, 3) := by decide +kernel
theorem d_M_reverse_14 : decode b_M_reverse 14 = .ok (.aload_n 0, 1) := by decide +kernel
theorem d_M_reverse_15 : decode b_M_reverse 15 = .ok (.getfield 30, 3) := by decide +kernel
theorem d_M_reverse_18 : decode b_M_reverse 18 = .ok (.iconst 1, 1) := by decide +kernel
theorem d_M_reverse_19 : decode b_M_reverse 19 = .ok (.isub, 1) := by decide +kernel
theorem d_M_reverse_20 : decode b_M_reverse 20 = .ok (.aload_n 0, 1) := by decide +kernel
theorem d_M_reverse_21 : decode b_M_reverse 21 = .ok (.aload_n 0, 1) := by decide +kernel
theorem d_M_reverse_22 : decode b_M_reverse 22 = .ok (.getfield 7, 3) := by decide +kernel
theorem d_M_reverse_25 : decode b_M_reverse 25 = .ok (.aload_n 0, 1) := by decide +kernel
theorem d_M_reverse_26 : decode b_M_reverse 26 = .ok (.getfield 30, 3) := by decide +kernel
theorem d_M_reverse_29 : decode b_M_reverse 29 = .ok (.iconst 1, 1) := by decide +kernel
theorem d_M_reverse_30 : decode b_M_reverse 30 = .ok (.isub, 1) := by decide +kernel
theorem d_M_reverse_31 : decode b_M_reverse 31 = .ok (.iaload, 1) := by decide +kernel
theorem d_M_reverse_32 : decode b_M_reverse 32 = .ok (.invokevirtual 65, 3) := by decide +kernel
theorem d_M_reverse_35 : decode b_M_reverse 35 = .ok (.iastore, 1) := by decide +kernel
theorem d_M_reverse_36 : decode b_M_reverse 36 = .ok (.aload_n 0, 1) := by decide +kernel
theorem d_M_reverse_37 : decode b_M_reverse 37 = .ok (.getfield 30, 3) := by decide +kernel
theorem d_M_reverse_40 : decode b_M_reverse 40 = .ok (.ireturn, 1) := by decide +kernel
theorem d_M_mirrors_0 : decode b_M_mirrors 0 = .ok (.iconst 0, 1) := by decide +kernel
theorem d_M_mirrors_1 : decode b_M_mirrors 1 = .ok (.istore_n 2, 1) := by decide +kernel
theorem d_M_mirrors_2 : decode b_M_mirrors 2 = .ok (.iconst 0, 1) := by decide +kernel
theorem d_M_mirrors_3 : decode b_M_mirrors 3 = .ok (.istore_n 3, 1) := by decide +kernel
theorem d_M_mirrors_4 : decode b_M_mirrors 4 = .ok (.iload_n 3, 1) := by decide +kernel
theorem d_M_mirrors_5 : decode b_M_mirrors 5 = .ok (.iconst 4, 1) := by decide +kernel
theorem d_M_mirrors_6 : decode b_M_mirrors 6 = .ok (.if_icmp .gt 56, 3) := by decide +kernel
theorem d_M_mirrors_9 : decode b_M_mirrors 9 = .ok (.iconst 0, 1) := by decide +kernel
theorem d_M_mirrors_10 : decode b_M_mirrors 10 = .ok (.istore 4, 2) := by decide +kernel
theorem d_M_mirrors_12 : decode b_M_mirrors 12 = .ok (.iload 4, 2) := by decide +kernel
theorem d_M_mirrors_14 : decode b_M_mirrors 14 = .ok (.iconst 1, 1) := by decide +kernel
theorem d_M_mirrors_15 : decode b_M_mirrors 15 = .ok (.iload_n 3, 1) := by decide +kernel
theorem d_M_mirrors_16 : decode b_M_mirrors 16 = .ok (.ishl, 1) := by decide +kernel
theorem d_M_mirrors_17 : decode b_M_mirrors 17 = .ok (.if_icmp .ge 39, 3) := by decide +kernel
theorem d_M_mirrors_20 : decode b_M_mirrors 20 = .ok (.aload_n 0, 1) := by decide +kernel
theorem d_M_mirrors_21 : decode b_M_mirrors 21 = .ok (.iload_n 3, 1) := by decide +kernel
theorem d_M_mirrors_22 : decode b_M_mirrors 22 = .ok (.iload 4, 2) := by decide +kernel
theorem d_M_mirrors_24 : decode b_M_mirrors 24 = .ok (.invokevirtual 52, 3) := by decide +kernel
theorem d_M_mirrors_27 : decode b_M_mirrors 27 = .ok (.istore 5, 2) := by decide +kernel
theorem d_M_mirrors_29 : decode b_M_mirrors 29 = .ok (.aload_n 0, 1) := by decide +kernel
theorem d_M_mirrors_30 : decode b_M_mirrors 30 = .ok (.iload_n 1, 1) := by decide +kernel
theorem d_M_mirrors_31 : decode b_M_mirrors 31 = .ok (.iload_n 3, 1) := by decide +kernel
theorem d_M_mirrors_32 : decode b_M_mirrors 32 = .ok (.iload 5, 2) := by decide +kernel
theorem d_M_mirrors_34 : decode b_M_mirrors 34 = .ok (.invokevirtual 41, 3) := by decide +kernel
theorem d_M_mirrors_37 : decode b_M_mirrors 37 = .ok (.ifCond .eq 13, 3) := by decide +kernel
theorem d_M_mirrors_40 : decode b_M_mirrors 40 = .ok (.iload_n 2, 1) := by decide +kernel
theorem d_M_mirrors_41 : decode b_M_mirrors 41 = .ok (.aload_n 0, 1) := by decide +kernel
theorem d_M_mirrors_42 : decode b_M_mirrors 42 = .ok (.iload_n 3, 1) := by decide +kernel
theorem d_M_mirrors_43 : decode b_M_mirrors 43 = .ok (.iload 4, 2) := by decide +kernel
theorem d_M_mirrors_45 : decode b_M_mirrors 45 = .ok (.invokevirtual 49, 3) := by decide +kernel
theorem d_M_mirrors_48 : decode b_M_mirrors 48 = .ok (.ior, 1) := by decide +kernel
theorem d_M_mirrors_49 : decode b_M_mirrors 49 = .ok (.istore_n 2, 1) := by decide +kernel
theorem d_M_mirrors_50 : decode b_M_mirrors 50 = .ok (.iinc 4 1, 3) := by decide +kernel
theorem d_M_mirrors_53 : decode b_M_mirrors 53 = .ok (.goto (-41), 3) := by decide +kernel
theorem d_M_mirrors_56 : decode b_M_mirrors 56 = .ok (.iinc 3 1, 3) := by decide +kernel
theorem d_M_mirrors_59 : decode b_M_mirrors 59 = .ok (.goto (-55), 3) := by decide +kernel
theorem d_M_mirrors_62 : decode b_M_mirrors 62 = .ok (.iload_n 2, 1) := by decide +kernel
theorem d_M_mirrors_63 : decode b_M_mirrors 63 = .ok (.ireturn, 1) := by decide +kernel
theorem d_M_mirrored_0 : decode b_M_mirrored 0 = .ok (.iconst 0, 1) := by decide +kernel
theorem d_M_mirrored_1 : decode b_M_mirrored 1 = .ok (.istore_n 3, 1) := by decide +kernel
theorem d_M_mirrored_2 : decode b_M_mirrored 2 = .ok (.iconst 0, 1) := by decide +kernel
theorem d_M_mirrored_3 : decode b_M_mirrored 3 = .ok (.istore 4, 2) := by decide +kernel
theorem d_M_mirrored_5 : decode b_M_mirrored 5 = .ok (.iload 4, 2) := by decide +kernel
theorem d_M_mirrored_7 : decode b_M_mirrored 7 = .ok (.iload_n 1, 1) := by decide +kernel
theorem d_M_mirrored_8 : decode b_M_mirrored 8 = .ok (.if_icmp .ge 20, 3) := by decide +kernel
theorem d_M_mirrored_11 : decode b_M_mirrored 11 = .ok (.iload_n 3, 1) := by decide +kernel
theorem d_M_mirrored_12 : decode b_M_mirrored 12 = .ok (.iconst 2, 1) := by decide +kernel
theorem d_M_mirrored_13 : decode b_M_mirrored 13 = .ok (.imul, 1) := by decide +kernel
theorem d_M_mirrored_14 : decode b_M_mirrored 14 = .ok (.iload_n 2, 1) := by decide +kernel
theorem d_M_mirrored_15 : decode b_M_mirrored 15 = .ok (.iload 4, 2) := by decide +kernel
theorem d_M_mirrored_17 : decode b_M_mirrored 17 = .ok (.ishr, 1) := by decide +kernel
theorem d_M_mirrored_18 : decode b_M_mirrored 18 = .ok (.iconst 1, 1) := by decide +kernel
theorem d_M_mirrored_19 : decode b_M_mirrored 19 = .ok (.iand, 1) := by decide +kernel
theorem d_M_mirrored_20 : decode b_M_mirrored 20 = .ok (.iadd, 1) := by decide +kernel
theorem d_M_mirrored_21 : decode b_M_mirrored 21 = .ok (.istore_n 3, 1) := by decide +kernel
theorem d_M_mirrored_22 : decode b_M_mirrored 22 = .ok (.iinc 4 1, 3) := by decide +kernel
theorem d_M_mirrored_25 : decode b_M_mirrored 25 = .ok (.goto (-20), 3) := by decide +kernel
theorem d_M_mirrored_28 : decode b_M_mirrored 28 = .ok (.iload_n 3, 1) := by decide +kernel
theorem d_M_mirrored_29 : decode b_M_mirrored 29 = .ok (.ireturn, 1) := by decide +kernel
theorem d_M_setLine_0 : decode b_M_setLine 0 = .ok (.aload_n 0, 1) := by decide +kernel
theorem d_M_setLine_1 : decode b_M_setLine 1 = .ok (.iload_n 1, 1) := by decide +kernel
theorem d_M_setLine_2 : decode b_M_setLine 2 = .ok (.invokevirtual 68, 3) := by decide +kernel
theorem d_M_setLine_5 : decode b_M_setLine 5 = .ok (.ifCond .ne 5, 3) := by decide +kernel
theorem d_M_setLine_8 : decode b_M_setLine 8 = .ok (.iconst (-1), 1) := by decide +kernel
theorem d_M_setLine_9 : decode b_M_setLine 9 = .ok (.ireturn, 1) := by decide +kernel
theorem d_M_setLine_10 : decode b_M_setLine 10 = .ok (.aload_n 0, 1) := by decide +kernel
theorem d_M_setLine_11 : decode b_M_setLine 11 = .ok (.getfield 30, 3) := by decide +kernel
theorem d_M_setLine_14 : decode b_M_setLine 14 = .ok (.ifCond .ne 6, 3) := by decide +kernel
theorem d_M_setLine_17 : decode b_M_setLine 17 = .ok (.bipush (-3), 2) := by decide +kernel
theorem d_M_setLine_19 : decode b_M_setLine 19 = .ok (.ireturn, 1) := by decide +kernel
theorem d_M_setLine_20 : decode b_M_setLine 20 = .ok (.aload_n 0, 1) := by decide +kernel
theorem d_M_setLine_21 : decode b_M_setLine 21 = .ok (.dup, 1) := by decide +kernel
theorem d_M_setLine_22 : decode b_M_setLine 22 = .ok (.getfield 30, 3) := by decide +kernel
theorem d_M_setLine_25 : decode b_M_setLine 25 = .ok (.iconst 1, 1) := by decide +kernel
theorem d_M_setLine_26 : decode b_M_setLine 26 = .ok (.isub, 1) := by decide +kernel
theorem d_M_setLine_27 : decode b_M_setLine 27 = .ok (.putfield 30, 3) := by decide +kernel
theorem d_M_setLine_30 : decode b_M_setLine 30 = .ok (.aload_n 0, 1) := by decide +kernel
theorem d_M_setLine_31 : decode b_M_setLine 31 = .ok (.getfield 16, 3) := by decide +kernel
theorem d_M_setLine_34 : decode b_M_setLine 34 = .ok (.iload_n 1, 1) := by decide +kernel
theorem d_M_setLine_35 : decode b_M_setLine 35 = .ok (.aload_n 0, 1) := by decide +kernel
theorem d_M_setLine_36 : decode b_M_setLine 36 = .ok (.getfield 7, 3) := by decide +kernel
theorem d_M_setLine_39 : decode b_M_setLine 39 = .ok (.aload_n 0, 1) := by decide +kernel
theorem d_M_setLine_40 : decode b_M_setLine 40 = .ok (.getfield 30, 3) := by decide +kernel
theorem d_M_setLine_43 : decode b_M_setLine 43 = .ok (.iaload, 1) := by decide +kernel
theorem d_M_setLine_44 : decode b_M_setLine 44 = .ok (.iastore, 1) := by decide +kernel
theorem d_M_setLine_45 : decode b_M_setLine 45 = .ok (.aload_n 0, 1) := by decide +kernel
theorem d_M_setLine_46 : decode b_M_setLine 46 = .ok (.getfield 30, 3) := by decide +kernel
theorem d_M_setLine_49 : decode b_M_setLine 49 = .ok (.ireturn, 1) := by decide +kernel
theorem d_M_isLine_0 : decode b_M_isLine 0 = .ok (.iload_n 1, 1) := by decide +kernel
theorem d_M_isLine_1 : decode b_M_isLine 1 = .ok (.ifCond .lt 20, 3) := by decide +kernel
theorem d_M_isLine_4 : decode b_M_isLine 4 = .ok (.iload_n 1, 1) := by decide +kernel
theorem d_M_isLine_5 : decode b_M_isLine 5 = .ok (.aload_n 0, 1) := by decide +kernel
theorem d_M_isLine_6 : decode b_M_isLine 6 = .ok (.getfield 22, 3) := by decide +kernel
theorem d_M_isLine_9 : decode b_M_isLine 9 = .ok (.aload_n 0, 1) := by decide +kernel
theorem d_M_isLine_10 : decode b_M_isLine 10 = .ok (.getfield 26, 3) := by decide +kernel
theorem d_M_isLine_13 : decode b_M_isLine 13 = .ok (.iadd, 1) := by decide +kernel
theorem d_M_isLine_14 : decode b_M_isLine 14 = .ok (.if_icmp .ge 7, 3) := by decide +kernel
theorem d_M_isLine_17 : decode b_M_isLine 17 = .ok (.iconst 1, 1) := by decide +kernel
theorem d_M_isLine_18 : decode b_M_isLine 18 = .ok (.goto 4, 3) := by decide +kernel
theorem d_M_isLine_21 : decode b_M_isLine 21 = .ok (.iconst 0, 1) := by decide +kernel
theorem d_M_isLine_22 : decode b_M_isLine 22 = .ok (.ireturn, 1) := by decide +kernel
theorem d_M_depth_0 : decode b_M_depth 0 = .ok (.aload_n 0, 1) := by decide +kernel
theorem d_M_depth_1 : decode b_M_depth 1 = .ok (.getfield 30, 3) := by decide +kernel
theorem d_M_depth_4 : decode b_M_depth 4 = .ok (.ireturn, 1) := by decide +kernel
theorem d_M_freeLine_0 : decode b_M_freeLine 0 = .ok (.aload_n 0, 1) := by decide +kernel
theorem d_M_freeLine_1 : decode b_M_freeLine 1 = .ok (.iload_n 1, 1) := by decide +kernel
theorem d_M_freeLine_2 : decode b_M_freeLine 2 = .ok (.invokevirtual 68, 3) := by decide +kernel
theorem d_M_freeLine_5 : decode b_M_freeLine 5 = .ok (.ifCond .ne 5, 3) := by decide +kernel
theorem d_M_freeLine_8 : decode b_M_freeLine 8 = .ok (.iconst (-1), 1) := by decide +kernel
theorem d_M_freeLine_9 : decode b_M_freeLine 9 = .ok (.ireturn, 1) := by decide +kernel
theorem d_M_freeLine_10 : decode b_M_freeLine 10 = .ok (.aload_n 0, 1) := by decide +kernel
theorem d_M_freeLine_11 : decode b_M_freeLine 11 = .ok (.getfield 16, 3) := by decide +kernel
theorem d_M_freeLine_14 : decode b_M_freeLine 14 = .ok (.iload_n 1, 1) := by decide +kernel
theorem d_M_freeLine_15 : decode b_M_freeLine 15 = .ok (.ldc 29, 2) := by decide +kernel
theorem d_M_freeLine_17 : decode b_M_freeLine 17 = .ok (.iastore, 1) := by decide +kernel
theorem d_M_freeLine_18 : decode b_M_freeLine 18 = .ok (.iconst 0, 1) := by decide +kernel
theorem d_M_freeLine_19 : decode b_M_freeLine 19 = .ok (.ireturn, 1) := by decide +kernel
theorem d_M_pin_0 : decode b_M_pin 0 = .ok (.aload_n 0, 1) := by decide +kernel
theorem d_M_pin_1 : decode b_M_pin 1 = .ok (.iload_n 1, 1) := by decide +kernel
theorem d_M_pin_2 : decode b_M_pin 2 = .ok (.iload_n 2, 1) := by decide +kernel
theorem d_M_pin_3 : decode b_M_pin 3 = .ok (.invokevirtual 72, 3) := by decide +kernel
theorem d_M_pin_6 : decode b_M_pin 6 = .ok (.ifCond .eq 12, 3) := by decide +kernel
theorem d_M_pin_9 : decode b_M_pin 9 = .ok (.iload_n 3, 1) := by decide +kernel
theorem d_M_pin_10 : decode b_M_pin 10 = .ok (.ifCond .lt 8, 3) := by decide +kernel
theorem d_M_pin_13 : decode b_M_pin 13 = .ok (.iload_n 3, 1) := by decide +kernel
theorem d_M_pin_14 : decode b_M_pin 14 = .ok (.iconst 2, 1) := by decide +kernel
theorem d_M_pin_15 : decode b_M_pin 15 = .ok (.if_icmp .le 5, 3) := by decide +kernel
theorem d_M_pin_18 : decode b_M_pin 18 = .ok (.iconst (-1), 1) := by decide +kernel
theorem d_M_pin_19 : decode b_M_pin 19 = .ok (.ireturn, 1) := by decide +kernel
theorem d_M_pin_20 : decode b_M_pin 20 = .ok (.aload_n 0, 1) := by decide +kernel
theorem d_M_pin_21 : decode b_M_pin 21 = .ok (.getfield 19, 3) := by decide +kernel
theorem d_M_pin_24 : decode b_M_pin 24 = .ok (.iload_n 1, 1) := by decide +kernel
theorem d_M_pin_25 : decode b_M_pin 25 = .ok (.iconst 4, 1) := by decide +kernel
theorem d_M_pin_26 : decode b_M_pin 26 = .ok (.imul, 1) := by decide +kernel
theorem d_M_pin_27 : decode b_M_pin 27 = .ok (.iload_n 2, 1) := by decide +kernel
theorem d_M_pin_28 : decode b_M_pin 28 = .ok (.iadd, 1) := by decide +kernel
theorem d_M_pin_29 : decode b_M_pin 29 = .ok (.iaload, 1) := by decide +kernel
theorem d_M_pin_30 : decode b_M_pin 30 = .ok (.istore 4, 2) := by decide +kernel
theorem d_M_pin_32 : decode b_M_pin 32 = .ok (.aload_n 0, 1) := by decide +kernel
theorem d_M_pin_33 : decode b_M_pin 33 = .ok (.getfield 19, 3) := by decide +kernel
theorem d_M_pin_36 : decode b_M_pin 36 = .ok (.iload_n 1, 1) := by decide +kernel
theorem d_M_pin_37 : decode b_M_pin 37 = .ok (.iconst 4, 1) := by decide +kernel
theorem d_M_pin_38 : decode b_M_pin 38 = .ok (.imul, 1) := by decide +kernel
theorem d_M_pin_39 : decode b_M_pin 39 = .ok (.iload_n 2, 1) := by decide +kernel
theorem d_M_pin_40 : decode b_M_pin 40 = .ok (.iadd, 1) := by decide +kernel
theorem d_M_pin_41 : decode b_M_pin 41 = .ok (.iload_n 3, 1) := by decide +kernel
theorem d_M_pin_42 : decode b_M_pin 42 = .ok (.iastore, 1) := by decide +kernel
theorem d_M_pin_43 : decode b_M_pin 43 = .ok (.iload 4, 2) := by decide +kernel
theorem d_M_pin_45 : decode b_M_pin 45 = .ok (.ireturn, 1) := by decide +kernel
theorem d_M_isCell_0 : decode b_M_isCell 0 = .ok (.iload_n 1, 1) := by decide +kernel
theorem d_M_isCell_1 : decode b_M_isCell 1 = .ok (.ifCond .lt 27, 3) := by decide +kernel
theorem d_M_isCell_4 : decode b_M_isCell 4 = .ok (.iload_n 1, 1) := by decide +kernel
theorem d_M_isCell_5 : decode b_M_isCell 5 = .ok (.aload_n 0, 1) := by decide +kernel
theorem d_M_isCell_6 : decode b_M_isCell 6 = .ok (.getfield 22, 3) := by decide +kernel
theorem d_M_isCell_9 : decode b_M_isCell 9 = .ok (.if_icmp .ge 19, 3) := by decide +kernel
theorem d_M_isCell_12 : decode b_M_isCell 12 = .ok (.iload_n 2, 1) := by decide +kernel
theorem d_M_isCell_13 : decode b_M_isCell 13 = .ok (.ifCond .lt 15, 3) := by decide +kernel
theorem d_M_isCell_16 : decode b_M_isCell 16 = .ok (.iload_n 2, 1) := by decide +kernel
theorem d_M_isCell_17 : decode b_M_isCell 17 = .ok (.aload_n 0, 1) := by decide +kernel
theorem d_M_isCell_18 : decode b_M_isCell 18 = .ok (.getfield 26, 3) := by decide +kernel
theorem d_M_isCell_21 : decode b_M_isCell 21 = .ok (.if_icmp .ge 7, 3) := by decide +kernel
theorem d_M_isCell_24 : decode b_M_isCell 24 = .ok (.iconst 1, 1) := by decide +kernel
theorem d_M_isCell_25 : decode b_M_isCell 25 = .ok (.goto 4, 3) := by decide +kernel
theorem d_M_isCell_28 : decode b_M_isCell 28 = .ok (.iconst 0, 1) := by decide +kernel
theorem d_M_isCell_29 : decode b_M_isCell 29 = .ok (.ireturn, 1) := by decide +kernel
theorem d_M_pinned_0 : decode b_M_pinned 0 = .ok (.aload_n 0, 1) := by decide +kernel
theorem d_M_pinned_1 : decode b_M_pinned 1 = .ok (.iload_n 1, 1) := by decide +kernel
theorem d_M_pinned_2 : decode b_M_pinned 2 = .ok (.iload_n 2, 1) := by decide +kernel
theorem d_M_pinned_3 : decode b_M_pinned 3 = .ok (.invokevirtual 72, 3) := by decide +kernel
theorem d_M_pinned_6 : decode b_M_pinned 6 = .ok (.ifCond .ne 5, 3) := by decide +kernel
theorem d_M_pinned_9 : decode b_M_pinned 9 = .ok (.iconst (-1), 1) := by decide +kernel
theorem d_M_pinned_10 : decode b_M_pinned 10 = .ok (.ireturn, 1) := by decide +kernel
theorem d_M_pinned_11 : decode b_M_pinned 11 = .ok (.aload_n 0, 1) := by decide +kernel
theorem d_M_pinned_12 : decode b_M_pinned 12 = .ok (.getfield 19, 3) := by decide +kernel
theorem d_M_pinned_15 : decode b_M_pinned 15 = .ok (.iload_n 1, 1) := by decide +kernel
theorem d_M_pinned_16 : decode b_M_pinned 16 = .ok (.iconst 4, 1) := by decide +kernel
theorem d_M_pinned_17 : decode b_M_pinned 17 = .ok (.imul, 1) := by decide +kernel
theorem d_M_pinned_18 : decode b_M_pinned 18 = .ok (.iload_n 2, 1) := by decide +kernel
theorem d_M_pinned_19 : decode b_M_pinned 19 = .ok (.iadd, 1) := by decide +kernel
theorem d_M_pinned_20 : decode b_M_pinned 20 = .ok (.iaload, 1) := by decide +kernel
theorem d_M_pinned_21 : decode b_M_pinned 21 = .ok (.ireturn, 1) := by decide +kernel
theorem d_M_fillings_0 : decode b_M_fillings 0 = .ok (.iconst 0, 1) := by decide +kernel
theorem d_M_fillings_1 : decode b_M_fillings 1 = .ok (.istore_n 1, 1) := by decide +kernel
theorem d_M_fillings_2 : decode b_M_fillings 2 = .ok (.iconst 0, 1) := by decide +kernel
theorem d_M_fillings_3 : decode b_M_fillings 3 = .ok (.istore_n 2, 1) := by decide +kernel
theorem d_M_fillings_4 : decode b_M_fillings 4 = .ok (.iload_n 2, 1) := by decide +kernel
theorem d_M_fillings_5 : decode b_M_fillings 5 = .ok (.iconst 1, 1) := by decide +kernel
theorem d_M_fillings_6 : decode b_M_fillings 6 = .ok (.aload_n 0, 1) := by decide +kernel
theorem d_M_fillings_7 : decode b_M_fillings 7 = .ok (.getfield 22, 3) := by decide +kernel
theorem d_M_fillings_10 : decode b_M_fillings 10 = .ok (.aload_n 0, 1) := by decide +kernel
theorem d_M_fillings_11 : decode b_M_fillings 11 = .ok (.getfield 26, 3) := by decide +kernel
theorem d_M_fillings_14 : decode b_M_fillings 14 = .ok (.imul, 1) := by decide +kernel
theorem d_M_fillings_15 : decode b_M_fillings 15 = .ok (.ishl, 1) := by decide +kernel
theorem d_M_fillings_16 : decode b_M_fillings 16 = .ok (.if_icmp .ge 20, 3) := by decide +kernel
theorem d_M_fillings_19 : decode b_M_fillings 19 = .ok (.aload_n 0, 1) := by decide +kernel
theorem d_M_fillings_20 : decode b_M_fillings 20 = .ok (.iload_n 2, 1) := by decide +kernel
theorem d_M_fillings_21 : decode b_M_fillings 21 = .ok (.invokevirtual 89, 3) := by decide +kernel
theorem d_M_fillings_24 : decode b_M_fillings 24 = .ok (.ifCond .eq 6, 3) := by decide +kernel
theorem d_M_fillings_27 : decode b_M_fillings 27 = .ok (.iinc 1 1, 3) := by decide +kernel
theorem d_M_fillings_30 : decode b_M_fillings 30 = .ok (.iinc 2 1, 3) := by decide +kernel
theorem d_M_fillings_33 : decode b_M_fillings 33 = .ok (.goto (-29), 3) := by decide +kernel
theorem d_M_fillings_36 : decode b_M_fillings 36 = .ok (.iload_n 1, 1) := by decide +kernel
theorem d_M_fillings_37 : decode b_M_fillings 37 = .ok (.ireturn, 1) := by decide +kernel
theorem d_M_fits_0 : decode b_M_fits 0 = .ok (.aload_n 0, 1) := by decide +kernel
theorem d_M_fits_1 : decode b_M_fits 1 = .ok (.iload_n 1, 1) := by decide +kernel
theorem d_M_fits_2 : decode b_M_fits 2 = .ok (.invokevirtual 83, 3) := by decide +kernel
theorem d_M_fits_5 : decode b_M_fits 5 = .ok (.ifCond .ne 5, 3) := by decide +kernel
theorem d_M_fits_8 : decode b_M_fits 8 = .ok (.iconst 0, 1) := by decide +kernel
theorem d_M_fits_9 : decode b_M_fits 9 = .ok (.ireturn, 1) := by decide +kernel
theorem d_M_fits_10 : decode b_M_fits 10 = .ok (.iconst 0, 1) := by decide +kernel
theorem d_M_fits_11 : decode b_M_fits 11 = .ok (.istore_n 2, 1) := by decide +kernel
theorem d_M_fits_12 : decode b_M_fits 12 = .ok (.iload_n 2, 1) := by decide +kernel
theorem d_M_fits_13 : decode b_M_fits 13 = .ok (.aload_n 0, 1) := by decide +kernel
theorem d_M_fits_14 : decode b_M_fits 14 = .ok (.getfield 22, 3) := by decide +kernel
theorem d_M_fits_17 : decode b_M_fits 17 = .ok (.aload_n 0, 1) := by decide +kernel
theorem d_M_fits_18 : decode b_M_fits 18 = .ok (.getfield 26, 3) := by decide +kernel
theorem d_M_fits_21 : decode b_M_fits 21 = .ok (.iadd, 1) := by decide +kernel
theorem d_M_fits_22 : decode b_M_fits 22 = .ok (.if_icmp .ge 41, 3) := by decide +kernel
theorem d_M_fits_25 : decode b_M_fits 25 = .ok (.aload_n 0, 1) := by decide +kernel
theorem d_M_fits_26 : decode b_M_fits 26 = .ok (.iload_n 1, 1) := by decide +kernel
theorem d_M_fits_27 : decode b_M_fits 27 = .ok (.iload_n 2, 1) := by decide +kernel
theorem d_M_fits_28 : decode b_M_fits 28 = .ok (.invokevirtual 86, 3) := by decide +kernel
theorem d_M_fits_31 : decode b_M_fits 31 = .ok (.istore_n 3, 1) := by decide +kernel
theorem d_M_fits_32 : decode b_M_fits 32 = .ok (.aload_n 0, 1) := by decide +kernel
theorem d_M_fits_33 : decode b_M_fits 33 = .ok (.iload_n 2, 1) := by decide +kernel
theorem d_M_fits_34 : decode b_M_fits 34 = .ok (.invokevirtual 76, 3) := by decide +kernel
theorem d_M_fits_37 : decode b_M_fits 37 = .ok (.istore 4, 2) := by decide +kernel
theorem d_M_fits_39 : decode b_M_fits 39 = .ok (.aload_n 0, 1) := by decide +kernel
theorem d_M_fits_40 : decode b_M_fits 40 = .ok (.aload_n 0, 1) := by decide +kernel
theorem d_M_fits_41 : decode b_M_fits 41 = .ok (.getfield 16, 3) := by decide +kernel
theorem d_M_fits_44 : decode b_M_fits 44 = .ok (.iload_n 2, 1) := by decide +kernel
theorem d_M_fits_45 : decode b_M_fits 45 = .ok (.iaload, 1) := by decide +kernel
theorem d_M_fits_46 : decode b_M_fits 46 = .ok (.iload 4, 2) := by decide +kernel
theorem d_M_fits_48 : decode b_M_fits 48 = .ok (.iload_n 3, 1) := by decide +kernel
theorem d_M_fits_49 : decode b_M_fits 49 = .ok (.invokevirtual 41, 3) := by decide +kernel
theorem d_M_fits_52 : decode b_M_fits 52 = .ok (.ifCond .ne 5, 3) := by decide +kernel
theorem d_M_fits_55 : decode b_M_fits 55 = .ok (.iconst 0, 1) := by decide +kernel
theorem d_M_fits_56 : decode b_M_fits 56 = .ok (.ireturn, 1) := by decide +kernel
theorem d_M_fits_57 : decode b_M_fits 57 = .ok (.iinc 2 1, 3) := by decide +kernel
theorem d_M_fits_60 : decode b_M_fits 60 = .ok (.goto (-48), 3) := by decide +kernel
theorem d_M_fits_63 : decode b_M_fits 63 = .ok (.iconst 1, 1) := by decide +kernel
theorem d_M_fits_64 : decode b_M_fits 64 = .ok (.ireturn, 1) := by decide +kernel
end
section
theorem d_M_pinsKept_0 : decode b_M_pinsKept 0 = .ok (.iconst 0, 1) := by decide +kernel
theorem d_M_pinsKept_1 : decode b_M_pinsKept 1 = .ok (.istore_n 2, 1) := by decide +kernel
theorem d_M_pinsKept_2 : decode b_M_pinsKept 2 = .ok (.iload_n 2, 1) := by decide +kernel
theorem d_M_pinsKept_3 : decode b_M_pinsKept 3 = .ok (.aload_n 0, 1) := by decide +kernel
theorem d_M_pinsKept_4 : decode b_M_pinsKept 4 = .ok (.getfield 22, 3) := by decide +kernel
theorem d_M_pinsKept_7 : decode b_M_pinsKept 7 = .ok (.if_icmp .ge 57, 3) := by decide +kernel
theorem d_M_pinsKept_10 : decode b_M_pinsKept 10 = .ok (.iconst 0, 1) := by decide +kernel
theorem d_M_pinsKept_11 : decode b_M_pinsKept 11 = .ok (.istore_n 3, 1) := by decide +kernel
theorem d_M_pinsKept_12 : decode b_M_pinsKept 12 = .ok (.iload_n 3, 1) := by decide +kernel
theorem d_M_pinsKept_13 : decode b_M_pinsKept 13 = .ok (.aload_n 0, 1) := by decide +kernel
theorem d_M_pinsKept_14 : decode b_M_pinsKept 14 = .ok (.getfield 26, 3) := by decide +kernel
theorem d_M_pinsKept_17 : decode b_M_pinsKept 17 = .ok (.if_icmp .ge 41, 3) := by decide +kernel
theorem d_M_pinsKept_20 : decode b_M_pinsKept 20 = .ok (.aload_n 0, 1) := by decide +kernel
theorem d_M_pinsKept_21 : decode b_M_pinsKept 21 = .ok (.getfield 19, 3) := by decide +kernel
theorem d_M_pinsKept_24 : decode b_M_pinsKept 24 = .ok (.iload_n 2, 1) := by decide +kernel
theorem d_M_pinsKept_25 : decode b_M_pinsKept 25 = .ok (.iconst 4, 1) := by decide +kernel
theorem d_M_pinsKept_26 : decode b_M_pinsKept 26 = .ok (.imul, 1) := by decide +kernel
theorem d_M_pinsKept_27 : decode b_M_pinsKept 27 = .ok (.iload_n 3, 1) := by decide +kernel
theorem d_M_pinsKept_28 : decode b_M_pinsKept 28 = .ok (.iadd, 1) := by decide +kernel
theorem d_M_pinsKept_29 : decode b_M_pinsKept 29 = .ok (.iaload, 1) := by decide +kernel
theorem d_M_pinsKept_30 : decode b_M_pinsKept 30 = .ok (.istore 4, 2) := by decide +kernel
theorem d_M_pinsKept_32 : decode b_M_pinsKept 32 = .ok (.iload 4, 2) := by decide +kernel
theorem d_M_pinsKept_34 : decode b_M_pinsKept 34 = .ok (.iconst 2, 1) := by decide +kernel
theorem d_M_pinsKept_35 : decode b_M_pinsKept 35 = .ok (.if_icmp .eq 17, 3) := by decide +kernel
theorem d_M_pinsKept_38 : decode b_M_pinsKept 38 = .ok (.iload 4, 2) := by decide +kernel
theorem d_M_pinsKept_40 : decode b_M_pinsKept 40 = .ok (.aload_n 0, 1) := by decide +kernel
theorem d_M_pinsKept_41 : decode b_M_pinsKept 41 = .ok (.iload_n 1, 1) := by decide +kernel
theorem d_M_pinsKept_42 : decode b_M_pinsKept 42 = .ok (.iload_n 2, 1) := by decide +kernel
theorem d_M_pinsKept_43 : decode b_M_pinsKept 43 = .ok (.iload_n 3, 1) := by decide +kernel
theorem d_M_pinsKept_44 : decode b_M_pinsKept 44 = .ok (.invokevirtual 79, 3) := by decide +kernel
theorem d_M_pinsKept_47 : decode b_M_pinsKept 47 = .ok (.if_icmp .eq 5, 3) := by decide +kernel
theorem d_M_pinsKept_50 : decode b_M_pinsKept 50 = .ok (.iconst 0, 1) := by decide +kernel
theorem d_M_pinsKept_51 : decode b_M_pinsKept 51 = .ok (.ireturn, 1) := by decide +kernel
theorem d_M_pinsKept_52 : decode b_M_pinsKept 52 = .ok (.iinc 3 1, 3) := by decide +kernel
theorem d_M_pinsKept_55 : decode b_M_pinsKept 55 = .ok (.goto (-43), 3) := by decide +kernel
theorem d_M_pinsKept_58 : decode b_M_pinsKept 58 = .ok (.iinc 2 1, 3) := by decide +kernel
theorem d_M_pinsKept_61 : decode b_M_pinsKept 61 = .ok (.goto (-59), 3) := by decide +kernel
theorem d_M_pinsKept_64 : decode b_M_pinsKept 64 = .ok (.iconst 1, 1) := by decide +kernel
theorem d_M_pinsKept_65 : decode b_M_pinsKept 65 = .ok (.ireturn, 1) := by decide +kernel
theorem d_M_cellOf_0 : decode b_M_cellOf 0 = .ok (.iload_n 1, 1) := by decide +kernel
theorem d_M_cellOf_1 : decode b_M_cellOf 1 = .ok (.aload_n 0, 1) := by decide +kernel
theorem d_M_cellOf_2 : decode b_M_cellOf 2 = .ok (.getfield 22, 3) := by decide +kernel
theorem d_M_cellOf_5 : decode b_M_cellOf 5 = .ok (.aload_n 0, 1) := by decide +kernel
theorem d_M_cellOf_6 : decode b_M_cellOf 6 = .ok (.getfield 26, 3) := by decide +kernel
theorem d_M_cellOf_9 : decode b_M_cellOf 9 = .ok (.imul, 1) := by decide +kernel
theorem d_M_cellOf_10 : decode b_M_cellOf 10 = .ok (.iconst 1, 1) := by decide +kernel
theorem d_M_cellOf_11 : decode b_M_cellOf 11 = .ok (.isub, 1) := by decide +kernel
theorem d_M_cellOf_12 : decode b_M_cellOf 12 = .ok (.iload_n 2, 1) := by decide +kernel
theorem d_M_cellOf_13 : decode b_M_cellOf 13 = .ok (.aload_n 0, 1) := by decide +kernel
theorem d_M_cellOf_14 : decode b_M_cellOf 14 = .ok (.getfield 26, 3) := by decide +kernel
theorem d_M_cellOf_17 : decode b_M_cellOf 17 = .ok (.imul, 1) := by decide +kernel
theorem d_M_cellOf_18 : decode b_M_cellOf 18 = .ok (.iload_n 3, 1) := by decide +kernel
theorem d_M_cellOf_19 : decode b_M_cellOf 19 = .ok (.iadd, 1) := by decide +kernel
theorem d_M_cellOf_20 : decode b_M_cellOf 20 = .ok (.isub, 1) := by decide +kernel
theorem d_M_cellOf_21 : decode b_M_cellOf 21 = .ok (.ishr, 1) := by decide +kernel
theorem d_M_cellOf_22 : decode b_M_cellOf 22 = .ok (.iconst 1, 1) := by decide +kernel
theorem d_M_cellOf_23 : decode b_M_cellOf 23 = .ok (.iand, 1) := by decide +kernel
theorem d_M_cellOf_24 : decode b_M_cellOf 24 = .ok (.ireturn, 1) := by decide +kernel
theorem d_M_wordOf_0 : decode b_M_wordOf 0 = .ok (.aload_n 0, 1) := by decide +kernel
theorem d_M_wordOf_1 : decode b_M_wordOf 1 = .ok (.iload_n 2, 1) := by decide +kernel
theorem d_M_wordOf_2 : decode b_M_wordOf 2 = .ok (.invokevirtual 76, 3) := by decide +kernel
theorem d_M_wordOf_5 : decode b_M_wordOf 5 = .ok (.istore_n 3, 1) := by decide +kernel
theorem d_M_wordOf_6 : decode b_M_wordOf 6 = .ok (.iconst 0, 1) := by decide +kernel
theorem d_M_wordOf_7 : decode b_M_wordOf 7 = .ok (.istore 4, 2) := by decide +kernel
theorem d_M_wordOf_9 : decode b_M_wordOf 9 = .ok (.iconst 0, 1) := by decide +kernel
theorem d_M_wordOf_10 : decode b_M_wordOf 10 = .ok (.istore 5, 2) := by decide +kernel
theorem d_M_wordOf_12 : decode b_M_wordOf 12 = .ok (.iload 5, 2) := by decide +kernel
theorem d_M_wordOf_14 : decode b_M_wordOf 14 = .ok (.iload_n 3, 1) := by decide +kernel
theorem d_M_wordOf_15 : decode b_M_wordOf 15 = .ok (.if_icmp .ge 52, 3) := by decide +kernel
theorem d_M_wordOf_18 : decode b_M_wordOf 18 = .ok (.iload_n 2, 1) := by decide +kernel
theorem d_M_wordOf_19 : decode b_M_wordOf 19 = .ok (.aload_n 0, 1) := by decide +kernel
theorem d_M_wordOf_20 : decode b_M_wordOf 20 = .ok (.getfield 22, 3) := by decide +kernel
theorem d_M_wordOf_23 : decode b_M_wordOf 23 = .ok (.if_icmp .ge 14, 3) := by decide +kernel
theorem d_M_wordOf_26 : decode b_M_wordOf 26 = .ok (.aload_n 0, 1) := by decide +kernel
theorem d_M_wordOf_27 : decode b_M_wordOf 27 = .ok (.iload_n 1, 1) := by decide +kernel
theorem d_M_wordOf_28 : decode b_M_wordOf 28 = .ok (.iload_n 2, 1) := by decide +kernel
theorem d_M_wordOf_29 : decode b_M_wordOf 29 = .ok (.iload 5, 2) := by decide +kernel
theorem d_M_wordOf_31 : decode b_M_wordOf 31 = .ok (.invokevirtual 79, 3) := by decide +kernel
theorem d_M_wordOf_34 : decode b_M_wordOf 34 = .ok (.goto 16, 3) := by decide +kernel
theorem d_M_wordOf_37 : decode b_M_wordOf 37 = .ok (.aload_n 0, 1) := by decide +kernel
theorem d_M_wordOf_38 : decode b_M_wordOf 38 = .ok (.iload_n 1, 1) := by decide +kernel
theorem d_M_wordOf_39 : decode b_M_wordOf 39 = .ok (.iload 5, 2) := by decide +kernel
theorem d_M_wordOf_41 : decode b_M_wordOf 41 = .ok (.iload_n 2, 1) := by decide +kernel
theorem d_M_wordOf_42 : decode b_M_wordOf 42 = .ok (.aload_n 0, 1) := by decide +kernel
theorem d_M_wordOf_43 : decode b_M_wordOf 43 = .ok (.getfield 22, 3) := by decide +kernel
theorem d_M_wordOf_46 : decode b_M_wordOf 46 = .ok (.isub, 1) := by decide +kernel
theorem d_M_wordOf_47 : decode b_M_wordOf 47 = .ok (.invokevirtual 79, 3) := by decide +kernel
theorem d_M_wordOf_50 : decode b_M_wordOf 50 = .ok (.istore 6, 2) := by decide +kernel
theorem d_M_wordOf_52 : decode b_M_wordOf 52 = .ok (.iload 4, 2) := by decide +kernel
theorem d_M_wordOf_54 : decode b_M_wordOf 54 = .ok (.iconst 2, 1) := by decide +kernel
theorem d_M_wordOf_55 : decode b_M_wordOf 55 = .ok (.imul, 1) := by decide +kernel
theorem d_M_wordOf_56 : decode b_M_wordOf 56 = .ok (.iload 6, 2) := by decide +kernel
theorem d_M_wordOf_58 : decode b_M_wordOf 58 = .ok (.iadd, 1) := by decide +kernel
theorem d_M_wordOf_59 : decode b_M_wordOf 59 = .ok (.istore 4, 2) := by decide +kernel
theorem d_M_wordOf_61 : decode b_M_wordOf 61 = .ok (.iinc 5 1, 3) := by decide +kernel
theorem d_M_wordOf_64 : decode b_M_wordOf 64 = .ok (.goto (-52), 3) := by decide +kernel
theorem d_M_wordOf_67 : decode b_M_wordOf 67 = .ok (.iload 4, 2) := by decide +kernel
theorem d_M_wordOf_69 : decode b_M_wordOf 69 = .ok (.ireturn, 1) := by decide +kernel
theorem d_M_lengthOf_0 : decode b_M_lengthOf 0 = .ok (.iload_n 1, 1) := by decide +kernel
theorem d_M_lengthOf_1 : decode b_M_lengthOf 1 = .ok (.aload_n 0, 1) := by decide +kernel
theorem d_M_lengthOf_2 : decode b_M_lengthOf 2 = .ok (.getfield 22, 3) := by decide +kernel
theorem d_M_lengthOf_5 : decode b_M_lengthOf 5 = .ok (.if_icmp .ge 10, 3) := by decide +kernel
theorem d_M_lengthOf_8 : decode b_M_lengthOf 8 = .ok (.aload_n 0, 1) := by decide +kernel
theorem d_M_lengthOf_9 : decode b_M_lengthOf 9 = .ok (.getfield 26, 3) := by decide +kernel
theorem d_M_lengthOf_12 : decode b_M_lengthOf 12 = .ok (.goto 7, 3) := by decide +kernel
theorem d_M_lengthOf_15 : decode b_M_lengthOf 15 = .ok (.aload_n 0, 1) := by decide +kernel
theorem d_M_lengthOf_16 : decode b_M_lengthOf 16 = .ok (.getfield 22, 3) := by decide +kernel
theorem d_M_lengthOf_19 : decode b_M_lengthOf 19 = .ok (.ireturn, 1) := by decide +kernel
theorem d_M_filling_0 : decode b_M_filling 0 = .ok (.iload_n 1, 1) := by decide +kernel
theorem d_M_filling_1 : decode b_M_filling 1 = .ok (.ifCond .ge 5, 3) := by decide +kernel
theorem d_M_filling_4 : decode b_M_filling 4 = .ok (.iconst (-1), 1) := by decide +kernel
theorem d_M_filling_5 : decode b_M_filling 5 = .ok (.ireturn, 1) := by decide +kernel
theorem d_M_filling_6 : decode b_M_filling 6 = .ok (.iconst 0, 1) := by decide +kernel
theorem d_M_filling_7 : decode b_M_filling 7 = .ok (.istore_n 2, 1) := by decide +kernel
theorem d_M_filling_8 : decode b_M_filling 8 = .ok (.iconst 0, 1) := by decide +kernel
theorem d_M_filling_9 : decode b_M_filling 9 = .ok (.istore_n 3, 1) := by decide +kernel
theorem d_M_filling_10 : decode b_M_filling 10 = .ok (.iload_n 3, 1) := by decide +kernel
theorem d_M_filling_11 : decode b_M_filling 11 = .ok (.iconst 1, 1) := by decide +kernel
theorem d_M_filling_12 : decode b_M_filling 12 = .ok (.aload_n 0, 1) := by decide +kernel
theorem d_M_filling_13 : decode b_M_filling 13 = .ok (.getfield 22, 3) := by decide +kernel
theorem d_M_filling_16 : decode b_M_filling 16 = .ok (.aload_n 0, 1) := by decide +kernel
theorem d_M_filling_17 : decode b_M_filling 17 = .ok (.getfield 26, 3) := by decide +kernel
theorem d_M_filling_20 : decode b_M_filling 20 = .ok (.imul, 1) := by decide +kernel
theorem d_M_filling_21 : decode b_M_filling 21 = .ok (.ishl, 1) := by decide +kernel
theorem d_M_filling_22 : decode b_M_filling 22 = .ok (.if_icmp .ge 27, 3) := by decide +kernel
theorem d_M_filling_25 : decode b_M_filling 25 = .ok (.aload_n 0, 1) := by decide +kernel
theorem d_M_filling_26 : decode b_M_filling 26 = .ok (.iload_n 3, 1) := by decide +kernel
theorem d_M_filling_27 : decode b_M_filling 27 = .ok (.invokevirtual 89, 3) := by decide +kernel
theorem d_M_filling_30 : decode b_M_filling 30 = .ok (.ifCond .eq 13, 3) := by decide +kernel
theorem d_M_filling_33 : decode b_M_filling 33 = .ok (.iload_n 2, 1) := by decide +kernel
theorem d_M_filling_34 : decode b_M_filling 34 = .ok (.iload_n 1, 1) := by decide +kernel
theorem d_M_filling_35 : decode b_M_filling 35 = .ok (.if_icmp .ne 5, 3) := by decide +kernel
theorem d_M_filling_38 : decode b_M_filling 38 = .ok (.iload_n 3, 1) := by decide +kernel
theorem d_M_filling_39 : decode b_M_filling 39 = .ok (.ireturn, 1) := by decide +kernel
theorem d_M_filling_40 : decode b_M_filling 40 = .ok (.iinc 2 1, 3) := by decide +kernel
theorem d_M_filling_43 : decode b_M_filling 43 = .ok (.iinc 3 1, 3) := by decide +kernel
theorem d_M_filling_46 : decode b_M_filling 46 = .ok (.goto (-36), 3) := by decide +kernel
theorem d_M_filling_49 : decode b_M_filling 49 = .ok (.bipush (-4), 2) := by decide +kernel
theorem d_M_filling_51 : decode b_M_filling 51 = .ok (.ireturn, 1) := by decide +kernel
theorem d_M_below_0 : decode b_M_below 0 = .ok (.iconst 0, 1) := by decide +kernel
theorem d_M_below_1 : decode b_M_below 1 = .ok (.istore_n 2, 1) := by decide +kernel
theorem d_M_below_2 : decode b_M_below 2 = .ok (.iconst 0, 1) := by decide +kernel
theorem d_M_below_3 : decode b_M_below 3 = .ok (.istore_n 3, 1) := by decide +kernel
theorem d_M_below_4 : decode b_M_below 4 = .ok (.iload_n 3, 1) := by decide +kernel
theorem d_M_below_5 : decode b_M_below 5 = .ok (.iconst 1, 1) := by decide +kernel
theorem d_M_below_6 : decode b_M_below 6 = .ok (.aload_n 0, 1) := by decide +kernel
theorem d_M_below_7 : decode b_M_below 7 = .ok (.getfield 22, 3) := by decide +kernel
theorem d_M_below_10 : decode b_M_below 10 = .ok (.aload_n 0, 1) := by decide +kernel
theorem d_M_below_11 : decode b_M_below 11 = .ok (.getfield 26, 3) := by decide +kernel
theorem d_M_below_14 : decode b_M_below 14 = .ok (.imul, 1) := by decide +kernel
theorem d_M_below_15 : decode b_M_below 15 = .ok (.ishl, 1) := by decide +kernel
theorem d_M_below_16 : decode b_M_below 16 = .ok (.if_icmp .ge 25, 3) := by decide +kernel
theorem d_M_below_19 : decode b_M_below 19 = .ok (.iload_n 3, 1) := by decide +kernel
theorem d_M_below_20 : decode b_M_below 20 = .ok (.iload_n 1, 1) := by decide +kernel
theorem d_M_below_21 : decode b_M_below 21 = .ok (.if_icmp .ge 14, 3) := by decide +kernel
theorem d_M_below_24 : decode b_M_below 24 = .ok (.aload_n 0, 1) := by decide +kernel
theorem d_M_below_25 : decode b_M_below 25 = .ok (.iload_n 3, 1) := by decide +kernel
theorem d_M_below_26 : decode b_M_below 26 = .ok (.invokevirtual 89, 3) := by decide +kernel
theorem d_M_below_29 : decode b_M_below 29 = .ok (.ifCond .eq 6, 3) := by decide +kernel
theorem d_M_below_32 : decode b_M_below 32 = .ok (.iinc 2 1, 3) := by decide +kernel
theorem d_M_below_35 : decode b_M_below 35 = .ok (.iinc 3 1, 3) := by decide +kernel
theorem d_M_below_38 : decode b_M_below 38 = .ok (.goto (-34), 3) := by decide +kernel
theorem d_M_below_41 : decode b_M_below 41 = .ok (.iload_n 2, 1) := by decide +kernel
theorem d_M_below_42 : decode b_M_below 42 = .ok (.ireturn, 1) := by decide +kernel
theorem d_M_forced_0 : decode b_M_forced 0 = .ok (.aload_n 0, 1) := by decide +kernel
theorem d_M_forced_1 : decode b_M_forced 1 = .ok (.iload_n 1, 1) := by decide +kernel
theorem d_M_forced_2 : decode b_M_forced 2 = .ok (.iload_n 2, 1) := by decide +kernel
theorem d_M_forced_3 : decode b_M_forced 3 = .ok (.invokevirtual 72, 3) := by decide +kernel
theorem d_M_forced_6 : decode b_M_forced 6 = .ok (.ifCond .ne 5, 3) := by decide +kernel
theorem d_M_forced_9 : decode b_M_forced 9 = .ok (.iconst (-1), 1) := by decide +kernel
theorem d_M_forced_10 : decode b_M_forced 10 = .ok (.ireturn, 1) := by decide +kernel
theorem d_M_forced_11 : decode b_M_forced 11 = .ok (.iconst 0, 1) := by decide +kernel
theorem d_M_forced_12 : decode b_M_forced 12 = .ok (.istore_n 3, 1) := by decide +kernel
theorem d_M_forced_13 : decode b_M_forced 13 = .ok (.iconst 0, 1) := by decide +kernel
theorem d_M_forced_14 : decode b_M_forced 14 = .ok (.istore 4, 2) := by decide +kernel
theorem d_M_forced_16 : decode b_M_forced 16 = .ok (.iconst 0, 1) := by decide +kernel
theorem d_M_forced_17 : decode b_M_forced 17 = .ok (.istore 5, 2) := by decide +kernel
theorem d_M_forced_19 : decode b_M_forced 19 = .ok (.iload 5, 2) := by decide +kernel
theorem d_M_forced_21 : decode b_M_forced 21 = .ok (.iconst 1, 1) := by decide +kernel
theorem d_M_forced_22 : decode b_M_forced 22 = .ok (.aload_n 0, 1) := by decide +kernel
theorem d_M_forced_23 : decode b_M_forced 23 = .ok (.getfield 22, 3) := by decide +kernel
theorem d_M_forced_26 : decode b_M_forced 26 = .ok (.aload_n 0, 1) := by decide +kernel
theorem d_M_forced_27 : decode b_M_forced 27 = .ok (.getfield 26, 3) := by decide +kernel
theorem d_M_forced_30 : decode b_M_forced 30 = .ok (.imul, 1) := by decide +kernel
theorem d_M_forced_31 : decode b_M_forced 31 = .ok (.ishl, 1) := by decide +kernel
theorem d_M_forced_32 : decode b_M_forced 32 = .ok (.if_icmp .ge 69, 3) := by decide +kernel
theorem d_M_forced_35 : decode b_M_forced 35 = .ok (.aload_n 0, 1) := by decide +kernel
theorem d_M_forced_36 : decode b_M_forced 36 = .ok (.iload 5, 2) := by decide +kernel
theorem d_M_forced_38 : decode b_M_forced 38 = .ok (.invokevirtual 89, 3) := by decide +kernel
theorem d_M_forced_41 : decode b_M_forced 41 = .ok (.ifCond .eq 54, 3) := by decide +kernel
theorem d_M_forced_44 : decode b_M_forced 44 = .ok (.aload_n 0, 1) := by decide +kernel
theorem d_M_forced_45 : decode b_M_forced 45 = .ok (.iload 5, 2) := by decide +kernel
theorem d_M_forced_47 : decode b_M_forced 47 = .ok (.iload_n 1, 1) := by decide +kernel
theorem d_M_forced_48 : decode b_M_forced 48 = .ok (.iload_n 2, 1) := by decide +kernel
theorem d_M_forced_49 : decode b_M_forced 49 = .ok (.invokevirtual 79, 3) := by decide +kernel
theorem d_M_forced_52 : decode b_M_forced 52 = .ok (.iconst 1, 1) := by decide +kernel
theorem d_M_forced_53 : decode b_M_forced 53 = .ok (.if_icmp .ne 7, 3) := by decide +kernel
theorem d_M_forced_56 : decode b_M_forced 56 = .ok (.iconst 1, 1) := by decide +kernel
theorem d_M_forced_57 : decode b_M_forced 57 = .ok (.goto 4, 3) := by decide +kernel
theorem d_M_forced_60 : decode b_M_forced 60 = .ok (.iconst 0, 1) := by decide +kernel
theorem d_M_forced_61 : decode b_M_forced 61 = .ok (.istore 6, 2) := by decide +kernel
theorem d_M_forced_63 : decode b_M_forced 63 = .ok (.iload 4, 2) := by decide +kernel
theorem d_M_forced_65 : decode b_M_forced 65 = .ok (.ifCond .ne 8, 3) := by decide +kernel
theorem d_M_forced_68 : decode b_M_forced 68 = .ok (.iload 6, 2) := by decide +kernel
theorem d_M_forced_70 : decode b_M_forced 70 = .ok (.ifCond .eq 7, 3) := by decide +kernel
theorem d_M_forced_73 : decode b_M_forced 73 = .ok (.iconst 1, 1) := by decide +kernel
theorem d_M_forced_74 : decode b_M_forced 74 = .ok (.goto 4, 3) := by decide +kernel
theorem d_M_forced_77 : decode b_M_forced 77 = .ok (.iconst 0, 1) := by decide +kernel
theorem d_M_forced_78 : decode b_M_forced 78 = .ok (.istore 4, 2) := by decide +kernel
theorem d_M_forced_80 : decode b_M_forced 80 = .ok (.iload_n 3, 1) := by decide +kernel
theorem d_M_forced_81 : decode b_M_forced 81 = .ok (.ifCond .ne 8, 3) := by decide +kernel
theorem d_M_forced_84 : decode b_M_forced 84 = .ok (.iload 6, 2) := by decide +kernel
theorem d_M_forced_86 : decode b_M_forced 86 = .ok (.ifCond .ne 7, 3) := by decide +kernel
theorem d_M_forced_89 : decode b_M_forced 89 = .ok (.iconst 1, 1) := by decide +kernel
theorem d_M_forced_90 : decode b_M_forced 90 = .ok (.goto 4, 3) := by decide +kernel
theorem d_M_forced_93 : decode b_M_forced 93 = .ok (.iconst 0, 1) := by decide +kernel
theorem d_M_forced_94 : decode b_M_forced 94 = .ok (.istore_n 3, 1) := by decide +kernel
theorem d_M_forced_95 : decode b_M_forced 95 = .ok (.iinc 5 1, 3) := by decide +kernel
theorem d_M_forced_98 : decode b_M_forced 98 = .ok (.goto (-79), 3) := by decide +kernel
theorem d_M_forced_101 : decode b_M_forced 101 = .ok (.iload_n 3, 1) := by decide +kernel
theorem d_M_forced_102 : decode b_M_forced 102 = .ok (.ifCond .ne 11, 3) := by decide +kernel
theorem d_M_forced_105 : decode b_M_forced 105 = .ok (.iload 4, 2) := by decide +kernel
theorem d_M_forced_107 : decode b_M_forced 107 = .ok (.ifCond .ne 6, 3) := by decide +kernel
theorem d_M_forced_110 : decode b_M_forced 110 = .ok (.bipush (-4), 2) := by decide +kernel
theorem d_M_forced_112 : decode b_M_forced 112 = .ok (.ireturn, 1) := by decide +kernel
theorem d_M_forced_113 : decode b_M_forced 113 = .ok (.iload_n 3, 1) := by decide +kernel
theorem d_M_forced_114 : decode b_M_forced 114 = .ok (.ifCond .eq 12, 3) := by decide +kernel
theorem d_M_forced_117 : decode b_M_forced 117 = .ok (.iload 4, 2) := by decide +kernel
theorem d_M_forced_119 : decode b_M_forced 119 = .ok (.ifCond .eq 7, 3) := by decide +kernel
theorem d_M_forced_122 : decode b_M_forced 122 = .ok (.iconst 2, 1) := by decide +kernel
theorem d_M_forced_123 : decode b_M_forced 123 = .ok (.goto 13, 3) := by decide +kernel
theorem d_M_forced_126 : decode b_M_forced 126 = .ok (.iload 4, 2) := by decide +kernel
theorem d_M_forced_128 : decode b_M_forced 128 = .ok (.ifCond .eq 7, 3) := by decide +kernel
theorem d_M_forced_131 : decode b_M_forced 131 = .ok (.iconst 1, 1) := by decide +kernel
theorem d_M_forced_132 : decode b_M_forced 132 = .ok (.goto 4, 3) := by decide +kernel
theorem d_M_forced_135 : decode b_M_forced 135 = .ok (.iconst 0, 1) := by decide +kernel
theorem d_M_forced_136 : decode b_M_forced 136 = .ok (.ireturn, 1) := by decide +kernel
theorem d_M_lineWords_0 : decode b_M_lineWords 0 = .ok (.aload_n 0, 1) := by decide +kernel
theorem d_M_lineWords_1 : decode b_M_lineWords 1 = .ok (.iload_n 1, 1) := by decide +kernel
theorem d_M_lineWords_2 : decode b_M_lineWords 2 = .ok (.invokevirtual 68, 3) := by decide +kernel
theorem d_M_lineWords_5 : decode b_M_lineWords 5 = .ok (.ifCond .ne 5, 3) := by decide +kernel
theorem d_M_lineWords_8 : decode b_M_lineWords 8 = .ok (.iconst (-1), 1) := by decide +kernel
theorem d_M_lineWords_9 : decode b_M_lineWords 9 = .ok (.ireturn, 1) := by decide +kernel
theorem d_M_lineWords_10 : decode b_M_lineWords 10 = .ok (.aload_n 0, 1) := by decide +kernel
theorem d_M_lineWords_11 : decode b_M_lineWords 11 = .ok (.iload_n 1, 1) := by decide +kernel
theorem d_M_lineWords_12 : decode b_M_lineWords 12 = .ok (.invokevirtual 76, 3) := by decide +kernel
theorem d_M_lineWords_15 : decode b_M_lineWords 15 = .ok (.istore_n 2, 1) := by decide +kernel
theorem d_M_lineWords_16 : decode b_M_lineWords 16 = .ok (.iconst 0, 1) := by decide +kernel
theorem d_M_lineWords_17 : decode b_M_lineWords 17 = .ok (.istore_n 3, 1) := by decide +kernel
theorem d_M_lineWords_18 : decode b_M_lineWords 18 = .ok (.iconst 0, 1) := by decide +kernel
theorem d_M_lineWords_19 : decode b_M_lineWords 19 = .ok (.istore 4, 2) := by decide +kernel
theorem d_M_lineWords_21 : decode b_M_lineWords 21 = .ok (.iload 4, 2) := by decide +kernel
theorem d_M_lineWords_23 : decode b_M_lineWords 23 = .ok (.iconst 1, 1) := by decide +kernel
theorem d_M_lineWords_24 : decode b_M_lineWords 24 = .ok (.iload_n 2, 1) := by decide +kernel
theorem d_M_lineWords_25 : decode b_M_lineWords 25 = .ok (.ishl, 1) := by decide +kernel
theorem d_M_lineWords_26 : decode b_M_lineWords 26 = .ok (.if_icmp .ge 39, 3) := by decide +kernel
theorem d_M_lineWords_29 : decode b_M_lineWords 29 = .ok (.aload_n 0, 1) := by decide +kernel
theorem d_M_lineWords_30 : decode b_M_lineWords 30 = .ok (.aload_n 0, 1) := by decide +kernel
theorem d_M_lineWords_31 : decode b_M_lineWords 31 = .ok (.getfield 16, 3) := by decide +kernel
theorem d_M_lineWords_34 : decode b_M_lineWords 34 = .ok (.iload_n 1, 1) := by decide +kernel
theorem d_M_lineWords_35 : decode b_M_lineWords 35 = .ok (.iaload, 1) := by decide +kernel
theorem d_M_lineWords_36 : decode b_M_lineWords 36 = .ok (.iload_n 2, 1) := by decide +kernel
theorem d_M_lineWords_37 : decode b_M_lineWords 37 = .ok (.iload 4, 2) := by decide +kernel
theorem d_M_lineWords_39 : decode b_M_lineWords 39 = .ok (.invokevirtual 41, 3) := by decide +kernel
theorem d_M_lineWords_42 : decode b_M_lineWords 42 = .ok (.ifCond .eq 17, 3) := by decide +kernel
theorem d_M_lineWords_45 : decode b_M_lineWords 45 = .ok (.aload_n 0, 1) := by decide +kernel
theorem d_M_lineWords_46 : decode b_M_lineWords 46 = .ok (.iload_n 1, 1) := by decide +kernel
theorem d_M_lineWords_47 : decode b_M_lineWords 47 = .ok (.iload_n 2, 1) := by decide +kernel
theorem d_M_lineWords_48 : decode b_M_lineWords 48 = .ok (.iload 4, 2) := by decide +kernel
theorem d_M_lineWords_50 : decode b_M_lineWords 50 = .ok (.invokevirtual 92, 3) := by decide +kernel
theorem d_M_lineWords_53 : decode b_M_lineWords 53 = .ok (.ifCond .eq 6, 3) := by decide +kernel
theorem d_M_lineWords_56 : decode b_M_lineWords 56 = .ok (.iinc 3 1, 3) := by decide +kernel
theorem d_M_lineWords_59 : decode b_M_lineWords 59 = .ok (.iinc 4 1, 3) := by decide +kernel
theorem d_M_lineWords_62 : decode b_M_lineWords 62 = .ok (.goto (-41), 3) := by decide +kernel
theorem d_M_lineWords_65 : decode b_M_lineWords 65 = .ok (.iload_n 3, 1) := by decide +kernel
theorem d_M_lineWords_66 : decode b_M_lineWords 66 = .ok (.ireturn, 1) := by decide +kernel
theorem d_M_wordKeepsPins_0 : decode b_M_wordKeepsPins 0 = .ok (.iconst 0, 1) := by decide +kernel
theorem d_M_wordKeepsPins_1 : decode b_M_wordKeepsPins 1 = .ok (.istore 4, 2) := by decide +kernel
theorem d_M_wordKeepsPins_3 : decode b_M_wordKeepsPins 3 = .ok (.iload 4, 2) := by decide +kernel
theorem d_M_wordKeepsPins_5 : decode b_M_wordKeepsPins 5 = .ok (.iload_n 2, 1) := by decide +kernel
theorem d_M_wordKeepsPins_6 : decode b_M_wordKeepsPins 6 = .ok (.if_icmp .ge 72, 3) := by decide +kernel
theorem d_M_wordKeepsPins_9 : decode b_M_wordKeepsPins 9 = .ok (.iload_n 1, 1) := by decide +kernel
theorem d_M_wordKeepsPins_10 : decode b_M_wordKeepsPins 10 = .ok (.aload_n 0, 1) := by decide +kernel
theorem d_M_wordKeepsPins_11 : decode b_M_wordKeepsPins 11 = .ok (.getfield 22, 3) := by decide +kernel
theorem d_M_wordKeepsPins_14 : decode b_M_wordKeepsPins 14 = .ok (.if_icmp .ge 17, 3) := by decide +kernel
theorem d_M_wordKeepsPins_17 : decode b_M_wordKeepsPins 17 = .ok (.aload_n 0, 1) := by decide +kernel
theorem d_M_wordKeepsPins_18 : decode b_M_wordKeepsPins 18 = .ok (.getfield 19, 3) := by decide +kernel
theorem d_M_wordKeepsPins_21 : decode b_M_wordKeepsPins 21 = .ok (.iload_n 1, 1) := by decide +kernel
theorem d_M_wordKeepsPins_22 : decode b_M_wordKeepsPins 22 = .ok (.iconst 4, 1) := by decide +kernel
theorem d_M_wordKeepsPins_23 : decode b_M_wordKeepsPins 23 = .ok (.imul, 1) := by decide +kernel
theorem d_M_wordKeepsPins_24 : decode b_M_wordKeepsPins 24 = .ok (.iload 4, 2) := by decide +kernel
theorem d_M_wordKeepsPins_26 : decode b_M_wordKeepsPins 26 = .ok (.iadd, 1) := by decide +kernel
theorem d_M_wordKeepsPins_27 : decode b_M_wordKeepsPins 27 = .ok (.iaload, 1) := by decide +kernel
theorem d_M_wordKeepsPins_28 : decode b_M_wordKeepsPins 28 = .ok (.goto 19, 3) := by decide +kernel
theorem d_M_wordKeepsPins_31 : decode b_M_wordKeepsPins 31 = .ok (.aload_n 0, 1) := by decide +kernel
theorem d_M_wordKeepsPins_32 : decode b_M_wordKeepsPins 32 = .ok (.getfield 19, 3) := by decide +kernel
theorem d_M_wordKeepsPins_35 : decode b_M_wordKeepsPins 35 = .ok (.iload 4, 2) := by decide +kernel
theorem d_M_wordKeepsPins_37 : decode b_M_wordKeepsPins 37 = .ok (.iconst 4, 1) := by decide +kernel
theorem d_M_wordKeepsPins_38 : decode b_M_wordKeepsPins 38 = .ok (.imul, 1) := by decide +kernel
theorem d_M_wordKeepsPins_39 : decode b_M_wordKeepsPins 39 = .ok (.iload_n 1, 1) := by decide +kernel
theorem d_M_wordKeepsPins_40 : decode b_M_wordKeepsPins 40 = .ok (.iadd, 1) := by decide +kernel
theorem d_M_wordKeepsPins_41 : decode b_M_wordKeepsPins 41 = .ok (.aload_n 0, 1) := by decide +kernel
theorem d_M_wordKeepsPins_42 : decode b_M_wordKeepsPins 42 = .ok (.getfield 22, 3) := by decide +kernel
theorem d_M_wordKeepsPins_45 : decode b_M_wordKeepsPins 45 = .ok (.isub, 1) := by decide +kernel
theorem d_M_wordKeepsPins_46 : decode b_M_wordKeepsPins 46 = .ok (.iaload, 1) := by decide +kernel
theorem d_M_wordKeepsPins_47 : decode b_M_wordKeepsPins 47 = .ok (.istore 5, 2) := by decide +kernel
theorem d_M_wordKeepsPins_49 : decode b_M_wordKeepsPins 49 = .ok (.iload 5, 2) := by decide +kernel
theorem d_M_wordKeepsPins_51 : decode b_M_wordKeepsPins 51 = .ok (.iconst 2, 1) := by decide +kernel
theorem d_M_wordKeepsPins_52 : decode b_M_wordKeepsPins 52 = .ok (.if_icmp .eq 20, 3) := by decide +kernel
theorem d_M_wordKeepsPins_55 : decode b_M_wordKeepsPins 55 = .ok (.iload 5, 2) := by decide +kernel
theorem d_M_wordKeepsPins_57 : decode b_M_wordKeepsPins 57 = .ok (.iload_n 3, 1) := by decide +kernel
theorem d_M_wordKeepsPins_58 : decode b_M_wordKeepsPins 58 = .ok (.iload_n 2, 1) := by decide +kernel
theorem d_M_wordKeepsPins_59 : decode b_M_wordKeepsPins 59 = .ok (.iconst 1, 1) := by decide +kernel
theorem d_M_wordKeepsPins_60 : decode b_M_wordKeepsPins 60 = .ok (.isub, 1) := by decide +kernel
theorem d_M_wordKeepsPins_61 : decode b_M_wordKeepsPins 61 = .ok (.iload 4, 2) := by decide +kernel
theorem d_M_wordKeepsPins_63 : decode b_M_wordKeepsPins 63 = .ok (.isub, 1) := by decide +kernel
theorem d_M_wordKeepsPins_64 : decode b_M_wordKeepsPins 64 = .ok (.ishr, 1) := by decide +kernel
theorem d_M_wordKeepsPins_65 : decode b_M_wordKeepsPins 65 = .ok (.iconst 1, 1) := by decide +kernel
theorem d_M_wordKeepsPins_66 : decode b_M_wordKeepsPins 66 = .ok (.iand, 1) := by decide +kernel
theorem d_M_wordKeepsPins_67 : decode b_M_wordKeepsPins 67 = .ok (.if_icmp .eq 5, 3) := by decide +kernel
theorem d_M_wordKeepsPins_70 : decode b_M_wordKeepsPins 70 = .ok (.iconst 0, 1) := by decide +kernel
theorem d_M_wordKeepsPins_71 : decode b_M_wordKeepsPins 71 = .ok (.ireturn, 1) := by decide +kernel
theorem d_M_wordKeepsPins_72 : decode b_M_wordKeepsPins 72 = .ok (.iinc 4 1, 3) := by decide +kernel
theorem d_M_wordKeepsPins_75 : decode b_M_wordKeepsPins 75 = .ok (.goto (-72), 3) := by decide +kernel
theorem d_M_wordKeepsPins_78 : decode b_M_wordKeepsPins 78 = .ok (.iconst 1, 1) := by decide +kernel
theorem d_M_wordKeepsPins_79 : decode b_M_wordKeepsPins 79 = .ok (.ireturn, 1) := by decide +kernel
end
section
theorem d_L_law_0 : decode b_L_law 0 = .ok (.new 7, 3) := by decide +kernel
theorem d_L_law_3 : decode b_L_law 3 = .ok (.dup, 1) := by decide +kernel
theorem d_L_law_4 : decode b_L_law 4 = .ok (.aload_n 0, 1) := by decide +kernel
theorem d_L_law_5 : decode b_L_law 5 = .ok (.iconst 0, 1) := by decide +kernel
theorem d_L_law_6 : decode b_L_law 6 = .ok (.invokestatic 9, 3) := by decide +kernel
theorem d_L_law_9 : decode b_L_law 9 = .ok (.aload_n 0, 1) := by decide +kernel
theorem d_L_law_10 : decode b_L_law 10 = .ok (.iconst 1, 1) := by decide +kernel
theorem d_L_law_11 : decode b_L_law 11 = .ok (.invokestatic 9, 3) := by decide +kernel
theorem d_L_law_14 : decode b_L_law 14 = .ok (.invokespecial 15, 3) := by decide +kernel
theorem d_L_law_17 : decode b_L_law 17 = .ok (.astore_n 1, 1) := by decide +kernel
theorem d_L_law_18 : decode b_L_law 18 = .ok (.new 18, 3) := by decide +kernel
theorem d_L_law_21 : decode b_L_law 21 = .ok (.dup, 1) := by decide +kernel
theorem d_L_law_22 : decode b_L_law 22 = .ok (.aload_n 0, 1) := by decide +kernel
theorem d_L_law_23 : decode b_L_law 23 = .ok (.iconst 0, 1) := by decide +kernel
theorem d_L_law_24 : decode b_L_law 24 = .ok (.invokestatic 9, 3) := by decide +kernel
theorem d_L_law_27 : decode b_L_law 27 = .ok (.aload_n 0, 1) := by decide +kernel
theorem d_L_law_28 : decode b_L_law 28 = .ok (.iconst 1, 1) := by decide +kernel
theorem d_L_law_29 : decode b_L_law 29 = .ok (.invokestatic 9, 3) := by decide +kernel
theorem d_L_law_32 : decode b_L_law 32 = .ok (.invokespecial 20, 3) := by decide +kernel
theorem d_L_law_35 : decode b_L_law 35 = .ok (.astore_n 2, 1) := by decide +kernel
theorem d_L_law_36 : decode b_L_law 36 = .ok (.iconst 2, 1) := by decide +kernel
theorem d_L_law_37 : decode b_L_law 37 = .ok (.istore_n 3, 1) := by decide +kernel
theorem d_L_law_38 : decode b_L_law 38 = .ok (.iload_n 3, 1) := by decide +kernel
theorem d_L_law_39 : decode b_L_law 39 = .ok (.aload_n 0, 1) := by decide +kernel
theorem d_L_law_40 : decode b_L_law 40 = .ok (.arraylength, 1) := by decide +kernel
theorem d_L_law_41 : decode b_L_law 41 = .ok (.iconst 4, 1) := by decide +kernel
theorem d_L_law_42 : decode b_L_law 42 = .ok (.isub, 1) := by decide +kernel
theorem d_L_law_43 : decode b_L_law 43 = .ok (.if_icmp .gt 450, 3) := by decide +kernel
theorem d_L_law_46 : decode b_L_law 46 = .ok (.aload_n 0, 1) := by decide +kernel
theorem d_L_law_47 : decode b_L_law 47 = .ok (.iload_n 3, 1) := by decide +kernel
theorem d_L_law_48 : decode b_L_law 48 = .ok (.iaload, 1) := by decide +kernel
theorem d_L_law_49 : decode b_L_law 49 = .ok (.bipush 31, 2) := by decide +kernel
theorem d_L_law_51 : decode b_L_law 51 = .ok (.iand, 1) := by decide +kernel
theorem d_L_law_52 : decode b_L_law 52 = .ok (.tableswitch 435 0 16 #[84, 107, 120, 133, 146, 159, 172, 195, 208, 221, 244, 287, 320, 333, 356, 379, 412], 84) := by decide +kernel
theorem d_L_law_136 : decode b_L_law 136 = .ok (.aload_n 1, 1) := by decide +kernel
theorem d_L_law_137 : decode b_L_law 137 = .ok (.aload_n 0, 1) := by decide +kernel
theorem d_L_law_138 : decode b_L_law 138 = .ok (.iload_n 3, 1) := by decide +kernel
theorem d_L_law_139 : decode b_L_law 139 = .ok (.iconst 1, 1) := by decide +kernel
theorem d_L_law_140 : decode b_L_law 140 = .ok (.iadd, 1) := by decide +kernel
theorem d_L_law_141 : decode b_L_law 141 = .ok (.iaload, 1) := by decide +kernel
theorem d_L_law_142 : decode b_L_law 142 = .ok (.invokevirtual 21, 3) := by decide +kernel
theorem d_L_law_145 : decode b_L_law 145 = .ok (.aload_n 2, 1) := by decide +kernel
theorem d_L_law_146 : decode b_L_law 146 = .ok (.aload_n 0, 1) := by decide +kernel
theorem d_L_law_147 : decode b_L_law 147 = .ok (.iload_n 3, 1) := by decide +kernel
theorem d_L_law_148 : decode b_L_law 148 = .ok (.iconst 1, 1) := by decide +kernel
theorem d_L_law_149 : decode b_L_law 149 = .ok (.iadd, 1) := by decide +kernel
theorem d_L_law_150 : decode b_L_law 150 = .ok (.iaload, 1) := by decide +kernel
theorem d_L_law_151 : decode b_L_law 151 = .ok (.invokevirtual 25, 3) := by decide +kernel
theorem d_L_law_154 : decode b_L_law 154 = .ok (.if_icmp .eq 333, 3) := by decide +kernel
theorem d_L_law_157 : decode b_L_law 157 = .ok (.iconst 0, 1) := by decide +kernel
theorem d_L_law_158 : decode b_L_law 158 = .ok (.ireturn, 1) := by decide +kernel
theorem d_L_law_159 : decode b_L_law 159 = .ok (.aload_n 1, 1) := by decide +kernel
theorem d_L_law_160 : decode b_L_law 160 = .ok (.invokevirtual 26, 3) := by decide +kernel
theorem d_L_law_163 : decode b_L_law 163 = .ok (.aload_n 2, 1) := by decide +kernel
theorem d_L_law_164 : decode b_L_law 164 = .ok (.invokevirtual 30, 3) := by decide +kernel
theorem d_L_law_167 : decode b_L_law 167 = .ok (.if_icmp .eq 320, 3) := by decide +kernel
theorem d_L_law_170 : decode b_L_law 170 = .ok (.iconst 0, 1) := by decide +kernel
theorem d_L_law_171 : decode b_L_law 171 = .ok (.ireturn, 1) := by decide +kernel
theorem d_L_law_172 : decode b_L_law 172 = .ok (.aload_n 1, 1) := by decide +kernel
theorem d_L_law_173 : decode b_L_law 173 = .ok (.invokevirtual 31, 3) := by decide +kernel
theorem d_L_law_176 : decode b_L_law 176 = .ok (.aload_n 2, 1) := by decide +kernel
theorem d_L_law_177 : decode b_L_law 177 = .ok (.invokevirtual 34, 3) := by decide +kernel
theorem d_L_law_180 : decode b_L_law 180 = .ok (.if_icmp .eq 307, 3) := by decide +kernel
theorem d_L_law_183 : decode b_L_law 183 = .ok (.iconst 0, 1) := by decide +kernel
theorem d_L_law_184 : decode b_L_law 184 = .ok (.ireturn, 1) := by decide +kernel
theorem d_L_law_185 : decode b_L_law 185 = .ok (.aload_n 1, 1) := by decide +kernel
theorem d_L_law_186 : decode b_L_law 186 = .ok (.invokevirtual 35, 3) := by decide +kernel
theorem d_L_law_189 : decode b_L_law 189 = .ok (.aload_n 2, 1) := by decide +kernel
theorem d_L_law_190 : decode b_L_law 190 = .ok (.invokevirtual 38, 3) := by decide +kernel
theorem d_L_law_193 : decode b_L_law 193 = .ok (.if_icmp .eq 294, 3) := by decide +kernel
theorem d_L_law_196 : decode b_L_law 196 = .ok (.iconst 0, 1) := by decide +kernel
theorem d_L_law_197 : decode b_L_law 197 = .ok (.ireturn, 1) := by decide +kernel
theorem d_L_law_198 : decode b_L_law 198 = .ok (.aload_n 1, 1) := by decide +kernel
theorem d_L_law_199 : decode b_L_law 199 = .ok (.invokevirtual 39, 3) := by decide +kernel
theorem d_L_law_202 : decode b_L_law 202 = .ok (.aload_n 2, 1) := by decide +kernel
theorem d_L_law_203 : decode b_L_law 203 = .ok (.invokevirtual 42, 3) := by decide +kernel
theorem d_L_law_206 : decode b_L_law 206 = .ok (.if_icmp .eq 281, 3) := by decide +kernel
theorem d_L_law_209 : decode b_L_law 209 = .ok (.iconst 0, 1) := by decide +kernel
theorem d_L_law_210 : decode b_L_law 210 = .ok (.ireturn, 1) := by decide +kernel
theorem d_L_law_211 : decode b_L_law 211 = .ok (.aload_n 1, 1) := by decide +kernel
theorem d_L_law_212 : decode b_L_law 212 = .ok (.invokevirtual 43, 3) := by decide +kernel
theorem d_L_law_215 : decode b_L_law 215 = .ok (.aload_n 2, 1) := by decide +kernel
theorem d_L_law_216 : decode b_L_law 216 = .ok (.invokevirtual 46, 3) := by decide +kernel
theorem d_L_law_219 : decode b_L_law 219 = .ok (.if_icmp .eq 268, 3) := by decide +kernel
theorem d_L_law_222 : decode b_L_law 222 = .ok (.iconst 0, 1) := by decide +kernel
theorem d_L_law_223 : decode b_L_law 223 = .ok (.ireturn, 1) := by decide +kernel
theorem d_L_law_224 : decode b_L_law 224 = .ok (.aload_n 1, 1) := by decide +kernel
theorem d_L_law_225 : decode b_L_law 225 = .ok (.aload_n 0, 1) := by decide +kernel
theorem d_L_law_226 : decode b_L_law 226 = .ok (.iload_n 3, 1) := by decide +kernel
theorem d_L_law_227 : decode b_L_law 227 = .ok (.iconst 1, 1) := by decide +kernel
theorem d_L_law_228 : decode b_L_law 228 = .ok (.iadd, 1) := by decide +kernel
theorem d_L_law_229 : decode b_L_law 229 = .ok (.iaload, 1) := by decide +kernel
theorem d_L_law_230 : decode b_L_law 230 = .ok (.invokevirtual 47, 3) := by decide +kernel
theorem d_L_law_233 : decode b_L_law 233 = .ok (.aload_n 2, 1) := by decide +kernel
theorem d_L_law_234 : decode b_L_law 234 = .ok (.aload_n 0, 1) := by decide +kernel
theorem d_L_law_235 : decode b_L_law 235 = .ok (.iload_n 3, 1) := by decide +kernel
theorem d_L_law_236 : decode b_L_law 236 = .ok (.iconst 1, 1) := by decide +kernel
theorem d_L_law_237 : decode b_L_law 237 = .ok (.iadd, 1) := by decide +kernel
theorem d_L_law_238 : decode b_L_law 238 = .ok (.iaload, 1) := by decide +kernel
theorem d_L_law_239 : decode b_L_law 239 = .ok (.invokevirtual 50, 3) := by decide +kernel
theorem d_L_law_242 : decode b_L_law 242 = .ok (.if_icmp .eq 245, 3) := by decide +kernel
theorem d_L_law_245 : decode b_L_law 245 = .ok (.iconst 0, 1) := by decide +kernel
theorem d_L_law_246 : decode b_L_law 246 = .ok (.ireturn, 1) := by decide +kernel
theorem d_L_law_247 : decode b_L_law 247 = .ok (.aload_n 1, 1) := by decide +kernel
theorem d_L_law_248 : decode b_L_law 248 = .ok (.invokevirtual 51, 3) := by decide +kernel
theorem d_L_law_251 : decode b_L_law 251 = .ok (.aload_n 2, 1) := by decide +kernel
theorem d_L_law_252 : decode b_L_law 252 = .ok (.invokevirtual 54, 3) := by decide +kernel
theorem d_L_law_255 : decode b_L_law 255 = .ok (.if_icmp .eq 232, 3) := by decide +kernel
theorem d_L_law_258 : decode b_L_law 258 = .ok (.iconst 0, 1) := by decide +kernel
theorem d_L_law_259 : decode b_L_law 259 = .ok (.ireturn, 1) := by decide +kernel
theorem d_L_law_260 : decode b_L_law 260 = .ok (.aload_n 1, 1) := by decide +kernel
theorem d_L_law_261 : decode b_L_law 261 = .ok (.invokevirtual 55, 3) := by decide +kernel
theorem d_L_law_264 : decode b_L_law 264 = .ok (.aload_n 2, 1) := by decide +kernel
theorem d_L_law_265 : decode b_L_law 265 = .ok (.invokevirtual 58, 3) := by decide +kernel
theorem d_L_law_268 : decode b_L_law 268 = .ok (.if_icmp .eq 219, 3) := by decide +kernel
theorem d_L_law_271 : decode b_L_law 271 = .ok (.iconst 0, 1) := by decide +kernel
theorem d_L_law_272 : decode b_L_law 272 = .ok (.ireturn, 1) := by decide +kernel
theorem d_L_law_273 : decode b_L_law 273 = .ok (.aload_n 1, 1) := by decide +kernel
theorem d_L_law_274 : decode b_L_law 274 = .ok (.aload_n 0, 1) := by decide +kernel
theorem d_L_law_275 : decode b_L_law 275 = .ok (.iload_n 3, 1) := by decide +kernel
theorem d_L_law_276 : decode b_L_law 276 = .ok (.iconst 1, 1) := by decide +kernel
theorem d_L_law_277 : decode b_L_law 277 = .ok (.iadd, 1) := by decide +kernel
theorem d_L_law_278 : decode b_L_law 278 = .ok (.iaload, 1) := by decide +kernel
theorem d_L_law_279 : decode b_L_law 279 = .ok (.invokevirtual 59, 3) := by decide +kernel
theorem d_L_law_282 : decode b_L_law 282 = .ok (.aload_n 2, 1) := by decide +kernel
theorem d_L_law_283 : decode b_L_law 283 = .ok (.aload_n 0, 1) := by decide +kernel
theorem d_L_law_284 : decode b_L_law 284 = .ok (.iload_n 3, 1) := by decide +kernel
theorem d_L_law_285 : decode b_L_law 285 = .ok (.iconst 1, 1) := by decide +kernel
theorem d_L_law_286 : decode b_L_law 286 = .ok (.iadd, 1) := by decide +kernel
theorem d_L_law_287 : decode b_L_law 287 = .ok (.iaload, 1) := by decide +kernel
theorem d_L_law_288 : decode b_L_law 288 = .ok (.invokevirtual 62, 3) := by decide +kernel
theorem d_L_law_291 : decode b_L_law 291 = .ok (.if_icmp .eq 196, 3) := by decide +kernel
theorem d_L_law_294 : decode b_L_law 294 = .ok (.iconst 0, 1) := by decide +kernel
theorem d_L_law_295 : decode b_L_law 295 = .ok (.ireturn, 1) := by decide +kernel
theorem d_L_law_296 : decode b_L_law 296 = .ok (.aload_n 1, 1) := by decide +kernel
theorem d_L_law_297 : decode b_L_law 297 = .ok (.aload_n 0, 1) := by decide +kernel
theorem d_L_law_298 : decode b_L_law 298 = .ok (.iload_n 3, 1) := by decide +kernel
theorem d_L_law_299 : decode b_L_law 299 = .ok (.iconst 1, 1) := by decide +kernel
theorem d_L_law_300 : decode b_L_law 300 = .ok (.iadd, 1) := by decide +kernel
theorem d_L_law_301 : decode b_L_law 301 = .ok (.iaload, 1) := by decide +kernel
theorem d_L_law_302 : decode b_L_law 302 = .ok (.aload_n 0, 1) := by decide +kernel
theorem d_L_law_303 : decode b_L_law 303 = .ok (.iload_n 3, 1) := by decide +kernel
theorem d_L_law_304 : decode b_L_law 304 = .ok (.iconst 2, 1) := by decide +kernel
theorem d_L_law_305 : decode b_L_law 305 = .ok (.iadd, 1) := by decide +kernel
theorem d_L_law_306 : decode b_L_law 306 = .ok (.iaload, 1) := by decide +kernel
theorem d_L_law_307 : decode b_L_law 307 = .ok (.aload_n 0, 1) := by decide +kernel
theorem d_L_law_308 : decode b_L_law 308 = .ok (.iload_n 3, 1) := by decide +kernel
theorem d_L_law_309 : decode b_L_law 309 = .ok (.iconst 3, 1) := by decide +kernel
theorem d_L_law_310 : decode b_L_law 310 = .ok (.iadd, 1) := by decide +kernel
theorem d_L_law_311 : decode b_L_law 311 = .ok (.iaload, 1) := by decide +kernel
theorem d_L_law_312 : decode b_L_law 312 = .ok (.invokevirtual 63, 3) := by decide +kernel
theorem d_L_law_315 : decode b_L_law 315 = .ok (.aload_n 2, 1) := by decide +kernel
theorem d_L_law_316 : decode b_L_law 316 = .ok (.aload_n 0, 1) := by decide +kernel
theorem d_L_law_317 : decode b_L_law 317 = .ok (.iload_n 3, 1) := by decide +kernel
theorem d_L_law_318 : decode b_L_law 318 = .ok (.iconst 1, 1) := by decide +kernel
theorem d_L_law_319 : decode b_L_law 319 = .ok (.iadd, 1) := by decide +kernel
theorem d_L_law_320 : decode b_L_law 320 = .ok (.iaload, 1) := by decide +kernel
theorem d_L_law_321 : decode b_L_law 321 = .ok (.aload_n 0, 1) := by decide +kernel
theorem d_L_law_322 : decode b_L_law 322 = .ok (.iload_n 3, 1) := by decide +kernel
theorem d_L_law_323 : decode b_L_law 323 = .ok (.iconst 2, 1) := by decide +kernel
theorem d_L_law_324 : decode b_L_law 324 = .ok (.iadd, 1) := by decide +kernel
theorem d_L_law_325 : decode b_L_law 325 = .ok (.iaload, 1) := by decide +kernel
theorem d_L_law_326 : decode b_L_law 326 = .ok (.aload_n 0, 1) := by decide +kernel
theorem d_L_law_327 : decode b_L_law 327 = .ok (.iload_n 3, 1) := by decide +kernel
theorem d_L_law_328 : decode b_L_law 328 = .ok (.iconst 3, 1) := by decide +kernel
theorem d_L_law_329 : decode b_L_law 329 = .ok (.iadd, 1) := by decide +kernel
theorem d_L_law_330 : decode b_L_law 330 = .ok (.iaload, 1) := by decide +kernel
theorem d_L_law_331 : decode b_L_law 331 = .ok (.invokevirtual 67, 3) := by decide +kernel
theorem d_L_law_334 : decode b_L_law 334 = .ok (.if_icmp .eq 153, 3) := by decide +kernel
theorem d_L_law_337 : decode b_L_law 337 = .ok (.iconst 0, 1) := by decide +kernel
theorem d_L_law_338 : decode b_L_law 338 = .ok (.ireturn, 1) := by decide +kernel
theorem d_L_law_339 : decode b_L_law 339 = .ok (.aload_n 1, 1) := by decide +kernel
theorem d_L_law_340 : decode b_L_law 340 = .ok (.aload_n 0, 1) := by decide +kernel
theorem d_L_law_341 : decode b_L_law 341 = .ok (.iload_n 3, 1) := by decide +kernel
theorem d_L_law_342 : decode b_L_law 342 = .ok (.iconst 1, 1) := by decide +kernel
theorem d_L_law_343 : decode b_L_law 343 = .ok (.iadd, 1) := by decide +kernel
theorem d_L_law_344 : decode b_L_law 344 = .ok (.iaload, 1) := by decide +kernel
theorem d_L_law_345 : decode b_L_law 345 = .ok (.aload_n 0, 1) := by decide +kernel
theorem d_L_law_346 : decode b_L_law 346 = .ok (.iload_n 3, 1) := by decide +kernel
theorem d_L_law_347 : decode b_L_law 347 = .ok (.iconst 2, 1) := by decide +kernel
theorem d_L_law_348 : decode b_L_law 348 = .ok (.iadd, 1) := by decide +kernel
theorem d_L_law_349 : decode b_L_law 349 = .ok (.iaload, 1) := by decide +kernel
theorem d_L_law_350 : decode b_L_law 350 = .ok (.invokevirtual 68, 3) := by decide +kernel
theorem d_L_law_353 : decode b_L_law 353 = .ok (.aload_n 2, 1) := by decide +kernel
theorem d_L_law_354 : decode b_L_law 354 = .ok (.aload_n 0, 1) := by decide +kernel
theorem d_L_law_355 : decode b_L_law 355 = .ok (.iload_n 3, 1) := by decide +kernel
theorem d_L_law_356 : decode b_L_law 356 = .ok (.iconst 1, 1) := by decide +kernel
theorem d_L_law_357 : decode b_L_law 357 = .ok (.iadd, 1) := by decide +kernel
theorem d_L_law_358 : decode b_L_law 358 = .ok (.iaload, 1) := by decide +kernel
theorem d_L_law_359 : decode b_L_law 359 = .ok (.aload_n 0, 1) := by decide +kernel
theorem d_L_law_360 : decode b_L_law 360 = .ok (.iload_n 3, 1) := by decide +kernel
theorem d_L_law_361 : decode b_L_law 361 = .ok (.iconst 2, 1) := by decide +kernel
theorem d_L_law_362 : decode b_L_law 362 = .ok (.iadd, 1) := by decide +kernel
theorem d_L_law_363 : decode b_L_law 363 = .ok (.iaload, 1) := by decide +kernel
theorem d_L_law_364 : decode b_L_law 364 = .ok (.invokevirtual 72, 3) := by decide +kernel
theorem d_L_law_367 : decode b_L_law 367 = .ok (.if_icmp .eq 120, 3) := by decide +kernel
theorem d_L_law_370 : decode b_L_law 370 = .ok (.iconst 0, 1) := by decide +kernel
theorem d_L_law_371 : decode b_L_law 371 = .ok (.ireturn, 1) := by decide +kernel
theorem d_L_law_372 : decode b_L_law 372 = .ok (.aload_n 1, 1) := by decide +kernel
theorem d_L_law_373 : decode b_L_law 373 = .ok (.invokevirtual 73, 3) := by decide +kernel
theorem d_L_law_376 : decode b_L_law 376 = .ok (.aload_n 2, 1) := by decide +kernel
theorem d_L_law_377 : decode b_L_law 377 = .ok (.invokevirtual 76, 3) := by decide +kernel
theorem d_L_law_380 : decode b_L_law 380 = .ok (.if_icmp .eq 107, 3) := by decide +kernel
theorem d_L_law_383 : decode b_L_law 383 = .ok (.iconst 0, 1) := by decide +kernel
theorem d_L_law_384 : decode b_L_law 384 = .ok (.ireturn, 1) := by decide +kernel
theorem d_L_law_385 : decode b_L_law 385 = .ok (.aload_n 1, 1) := by decide +kernel
theorem d_L_law_386 : decode b_L_law 386 = .ok (.aload_n 0, 1) := by decide +kernel
theorem d_L_law_387 : decode b_L_law 387 = .ok (.iload_n 3, 1) := by decide +kernel
theorem d_L_law_388 : decode b_L_law 388 = .ok (.iconst 1, 1) := by decide +kernel
theorem d_L_law_389 : decode b_L_law 389 = .ok (.iadd, 1) := by decide +kernel
theorem d_L_law_390 : decode b_L_law 390 = .ok (.iaload, 1) := by decide +kernel
theorem d_L_law_391 : decode b_L_law 391 = .ok (.invokevirtual 77, 3) := by decide +kernel
theorem d_L_law_394 : decode b_L_law 394 = .ok (.aload_n 2, 1) := by decide +kernel
theorem d_L_law_395 : decode b_L_law 395 = .ok (.aload_n 0, 1) := by decide +kernel
theorem d_L_law_396 : decode b_L_law 396 = .ok (.iload_n 3, 1) := by decide +kernel
theorem d_L_law_397 : decode b_L_law 397 = .ok (.iconst 1, 1) := by decide +kernel
theorem d_L_law_398 : decode b_L_law 398 = .ok (.iadd, 1) := by decide +kernel
theorem d_L_law_399 : decode b_L_law 399 = .ok (.iaload, 1) := by decide +kernel
theorem d_L_law_400 : decode b_L_law 400 = .ok (.invokevirtual 80, 3) := by decide +kernel
theorem d_L_law_403 : decode b_L_law 403 = .ok (.if_icmp .eq 84, 3) := by decide +kernel
theorem d_L_law_406 : decode b_L_law 406 = .ok (.iconst 0, 1) := by decide +kernel
theorem d_L_law_407 : decode b_L_law 407 = .ok (.ireturn, 1) := by decide +kernel
theorem d_L_law_408 : decode b_L_law 408 = .ok (.aload_n 1, 1) := by decide +kernel
theorem d_L_law_409 : decode b_L_law 409 = .ok (.aload_n 0, 1) := by decide +kernel
theorem d_L_law_410 : decode b_L_law 410 = .ok (.iload_n 3, 1) := by decide +kernel
theorem d_L_law_411 : decode b_L_law 411 = .ok (.iconst 1, 1) := by decide +kernel
theorem d_L_law_412 : decode b_L_law 412 = .ok (.iadd, 1) := by decide +kernel
theorem d_L_law_413 : decode b_L_law 413 = .ok (.iaload, 1) := by decide +kernel
theorem d_L_law_414 : decode b_L_law 414 = .ok (.invokevirtual 81, 3) := by decide +kernel
theorem d_L_law_417 : decode b_L_law 417 = .ok (.aload_n 2, 1) := by decide +kernel
theorem d_L_law_418 : decode b_L_law 418 = .ok (.aload_n 0, 1) := by decide +kernel
theorem d_L_law_419 : decode b_L_law 419 = .ok (.iload_n 3, 1) := by decide +kernel
theorem d_L_law_420 : decode b_L_law 420 = .ok (.iconst 1, 1) := by decide +kernel
theorem d_L_law_421 : decode b_L_law 421 = .ok (.iadd, 1) := by decide +kernel
theorem d_L_law_422 : decode b_L_law 422 = .ok (.iaload, 1) := by decide +kernel
theorem d_L_law_423 : decode b_L_law 423 = .ok (.invokevirtual 84, 3) := by decide +kernel
theorem d_L_law_426 : decode b_L_law 426 = .ok (.if_icmp .eq 61, 3) := by decide +kernel
theorem d_L_law_429 : decode b_L_law 429 = .ok (.iconst 0, 1) := by decide +kernel
theorem d_L_law_430 : decode b_L_law 430 = .ok (.ireturn, 1) := by decide +kernel
theorem d_L_law_431 : decode b_L_law 431 = .ok (.aload_n 1, 1) := by decide +kernel
theorem d_L_law_432 : decode b_L_law 432 = .ok (.aload_n 0, 1) := by decide +kernel
theorem d_L_law_433 : decode b_L_law 433 = .ok (.iload_n 3, 1) := by decide +kernel
theorem d_L_law_434 : decode b_L_law 434 = .ok (.iconst 1, 1) := by decide +kernel
theorem d_L_law_435 : decode b_L_law 435 = .ok (.iadd, 1) := by decide +kernel
theorem d_L_law_436 : decode b_L_law 436 = .ok (.iaload, 1) := by decide +kernel
theorem d_L_law_437 : decode b_L_law 437 = .ok (.aload_n 0, 1) := by decide +kernel
theorem d_L_law_438 : decode b_L_law 438 = .ok (.iload_n 3, 1) := by decide +kernel
theorem d_L_law_439 : decode b_L_law 439 = .ok (.iconst 2, 1) := by decide +kernel
theorem d_L_law_440 : decode b_L_law 440 = .ok (.iadd, 1) := by decide +kernel
theorem d_L_law_441 : decode b_L_law 441 = .ok (.iaload, 1) := by decide +kernel
theorem d_L_law_442 : decode b_L_law 442 = .ok (.invokevirtual 85, 3) := by decide +kernel
theorem d_L_law_445 : decode b_L_law 445 = .ok (.aload_n 2, 1) := by decide +kernel
theorem d_L_law_446 : decode b_L_law 446 = .ok (.aload_n 0, 1) := by decide +kernel
theorem d_L_law_447 : decode b_L_law 447 = .ok (.iload_n 3, 1) := by decide +kernel
theorem d_L_law_448 : decode b_L_law 448 = .ok (.iconst 1, 1) := by decide +kernel
theorem d_L_law_449 : decode b_L_law 449 = .ok (.iadd, 1) := by decide +kernel
theorem d_L_law_450 : decode b_L_law 450 = .ok (.iaload, 1) := by decide +kernel
theorem d_L_law_451 : decode b_L_law 451 = .ok (.aload_n 0, 1) := by decide +kernel
theorem d_L_law_452 : decode b_L_law 452 = .ok (.iload_n 3, 1) := by decide +kernel
theorem d_L_law_453 : decode b_L_law 453 = .ok (.iconst 2, 1) := by decide +kernel
theorem d_L_law_454 : decode b_L_law 454 = .ok (.iadd, 1) := by decide +kernel
theorem d_L_law_455 : decode b_L_law 455 = .ok (.iaload, 1) := by decide +kernel
theorem d_L_law_456 : decode b_L_law 456 = .ok (.invokevirtual 88, 3) := by decide +kernel
theorem d_L_law_459 : decode b_L_law 459 = .ok (.if_icmp .eq 28, 3) := by decide +kernel
theorem d_L_law_462 : decode b_L_law 462 = .ok (.iconst 0, 1) := by decide +kernel
theorem d_L_law_463 : decode b_L_law 463 = .ok (.ireturn, 1) := by decide +kernel
theorem d_L_law_464 : decode b_L_law 464 = .ok (.aload_n 1, 1) := by decide +kernel
theorem d_L_law_465 : decode b_L_law 465 = .ok (.aload_n 0, 1) := by decide +kernel
theorem d_L_law_466 : decode b_L_law 466 = .ok (.iload_n 3, 1) := by decide +kernel
theorem d_L_law_467 : decode b_L_law 467 = .ok (.iconst 1, 1) := by decide +kernel
theorem d_L_law_468 : decode b_L_law 468 = .ok (.iadd, 1) := by decide +kernel
theorem d_L_law_469 : decode b_L_law 469 = .ok (.iaload, 1) := by decide +kernel
theorem d_L_law_470 : decode b_L_law 470 = .ok (.invokevirtual 89, 3) := by decide +kernel
theorem d_L_law_473 : decode b_L_law 473 = .ok (.aload_n 2, 1) := by decide +kernel
theorem d_L_law_474 : decode b_L_law 474 = .ok (.aload_n 0, 1) := by decide +kernel
theorem d_L_law_475 : decode b_L_law 475 = .ok (.iload_n 3, 1) := by decide +kernel
theorem d_L_law_476 : decode b_L_law 476 = .ok (.iconst 1, 1) := by decide +kernel
theorem d_L_law_477 : decode b_L_law 477 = .ok (.iadd, 1) := by decide +kernel
theorem d_L_law_478 : decode b_L_law 478 = .ok (.iaload, 1) := by decide +kernel
theorem d_L_law_479 : decode b_L_law 479 = .ok (.invokevirtual 92, 3) := by decide +kernel
theorem d_L_law_482 : decode b_L_law 482 = .ok (.if_icmp .eq 5, 3) := by decide +kernel
theorem d_L_law_485 : decode b_L_law 485 = .ok (.iconst 0, 1) := by decide +kernel
theorem d_L_law_486 : decode b_L_law 486 = .ok (.ireturn, 1) := by decide +kernel
theorem d_L_law_487 : decode b_L_law 487 = .ok (.iinc 3 4, 3) := by decide +kernel
theorem d_L_law_490 : decode b_L_law 490 = .ok (.goto (-452), 3) := by decide +kernel
theorem d_L_law_493 : decode b_L_law 493 = .ok (.iconst 1, 1) := by decide +kernel
theorem d_L_law_494 : decode b_L_law 494 = .ok (.ireturn, 1) := by decide +kernel
end
section
/-! THE FRAME OF THE WALKS. A walk's goal is 'K pc lv st u': at pc, with locals lv (by their numbers), operand stack st, and the world u, the machine comes to the method's end. Every row turns K at an instruction into K at the next. Numbers are nI n, n natural. -/
def up (f : Nat → Nat) (k v : Nat) : Nat → Nat := fun j => if j = k then v else f j
def up2 (f : Nat → Nat → Nat) (k i v : Nat) : Nat → Nat → Nat := fun a j => if a = k ∧ j = i then v else f a j
theorem up_s (f : Nat → Nat) (k v : Nat) : up f k v k = v := by simp [up]
theorem up_n {f : Nat → Nat} {k v j : Nat} (h : j ≠ k) : up f k v j = f j := by simp [up, h]
theorem up2_s (f : Nat → Nat → Nat) (k i v : Nat) : up2 f k i v k i = v := by simp [up2]
theorem up2_n {f : Nat → Nat → Nat} {k i v a j : Nat} (h : a ≠ k ∨ j ≠ i) : up2 f k i v a j = f a j := by
  unfold up2
  rw [if_neg]
  rintro ⟨rfl, rfl⟩
  rcases h with h | h <;> exact h rfl
theorem up2_a {f : Nat → Nat → Nat} {k i v a : Nat} (h : a ≠ k) : up2 f k i v a = f a := by
  funext j
  exact up2_n (Or.inl h)
theorem up2_k (f : Nat → Nat → Nat) (k i v j : Nat) : up2 f k i v k j = if j = i then v else f k j := by simp [up2]
theorem nx_and (a b : Nat) : nI a &&& nI b = nI (a &&& b) := by
  apply Int32.toBitVec_inj.1
  show BitVec.ofNat 32 a &&& BitVec.ofNat 32 b = BitVec.ofNat 32 (a &&& b)
  apply BitVec.eq_of_getLsbD_eq
  intro i hi
  simp [hi]
theorem nx_or (a b : Nat) : nI a ||| nI b = nI (a ||| b) := by
  apply Int32.toBitVec_inj.1
  show BitVec.ofNat 32 a ||| BitVec.ofNat 32 b = BitVec.ofNat 32 (a ||| b)
  apply BitVec.eq_of_getLsbD_eq
  intro i hi
  simp [hi]
theorem s_l : ∀ n, n < 32 → ((nI n &&& 31).toBitVec.smod 32).toNat = n := by decide +kernel
theorem nx_shl {x y : Nat} (hy : y < 32) (h : x <<< y < 2 ^ 32) : nI x <<< (nI y &&& 31) = nI (x <<< y) := by
  rw [Nat.shiftLeft_eq] at h ⊢
  exact pk_shlN _ y (s_l y hy) h
theorem nx_shr {x y : Nat} (hx : x < 2 ^ 31) (hy : y < 32) : nI x >>> (nI y &&& 31) = nI (x >>> y) := by
  rw [Nat.shiftRight_eq_div_pow]
  exact pk_shrN hx _ y (s_l y hy)
-- locals by their numbers
def stl : List Value → Nat → Value → List Value
  | [], _, v => [v]
  | _ :: t, 0, v => v :: t
  | a :: t, i + 1, v => a :: stl t i v
theorem stl_get {v : Value} : ∀ {lv : List Value} {i : Nat}, i ≤ lv.length → ∀ j, (stl lv i v)[j]? = if j = i then some v else lv[j]?
  | [], i, h, j => by
    have hi : i = 0 := by simpa using h
    subst hi
    cases j <;> simp [stl]
  | a :: t, 0, h, j => by cases j <;> simp [stl]
  | a :: t, i + 1, h, j => by
    cases j with
    | zero => simp [stl]
    | succ j =>
      have h2 : i ≤ t.length := by simpa using h
      simp only [stl, List.getElem?_cons_succ]
      rw [stl_get h2 j]
      simp
def lh (ls : Array Slot) (nL : Nat) (lv : List Value) : Prop := ls.size = nL ∧ lv_wf ls ∧ (∀ (i : Nat) (v : Value), lv[i]? = some v → ls[i]? = some (.val v)) ∧ ∀ v ∈ lv, v.category = 1
def lps (lv : List Value) : List (Nat × Value) := (List.range lv.length).map (fun j => (j, lv.getD j .null))
theorem lps_mem {lv : List Value} {j : Nat} {w : Value} (h : lv[j]? = some w) : (j, w) ∈ lps lv := by
  have hj : j < lv.length := (List.getElem?_eq_some_iff.mp h).1
  refine List.mem_map.mpr ⟨j, List.mem_range.mpr hj, ?_⟩
  simp [List.getD, h]
theorem lh_has {ls : Array Slot} {nL : Nat} {lv : List Value} (h : lh ls nL lv) : lv_has ls nL (lps lv) := ⟨h.1, h.2.1, fun q hq => by
  obtain ⟨j, hj, rfl⟩ := List.mem_map.mp hq
  have hj := List.mem_range.mp hj
  refine h.2.2.1 j _ ?_
  simp [List.getD, hj]⟩
theorem lh_store {ls ls' : Array Slot} {nL i : Nat} {lv : List Value} {v : Value} (h : lh ls nL lv) (hi : i ≤ lv.length) (hc : v.category = 1) (hn : lv_has ls' nL ((i, v) :: (lps lv).filter (fun q => !(q.1 == i) && !(q.1 + 1 == i && q.2.category == 2)))) : lh ls' nL (stl lv i v) := by
  refine ⟨hn.1, hn.2.1, fun j w hj => ?_, fun w hw => ?_⟩
  · rw [stl_get hi] at hj
    by_cases e : j = i
    · subst e
      simp at hj
      subst hj
      exact hn.2.2 (j, v) List.mem_cons_self
    · rw [if_neg e] at hj
      refine hn.2.2 (j, w) (List.mem_cons_of_mem _ (List.mem_filter.mpr ⟨lps_mem hj, ?_⟩))
      have hw : w.category = 1 := h.2.2.2 w (List.mem_of_getElem? hj)
      simp [e, hw]
  · obtain ⟨j, hj⟩ := List.getElem?_of_mem hw
    rw [stl_get hi] at hj
    by_cases e : j = i
    · rw [if_pos e] at hj
      cases hj
      exact hc
    · rw [if_neg e] at hj
      exact h.2.2.2 w (List.mem_of_getElem? hj)
theorem lv_args_mem : ∀ (vs : List Value), (∀ v ∈ vs, v.category = 1) → ∀ (k i : Nat) (v : Value), vs[i]? = some v → (k + i, v) ∈ lv_args k vs
  | [], _, _, i, v, h => by simp at h
  | a :: t, hc, k, 0, v, h => by
    have : a = v := by simpa using h
    subst this
    simp [lv_args]
  | a :: t, hc, k, i + 1, v, h => by
    have ha : a.category = 1 := hc a List.mem_cons_self
    have h2 := lv_args_mem t (fun v hv => hc v (List.mem_cons_of_mem _ hv)) (k + 1) i v (by simpa using h)
    simp only [lv_args]
    rw [if_neg (by omega)]
    refine List.mem_cons_of_mem _ ?_
    rw [show k + (i + 1) = k + 1 + i by omega]
    exact h2
theorem lg_sl_len : ∀ (vs : List Value), (∀ v ∈ vs, v.category = 1) → (lg_sl vs).length = vs.length
  | [], _ => rfl
  | a :: t, hc => by
    have ha : a.category = 1 := hc a List.mem_cons_self
    have h2 := lg_sl_len t (fun v hv => hc v (List.mem_cons_of_mem _ hv))
    unfold lg_sl at h2 ⊢
    rw [List.flatMap_cons, List.length_append, h2, if_neg (by omega)]
    simp; omega
theorem lh_entry {vs : List Value} {n : Nat} (hc : ∀ v ∈ vs, v.category = 1) (h : vs.length ≤ n) : lh ((lg_sl vs ++ List.replicate (n - (lg_sl vs).length) Slot.unset).toArray) n vs := by
  have h1 := lv_entry vs (n := n) (by rw [lg_sl_len vs hc]; exact h)
  exact ⟨h1.1, h1.2.1, fun i v hv => h1.2.2 (i, v) (by have := lv_args_mem vs hc 0 i v hv; rwa [Nat.zero_add] at this), hc⟩
/-- what the simple rows ask of K -/
def Sim {σ : Type} (b : ByteArray) (nL : Nat) (K : Nat → List Value → List Value → σ → Prop) : Prop :=
  ∃ (Wd : σ → Heap → List Loc → Prop) (p : Program) (l : Launch) (e : Env) (R : Room) (s : State) (m : MethodId) (args : Array Value) (below : List Frame) (meth : Method) (c : Code) (cells slots : Nat) (Q : State → Prop),
    p.tables.exec = Jvm.exec ∧ c.code = b ∧ K = fun pc lv st u => ∀ (H : Heap) (locs : List Loc) (ls : Array Slot), Wd u H locs → lh ls nL lv → W p l e R s m args below meth c H locs cells slots Q (F0 m pc ls st)
section RR
variable {σ : Type} {b : ByteArray} {nL : Nat} {K : Nat → List Value → List Value → σ → Prop} {pc : Nat} {lv st : List Value} {u : σ}
theorem r_iconst (h : Sim b nL K) {n : Int} (v : Nat) (hd : decode b pc = .ok (.iconst n, 1)) (hv : Int32.ofInt n = nI v) (k : K (pc + 1) lv (.int (nI v) :: st) u) : K pc lv st u := by
  obtain ⟨Wd, p, l, e, R, s, m, args, below, meth, c, cells, slots, Q, hx, hb, rfl⟩ := h
  exact fun H locs ls hW hl => lv_iconst hx hb hd hv (k H locs ls hW hl)
theorem r_bipush (h : Sim b nL K) {n : Int} (v : Nat) (hd : decode b pc = .ok (.bipush n, 2)) (hv : (Int8.ofInt n).toInt32 = nI v) (k : K (pc + 2) lv (.int (nI v) :: st) u) : K pc lv st u := by
  obtain ⟨Wd, p, l, e, R, s, m, args, below, meth, c, cells, slots, Q, hx, hb, rfl⟩ := h
  exact fun H locs ls hW hl => lv_bipush hx hb hd hv (k H locs ls hW hl)
theorem r_sipush (h : Sim b nL K) {n : Int} (v : Nat) (hd : decode b pc = .ok (.sipush n, 3)) (hv : (Int16.ofInt n).toInt32 = nI v) (k : K (pc + 3) lv (.int (nI v) :: st) u) : K pc lv st u := by
  obtain ⟨Wd, p, l, e, R, s, m, args, below, meth, c, cells, slots, Q, hx, hb, rfl⟩ := h
  exact fun H locs ls hW hl => lv_sipush hx hb hd hv (k H locs ls hW hl)
theorem r_iload_n (h : Sim b nL K) {j : Fin 4} {i : Nat} {x : Int32} (hd : decode b pc = .ok (.iload_n j, 1)) (hi : (j : Nat) = i) (hk : lv[i]? = some (.int x)) (k : K (pc + 1) lv (.int x :: st) u) : K pc lv st u := by
  obtain ⟨Wd, p, l, e, R, s, m, args, below, meth, c, cells, slots, Q, hx, hb, rfl⟩ := h
  exact fun H locs ls hW hl => lv_iload_n hx hb hd hi (hl.2.2.1 i _ hk) (k H locs ls hW hl)
theorem r_iload (h : Sim b nL K) {i : Nat} {x : Int32} (hd : decode b pc = .ok (.iload i, 2)) (hk : lv[i]? = some (.int x)) (k : K (pc + 2) lv (.int x :: st) u) : K pc lv st u := by
  obtain ⟨Wd, p, l, e, R, s, m, args, below, meth, c, cells, slots, Q, hx, hb, rfl⟩ := h
  exact fun H locs ls hW hl => lv_iload hx hb hd (hl.2.2.1 i _ hk) (k H locs ls hW hl)
theorem r_aload_n (h : Sim b nL K) {j : Fin 4} {i x : Nat} (hd : decode b pc = .ok (.aload_n j, 1)) (hi : (j : Nat) = i) (hk : lv[i]? = some (.ref x)) (k : K (pc + 1) lv (.ref x :: st) u) : K pc lv st u := by
  obtain ⟨Wd, p, l, e, R, s, m, args, below, meth, c, cells, slots, Q, hx, hb, rfl⟩ := h
  exact fun H locs ls hW hl => lv_aload_n hx hb hd hi (hl.2.2.1 i _ hk) (k H locs ls hW hl)
theorem r_istore_n (h : Sim b nL K) {j : Fin 4} {i : Nat} {x : Int32} (hd : decode b pc = .ok (.istore_n j, 1)) (hi : (j : Nat) = i) (hL : i ≤ lv.length) (hn : i < nL) (k : K (pc + 1) (stl lv i (.int x)) st u) : K pc lv (.int x :: st) u := by
  obtain ⟨Wd, p, l, e, R, s, m, args, below, meth, c, cells, slots, Q, hx, hb, rfl⟩ := h
  exact fun H locs ls hW hl => lv_istore_n hx hb hd hi (lh_has hl) hn rfl (fun ls' h' => k H locs ls' hW (lh_store hl hL rfl h'))
theorem r_istore (h : Sim b nL K) {i : Nat} {x : Int32} (hd : decode b pc = .ok (.istore i, 2)) (hL : i ≤ lv.length) (hn : i < nL) (k : K (pc + 2) (stl lv i (.int x)) st u) : K pc lv (.int x :: st) u := by
  obtain ⟨Wd, p, l, e, R, s, m, args, below, meth, c, cells, slots, Q, hx, hb, rfl⟩ := h
  exact fun H locs ls hW hl => lv_istore hx hb hd (lh_has hl) hn rfl (fun ls' h' => k H locs ls' hW (lh_store hl hL rfl h'))
theorem r_astore_n (h : Sim b nL K) {j : Fin 4} {i x : Nat} (hd : decode b pc = .ok (.astore_n j, 1)) (hi : (j : Nat) = i) (hL : i ≤ lv.length) (hn : i < nL) (k : K (pc + 1) (stl lv i (.ref x)) st u) : K pc lv (.ref x :: st) u := by
  obtain ⟨Wd, p, l, e, R, s, m, args, below, meth, c, cells, slots, Q, hx, hb, rfl⟩ := h
  exact fun H locs ls hW hl => lv_astore_n hx hb hd hi (lh_has hl) hn rfl (fun ls' h' => k H locs ls' hW (lh_store hl hL rfl h'))
/-- iinc by a number n, in any form: the new number is v -/
theorem r_iincV (h : Sim b nL K) {i : Nat} {n : Int} {x v : Int32} (hd : decode b pc = .ok (.iinc i n, 3)) (hk : lv[i]? = some (.int x)) (hv : x + Int32.ofInt n = v) (hL : i ≤ lv.length) (hn : i < nL) (k : K (pc + 3) (stl lv i (.int v)) st u) : K pc lv st u := by
  obtain ⟨Wd, p, l, e, R, s, m, args, below, meth, c, cells, slots, Q, hx, hb, rfl⟩ := h
  intro H locs ls hW hl
  have hm := lps_mem hk
  obtain ⟨q, hq⟩ := List.getElem?_of_mem hm
  exact lv_iinc hx hb hd (lh_has hl) hq hv hn rfl (fun ls' h' => k H locs ls' hW (lh_store hl hL rfl h'))
theorem r_iinc (h : Sim b nL K) {i x : Nat} (hd : decode b pc = .ok (.iinc i 1, 3)) (hk : lv[i]? = some (.int (nI x))) (hL : i ≤ lv.length) (hn : i < nL) (k : K (pc + 3) (stl lv i (.int (nI (x + 1)))) st u) : K pc lv st u :=
  r_iincV h hd hk (nI_1 x) hL hn k
theorem r_iadd (h : Sim b nL K) {x y : Nat} (hd : decode b pc = .ok (.iadd, 1)) (k : K (pc + 1) lv (.int (nI (x + y)) :: st) u) : K pc lv (.int (nI y) :: .int (nI x) :: st) u := by
  obtain ⟨Wd, p, l, e, R, s, m, args, below, meth, c, cells, slots, Q, hx, hb, rfl⟩ := h
  exact fun H locs ls hW hl => lv_iadd hx hb hd (by rw [nI_add]; exact k H locs ls hW hl)
theorem r_isub (h : Sim b nL K) {x y : Nat} (hxy : y ≤ x) (hd : decode b pc = .ok (.isub, 1)) (k : K (pc + 1) lv (.int (nI (x - y)) :: st) u) : K pc lv (.int (nI y) :: .int (nI x) :: st) u := by
  obtain ⟨Wd, p, l, e, R, s, m, args, below, meth, c, cells, slots, Q, hx, hb, rfl⟩ := h
  exact fun H locs ls hW hl => lv_isub hx hb hd (by rw [pk_sub hxy]; exact k H locs ls hW hl)
theorem r_isubR (h : Sim b nL K) {x y : Int32} (hd : decode b pc = .ok (.isub, 1)) (k : K (pc + 1) lv (.int (x - y) :: st) u) : K pc lv (.int y :: .int x :: st) u := by
  obtain ⟨Wd, p, l, e, R, s, m, args, below, meth, c, cells, slots, Q, hx, hb, rfl⟩ := h
  exact fun H locs ls hW hl => lv_isub hx hb hd (k H locs ls hW hl)
theorem r_iaddR (h : Sim b nL K) {x y : Int32} (hd : decode b pc = .ok (.iadd, 1)) (k : K (pc + 1) lv (.int (x + y) :: st) u) : K pc lv (.int y :: .int x :: st) u := by
  obtain ⟨Wd, p, l, e, R, s, m, args, below, meth, c, cells, slots, Q, hx, hb, rfl⟩ := h
  exact fun H locs ls hW hl => lv_iadd hx hb hd (k H locs ls hW hl)
theorem r_iandR (h : Sim b nL K) {x y : Int32} (hd : decode b pc = .ok (.iand, 1)) (k : K (pc + 1) lv (.int (x &&& y) :: st) u) : K pc lv (.int y :: .int x :: st) u := by
  obtain ⟨Wd, p, l, e, R, s, m, args, below, meth, c, cells, slots, Q, hx, hb, rfl⟩ := h
  exact fun H locs ls hW hl => lv_iand hx hb hd (k H locs ls hW hl)
theorem r_imul (h : Sim b nL K) {x y : Nat} (hd : decode b pc = .ok (.imul, 1)) (k : K (pc + 1) lv (.int (nI (x * y)) :: st) u) : K pc lv (.int (nI y) :: .int (nI x) :: st) u := by
  obtain ⟨Wd, p, l, e, R, s, m, args, below, meth, c, cells, slots, Q, hx, hb, rfl⟩ := h
  exact fun H locs ls hW hl => lv_imul hx hb hd (by rw [pk_mul]; exact k H locs ls hW hl)
theorem r_iand (h : Sim b nL K) {x y : Nat} (hd : decode b pc = .ok (.iand, 1)) (k : K (pc + 1) lv (.int (nI (x &&& y)) :: st) u) : K pc lv (.int (nI y) :: .int (nI x) :: st) u := by
  obtain ⟨Wd, p, l, e, R, s, m, args, below, meth, c, cells, slots, Q, hx, hb, rfl⟩ := h
  exact fun H locs ls hW hl => lv_iand hx hb hd (by rw [nx_and]; exact k H locs ls hW hl)
theorem r_ior (h : Sim b nL K) {x y : Nat} (hd : decode b pc = .ok (.ior, 1)) (k : K (pc + 1) lv (.int (nI (x ||| y)) :: st) u) : K pc lv (.int (nI y) :: .int (nI x) :: st) u := by
  obtain ⟨Wd, p, l, e, R, s, m, args, below, meth, c, cells, slots, Q, hx, hb, rfl⟩ := h
  exact fun H locs ls hW hl => lv_ior hx hb hd (by rw [nx_or]; exact k H locs ls hW hl)
theorem r_ishl (h : Sim b nL K) {x y : Nat} (hy : y < 32) (hxy : x <<< y < 2 ^ 32) (hd : decode b pc = .ok (.ishl, 1)) (k : K (pc + 1) lv (.int (nI (x <<< y)) :: st) u) : K pc lv (.int (nI y) :: .int (nI x) :: st) u := by
  obtain ⟨Wd, p, l, e, R, s, m, args, below, meth, c, cells, slots, Q, hx, hb, rfl⟩ := h
  exact fun H locs ls hW hl => lv_ishl hx hb hd (by rw [nx_shl hy hxy]; exact k H locs ls hW hl)
theorem r_ishr (h : Sim b nL K) {x y : Nat} (hxb : x < 2 ^ 31) (hy : y < 32) (hd : decode b pc = .ok (.ishr, 1)) (k : K (pc + 1) lv (.int (nI (x >>> y)) :: st) u) : K pc lv (.int (nI y) :: .int (nI x) :: st) u := by
  obtain ⟨Wd, p, l, e, R, s, m, args, below, meth, c, cells, slots, Q, hx, hb, rfl⟩ := h
  exact fun H locs ls hW hl => lv_ishr hx hb hd (by rw [nx_shr hxb hy]; exact k H locs ls hW hl)
theorem r_dup (h : Sim b nL K) {v : Value} (hd : decode b pc = .ok (.dup, 1)) (hv : v.category = 1) (k : K (pc + 1) lv (v :: v :: st) u) : K pc lv (v :: st) u := by
  obtain ⟨Wd, p, l, e, R, s, m, args, below, meth, c, cells, slots, Q, hx, hb, rfl⟩ := h
  exact fun H locs ls hW hl => lv_dup hx hb hd hv (k H locs ls hW hl)
theorem r_goto (h : Sim b nL K) {off : Int} {tgt : Nat} (hd : decode b pc = .ok (.goto off, 3)) (ht : (pc : Int) + off = (tgt : Int)) (k : K tgt lv st u) : K pc lv st u := by
  obtain ⟨Wd, p, l, e, R, s, m, args, below, meth, c, cells, slots, Q, hx, hb, rfl⟩ := h
  exact fun H locs ls hW hl => lv_goto hx hb hd ht (k H locs ls hW hl)
theorem r_icmpR_eq (h : Sim b nL K) {x y : Int32} {off : Int} {tgt : Nat} (hd : decode b pc = .ok (.if_icmp .eq off, 3)) (ht : (pc : Int) + off = (tgt : Int)) (kt : x = y → K tgt lv st u) (kf : ¬ x = y → K (pc + 3) lv st u) : K pc lv (.int y :: .int x :: st) u := by
  obtain ⟨Wd, p, l, e, R, s, m, args, below, meth, c, cells, slots, Q, hx, hb, rfl⟩ := h
  exact fun H locs ls hW hl => lv_icmp_eq hx hb hd ht (fun c => kt c H locs ls hW hl) (fun c => kf c H locs ls hW hl)
theorem r_ifR_eq (h : Sim b nL K) {x : Int32} {off : Int} {tgt : Nat} (hd : decode b pc = .ok (.ifCond .eq off, 3)) (ht : (pc : Int) + off = (tgt : Int)) (kt : x = 0 → K tgt lv st u) (kf : ¬ x = 0 → K (pc + 3) lv st u) : K pc lv (.int x :: st) u := by
  obtain ⟨Wd, p, l, e, R, s, m, args, below, meth, c, cells, slots, Q, hx, hb, rfl⟩ := h
  exact fun H locs ls hW hl => lv_if_eq hx hb hd ht (fun c => kt c H locs ls hW hl) (fun c => kf c H locs ls hW hl)
theorem r_icmpR_ne (h : Sim b nL K) {x y : Int32} {off : Int} {tgt : Nat} (hd : decode b pc = .ok (.if_icmp .ne off, 3)) (ht : (pc : Int) + off = (tgt : Int)) (kt : ¬ x = y → K tgt lv st u) (kf : x = y → K (pc + 3) lv st u) : K pc lv (.int y :: .int x :: st) u := by
  obtain ⟨Wd, p, l, e, R, s, m, args, below, meth, c, cells, slots, Q, hx, hb, rfl⟩ := h
  exact fun H locs ls hW hl => lv_icmp_ne hx hb hd ht (fun c => kt c H locs ls hW hl) (fun c => kf c H locs ls hW hl)
theorem r_ifR_ne (h : Sim b nL K) {x : Int32} {off : Int} {tgt : Nat} (hd : decode b pc = .ok (.ifCond .ne off, 3)) (ht : (pc : Int) + off = (tgt : Int)) (kt : ¬ x = 0 → K tgt lv st u) (kf : x = 0 → K (pc + 3) lv st u) : K pc lv (.int x :: st) u := by
  obtain ⟨Wd, p, l, e, R, s, m, args, below, meth, c, cells, slots, Q, hx, hb, rfl⟩ := h
  exact fun H locs ls hW hl => lv_if_ne hx hb hd ht (fun c => kt c H locs ls hW hl) (fun c => kf c H locs ls hW hl)
theorem r_icmpR_lt (h : Sim b nL K) {x y : Int32} {off : Int} {tgt : Nat} (hd : decode b pc = .ok (.if_icmp .lt off, 3)) (ht : (pc : Int) + off = (tgt : Int)) (kt : x < y → K tgt lv st u) (kf : ¬ x < y → K (pc + 3) lv st u) : K pc lv (.int y :: .int x :: st) u := by
  obtain ⟨Wd, p, l, e, R, s, m, args, below, meth, c, cells, slots, Q, hx, hb, rfl⟩ := h
  exact fun H locs ls hW hl => lv_icmp_lt hx hb hd ht (fun c => kt c H locs ls hW hl) (fun c => kf c H locs ls hW hl)
theorem r_ifR_lt (h : Sim b nL K) {x : Int32} {off : Int} {tgt : Nat} (hd : decode b pc = .ok (.ifCond .lt off, 3)) (ht : (pc : Int) + off = (tgt : Int)) (kt : x < 0 → K tgt lv st u) (kf : ¬ x < 0 → K (pc + 3) lv st u) : K pc lv (.int x :: st) u := by
  obtain ⟨Wd, p, l, e, R, s, m, args, below, meth, c, cells, slots, Q, hx, hb, rfl⟩ := h
  exact fun H locs ls hW hl => lv_if_lt hx hb hd ht (fun c => kt c H locs ls hW hl) (fun c => kf c H locs ls hW hl)
theorem r_icmpR_ge (h : Sim b nL K) {x y : Int32} {off : Int} {tgt : Nat} (hd : decode b pc = .ok (.if_icmp .ge off, 3)) (ht : (pc : Int) + off = (tgt : Int)) (kt : y ≤ x → K tgt lv st u) (kf : ¬ y ≤ x → K (pc + 3) lv st u) : K pc lv (.int y :: .int x :: st) u := by
  obtain ⟨Wd, p, l, e, R, s, m, args, below, meth, c, cells, slots, Q, hx, hb, rfl⟩ := h
  exact fun H locs ls hW hl => lv_icmp_ge hx hb hd ht (fun c => kt c H locs ls hW hl) (fun c => kf c H locs ls hW hl)
theorem r_ifR_ge (h : Sim b nL K) {x : Int32} {off : Int} {tgt : Nat} (hd : decode b pc = .ok (.ifCond .ge off, 3)) (ht : (pc : Int) + off = (tgt : Int)) (kt : 0 ≤ x → K tgt lv st u) (kf : ¬ 0 ≤ x → K (pc + 3) lv st u) : K pc lv (.int x :: st) u := by
  obtain ⟨Wd, p, l, e, R, s, m, args, below, meth, c, cells, slots, Q, hx, hb, rfl⟩ := h
  exact fun H locs ls hW hl => lv_if_ge hx hb hd ht (fun c => kt c H locs ls hW hl) (fun c => kf c H locs ls hW hl)
theorem r_icmpR_gt (h : Sim b nL K) {x y : Int32} {off : Int} {tgt : Nat} (hd : decode b pc = .ok (.if_icmp .gt off, 3)) (ht : (pc : Int) + off = (tgt : Int)) (kt : y < x → K tgt lv st u) (kf : ¬ y < x → K (pc + 3) lv st u) : K pc lv (.int y :: .int x :: st) u := by
  obtain ⟨Wd, p, l, e, R, s, m, args, below, meth, c, cells, slots, Q, hx, hb, rfl⟩ := h
  exact fun H locs ls hW hl => lv_icmp_gt hx hb hd ht (fun c => kt c H locs ls hW hl) (fun c => kf c H locs ls hW hl)
theorem r_ifR_gt (h : Sim b nL K) {x : Int32} {off : Int} {tgt : Nat} (hd : decode b pc = .ok (.ifCond .gt off, 3)) (ht : (pc : Int) + off = (tgt : Int)) (kt : 0 < x → K tgt lv st u) (kf : ¬ 0 < x → K (pc + 3) lv st u) : K pc lv (.int x :: st) u := by
  obtain ⟨Wd, p, l, e, R, s, m, args, below, meth, c, cells, slots, Q, hx, hb, rfl⟩ := h
  exact fun H locs ls hW hl => lv_if_gt hx hb hd ht (fun c => kt c H locs ls hW hl) (fun c => kf c H locs ls hW hl)
theorem r_icmpR_le (h : Sim b nL K) {x y : Int32} {off : Int} {tgt : Nat} (hd : decode b pc = .ok (.if_icmp .le off, 3)) (ht : (pc : Int) + off = (tgt : Int)) (kt : x ≤ y → K tgt lv st u) (kf : ¬ x ≤ y → K (pc + 3) lv st u) : K pc lv (.int y :: .int x :: st) u := by
  obtain ⟨Wd, p, l, e, R, s, m, args, below, meth, c, cells, slots, Q, hx, hb, rfl⟩ := h
  exact fun H locs ls hW hl => lv_icmp_le hx hb hd ht (fun c => kt c H locs ls hW hl) (fun c => kf c H locs ls hW hl)
theorem r_ifR_le (h : Sim b nL K) {x : Int32} {off : Int} {tgt : Nat} (hd : decode b pc = .ok (.ifCond .le off, 3)) (ht : (pc : Int) + off = (tgt : Int)) (kt : x ≤ 0 → K tgt lv st u) (kf : ¬ x ≤ 0 → K (pc + 3) lv st u) : K pc lv (.int x :: st) u := by
  obtain ⟨Wd, p, l, e, R, s, m, args, below, meth, c, cells, slots, Q, hx, hb, rfl⟩ := h
  exact fun H locs ls hW hl => lv_if_le hx hb hd ht (fun c => kt c H locs ls hW hl) (fun c => kf c H locs ls hW hl)
theorem r_icmp_eq (h : Sim b nL K) {x y : Nat} {off : Int} {tgt : Nat} (hxb : x < 2 ^ 31) (hyb : y < 2 ^ 31) (hd : decode b pc = .ok (.if_icmp .eq off, 3)) (ht : (pc : Int) + off = (tgt : Int)) (kt : x = y → K tgt lv st u) (kf : x ≠ y → K (pc + 3) lv st u) : K pc lv (.int (nI y) :: .int (nI x) :: st) u :=
  r_icmpR_eq h hd ht (fun c => kt ((nI_eq hxb hyb).mp c)) (fun c => kf (fun q => c ((nI_eq hxb hyb).mpr q)))
theorem r_icmp_ne (h : Sim b nL K) {x y : Nat} {off : Int} {tgt : Nat} (hxb : x < 2 ^ 31) (hyb : y < 2 ^ 31) (hd : decode b pc = .ok (.if_icmp .ne off, 3)) (ht : (pc : Int) + off = (tgt : Int)) (kt : x ≠ y → K tgt lv st u) (kf : x = y → K (pc + 3) lv st u) : K pc lv (.int (nI y) :: .int (nI x) :: st) u :=
  r_icmpR_ne h hd ht (fun c => kt (fun q => c ((nI_eq hxb hyb).mpr q))) (fun c => kf ((nI_eq hxb hyb).mp c))
theorem r_icmp_lt (h : Sim b nL K) {x y : Nat} {off : Int} {tgt : Nat} (hxb : x < 2 ^ 31) (hyb : y < 2 ^ 31) (hd : decode b pc = .ok (.if_icmp .lt off, 3)) (ht : (pc : Int) + off = (tgt : Int)) (kt : x < y → K tgt lv st u) (kf : y ≤ x → K (pc + 3) lv st u) : K pc lv (.int (nI y) :: .int (nI x) :: st) u :=
  r_icmpR_lt h hd ht (fun c => kt ((nI_ltI hxb hyb).mp c)) (fun c => kf (Nat.le_of_not_lt (fun q => c ((nI_ltI hxb hyb).mpr q))))
theorem r_icmp_ge (h : Sim b nL K) {x y : Nat} {off : Int} {tgt : Nat} (hxb : x < 2 ^ 31) (hyb : y < 2 ^ 31) (hd : decode b pc = .ok (.if_icmp .ge off, 3)) (ht : (pc : Int) + off = (tgt : Int)) (kt : y ≤ x → K tgt lv st u) (kf : x < y → K (pc + 3) lv st u) : K pc lv (.int (nI y) :: .int (nI x) :: st) u :=
  r_icmpR_ge h hd ht (fun c => kt ((nI_leI hyb hxb).mp c)) (fun c => kf (Nat.lt_of_not_le (fun q => c ((nI_leI hyb hxb).mpr q))))
theorem r_icmp_gt (h : Sim b nL K) {x y : Nat} {off : Int} {tgt : Nat} (hxb : x < 2 ^ 31) (hyb : y < 2 ^ 31) (hd : decode b pc = .ok (.if_icmp .gt off, 3)) (ht : (pc : Int) + off = (tgt : Int)) (kt : y < x → K tgt lv st u) (kf : x ≤ y → K (pc + 3) lv st u) : K pc lv (.int (nI y) :: .int (nI x) :: st) u :=
  r_icmpR_gt h hd ht (fun c => kt ((nI_ltI hyb hxb).mp c)) (fun c => kf (Nat.le_of_not_lt (fun q => c ((nI_ltI hyb hxb).mpr q))))
theorem r_icmp_le (h : Sim b nL K) {x y : Nat} {off : Int} {tgt : Nat} (hxb : x < 2 ^ 31) (hyb : y < 2 ^ 31) (hd : decode b pc = .ok (.if_icmp .le off, 3)) (ht : (pc : Int) + off = (tgt : Int)) (kt : x ≤ y → K tgt lv st u) (kf : y < x → K (pc + 3) lv st u) : K pc lv (.int (nI y) :: .int (nI x) :: st) u :=
  r_icmpR_le h hd ht (fun c => kt ((nI_leI hxb hyb).mp c)) (fun c => kf (Nat.lt_of_not_le (fun q => c ((nI_leI hxb hyb).mpr q))))
theorem r_if_eq (h : Sim b nL K) {x : Nat} {off : Int} {tgt : Nat} (hxb : x < 2 ^ 31) (hd : decode b pc = .ok (.ifCond .eq off, 3)) (ht : (pc : Int) + off = (tgt : Int)) (kt : x = 0 → K tgt lv st u) (kf : x ≠ 0 → K (pc + 3) lv st u) : K pc lv (.int (nI x) :: st) u :=
  r_ifR_eq h hd ht (fun c => kt ((nI_eq hxb (show 0 < 2 ^ 31 by decide)).mp c)) (fun c => kf (fun q => c ((nI_eq hxb (show 0 < 2 ^ 31 by decide)).mpr q)))
theorem r_if_ne (h : Sim b nL K) {x : Nat} {off : Int} {tgt : Nat} (hxb : x < 2 ^ 31) (hd : decode b pc = .ok (.ifCond .ne off, 3)) (ht : (pc : Int) + off = (tgt : Int)) (kt : x ≠ 0 → K tgt lv st u) (kf : x = 0 → K (pc + 3) lv st u) : K pc lv (.int (nI x) :: st) u :=
  r_ifR_ne h hd ht (fun c => kt (fun q => c ((nI_eq hxb (show 0 < 2 ^ 31 by decide)).mpr q))) (fun c => kf ((nI_eq hxb (show 0 < 2 ^ 31 by decide)).mp c))
end RR
end
section
/-! THE WORLD OF ONE OBJECT (class number c: 0 ExprCrossword, 1 ExprCrosswordModel) and its arrays, and the rows that read and write it. fi: its int fields by slot; ar: its arrays by slot; ad: their addresses. -/
abbrev St : Type := (Nat → Nat) × (Nat → Nat → Nat)
def oV (c : Nat) (ad fi : Nat → Nat) (k : Nat) : Value := if (oA c).contains k then .ref (ad k) else .int (nI (fi k))
def oF (c : Nat) (ad fi : Nat → Nat) : List Value := (List.range (oQ c).2.2).map (oV c ad fi)
def oC (cI cZ : ClassId) (c k : Nat) : ClassId := if oZ c k then cZ else cI
def oE (cI cZ : ClassId) (c : Nat) (ad : Nat → Nat) (ar : Nat → Nat → Nat) (k : Nat) : Nat × va_E := (ad k, .inl (oC cI cZ c k, oL c k, .inl (fun j => nI (ar k j))))
def ow (cI cZ : ClassId) (c h0 : Nat) (ad fi : Nat → Nat) (ar : Nat → Nat → Nat) : va_W := (h0, .inr (c, oF c ad fi)) :: (oA c).map (oE cI cZ c ad ar)
def oT (cI cZ : ClassId) : List (ClassId × FieldType) := [(cI, .int), (cZ, .boolean)]
def okI (c k : Nat) : Bool := !(oA c).contains k && Nat.blt k (oQ c).2.2
def okA (c k : Nat) : Bool := (oA c).contains k && Nat.blt k (oQ c).2.2
theorem o2 {c : Nat} (h : c < 2) : c = 0 ∨ c = 1 := by omega
theorem oQ_at {c : Nat} (h : c < 2) : classes[c]? = some (oQ c) := by
  rcases o2 h with rfl | rfl <;> rfl
theorem oQ_in {c : Nat} (h : c < 2) : ∀ w ∈ u_ws (oQ c).1 (oQ c).2.1 (oQ c).2.2, w ∈ lw_g := by
  rcases o2 h with rfl | rfl
  · exact i_X
  · exact i_M
theorem oQ_lf {c : Nat} (h : c < 2) : ∀ k, k < (oQ c).2.2 → Cond.fieldLink (oQ c).1 (oI c k) (oQ c).1 ((oQ c).2.1 k).2.1 ((oQ c).2.1 k).2.2.1 ∈ lw_g := by
  rcases o2 h with rfl | rfl
  · exact lf_X
  · exact lf_M
theorem oQ_own {c : Nat} (h : c < 2) : ∀ k, k < (oQ c).2.2 → ((oQ c).2.1 k).1 = (oQ c).1 := by
  rcases o2 h with rfl | rfl <;> decide +kernel
def o_t (c : Nat) : Nat → FieldType := if c = 0 then t_X else t_M
theorem oQ_t {c : Nat} (h : c < 2) : ∀ k, k < (oQ c).2.2 → parseFieldDescriptor ((oQ c).2.1 k).2.2.1 = some (o_t c k) := by
  rcases o2 h with rfl | rfl
  · exact t_X_ok
  · exact t_M_ok
theorem oQ_n {c : Nat} (h : c < 2) : ∀ a, a < (oQ c).2.2 → ∀ b, b < (oQ c).2.2 → a ≠ b → ((oQ c).2.1 a).2.1 ≠ ((oQ c).2.1 b).2.1 := by
  rcases o2 h with rfl | rfl
  · exact n_X
  · exact n_M
theorem oN_ok {c : Nat} (h : c < 2) : ∀ k ∈ oN c, k < (oQ c).2.2 ∧ (oA c).contains k = false ∧ parseFieldDescriptor ((oQ c).2.1 k).2.2.1 = some .int ∧ ((oQ c).2.1 k).2.2.2 = false := by
  rcases o2 h with rfl | rfl <;> decide +kernel
theorem oG_ok {c : Nat} (h : c < 2) : ∀ k ∈ oG c, k < (oQ c).2.2 ∧ (oA c).contains k = false ∧ parseFieldDescriptor ((oQ c).2.1 k).2.2.1 = some .int ∧ ((oQ c).2.1 k).2.2.2 = true ∧ ((oQ c).2.1 k).1 = (oQ c).1 := by
  rcases o2 h with rfl | rfl <;> decide +kernel
theorem oA_nd {c : Nat} (h : c < 2) : va_nd (oA c) = true := by
  rcases o2 h with rfl | rfl <;> decide
theorem oR_nd {c : Nat} (h : c < 2) : va_nd (List.range (oQ c).2.2) = true := by
  rcases o2 h with rfl | rfl <;> decide +kernel
theorem oL_31 {c k : Nat} (h : c < 2) (hk : k ∈ oA c) : oL c k < 2 ^ 31 := by
  have : ∀ c, c < 2 → ∀ k ∈ oA c, oL c k < 2 ^ 31 := by decide +kernel
  exact this c h k hk
theorem map_set {β : Type} {L : List Nat} {f f' : Nat → β} {i k : Nat} (hi : L[i]? = some k) (hn : va_nd L = true) (h : ∀ k', k' ≠ k → f' k' = f k') : (L.map f).set i (f' k) = L.map f' := by
  apply List.ext_getElem?
  intro j
  rw [List.getElem?_set]
  have hlt : i < L.length := (List.getElem?_eq_some_iff.mp hi).1
  by_cases hj : i = j
  · subst hj
    rw [if_pos rfl, if_pos (by simpa using hlt), List.getElem?_map, hi]
    rfl
  · rw [if_neg hj, List.getElem?_map, List.getElem?_map]
    cases hL : L[j]? with
    | none => rfl
    | some k' =>
      have hk : k' ≠ k := by
        rintro rfl
        exact hj (va_nd_inj L hn i j k' hi hL)
      simp [h k' hk]
theorem oF_at {c : Nat} {ad fi : Nat → Nat} {k : Nat} (hk : k < (oQ c).2.2) : (oF c ad fi)[k]? = some (oV c ad fi k) := by
  unfold oF
  rw [List.getElem?_map, List.getElem?_range hk]
  rfl
theorem oF_len {c : Nat} {ad fi : Nat → Nat} : (oF c ad fi).length = (oQ c).2.2 := by simp [oF]
theorem oF_set {c : Nat} {ad fi : Nat → Nat} {k v : Nat} (h : c < 2) (hk : k < (oQ c).2.2) (hka : (oA c).contains k = false) : (oF c ad fi).set k (.int (nI v)) = oF c ad (up fi k v) := by
  unfold oF
  have e : Value.int (nI v) = oV c ad (up fi k v) k := by
    unfold oV
    rw [hka, up_s]
    rfl
  rw [e]
  refine map_set (List.getElem?_range hk) (oR_nd h) (fun k' hk' => ?_)
  unfold oV
  rw [up_n hk']
theorem ow_arr {cI cZ : ClassId} {c h0 : Nat} {ad fi : Nat → Nat} {ar : Nat → Nat → Nat} {i k : Nat} (hi : (oA c)[i]? = some k) : (ow cI cZ c h0 ad fi ar)[i + 1]? = some (oE cI cZ c ad ar k) := by
  unfold ow
  rw [List.getElem?_cons_succ, List.getElem?_map, hi]
  rfl
theorem ow_set {cI cZ : ClassId} {c h0 : Nat} {ad fi : Nat → Nat} {ar : Nat → Nat → Nat} {i k j v : Nat} (h : c < 2) (hi : (oA c)[i]? = some k) : (ow cI cZ c h0 ad fi ar).set (i + 1) (ad k, .inl (oC cI cZ c k, oL c k, .inl (upd (fun j => nI (ar k j)) j (nI v)))) = ow cI cZ c h0 ad fi (up2 ar k j v) := by
  unfold ow
  rw [List.set_cons_succ]
  congr 1
  have e : ((ad k, .inl (oC cI cZ c k, oL c k, .inl (upd (fun j => nI (ar k j)) j (nI v)))) : Nat × va_E) = oE cI cZ c ad (up2 ar k j v) k := by
    unfold oE
    have e2 : (upd (fun j => nI (ar k j)) j (nI v)) = fun q => nI (up2 ar k j v k q) := by
      funext q
      unfold upd
      rw [up2_k]
      by_cases hq : q = j <;> simp [hq]
    rw [e2]
  rw [e]
  refine map_set hi (oA_nd h) (fun k' hk' => ?_)
  unfold oE
  rw [up2_a hk']
theorem oC_t {cI cZ : ClassId} {c k : Nat} : (oZ c k = false → (oT cI cZ)[0]? = some (oC cI cZ c k, .int)) ∧ (oZ c k = true → (oT cI cZ)[1]? = some (oC cI cZ c k, .boolean)) := by
  constructor <;> intro h <;> simp [oT, oC, h]
/-- what a walk of a method of class c, with the object at h0, knows -/
def Ok (l : Launch) (c : Nat) (b : ByteArray) (nL d h0 : Nat) (ad : Nat → Nat) (ini : Bool) (P : Option Int32 → (Nat → Nat) → (Nat → Nat → Nat) → Prop) (K : Nat → List Value → List Value → St → Prop) : Prop :=
  (∃ (p : Program) (e : Env) (R : Room) (s : State) (m : MethodId) (args : Array Value) (below : List Frame) (meth : Method) (cd : Code) (A : Nat → Prop) (H0 : Heap) (cells slots : Nat) (Q : State → Prop) (D : va_G) (cI cZ : ClassId),
    c < 2 ∧ CallFix p m cd b nL s args lw_g (oQ c).1 ∧ va_K D classes (oT cI cZ) s ∧ (∀ q, H0.size ≤ q → A q) ∧ d ≤ R.frames ∧ 28 * d ≤ R.locals ∧ cells ≤ R.cells ∧ slots ≤ R.slots ∧ (ini = true → meth.name = "<init>") ∧
    K = fun pc lv st u => ∀ (H : Heap) (locs : List Loc) (ls : Array Slot), (va_P D classes (ow cI cZ c h0 ad u.1 u.2) H ∧ va_D A (ow cI cZ c h0 ad u.1 u.2) ∧ va_S A H0 H locs) → lh ls nL lv → W p l e R s m args below meth cd H locs cells slots Q (F0 m pc ls st)) ∧
  (∀ pc lv r u, decode b pc = .ok (.ireturn, 1) → P (some r) u.1 u.2 → K pc lv [.int r] u) ∧
  (∀ pc lv u, decode b pc = .ok (.return_, 1) → P none u.1 u.2 → K pc lv [] u)
section OR
variable {l : Launch} {c : Nat} {b : ByteArray} {nL d h0 : Nat} {ad : Nat → Nat} {ini : Bool} {P : Option Int32 → (Nat → Nat) → (Nat → Nat → Nat) → Prop} {K : Nat → List Value → List Value → St → Prop} {pc : Nat} {lv st : List Value} {fi : Nat → Nat} {ar : Nat → Nat → Nat}
theorem Ok.sim (h : Ok l c b nL d h0 ad ini P K) : Sim b nL K := by
  obtain ⟨⟨p, e, R, s, m, args, below, meth, cd, A, H0, cells, slots, Q, D, cI, cZ, hc, ⟨hx, hb, hml, hown, hts⟩, hK, hA, hf, hlo, hce, hsl, hin, rfl⟩, -, -⟩ := h
  exact ⟨_, p, l, e, R, s, m, args, below, meth, cd, cells, slots, Q, hx, hb, rfl⟩
theorem r_ret (h : Ok l c b nL d h0 ad ini P K) {r : Int32} (hd : decode b pc = .ok (.ireturn, 1)) (hp : P (some r) fi ar) : K pc lv [.int r] (fi, ar) := h.2.1 pc lv r (fi, ar) hd hp
theorem r_vret (h : Ok l c b nL d h0 ad ini P K) (hd : decode b pc = .ok (.return_, 1)) (hp : P none fi ar) : K pc lv [] (fi, ar) := h.2.2 pc lv (fi, ar) hd hp
theorem r_geti (h : Ok l c b nL d h0 ad ini P K) (k : Nat) {idx : Nat} (hk : okI c k = true) (hix : oI c k = idx) (hd : decode b pc = .ok (.getfield idx, 3)) (kk : K (pc + 3) lv (.int (nI (fi k)) :: st) (fi, ar)) : K pc lv (.ref h0 :: st) (fi, ar) := by
  obtain ⟨⟨p, e, R, s, m, args, below, meth, cd, A, H0, cells, slots, Q, D, cI, cZ, hc, ⟨hx, hb, hml, hown, hts⟩, hK, hA, hf, hlo, hce, hsl, hin, rfl⟩, -, -⟩ := h
  subst hix
  simp only [okI, Bool.and_eq_true, Bool.not_eq_true', Nat.blt_eq] at hk
  intro H locs ls hW hl
  refine va_get (C := (oQ c).1) (T := (oQ c).2.1) (N := (oQ c).2.2) hx hb hts (oQ_in hc) hown hK hW.1 0 rfl (oQ_at hc) k hk.2 (hts _ (oQ_lf hc k hk.2)) (fun _ h9 => by rw [oQ_own hc k hk.2] at h9; exact h9) (oF_at hk.2) hd ?_
  unfold oV
  rw [hk.1]
  exact kk H locs ls hW hl
theorem r_geta (h : Ok l c b nL d h0 ad ini P K) (k : Nat) {idx : Nat} (hk : okA c k = true) (hix : oI c k = idx) (hd : decode b pc = .ok (.getfield idx, 3)) (kk : K (pc + 3) lv (.ref (ad k) :: st) (fi, ar)) : K pc lv (.ref h0 :: st) (fi, ar) := by
  obtain ⟨⟨p, e, R, s, m, args, below, meth, cd, A, H0, cells, slots, Q, D, cI, cZ, hc, ⟨hx, hb, hml, hown, hts⟩, hK, hA, hf, hlo, hce, hsl, hin, rfl⟩, -, -⟩ := h
  subst hix
  simp only [okA, Bool.and_eq_true, Nat.blt_eq] at hk
  intro H locs ls hW hl
  refine va_get (C := (oQ c).1) (T := (oQ c).2.1) (N := (oQ c).2.2) hx hb hts (oQ_in hc) hown hK hW.1 0 rfl (oQ_at hc) k hk.2 (hts _ (oQ_lf hc k hk.2)) (fun _ h9 => by rw [oQ_own hc k hk.2] at h9; exact h9) (oF_at hk.2) hd ?_
  unfold oV
  rw [hk.1]
  exact kk H locs ls hW hl
theorem r_puti (h : Ok l c b nL d h0 ad ini P K) (k : Nat) {idx v : Nat} (hk : k ∈ oN c) (hix : oI c k = idx) (hd : decode b pc = .ok (.putfield idx, 3)) (kk : K (pc + 3) lv st (up fi k v, ar)) : K pc lv (.int (nI v) :: .ref h0 :: st) (fi, ar) := by
  obtain ⟨⟨p, e, R, s, m, args, below, meth, cd, A, H0, cells, slots, Q, D, cI, cZ, hc, ⟨hx, hb, hml, hown, hts⟩, hK, hA, hf, hlo, hce, hsl, hin, rfl⟩, -, -⟩ := h
  subst hix
  obtain ⟨h1, h2, h3, h4⟩ := oN_ok hc k hk
  intro H locs ls hW hl
  refine va_put (C := (oQ c).1) (T := (oQ c).2.1) (N := (oQ c).2.2) (ty := .int) (v := .int (nI v)) hx hb hts (oQ_in hc) (o_t c) (oQ_t hc) (oQ_n hc) hown hK hW.1 hW.2.1 hW.2.2 0 rfl (oQ_at hc) k h1 (hts _ (oQ_lf hc k h1)) (fun _ h9 => by rw [oQ_own hc k h1] at h9; exact h9) h4 h3 rfl rfl (by rw [oF_len]; exact h1) hd (fun H locs hP hD hS => ?_)
  rw [oF_set hc h1 h2] at hP hD
  exact kk H locs ls ⟨hP, hD, hS⟩ hl
/-- a final int field, in a constructor -/
theorem r_putF (h : Ok l c b nL d h0 ad true P K) (k : Nat) {idx v : Nat} (hk : k ∈ oG c) (hix : oI c k = idx) (hd : decode b pc = .ok (.putfield idx, 3)) (kk : K (pc + 3) lv st (up fi k v, ar)) : K pc lv (.int (nI v) :: .ref h0 :: st) (fi, ar) := by
  obtain ⟨⟨p, e, R, s, m, args, below, meth, cd, A, H0, cells, slots, Q, D, cI, cZ, hc, ⟨hx, hb, hml, hown, hts⟩, hK, hA, hf, hlo, hce, hsl, hin, rfl⟩, -, -⟩ := h
  subst hix
  obtain ⟨h1, h2, h3, h4, h5⟩ := oG_ok hc k hk
  intro H locs ls hW hl
  refine va_putF (C := (oQ c).1) (T := (oQ c).2.1) (N := (oQ c).2.2) (ty := .int) (v := .int (nI v)) hx hb hts (oQ_in hc) (o_t c) (oQ_t hc) (oQ_n hc) hown hK hW.1 hW.2.1 hW.2.2 0 rfl (oQ_at hc) k h1 (hts _ (oQ_lf hc k h1)) (fun _ h9 => by rw [oQ_own hc k h1] at h9; exact h9) h4 (hin rfl) h5 h3 rfl rfl (by rw [oF_len]; exact h1) hd (fun H locs hP hD hS => ?_)
  rw [oF_set hc h1 h2] at hP hD
  exact kk H locs ls ⟨hP, hD, hS⟩ hl
/-- the boolean field 'ready' of ExprCrossword (slot 23) -/
theorem r_putz (h : Ok l 0 b nL d h0 ad ini P K) {v : Nat} (hv : v < 2) (hd : decode b pc = .ok (.putfield 91, 3)) (kk : K (pc + 3) lv st (up fi 23 v, ar)) : K pc lv (.int (nI v) :: .ref h0 :: st) (fi, ar) := by
  obtain ⟨⟨p, e, R, s, m, args, below, meth, cd, A, H0, cells, slots, Q, D, cI, cZ, hc, ⟨hx, hb, hml, hown, hts⟩, hK, hA, hf, hlo, hce, hsl, hin, rfl⟩, -, -⟩ := h
  have h1 : 23 < (oQ 0).2.2 := by decide
  intro H locs ls hW hl
  refine va_put (C := (oQ 0).1) (T := (oQ 0).2.1) (N := (oQ 0).2.2) (ty := .boolean) (v := .int (nI v)) hx hb hts (oQ_in hc) (o_t 0) (oQ_t hc) (oQ_n hc) hown hK hW.1 hW.2.1 hW.2.2 0 rfl (oQ_at hc) 23 h1 (hts _ (oQ_lf hc 23 h1)) (fun _ h9 => h9) rfl (by decide +kernel) ?_ ?_ (by rw [oF_len]; exact h1) hd (fun H locs hP hD hS => ?_)
  · rcases o2 hv with rfl | rfl <;> rfl
  · rcases o2 hv with rfl | rfl <;> rfl
  · rw [oF_set hc h1 (by decide)] at hP hD
    exact kk H locs ls ⟨hP, hD, hS⟩ hl
theorem r_ald (h : Ok l c b nL d h0 ad ini P K) {k i : Nat} (n : Nat) (hk : ((oA c).contains k && !oZ c k) = true) (hn : oL c k = n) (hi : i < n) (hd : decode b pc = .ok (.iaload, 1)) (kk : K (pc + 1) lv (.int (nI (ar k i)) :: st) (fi, ar)) : K pc lv (.int (nI i) :: .ref (ad k) :: st) (fi, ar) := by
  obtain ⟨⟨p, e, R, s, m, args, below, meth, cd, A, H0, cells, slots, Q, D, cI, cZ, hc, ⟨hx, hb, hml, hown, hts⟩, hK, hA, hf, hlo, hce, hsl, hin, rfl⟩, -, -⟩ := h
  subst hn
  simp only [Bool.and_eq_true, Bool.not_eq_true', List.contains_iff_mem] at hk
  obtain ⟨q, hq⟩ := List.getElem?_of_mem hk.1
  have hb31 : oL c k < 2 ^ 31 := oL_31 hc hk.1
  intro H locs ls hW hl
  refine va_iald hx hb hK hW.1 (q + 1) 0 (ow_arr hq) (oC_t.1 hk.2) (vp_in_nI hi hb31) hd ?_
  rw [nI_clamp (by omega)]
  exact kk H locs ls hW hl
theorem r_zald (h : Ok l c b nL d h0 ad ini P K) {k i : Nat} (n : Nat) (hk : ((oA c).contains k && oZ c k) = true) (hn : oL c k = n) (hi : i < n) (hd : decode b pc = .ok (.baload, 1)) (kk : K (pc + 1) lv (.int (nI (ar k i)) :: st) (fi, ar)) : K pc lv (.int (nI i) :: .ref (ad k) :: st) (fi, ar) := by
  obtain ⟨⟨p, e, R, s, m, args, below, meth, cd, A, H0, cells, slots, Q, D, cI, cZ, hc, ⟨hx, hb, hml, hown, hts⟩, hK, hA, hf, hlo, hce, hsl, hin, rfl⟩, -, -⟩ := h
  subst hn
  simp only [Bool.and_eq_true, List.contains_iff_mem] at hk
  obtain ⟨q, hq⟩ := List.getElem?_of_mem hk.1
  have hb31 : oL c k < 2 ^ 31 := oL_31 hc hk.1
  intro H locs ls hW hl
  refine va_zald hx hb hK hW.1 (q + 1) 1 (ow_arr hq) (oC_t.2 hk.2) (vp_in_nI hi hb31) hd ?_
  rw [nI_clamp (by omega)]
  exact kk H locs ls hW hl
theorem r_ast (h : Ok l c b nL d h0 ad ini P K) {k i v : Nat} (n : Nat) (hk : ((oA c).contains k && !oZ c k) = true) (hn : oL c k = n) (hi : i < n) (hd : decode b pc = .ok (.iastore, 1)) (kk : K (pc + 1) lv st (fi, up2 ar k i v)) : K pc lv (.int (nI v) :: .int (nI i) :: .ref (ad k) :: st) (fi, ar) := by
  obtain ⟨⟨p, e, R, s, m, args, below, meth, cd, A, H0, cells, slots, Q, D, cI, cZ, hc, ⟨hx, hb, hml, hown, hts⟩, hK, hA, hf, hlo, hce, hsl, hin, rfl⟩, -, -⟩ := h
  subst hn
  simp only [Bool.and_eq_true, Bool.not_eq_true', List.contains_iff_mem] at hk
  obtain ⟨q, hq⟩ := List.getElem?_of_mem hk.1
  have hb31 : oL c k < 2 ^ 31 := oL_31 hc hk.1
  intro H locs ls hW hl
  refine va_iast hx hb hK hW.1 hW.2.1 hW.2.2 (q + 1) 0 (ow_arr hq) (oC_t.1 hk.2) (vp_in_nI hi hb31) hd (fun H locs hP hD hS => ?_)
  rw [nI_clamp (by omega), ow_set hc hq] at hP hD
  exact kk H locs ls ⟨hP, hD, hS⟩ hl
theorem r_zast (h : Ok l c b nL d h0 ad ini P K) {k i v : Nat} (n : Nat) (hk : ((oA c).contains k && oZ c k) = true) (hn : oL c k = n) (hi : i < n) (hv : v < 2) (hd : decode b pc = .ok (.bastore, 1)) (kk : K (pc + 1) lv st (fi, up2 ar k i v)) : K pc lv (.int (nI v) :: .int (nI i) :: .ref (ad k) :: st) (fi, ar) := by
  obtain ⟨⟨p, e, R, s, m, args, below, meth, cd, A, H0, cells, slots, Q, D, cI, cZ, hc, ⟨hx, hb, hml, hown, hts⟩, hK, hA, hf, hlo, hce, hsl, hin, rfl⟩, -, -⟩ := h
  subst hn
  simp only [Bool.and_eq_true, List.contains_iff_mem] at hk
  obtain ⟨q, hq⟩ := List.getElem?_of_mem hk.1
  have hb31 : oL c k < 2 ^ 31 := oL_31 hc hk.1
  have hnv : vp_nar .boolean (nI v) = nI v := by rcases o2 hv with rfl | rfl <;> rfl
  intro H locs ls hW hl
  refine va_zast hx hb hK hW.1 hW.2.1 hW.2.2 (q + 1) 1 (ow_arr hq) (oC_t.2 hk.2) (vp_in_nI hi hb31) hd (fun H locs hP hD hS => ?_)
  rw [nI_clamp (by omega), hnv, ow_set hc hq] at hP hD
  exact kk H locs ls ⟨hP, hD, hS⟩ hl
/-- the one constant of ExprCrosswordModel's pool: 2147483647 -/
theorem r_ldc (h : Ok l 1 b nL d h0 ad ini P K) (hd : decode b pc = .ok (.ldc 29, 2)) (kk : K (pc + 2) lv (.int (nI 2147483647) :: st) (fi, ar)) : K pc lv st (fi, ar) := by
  obtain ⟨⟨p, e, R, s, m, args, below, meth, cd, A, H0, cells, slots, Q, D, cI, cZ, hc, ⟨hx, hb, hml, hown, hts⟩, hK, hA, hf, hlo, hce, hsl, hin, rfl⟩, -, -⟩ := h
  exact fun H locs ls hW hl => lv_ldc (v := nI 2147483647) hx hb hown (hts (.constant "ExprCrosswordModel" 29 (nI 2147483647)) (by decide +kernel)) hd (kk H locs ls hW hl)
end OR
/-- the contract of a method that answers an int (or a boolean): from fi, ar it answers r and leaves fi', ar' with 'post r fi' ar'' -/
def oMetI (l : Launch) (c : Nat) (y : MethodName) (b : ByteArray) (nL : Nat) (ret : Option FieldType) (d : Nat) (As : List Value) (fi : Nat → Nat) (ar : Nat → Nat → Nat) (post : Int32 → (Nat → Nat) → (Nat → Nat → Nat) → Prop) : Prop :=
  ∀ (D : va_G) (cI cZ : ClassId) (h0 : Nat) (ad : Nat → Nat) (sz : Nat), Met l y (.code y b nL ret :: lw_g) ({ frames := d, cells := 0, slots := 0, locals := 28 * d }) (va_Pc (.ref h0 :: As) (fun U => U.heap.size = sz ∧ va_P D classes (ow cI cZ c h0 ad fi ar) U.heap ∧ va_K D classes (oT cI cZ) U ∧ va_D (fun _ => True) (ow cI cZ c h0 ad fi ar))) (va_Qi (fun (r : Int32) (u : St) => post r u.1 u.2) (fun (u : St) (t : State) => va_P D classes (ow cI cZ c h0 ad u.1 u.2) t.heap ∧ va_K D classes (oT cI cZ) t ∧ va_D (va_A (ow cI cZ c h0 ad fi ar) sz) (ow cI cZ c h0 ad u.1 u.2)) (va_A (ow cI cZ c h0 ad fi ar) sz)) 0 0 (va_A (ow cI cZ c h0 ad fi ar) sz)
/-- the contract of a void method -/
def oMetV (l : Launch) (c : Nat) (y : MethodName) (b : ByteArray) (nL : Nat) (d : Nat) (As : List Value) (fi : Nat → Nat) (ar : Nat → Nat → Nat) (post : (Nat → Nat) → (Nat → Nat → Nat) → Prop) : Prop :=
  ∀ (D : va_G) (cI cZ : ClassId) (h0 : Nat) (ad : Nat → Nat) (sz : Nat), Met l y (.code y b nL none :: lw_g) ({ frames := d, cells := 0, slots := 0, locals := 28 * d }) (va_Pc (.ref h0 :: As) (fun U => U.heap.size = sz ∧ va_P D classes (ow cI cZ c h0 ad fi ar) U.heap ∧ va_K D classes (oT cI cZ) U ∧ va_D (fun _ => True) (ow cI cZ c h0 ad fi ar))) (va_Qv (fun (u : St) => post u.1 u.2) (fun (u : St) (t : State) => va_P D classes (ow cI cZ c h0 ad u.1 u.2) t.heap ∧ va_K D classes (oT cI cZ) t ∧ va_D (va_A (ow cI cZ c h0 ad fi ar) sz) (ow cI cZ c h0 ad u.1 u.2)) (va_A (ow cI cZ c h0 ad fi ar) sz)) 0 0 (va_A (ow cI cZ c h0 ad fi ar) sz)
/-- what a call needs of the tables -/
def calOk (own C : String) (idx : Nat) (y : MethodName) (b : ByteArray) (nL : Nat) (ret : Option FieldType) (n : Nat) : Prop :=
  GoodIn lw_g (wsV own idx C y (.code y b nL ret :: lw_g)) ∧ y.cls = C ∧ y.cls ≠ "java/lang/invoke/MethodHandle" ∧ y.cls ≠ "java/lang/invoke/VarHandle" ∧ (parseMethodDescriptor y.desc).map (fun d => d.parameters.length) = some n
theorem lw_goodw {w : Cond} (h : w ∈ lw_g) : w ∈ lw_g ∧ ((w.onTables && w.keeps) = true ∨ ∃ ty, w = .arrayClass ty) := ⟨h, good_of_word (List.mem_filter.mp h).2⟩
theorem calOk_of {own C : String} {idx : Nat} {y : MethodName} {b : ByteArray} {nL : Nat} {ret : Option FieldType} {n i1 i2 i3 i4 i5 : Nat} (h1 : lw_tbl[i1]? = some (.methodLink own idx y)) (h2 : lw_tbl[i2]? = some (.instanceMethod y)) (h3 : lw_tbl[i3]? = some (.selects C y y)) (h4 : lw_tbl[i4]? = some (.initialized C)) (h5 : lw_tbl[i5]? = some (.code y b nL ret)) (hd : y.cls = C ∧ y.cls ≠ "java/lang/invoke/MethodHandle" ∧ y.cls ≠ "java/lang/invoke/VarHandle" ∧ (parseMethodDescriptor y.desc).map (fun d => d.parameters.length) = some n) : calOk own C idx y b nL ret n := by
  refine ⟨fun w hw => lw_goodw ?_, hd⟩
  unfold wsV at hw
  rcases List.mem_append.mp hw with h | h
  · simp only [List.mem_cons, List.not_mem_nil, or_false] at h
    rcases h with rfl | rfl | rfl | rfl
    · exact lw_in h1 rfl
    · exact lw_in h2 rfl
    · exact lw_in h3 rfl
    · exact lw_in h4 rfl
  · rcases List.mem_cons.mp h with rfl | h
    · exact lw_in h5 rfl
    · exact h
section OC
variable {l : Launch} {c : Nat} {b : ByteArray} {nL d h0 : Nat} {ad : Nat → Nat} {ini : Bool} {P : Option Int32 → (Nat → Nat) → (Nat → Nat → Nat) → Prop} {K : Nat → List Value → List Value → St → Prop} {pc : Nat} {lv st : List Value} {fi : Nat → Nat} {ar : Nat → Nat → Nat}
theorem r_calli (h : Ok l c b nL d h0 ad ini P K) {y : MethodName} {b' : ByteArray} {nL' d' idx : Nat} {ret' : Option FieldType} {As stk : List Value} {post : Int32 → (Nat → Nat) → (Nat → Nat → Nat) → Prop} (hM : oMetI l c y b' nL' ret' d' As fi ar post) (hC : calOk (oQ c).1 (oQ c).1 idx y b' nL' ret' As.length) (hdd : d' + 1 ≤ d) (hn : nL' ≤ 9) (hs : stk = As.reverse ++ .ref h0 :: st) (hcat : (st.map fun v => v.category).sum ≤ 8) (hd : decode b pc = .ok (.invokevirtual idx, 3)) (kk : ∀ (r : Int32) (fi' : Nat → Nat) (ar' : Nat → Nat → Nat), post r fi' ar' → K (pc + 3) lv (.int r :: st) (fi', ar')) : K pc lv stk (fi, ar) := by
  obtain ⟨⟨p, e, R, s, m, args, below, meth, cd, A, H0, cells, slots, Q, D, cI, cZ, hc, ⟨hx, hb, hml, hown, hts⟩, hK, hA, hf, hlo, hce, hsl, hin, rfl⟩, -, -⟩ := h
  subst hs
  intro H locs ls hW hl
  obtain ⟨hP, hD, hS⟩ := hW
  have hFc : ∀ q, va_A (ow cI cZ c h0 ad fi ar) H.size q → A q := by
    rintro q (⟨k, e, hk⟩ | hz)
    · exact hD.2 k _ hk
    · exact hA q (Nat.le_trans hS.1 hz)
  refine va_calli (va_runV (As := As) (rest := st) ⟨hx, hb, hml, hown, hts⟩ (hM D cI cZ h0 ad H.size) (cwV As.length hts hC.1 rfl rfl rfl hC.2 ⟨by show d' + 1 ≤ R.frames; omega, by show 8 + (nL' + 11) + 28 * d' ≤ R.locals; omega⟩) ⟨fun a U g mk q => by obtain ⟨q0, q1, qP, qK, qD⟩ := q; exact ⟨q0, q1, qP, va_K.moved (u := U) (U := U.calling g mk a) (Vm.Alike.refl U.vm) qK, qD⟩, va_recv hK hP (ci := c) (q0 := 0) (oQ_at hc) rfl, fun U hU hW => ⟨rfl, by rw [hU], by rw [hU]; exact hP, va_K.moved hW.alike hK, hD.weaken (fun _ _ _ _ => trivial)⟩⟩ rfl rfl hl.1 rfl (lv_room hcat) hd ⟨by omega, by omega⟩) hS (fun q _ h => hFc q h) hFc (fun r u t H1 locs ht hvm hw hB hz1 hk1 hS => ?_)
  obtain ⟨hP1, hK1, hD1⟩ := hB
  rw [ht] at hP1
  exact kk r u.1 u.2 hw H1 locs ls ⟨hP1, hD1.weaken (fun _ _ _ h => hFc _ h), hS⟩ hl
theorem r_callv (h : Ok l c b nL d h0 ad ini P K) {y : MethodName} {b' : ByteArray} {nL' d' idx : Nat} {As stk : List Value} {post : (Nat → Nat) → (Nat → Nat → Nat) → Prop} (hM : oMetV l c y b' nL' d' As fi ar post) (hC : calOk (oQ c).1 (oQ c).1 idx y b' nL' none As.length) (hdd : d' + 1 ≤ d) (hn : nL' ≤ 9) (hs : stk = As.reverse ++ .ref h0 :: st) (hcat : (st.map fun v => v.category).sum ≤ 8) (hd : decode b pc = .ok (.invokevirtual idx, 3)) (kk : ∀ (fi' : Nat → Nat) (ar' : Nat → Nat → Nat), post fi' ar' → K (pc + 3) lv st (fi', ar')) : K pc lv stk (fi, ar) := by
  obtain ⟨⟨p, e, R, s, m, args, below, meth, cd, A, H0, cells, slots, Q, D, cI, cZ, hc, ⟨hx, hb, hml, hown, hts⟩, hK, hA, hf, hlo, hce, hsl, hin, rfl⟩, -, -⟩ := h
  subst hs
  intro H locs ls hW hl
  obtain ⟨hP, hD, hS⟩ := hW
  have hFc : ∀ q, va_A (ow cI cZ c h0 ad fi ar) H.size q → A q := by
    rintro q (⟨k, e, hk⟩ | hz)
    · exact hD.2 k _ hk
    · exact hA q (Nat.le_trans hS.1 hz)
  refine va_callv (va_runV (As := As) (rest := st) ⟨hx, hb, hml, hown, hts⟩ (hM D cI cZ h0 ad H.size) (cwV As.length hts hC.1 rfl rfl rfl hC.2 ⟨by show d' + 1 ≤ R.frames; omega, by show 8 + (nL' + 11) + 28 * d' ≤ R.locals; omega⟩) ⟨fun a U g mk q => by obtain ⟨q0, q1, qP, qK, qD⟩ := q; exact ⟨q0, q1, qP, va_K.moved (u := U) (U := U.calling g mk a) (Vm.Alike.refl U.vm) qK, qD⟩, va_recv hK hP (ci := c) (q0 := 0) (oQ_at hc) rfl, fun U hU hW => ⟨rfl, by rw [hU], by rw [hU]; exact hP, va_K.moved hW.alike hK, hD.weaken (fun _ _ _ _ => trivial)⟩⟩ rfl rfl hl.1 rfl (lv_room hcat) hd ⟨by omega, by omega⟩) hS (fun q _ h => hFc q h) hFc (fun u t H1 locs ht hvm hw hB hz1 hk1 hS => ?_)
  obtain ⟨hP1, hK1, hD1⟩ := hB
  rw [ht] at hP1
  exact kk u.1 u.2 hw H1 locs ls ⟨hP1, hD1.weaken (fun _ _ _ h => hFc _ h), hS⟩ hl
end OC
/-- a contract out of a walk -/
theorem oMetI_of {l : Launch} {c : Nat} {y : MethodName} {b : ByteArray} {nL d : Nat} {ret : Option FieldType} {As : List Value} {fi : Nat → Nat} {ar : Nat → Nat → Nat} {post : Int32 → (Nat → Nat) → (Nat → Nat → Nat) → Prop} (hc : c < 2) (hy : plainName y.cls = true) (hcl : y.cls = (oQ c).1) (hret : ret = some .int ∨ (ret = some .boolean ∧ ∀ r f a, post r f a → r = 0 ∨ r = 1)) (hAs : As.all (fun v => v.category == 1) = true) (hL : As.length + 1 ≤ nL)
    (body : ∀ (h0 : Nat) (ad : Nat → Nat) (K : Nat → List Value → List Value → St → Prop), Ok l c b nL d h0 ad false (fun o f a => ∃ r, o = some r ∧ post r f a) K → K 0 (.ref h0 :: As) [] (fi, ar)) : oMetI l c y b nL ret d As fi ar post := by
  intro D cI cZ h0 ad sz
  refine Met.ofW (cc := b) (maxL := nL) (ret := ret) hy rfl ?_
  intro p e s m args below meth cd s₁ B hml hv
  obtain ⟨rfl, hsz, hP, hK, hD0⟩ := hv
  have hx := B.exec
  have hb := B.bytes
  have hr := B.returns
  have hts := atoms_spec (ws := .code y b nL ret :: lw_g) B.pre
  have hown : s.vm.findClass y.cls = some m.cls := findClass_of_methodNamed B.named
  have hlocks := B.notSynchronized
  subst hsz
  have hD := hD0.self (sz := s.heap.size)
  generalize hAe : va_A (ow cI cZ c h0 ad fi ar) s.heap.size = A at hD ⊢
  have hA : ∀ q : Nat, s.heap.size ≤ q → A q := fun q h => by rw [← hAe]; exact Or.inr h
  have hS : va_S A s.heap s.heap [] := va_S.rf
  have hca : ∀ v ∈ (.ref h0 :: As : List Value), v.category = 1 := by
    intro v hv
    rcases List.mem_cons.mp hv with rfl | hv
    · rfl
    · simpa using List.all_eq_true.mp hAs v hv
  have hl := lh_entry (vs := .ref h0 :: As) (n := nL) hca (by simpa using hL)
  rw [lg_entry_eq]
  refine body h0 ad _ ⟨⟨p, e, _, s, m, _, below, meth, cd, A, s.heap, 0, 0, _, D, cI, cZ, hc, ⟨hx, hb, hml, by rw [← hcl]; exact hown, fun w hw => hts w (List.mem_cons_of_mem _ hw)⟩, hK, hA, Nat.le_refl d, Nat.le_refl (28 * d), Nat.le_refl 0, Nat.le_refl 0, (fun h => by cases h), rfl⟩, ?_, ?_⟩ s.heap [] _ ⟨hP, hD, hS⟩ hl
  · rintro pc lv r u hd ⟨r', hr', hp⟩ H locs ls ⟨hP, hD, hS⟩ hl
    cases hr'
    rcases hret with rfl | ⟨rfl, hz⟩
    · exact W.iret (v := r) hx hb hr (fun t ht hW => ⟨⟨r, u, rfl, hp, by rw [ht]; exact hP, va_K.moved hW.alike hK, hD⟩, hS.F ht⟩) hS.2.2 hd
    · refine W.zret (v := r) hx hb hr ?_ (fun t ht hW => ⟨⟨r, u, rfl, hp, by rw [ht]; exact hP, va_K.moved hW.alike hK, hD⟩, hS.F ht⟩) hS.2.2 hd
      rcases hz r _ _ hp with rfl | rfl <;> rfl
  · rintro pc lv u hd ⟨r', hr', hp⟩
    cases hr'
theorem oMetV_of {l : Launch} {c : Nat} {y : MethodName} {b : ByteArray} {nL d : Nat} {As : List Value} {fi : Nat → Nat} {ar : Nat → Nat → Nat} {post : (Nat → Nat) → (Nat → Nat → Nat) → Prop} (hc : c < 2) (hy : plainName y.cls = true) (hcl : y.cls = (oQ c).1) (hAs : As.all (fun v => v.category == 1) = true) (hL : As.length + 1 ≤ nL)
    (body : ∀ (h0 : Nat) (ad : Nat → Nat) (K : Nat → List Value → List Value → St → Prop), Ok l c b nL d h0 ad false (fun o f a => o = none ∧ post f a) K → K 0 (.ref h0 :: As) [] (fi, ar)) : oMetV l c y b nL d As fi ar post := by
  intro D cI cZ h0 ad sz
  refine Met.ofW (cc := b) (maxL := nL) (ret := none) hy rfl ?_
  intro p e s m args below meth cd s₁ B hml hv
  obtain ⟨rfl, hsz, hP, hK, hD0⟩ := hv
  have hx := B.exec
  have hb := B.bytes
  have hr := B.returns
  have hts := atoms_spec (ws := .code y b nL none :: lw_g) B.pre
  have hown : s.vm.findClass y.cls = some m.cls := findClass_of_methodNamed B.named
  have hlocks := B.notSynchronized
  subst hsz
  have hD := hD0.self (sz := s.heap.size)
  generalize hAe : va_A (ow cI cZ c h0 ad fi ar) s.heap.size = A at hD ⊢
  have hA : ∀ q : Nat, s.heap.size ≤ q → A q := fun q h => by rw [← hAe]; exact Or.inr h
  have hS : va_S A s.heap s.heap [] := va_S.rf
  have hca : ∀ v ∈ (.ref h0 :: As : List Value), v.category = 1 := by
    intro v hv
    rcases List.mem_cons.mp hv with rfl | hv
    · rfl
    · simpa using List.all_eq_true.mp hAs v hv
  have hl := lh_entry (vs := .ref h0 :: As) (n := nL) hca (by simpa using hL)
  rw [lg_entry_eq]
  refine body h0 ad _ ⟨⟨p, e, _, s, m, _, below, meth, cd, A, s.heap, 0, 0, _, D, cI, cZ, hc, ⟨hx, hb, hml, by rw [← hcl]; exact hown, fun w hw => hts w (List.mem_cons_of_mem _ hw)⟩, hK, hA, Nat.le_refl d, Nat.le_refl (28 * d), Nat.le_refl 0, Nat.le_refl 0, (fun h => by cases h), rfl⟩, ?_, ?_⟩ s.heap [] _ ⟨hP, hD, hS⟩ hl
  · rintro pc lv r u hd ⟨hr', hp⟩
    cases hr'
  · rintro pc lv u hd ⟨hr', hp⟩ H locs ls ⟨hP, hD, hS⟩ hl
    exact W.vret hx hb hr (fun t ht hW => ⟨⟨u, rfl, hp, by rw [ht]; exact hP, va_K.moved hW.alike hK, hD⟩, hS.F ht⟩) hS.2.2 hd
end
section
theorem plain_X : plainName "ExprCrossword" = true := by decide +kernel
theorem plain_M : plainName "ExprCrosswordModel" = true := by decide +kernel
theorem shl1 {p : Nat} (h : p < 32) : 1 <<< p < 2 ^ 32 := by
  rw [Nat.one_shiftLeft]
  exact Nat.pow_lt_pow_right (by decide) h
theorem k_X_anyWord : calOk "ExprCrossword" "ExprCrossword" 87 y_X_anyWord b_X_anyWord 3 none 1 := calOk_of ml_X_X_anyWord mi_X_anyWord ms_X_anyWord mn_X mc_X_anyWord (by decide +kernel)
theorem kL_X_letter : calOk "ExprCrosswordLaw" "ExprCrossword" 21 y_X_letter b_X_letter 3 (some .int) 1 := calOk_of ml_L_X_letter mi_X_letter ms_X_letter mn_X mc_X_letter (by decide +kernel)
theorem k_X_push : calOk "ExprCrossword" "ExprCrossword" 101 y_X_push b_X_push 4 none 3 := calOk_of ml_X_X_push mi_X_push ms_X_push mn_X mc_X_push (by decide +kernel)
theorem kL_X_unit : calOk "ExprCrosswordLaw" "ExprCrossword" 26 y_X_unit b_X_unit 1 (some .int) 0 := calOk_of ml_L_X_unit mi_X_unit ms_X_unit mn_X mc_X_unit (by decide +kernel)
theorem kL_X_cat : calOk "ExprCrosswordLaw" "ExprCrossword" 31 y_X_cat b_X_cat 3 (some .int) 0 := calOk_of ml_L_X_cat mi_X_cat ms_X_cat mn_X mc_X_cat (by decide +kernel)
theorem k_X_link : calOk "ExprCrossword" "ExprCrossword" 105 y_X_link b_X_link 4 none 2 := calOk_of ml_X_X_link mi_X_link ms_X_link mn_X mc_X_link (by decide +kernel)
theorem kL_X_alt : calOk "ExprCrosswordLaw" "ExprCrossword" 35 y_X_alt b_X_alt 3 (some .int) 0 := calOk_of ml_L_X_alt mi_X_alt ms_X_alt mn_X mc_X_alt (by decide +kernel)
theorem kL_X_star : calOk "ExprCrosswordLaw" "ExprCrossword" 39 y_X_star b_X_star 2 (some .int) 0 := calOk_of ml_L_X_star mi_X_star ms_X_star mn_X mc_X_star (by decide +kernel)
theorem kL_X_reverse : calOk "ExprCrosswordLaw" "ExprCrossword" 43 y_X_reverse b_X_reverse 3 (some .int) 0 := calOk_of ml_L_X_reverse mi_X_reverse ms_X_reverse mn_X mc_X_reverse (by decide +kernel)
theorem k_X_turn : calOk "ExprCrossword" "ExprCrossword" 109 y_X_turn b_X_turn 3 none 1 := calOk_of ml_X_X_turn mi_X_turn ms_X_turn mn_X mc_X_turn (by decide +kernel)
theorem kL_X_setLine : calOk "ExprCrosswordLaw" "ExprCrossword" 47 y_X_setLine b_X_setLine 6 (some .int) 1 := calOk_of ml_L_X_setLine mi_X_setLine ms_X_setLine mn_X mc_X_setLine (by decide +kernel)
theorem kL_X_depth : calOk "ExprCrosswordLaw" "ExprCrossword" 51 y_X_depth b_X_depth 1 (some .int) 0 := calOk_of ml_L_X_depth mi_X_depth ms_X_depth mn_X mc_X_depth (by decide +kernel)
theorem kL_X_letters : calOk "ExprCrosswordLaw" "ExprCrossword" 55 y_X_letters b_X_letters 1 (some .int) 0 := calOk_of ml_L_X_letters mi_X_letters ms_X_letters mn_X mc_X_letters (by decide +kernel)
theorem kL_X_freeLine : calOk "ExprCrosswordLaw" "ExprCrossword" 59 y_X_freeLine b_X_freeLine 2 (some .int) 1 := calOk_of ml_L_X_freeLine mi_X_freeLine ms_X_freeLine mn_X mc_X_freeLine (by decide +kernel)
theorem kL_X_pin : calOk "ExprCrosswordLaw" "ExprCrossword" 63 y_X_pin b_X_pin 6 (some .int) 3 := calOk_of ml_L_X_pin mi_X_pin ms_X_pin mn_X mc_X_pin (by decide +kernel)
theorem k_X_inGrid : calOk "ExprCrossword" "ExprCrossword" 112 y_X_inGrid b_X_inGrid 3 (some .boolean) 2 := calOk_of ml_X_X_inGrid mi_X_inGrid ms_X_inGrid mn_X mc_X_inGrid (by decide +kernel)
theorem kL_X_pinned : calOk "ExprCrosswordLaw" "ExprCrossword" 68 y_X_pinned b_X_pinned 3 (some .int) 2 := calOk_of ml_L_X_pinned mi_X_pinned ms_X_pinned mn_X mc_X_pinned (by decide +kernel)
theorem kL_X_fillings : calOk "ExprCrosswordLaw" "ExprCrossword" 73 y_X_fillings b_X_fillings 1 (some .int) 0 := calOk_of ml_L_X_fillings mi_X_fillings ms_X_fillings mn_X mc_X_fillings (by decide +kernel)
theorem k_X_scan : calOk "ExprCrossword" "ExprCrossword" 155 y_X_scan b_X_scan 8 none 2 := calOk_of ml_X_X_scan mi_X_scan ms_X_scan mn_X mc_X_scan (by decide +kernel)
theorem k_X_prepare : calOk "ExprCrossword" "ExprCrossword" 134 y_X_prepare b_X_prepare 2 none 0 := calOk_of ml_X_X_prepare mi_X_prepare ms_X_prepare mn_X mc_X_prepare (by decide +kernel)
theorem k_X_prepareLine : calOk "ExprCrossword" "ExprCrossword" 116 y_X_prepareLine b_X_prepareLine 8 none 1 := calOk_of ml_X_X_prepareLine mi_X_prepareLine ms_X_prepareLine mn_X mc_X_prepareLine (by decide +kernel)
theorem k_X_lineLength : calOk "ExprCrossword" "ExprCrossword" 119 y_X_lineLength b_X_lineLength 2 (some .int) 1 := calOk_of ml_X_X_lineLength mi_X_lineLength ms_X_lineLength mn_X mc_X_lineLength (by decide +kernel)
theorem k_X_cellOf : calOk "ExprCrossword" "ExprCrossword" 123 y_X_cellOf b_X_cellOf 3 (some .int) 2 := calOk_of ml_X_X_cellOf mi_X_cellOf ms_X_cellOf mn_X mc_X_cellOf (by decide +kernel)
theorem k_X_before : calOk "ExprCrossword" "ExprCrossword" 127 y_X_before b_X_before 7 (some .int) 3 := calOk_of ml_X_X_before mi_X_before ms_X_before mn_X mc_X_before (by decide +kernel)
theorem k_X_place : calOk "ExprCrossword" "ExprCrossword" 149 y_X_place b_X_place 9 (some .boolean) 2 := calOk_of ml_X_X_place mi_X_place ms_X_place mn_X mc_X_place (by decide +kernel)
theorem k_X_step : calOk "ExprCrossword" "ExprCrossword" 131 y_X_step b_X_step 6 (some .int) 3 := calOk_of ml_X_X_step mi_X_step ms_X_step mn_X mc_X_step (by decide +kernel)
theorem k_X_enter : calOk "ExprCrossword" "ExprCrossword" 152 y_X_enter b_X_enter 5 (some .boolean) 2 := calOk_of ml_X_X_enter mi_X_enter ms_X_enter mn_X mc_X_enter (by decide +kernel)
theorem kL_X_filling : calOk "ExprCrosswordLaw" "ExprCrossword" 77 y_X_filling b_X_filling 2 (some .int) 1 := calOk_of ml_L_X_filling mi_X_filling ms_X_filling mn_X mc_X_filling (by decide +kernel)
theorem kL_X_below : calOk "ExprCrosswordLaw" "ExprCrossword" 81 y_X_below b_X_below 2 (some .int) 1 := calOk_of ml_L_X_below mi_X_below ms_X_below mn_X mc_X_below (by decide +kernel)
theorem kL_X_forced : calOk "ExprCrosswordLaw" "ExprCrossword" 85 y_X_forced b_X_forced 4 (some .int) 2 := calOk_of ml_L_X_forced mi_X_forced ms_X_forced mn_X mc_X_forced (by decide +kernel)
theorem kL_X_lineWords : calOk "ExprCrosswordLaw" "ExprCrossword" 89 y_X_lineWords b_X_lineWords 5 (some .int) 1 := calOk_of ml_L_X_lineWords mi_X_lineWords ms_X_lineWords mn_X mc_X_lineWords (by decide +kernel)
theorem k_X_spells : calOk "ExprCrossword" "ExprCrossword" 158 y_X_spells b_X_spells 8 (some .boolean) 3 := calOk_of ml_X_X_spells mi_X_spells ms_X_spells mn_X mc_X_spells (by decide +kernel)
theorem kL_M_letter : calOk "ExprCrosswordLaw" "ExprCrosswordModel" 25 y_M_letter b_M_letter 2 (some .int) 1 := calOk_of ml_L_M_letter mi_M_letter ms_M_letter mn_M mc_M_letter (by decide +kernel)
theorem k_M_letters : calOk "ExprCrosswordModel" "ExprCrosswordModel" 33 y_M_letters b_M_letters 3 (some .int) 0 := calOk_of ml_M_M_letters mi_M_letters ms_M_letters mn_M mc_M_letters (by decide +kernel)
theorem k_M_push : calOk "ExprCrosswordModel" "ExprCrosswordModel" 37 y_M_push b_M_push 3 (some .int) 2 := calOk_of ml_M_M_push mi_M_push ms_M_push mn_M mc_M_push (by decide +kernel)
theorem kL_M_unit : calOk "ExprCrosswordLaw" "ExprCrosswordModel" 30 y_M_unit b_M_unit 1 (some .int) 0 := calOk_of ml_L_M_unit mi_M_unit ms_M_unit mn_M mc_M_unit (by decide +kernel)
theorem kL_M_cat : calOk "ExprCrosswordLaw" "ExprCrosswordModel" 34 y_M_cat b_M_cat 2 (some .int) 0 := calOk_of ml_L_M_cat mi_M_cat ms_M_cat mn_M mc_M_cat (by decide +kernel)
theorem k_M_products : calOk "ExprCrosswordModel" "ExprCrosswordModel" 55 y_M_products b_M_products 6 (some .int) 2 := calOk_of ml_M_M_products mi_M_products ms_M_products mn_M mc_M_products (by decide +kernel)
theorem k_M_splits : calOk "ExprCrosswordModel" "ExprCrosswordModel" 45 y_M_splits b_M_splits 8 (some .boolean) 5 := calOk_of ml_M_M_splits mi_M_splits ms_M_splits mn_M mc_M_splits (by decide +kernel)
theorem k_M_holds : calOk "ExprCrosswordModel" "ExprCrosswordModel" 41 y_M_holds b_M_holds 4 (some .boolean) 3 := calOk_of ml_M_M_holds mi_M_holds ms_M_holds mn_M mc_M_holds (by decide +kernel)
theorem k_M_word : calOk "ExprCrosswordModel" "ExprCrosswordModel" 49 y_M_word b_M_word 3 (some .int) 2 := calOk_of ml_M_M_word mi_M_word ms_M_word mn_M mc_M_word (by decide +kernel)
theorem k_M_pair : calOk "ExprCrosswordModel" "ExprCrosswordModel" 58 y_M_pair b_M_pair 2 (some .int) 1 := calOk_of ml_M_M_pair mi_M_pair ms_M_pair mn_M mc_M_pair (by decide +kernel)
theorem kL_M_alt : calOk "ExprCrosswordLaw" "ExprCrosswordModel" 38 y_M_alt b_M_alt 1 (some .int) 0 := calOk_of ml_L_M_alt mi_M_alt ms_M_alt mn_M mc_M_alt (by decide +kernel)
theorem kL_M_star : calOk "ExprCrosswordLaw" "ExprCrosswordModel" 42 y_M_star b_M_star 1 (some .int) 0 := calOk_of ml_L_M_star mi_M_star ms_M_star mn_M mc_M_star (by decide +kernel)
theorem k_M_chains : calOk "ExprCrosswordModel" "ExprCrosswordModel" 62 y_M_chains b_M_chains 5 (some .int) 1 := calOk_of ml_M_M_chains mi_M_chains ms_M_chains mn_M mc_M_chains (by decide +kernel)
theorem kL_M_reverse : calOk "ExprCrosswordLaw" "ExprCrosswordModel" 46 y_M_reverse b_M_reverse 1 (some .int) 0 := calOk_of ml_L_M_reverse mi_M_reverse ms_M_reverse mn_M mc_M_reverse (by decide +kernel)
theorem k_M_mirrors : calOk "ExprCrosswordModel" "ExprCrosswordModel" 65 y_M_mirrors b_M_mirrors 6 (some .int) 1 := calOk_of ml_M_M_mirrors mi_M_mirrors ms_M_mirrors mn_M mc_M_mirrors (by decide +kernel)
theorem k_M_mirrored : calOk "ExprCrosswordModel" "ExprCrosswordModel" 52 y_M_mirrored b_M_mirrored 5 (some .int) 2 := calOk_of ml_M_M_mirrored mi_M_mirrored ms_M_mirrored mn_M mc_M_mirrored (by decide +kernel)
theorem kL_M_setLine : calOk "ExprCrosswordLaw" "ExprCrosswordModel" 50 y_M_setLine b_M_setLine 2 (some .int) 1 := calOk_of ml_L_M_setLine mi_M_setLine ms_M_setLine mn_M mc_M_setLine (by decide +kernel)
theorem k_M_isLine : calOk "ExprCrosswordModel" "ExprCrosswordModel" 68 y_M_isLine b_M_isLine 2 (some .boolean) 1 := calOk_of ml_M_M_isLine mi_M_isLine ms_M_isLine mn_M mc_M_isLine (by decide +kernel)
theorem kL_M_depth : calOk "ExprCrosswordLaw" "ExprCrosswordModel" 54 y_M_depth b_M_depth 1 (some .int) 0 := calOk_of ml_L_M_depth mi_M_depth ms_M_depth mn_M mc_M_depth (by decide +kernel)
theorem kL_M_letters : calOk "ExprCrosswordLaw" "ExprCrosswordModel" 58 y_M_letters b_M_letters 3 (some .int) 0 := calOk_of ml_L_M_letters mi_M_letters ms_M_letters mn_M mc_M_letters (by decide +kernel)
theorem kL_M_freeLine : calOk "ExprCrosswordLaw" "ExprCrosswordModel" 62 y_M_freeLine b_M_freeLine 2 (some .int) 1 := calOk_of ml_L_M_freeLine mi_M_freeLine ms_M_freeLine mn_M mc_M_freeLine (by decide +kernel)
theorem kL_M_pin : calOk "ExprCrosswordLaw" "ExprCrosswordModel" 67 y_M_pin b_M_pin 5 (some .int) 3 := calOk_of ml_L_M_pin mi_M_pin ms_M_pin mn_M mc_M_pin (by decide +kernel)
theorem k_M_isCell : calOk "ExprCrosswordModel" "ExprCrosswordModel" 72 y_M_isCell b_M_isCell 3 (some .boolean) 2 := calOk_of ml_M_M_isCell mi_M_isCell ms_M_isCell mn_M mc_M_isCell (by decide +kernel)
theorem kL_M_pinned : calOk "ExprCrosswordLaw" "ExprCrosswordModel" 72 y_M_pinned b_M_pinned 3 (some .int) 2 := calOk_of ml_L_M_pinned mi_M_pinned ms_M_pinned mn_M mc_M_pinned (by decide +kernel)
theorem kL_M_fillings : calOk "ExprCrosswordLaw" "ExprCrosswordModel" 76 y_M_fillings b_M_fillings 3 (some .int) 0 := calOk_of ml_L_M_fillings mi_M_fillings ms_M_fillings mn_M mc_M_fillings (by decide +kernel)
theorem k_M_fits : calOk "ExprCrosswordModel" "ExprCrosswordModel" 89 y_M_fits b_M_fits 5 (some .boolean) 1 := calOk_of ml_M_M_fits mi_M_fits ms_M_fits mn_M mc_M_fits (by decide +kernel)
theorem k_M_pinsKept : calOk "ExprCrosswordModel" "ExprCrosswordModel" 83 y_M_pinsKept b_M_pinsKept 5 (some .boolean) 1 := calOk_of ml_M_M_pinsKept mi_M_pinsKept ms_M_pinsKept mn_M mc_M_pinsKept (by decide +kernel)
theorem k_M_cellOf : calOk "ExprCrosswordModel" "ExprCrosswordModel" 79 y_M_cellOf b_M_cellOf 4 (some .int) 3 := calOk_of ml_M_M_cellOf mi_M_cellOf ms_M_cellOf mn_M mc_M_cellOf (by decide +kernel)
theorem k_M_wordOf : calOk "ExprCrosswordModel" "ExprCrosswordModel" 86 y_M_wordOf b_M_wordOf 7 (some .int) 2 := calOk_of ml_M_M_wordOf mi_M_wordOf ms_M_wordOf mn_M mc_M_wordOf (by decide +kernel)
theorem k_M_lengthOf : calOk "ExprCrosswordModel" "ExprCrosswordModel" 76 y_M_lengthOf b_M_lengthOf 2 (some .int) 1 := calOk_of ml_M_M_lengthOf mi_M_lengthOf ms_M_lengthOf mn_M mc_M_lengthOf (by decide +kernel)
theorem kL_M_filling : calOk "ExprCrosswordLaw" "ExprCrosswordModel" 80 y_M_filling b_M_filling 4 (some .int) 1 := calOk_of ml_L_M_filling mi_M_filling ms_M_filling mn_M mc_M_filling (by decide +kernel)
theorem kL_M_below : calOk "ExprCrosswordLaw" "ExprCrosswordModel" 84 y_M_below b_M_below 4 (some .int) 1 := calOk_of ml_L_M_below mi_M_below ms_M_below mn_M mc_M_below (by decide +kernel)
theorem kL_M_forced : calOk "ExprCrosswordLaw" "ExprCrosswordModel" 88 y_M_forced b_M_forced 7 (some .int) 2 := calOk_of ml_L_M_forced mi_M_forced ms_M_forced mn_M mc_M_forced (by decide +kernel)
theorem kL_M_lineWords : calOk "ExprCrosswordLaw" "ExprCrosswordModel" 92 y_M_lineWords b_M_lineWords 5 (some .int) 1 := calOk_of ml_L_M_lineWords mi_M_lineWords ms_M_lineWords mn_M mc_M_lineWords (by decide +kernel)
theorem k_M_wordKeepsPins : calOk "ExprCrosswordModel" "ExprCrosswordModel" 92 y_M_wordKeepsPins b_M_wordKeepsPins 6 (some .boolean) 3 := calOk_of ml_M_M_wordKeepsPins mi_M_wordKeepsPins ms_M_wordKeepsPins mn_M mc_M_wordKeepsPins (by decide +kernel)
end
section
/-! ExprCrossword: the leaves. What each method computes, as a function on naturals, and its contract. -/
theorem loopD {N : Nat} {Pk : Nat → Prop} (h : ∀ p, p ≤ N → (p < N → Pk (p + 1)) → Pk p) : ∀ p, p ≤ N → Pk p := by
  have key : ∀ n p, p + n = N → Pk p := by
    intro n
    induction n with
    | zero => intro p hp; exact h p (by omega) (fun q => by omega)
    | succ n ih => intro p hp; exact h p (by omega) (fun _ => ih (p + 1) (by omega))
  intro p hp
  exact key (N - p) p (by omega)
theorem r_take {σ : Type} {b : ByteArray} {nL : Nat} {K : Nat → List Value → List Value → σ → Prop} {pc : Nat} {lv st : List Value} {u : σ} (h : Sim b nL K) (n : Nat) (k : K pc (lv.take n) st u) : K pc lv st u := by
  obtain ⟨Wd, p, l, e, R, s, m, args, below, meth, c, cells, slots, Q, hx, hb, rfl⟩ := h
  intro H locs ls hW hl
  refine k H locs ls hW ⟨hl.1, hl.2.1, fun i v hv => hl.2.2.1 i v ?_, fun v hv => hl.2.2.2 v (List.mem_of_mem_take hv)⟩
  rw [List.getElem?_take] at hv
  split at hv
  · exact hv
  · cases hv
theorem r_if_le {σ : Type} {b : ByteArray} {nL : Nat} {K : Nat → List Value → List Value → σ → Prop} {pc : Nat} {lv st : List Value} {u : σ} (h : Sim b nL K) {x : Nat} {off : Int} {tgt : Nat} (hxb : x < 2 ^ 31) (hd : decode b pc = .ok (.ifCond .le off, 3)) (ht : (pc : Int) + off = (tgt : Int)) (kt : x = 0 → K tgt lv st u) (kf : x ≠ 0 → K (pc + 3) lv st u) : K pc lv (.int (nI x) :: st) u :=
  r_ifR_le h hd ht (fun c => kt (Nat.le_zero.mp ((nI_leI hxb (show 0 < 2 ^ 31 by decide)).mp c))) (fun c => kf (fun q => c ((nI_leI hxb (show 0 < 2 ^ 31 by decide)).mpr (Nat.le_of_eq q))))
theorem r_if_gt {σ : Type} {b : ByteArray} {nL : Nat} {K : Nat → List Value → List Value → σ → Prop} {pc : Nat} {lv st : List Value} {u : σ} (h : Sim b nL K) {x : Nat} {off : Int} {tgt : Nat} (hxb : x < 2 ^ 31) (hd : decode b pc = .ok (.ifCond .gt off, 3)) (ht : (pc : Int) + off = (tgt : Int)) (kt : x ≠ 0 → K tgt lv st u) (kf : x = 0 → K (pc + 3) lv st u) : K pc lv (.int (nI x) :: st) u :=
  r_ifR_gt h hd ht (fun c => kt (fun q => by subst q; exact absurd c (by decide))) (fun c => kf (Nat.eq_zero_of_not_pos (fun q => c ((nI_ltI (show 0 < 2 ^ 31 by decide) hxb).mpr q))))
-- what the methods compute
def pushA (fi : Nat → Nat) (ar : Nat → Nat → Nat) (f lst e : Nat) : Nat → Nat → Nat := up2 (up2 (up2 (up2 ar 9 (fi 7) (fi 8)) 10 (fi 7) f) 11 (fi 7) lst) 12 (fi 7) e
def linkP (ar : Nat → Nat → Nat) (fr to : Nat) : Nat → Nat → Nat → Nat
  | 0 => ar
  | p + 1 => if fr >>> p &&& 1 = 1 then up2 (linkP ar fr to p) 14 p (linkP ar fr to p 14 p ||| to) else linkP ar fr to p
def turnP (ar : Nat → Nat → Nat) (p : Nat) : Nat → Nat → Nat → Nat
  | 0 => ar
  | q + 1 => if turnP ar p q 14 p >>> q &&& 1 = 1 then up2 (turnP ar p q) 15 q (turnP ar p q 15 q ||| 1 <<< p) else turnP ar p q
def rch (ar : Nat → Nat → Nat) (ln set : Nat) : Nat → Nat
  | 0 => if set &&& 256 = 0 then 0 else ar 16 ln
  | p + 1 => if set >>> p &&& 1 = 1 then rch ar ln set p ||| ar 21 (ln * 8 + p) else rch ar ln set p
def ltr (ar : Nat → Nat → Nat) (ln v : Nat) : Nat := if v = 0 then ar 19 ln else ar 20 ln
def stp (ar : Nat → Nat → Nat) (ln set v : Nat) : Nat := rch ar ln set 8 &&& ltr ar ln v
def bfr (ar : Nat → Nat → Nat) (ln g : Nat) : Nat → Nat
  | 0 => if ar 16 ln &&& g = 0 then 0 else 256
  | p + 1 => if ar 21 (ln * 8 + p) &&& g = 0 then bfr ar ln g p else bfr ar ln g p ||| 1 <<< p
def bef (ar : Nat → Nat → Nat) (ln set v : Nat) : Nat := bfr ar ln (set &&& ltr ar ln v) 8
def awP (ar : Nat → Nat → Nat) (ln : Nat) : Nat → Nat → Nat → Nat
  | 0 => up2 (up2 (up2 (up2 (up2 ar 16 ln 1) 17 ln 1) 18 ln 1) 19 ln 1) 20 ln 1
  | p + 1 => up2 (awP ar ln p) 21 (ln * 8 + p) 0
def awA (ar : Nat → Nat → Nat) (ln : Nat) : Nat → Nat → Nat := up2 (awP ar ln 8) 21 (ln * 8) 1
def lenX (fi : Nat → Nat) (ln : Nat) : Nat := if ln < fi 0 then fi 1 else fi 0
def celX (fi : Nat → Nat) (ln t : Nat) : Nat := if ln < fi 0 then ln * fi 1 + t else t * fi 1 + ln - fi 0
def inG (fi : Nat → Nat) (r c : Int32) : Prop := 0 ≤ r ∧ r < nI (fi 0) ∧ 0 ≤ c ∧ c < nI (fi 1)
-- contracts
theorem c_X_depth (l : Launch) (fi : Nat → Nat) (ar : Nat → Nat → Nat) : oMetI l 0 y_X_depth b_X_depth 1 (some .int) 0 [] fi ar (fun r f a => r = nI (fi 7) ∧ f = fi ∧ a = ar) := by
  refine oMetI_of (c := 0) (by decide) plain_X rfl (Or.inl rfl) rfl (Nat.le_of_ble_eq_true rfl) (fun h0 ad K hk => ?_)
  have hs := hk.sim
  refine r_aload_n hs d_X_depth_0 rfl rfl ?_
  refine r_geti hk 7 rfl rfl d_X_depth_1 ?_
  exact r_ret hk d_X_depth_4 ⟨_, rfl, rfl, rfl, rfl⟩
theorem c_X_letters (l : Launch) (fi : Nat → Nat) (ar : Nat → Nat → Nat) : oMetI l 0 y_X_letters b_X_letters 1 (some .int) 0 [] fi ar (fun r f a => r = nI (fi 8) ∧ f = fi ∧ a = ar) := by
  refine oMetI_of (c := 0) (by decide) plain_X rfl (Or.inl rfl) rfl (Nat.le_of_ble_eq_true rfl) (fun h0 ad K hk => ?_)
  have hs := hk.sim
  refine r_aload_n hs d_X_letters_0 rfl rfl ?_
  refine r_geti hk 8 rfl rfl d_X_letters_1 ?_
  exact r_ret hk d_X_letters_4 ⟨_, rfl, rfl, rfl, rfl⟩
theorem c_X_push (l : Launch) (fi : Nat → Nat) (ar : Nat → Nat → Nat) (f0 l0 e0 : Nat) (hh : fi 7 < 6) (he : e0 < 2) : oMetV l 0 y_X_push b_X_push 4 0 [.int (nI f0), .int (nI l0), .int (nI e0)] fi ar (fun f a => f = up fi 7 (fi 7 + 1) ∧ a = pushA fi ar f0 l0 e0) := by
  refine oMetV_of (c := 0) (by decide) plain_X rfl rfl (Nat.le_of_ble_eq_true rfl) (fun h0 ad K hk => ?_)
  have hs := hk.sim
  refine r_aload_n hs d_X_push_0 rfl rfl ?_
  refine r_geta hk 9 rfl rfl d_X_push_1 ?_
  refine r_aload_n hs d_X_push_4 rfl rfl ?_
  refine r_geti hk 7 rfl rfl d_X_push_5 ?_
  refine r_aload_n hs d_X_push_8 rfl rfl ?_
  refine r_geti hk 8 rfl rfl d_X_push_9 ?_
  refine r_ast hk 6 rfl rfl (by omega) d_X_push_12 ?_
  refine r_aload_n hs d_X_push_13 rfl rfl ?_
  refine r_geta hk 10 rfl rfl d_X_push_14 ?_
  refine r_aload_n hs d_X_push_17 rfl rfl ?_
  refine r_geti hk 7 rfl rfl d_X_push_18 ?_
  refine r_iload_n hs d_X_push_21 rfl rfl ?_
  refine r_ast hk 6 rfl rfl (by omega) d_X_push_22 ?_
  refine r_aload_n hs d_X_push_23 rfl rfl ?_
  refine r_geta hk 11 rfl rfl d_X_push_24 ?_
  refine r_aload_n hs d_X_push_27 rfl rfl ?_
  refine r_geti hk 7 rfl rfl d_X_push_28 ?_
  refine r_iload_n hs d_X_push_31 rfl rfl ?_
  refine r_ast hk 6 rfl rfl (by omega) d_X_push_32 ?_
  refine r_aload_n hs d_X_push_33 rfl rfl ?_
  refine r_geta hk 12 rfl rfl d_X_push_34 ?_
  refine r_aload_n hs d_X_push_37 rfl rfl ?_
  refine r_geti hk 7 rfl rfl d_X_push_38 ?_
  refine r_iload_n hs d_X_push_41 rfl rfl ?_
  refine r_zast hk 6 rfl rfl (by omega) (by omega) d_X_push_42 ?_
  refine r_aload_n hs d_X_push_43 rfl rfl ?_
  refine r_dup hs d_X_push_44 rfl ?_
  refine r_geti hk 7 rfl rfl d_X_push_45 ?_
  refine r_iconst hs 1 d_X_push_48 (by decide) ?_
  refine r_iadd hs d_X_push_49 ?_
  refine r_puti hk 7 (by decide) rfl d_X_push_50 ?_
  exact r_vret hk d_X_push_53 ⟨rfl, rfl, rfl⟩
theorem c_X_link (l : Launch) (fi : Nat → Nat) (ar : Nat → Nat → Nat) (fr to : Nat) (hfr : fr < 2 ^ 31) : oMetV l 0 y_X_link b_X_link 4 0 [.int (nI fr), .int (nI to)] fi ar (fun f a => f = fi ∧ a = linkP ar fr to 8) := by
  refine oMetV_of (c := 0) (by decide) plain_X rfl rfl (Nat.le_of_ble_eq_true rfl) (fun h0 ad K hk => ?_)
  have hs := hk.sim
  have J : ∀ p, p ≤ 8 → K 2 [.ref h0, .int (nI fr), .int (nI to), .int (nI p)] [] (fi, linkP ar fr to p) := by
    refine loopD (fun p hp ih => ?_)
    refine r_iload_n hs d_X_link_2 rfl rfl ?_
    refine r_bipush hs 8 d_X_link_3 (by decide) ?_
    refine r_icmp_ge (tgt := 37) hs (by first | omega | exact hB _ _ | exact hF _) (by first | omega | exact hB _ _ | exact hF _) d_X_link_5 (by decide) (fun c_5 => ?_) (fun c_5 => ?_)
    · obtain rfl : p = 8 := by omega
      exact r_vret hk d_X_link_37 ⟨rfl, rfl, rfl⟩
    · have e := ih c_5
      rw [linkP] at e
      refine r_iload_n hs d_X_link_8 rfl rfl ?_
      refine r_iload_n hs d_X_link_9 rfl rfl ?_
      refine r_ishr hs (by first | omega | exact hB _ _ | exact hF _) (by omega) d_X_link_10 ?_
      refine r_iconst hs 1 d_X_link_11 (by decide) ?_
      refine r_iand hs d_X_link_12 ?_
      refine r_iconst hs 1 d_X_link_13 (by decide) ?_
      have hb1 : fr >>> p &&& 1 < 2 ^ 31 := Nat.lt_of_le_of_lt Nat.and_le_right (by decide)
      refine r_icmp_ne (tgt := 31) hs (by first | omega | exact hB _ _ | exact hF _) (by first | omega | exact hB _ _ | exact hF _) d_X_link_14 (by decide) (fun c_14 => ?_) (fun c_14 => ?_)
      · rw [if_neg c_14] at e
        refine r_iinc hs d_X_link_31 rfl (Nat.le_of_ble_eq_true rfl) (Nat.le_of_ble_eq_true rfl) ?_
        refine r_goto (tgt := 2) hs d_X_link_34 (by decide) ?_
        exact e
      · rw [if_pos c_14] at e
        refine r_aload_n hs d_X_link_17 rfl rfl ?_
        refine r_geta hk 14 rfl rfl d_X_link_18 ?_
        refine r_iload_n hs d_X_link_21 rfl rfl ?_
        refine r_aload_n hs d_X_link_22 rfl rfl ?_
        refine r_geta hk 14 rfl rfl d_X_link_23 ?_
        refine r_iload_n hs d_X_link_26 rfl rfl ?_
        refine r_ald hk 8 rfl rfl (by omega) d_X_link_27 ?_
        refine r_iload_n hs d_X_link_28 rfl rfl ?_
        refine r_ior hs d_X_link_29 ?_
        refine r_ast hk 8 rfl rfl (by omega) d_X_link_30 ?_
        refine r_iinc hs d_X_link_31 rfl (Nat.le_of_ble_eq_true rfl) (Nat.le_of_ble_eq_true rfl) ?_
        refine r_goto (tgt := 2) hs d_X_link_34 (by decide) ?_
        exact e
  refine r_iconst hs 0 d_X_link_0 (by decide) ?_
  refine r_istore_n hs d_X_link_1 rfl (Nat.le_of_ble_eq_true rfl) (Nat.le_of_ble_eq_true rfl) ?_
  exact J 0 (by decide)
theorem c_X_turn (l : Launch) (fi : Nat → Nat) (ar : Nat → Nat → Nat) (p0 : Nat) (hp0 : p0 < 8) (hB : ∀ j, ar 14 j < 2 ^ 31) : oMetV l 0 y_X_turn b_X_turn 3 0 [.int (nI p0)] fi ar (fun f a => f = fi ∧ a = turnP ar p0 8) := by
  refine oMetV_of (c := 0) (by decide) plain_X rfl rfl (Nat.le_of_ble_eq_true rfl) (fun h0 ad K hk => ?_)
  have hs := hk.sim
  have J : ∀ p, p ≤ 8 → (∀ j, turnP ar p0 p 14 j = ar 14 j) → K 2 [.ref h0, .int (nI p0), .int (nI p)] [] (fi, turnP ar p0 p) := by
    refine loopD (fun p hp ih h14 => ?_)
    refine r_iload_n hs d_X_turn_2 rfl rfl ?_
    refine r_bipush hs 8 d_X_turn_3 (by decide) ?_
    refine r_icmp_ge (tgt := 44) hs (by first | omega | exact hB _ _ | exact hF _) (by first | omega | exact hB _ _ | exact hF _) d_X_turn_5 (by decide) (fun c_5 => ?_) (fun c_5 => ?_)
    · obtain rfl : p = 8 := by omega
      exact r_vret hk d_X_turn_44 ⟨rfl, rfl, rfl⟩
    · have e := ih c_5
      rw [turnP] at e
      refine r_aload_n hs d_X_turn_8 rfl rfl ?_
      refine r_geta hk 14 rfl rfl d_X_turn_9 ?_
      refine r_iload_n hs d_X_turn_12 rfl rfl ?_
      refine r_ald hk 8 rfl rfl (by omega) d_X_turn_13 ?_
      refine r_iload_n hs d_X_turn_14 rfl rfl ?_
      refine r_ishr hs (by rw [h14]; exact hB _) (by omega) d_X_turn_15 ?_
      refine r_iconst hs 1 d_X_turn_16 (by decide) ?_
      refine r_iand hs d_X_turn_17 ?_
      refine r_iconst hs 1 d_X_turn_18 (by decide) ?_
      have hb1 : turnP ar p0 p 14 p0 >>> p &&& 1 < 2 ^ 31 := Nat.lt_of_le_of_lt Nat.and_le_right (by decide)
      refine r_icmp_ne (tgt := 38) hs (by first | omega | exact hB _ _ | exact hF _) (by first | omega | exact hB _ _ | exact hF _) d_X_turn_19 (by decide) (fun c_19 => ?_) (fun c_19 => ?_)
      · rw [if_neg c_19] at e
        refine r_iinc hs d_X_turn_38 rfl (Nat.le_of_ble_eq_true rfl) (Nat.le_of_ble_eq_true rfl) ?_
        refine r_goto (tgt := 2) hs d_X_turn_41 (by decide) ?_
        exact e h14
      · rw [if_pos c_19] at e
        refine r_aload_n hs d_X_turn_22 rfl rfl ?_
        refine r_geta hk 15 rfl rfl d_X_turn_23 ?_
        refine r_iload_n hs d_X_turn_26 rfl rfl ?_
        refine r_aload_n hs d_X_turn_27 rfl rfl ?_
        refine r_geta hk 15 rfl rfl d_X_turn_28 ?_
        refine r_iload_n hs d_X_turn_31 rfl rfl ?_
        refine r_ald hk 8 rfl rfl (by omega) d_X_turn_32 ?_
        refine r_iconst hs 1 d_X_turn_33 (by decide) ?_
        refine r_iload_n hs d_X_turn_34 rfl rfl ?_
        refine r_ishl hs (by omega) (shl1 (by omega)) d_X_turn_35 ?_
        refine r_ior hs d_X_turn_36 ?_
        refine r_ast hk 8 rfl rfl (by omega) d_X_turn_37 ?_
        refine r_iinc hs d_X_turn_38 rfl (Nat.le_of_ble_eq_true rfl) (Nat.le_of_ble_eq_true rfl) ?_
        refine r_goto (tgt := 2) hs d_X_turn_41 (by decide) ?_
        exact e (fun j => by rw [up2_n (Or.inl (by decide))]; exact h14 j)
  refine r_iconst hs 0 d_X_turn_0 (by decide) ?_
  refine r_istore_n hs d_X_turn_1 rfl (Nat.le_of_ble_eq_true rfl) (Nat.le_of_ble_eq_true rfl) ?_
  exact J 0 (by decide) (fun j => rfl)
theorem c_X_anyWord (l : Launch) (fi : Nat → Nat) (ar : Nat → Nat → Nat) (ln : Nat) (hln : ln < 7) : oMetV l 0 y_X_anyWord b_X_anyWord 3 0 [.int (nI ln)] fi ar (fun f a => f = up fi 23 0 ∧ a = awA ar ln) := by
  refine oMetV_of (c := 0) (by decide) plain_X rfl rfl (Nat.le_of_ble_eq_true rfl) (fun h0 ad K hk => ?_)
  have hs := hk.sim
  have J : ∀ p, p ≤ 8 → K 37 [.ref h0, .int (nI ln), .int (nI p)] [] (fi, awP ar ln p) := by
    refine loopD (fun p hp ih => ?_)
    refine r_iload_n hs d_X_anyWord_37 rfl rfl ?_
    refine r_bipush hs 8 d_X_anyWord_38 (by decide) ?_
    refine r_icmp_ge (tgt := 61) hs (by first | omega | exact hB _ _ | exact hF _) (by first | omega | exact hB _ _ | exact hF _) d_X_anyWord_40 (by decide) (fun c_40 => ?_) (fun c_40 => ?_)
    · obtain rfl : p = 8 := by omega
      refine r_aload_n hs d_X_anyWord_61 rfl rfl ?_
      refine r_geta hk 21 rfl rfl d_X_anyWord_62 ?_
      refine r_iload_n hs d_X_anyWord_65 rfl rfl ?_
      refine r_bipush hs 8 d_X_anyWord_66 (by decide) ?_
      refine r_imul hs d_X_anyWord_68 ?_
      refine r_iconst hs 1 d_X_anyWord_69 (by decide) ?_
      refine r_ast hk 56 rfl rfl (by omega) d_X_anyWord_70 ?_
      refine r_aload_n hs d_X_anyWord_71 rfl rfl ?_
      refine r_iconst hs 0 d_X_anyWord_72 (by decide) ?_
      refine r_putz hk (by omega) d_X_anyWord_73 ?_
      exact r_vret hk d_X_anyWord_76 ⟨rfl, rfl, rfl⟩
    · refine r_aload_n hs d_X_anyWord_43 rfl rfl ?_
      refine r_geta hk 21 rfl rfl d_X_anyWord_44 ?_
      refine r_iload_n hs d_X_anyWord_47 rfl rfl ?_
      refine r_bipush hs 8 d_X_anyWord_48 (by decide) ?_
      refine r_imul hs d_X_anyWord_50 ?_
      refine r_iload_n hs d_X_anyWord_51 rfl rfl ?_
      refine r_iadd hs d_X_anyWord_52 ?_
      refine r_iconst hs 0 d_X_anyWord_53 (by decide) ?_
      refine r_ast hk 56 rfl rfl (by omega) d_X_anyWord_54 ?_
      refine r_iinc hs d_X_anyWord_55 rfl (Nat.le_of_ble_eq_true rfl) (Nat.le_of_ble_eq_true rfl) ?_
      refine r_goto (tgt := 37) hs d_X_anyWord_58 (by decide) ?_
      exact ih c_40
  refine r_aload_n hs d_X_anyWord_0 rfl rfl ?_
  refine r_geta hk 16 rfl rfl d_X_anyWord_1 ?_
  refine r_iload_n hs d_X_anyWord_4 rfl rfl ?_
  refine r_iconst hs 1 d_X_anyWord_5 (by decide) ?_
  refine r_ast hk 7 rfl rfl (by omega) d_X_anyWord_6 ?_
  refine r_aload_n hs d_X_anyWord_7 rfl rfl ?_
  refine r_geta hk 17 rfl rfl d_X_anyWord_8 ?_
  refine r_iload_n hs d_X_anyWord_11 rfl rfl ?_
  refine r_iconst hs 1 d_X_anyWord_12 (by decide) ?_
  refine r_ast hk 7 rfl rfl (by omega) d_X_anyWord_13 ?_
  refine r_aload_n hs d_X_anyWord_14 rfl rfl ?_
  refine r_geta hk 18 rfl rfl d_X_anyWord_15 ?_
  refine r_iload_n hs d_X_anyWord_18 rfl rfl ?_
  refine r_iconst hs 1 d_X_anyWord_19 (by decide) ?_
  refine r_zast hk 7 rfl rfl (by omega) (by omega) d_X_anyWord_20 ?_
  refine r_aload_n hs d_X_anyWord_21 rfl rfl ?_
  refine r_geta hk 19 rfl rfl d_X_anyWord_22 ?_
  refine r_iload_n hs d_X_anyWord_25 rfl rfl ?_
  refine r_iconst hs 1 d_X_anyWord_26 (by decide) ?_
  refine r_ast hk 7 rfl rfl (by omega) d_X_anyWord_27 ?_
  refine r_aload_n hs d_X_anyWord_28 rfl rfl ?_
  refine r_geta hk 20 rfl rfl d_X_anyWord_29 ?_
  refine r_iload_n hs d_X_anyWord_32 rfl rfl ?_
  refine r_iconst hs 1 d_X_anyWord_33 (by decide) ?_
  refine r_ast hk 7 rfl rfl (by omega) d_X_anyWord_34 ?_
  refine r_iconst hs 0 d_X_anyWord_35 (by decide) ?_
  refine r_istore_n hs d_X_anyWord_36 rfl (Nat.le_of_ble_eq_true rfl) (Nat.le_of_ble_eq_true rfl) ?_
  exact J 0 (by decide)
theorem c_X_inGrid (l : Launch) (fi : Nat → Nat) (ar : Nat → Nat → Nat) (r0 c0 : Int32) : oMetI l 0 y_X_inGrid b_X_inGrid 3 (some .boolean) 0 [.int r0, .int c0] fi ar (fun r f a => ((r = 1 ∧ inG fi r0 c0) ∨ (r = 0 ∧ ¬ inG fi r0 c0)) ∧ f = fi ∧ a = ar) := by
  refine oMetI_of (c := 0) (by decide) plain_X rfl (Or.inr ⟨rfl, fun r f a h => by rcases h.1 with h | h; exact Or.inr h.1; exact Or.inl h.1⟩) rfl (Nat.le_of_ble_eq_true rfl) (fun h0 ad K hk => ?_)
  have hs := hk.sim
  have J0 : ¬ inG fi r0 c0 → K 30 [.ref h0, .int r0, .int c0] [] (fi, ar) := by
    intro hn
    refine r_iconst hs 0 d_X_inGrid_30 (by decide) ?_
    exact r_ret hk d_X_inGrid_31 ⟨_, rfl, Or.inr ⟨rfl, hn⟩, rfl, rfl⟩
  refine r_iconst hs 0 d_X_inGrid_0 (by decide) ?_
  refine r_iload_n hs d_X_inGrid_1 rfl rfl ?_
  refine r_icmpR_gt (tgt := 30) hs d_X_inGrid_2 (by decide) (fun c_2 => ?_) (fun c_2 => ?_)
  · exact J0 (fun q => absurd c_2 (Int32.not_lt.mpr q.1))
  · refine r_iload_n hs d_X_inGrid_5 rfl rfl ?_
    refine r_aload_n hs d_X_inGrid_6 rfl rfl ?_
    refine r_geti hk 0 rfl rfl d_X_inGrid_7 ?_
    refine r_icmpR_ge (tgt := 30) hs d_X_inGrid_10 (by decide) (fun c_10 => ?_) (fun c_10 => ?_)
    · exact J0 (fun q => absurd q.2.1 (Int32.not_lt.mpr c_10))
    · refine r_iconst hs 0 d_X_inGrid_13 (by decide) ?_
      refine r_iload_n hs d_X_inGrid_14 rfl rfl ?_
      refine r_icmpR_gt (tgt := 30) hs d_X_inGrid_15 (by decide) (fun c_15 => ?_) (fun c_15 => ?_)
      · exact J0 (fun q => absurd c_15 (Int32.not_lt.mpr q.2.2.1))
      · refine r_iload_n hs d_X_inGrid_18 rfl rfl ?_
        refine r_aload_n hs d_X_inGrid_19 rfl rfl ?_
        refine r_geti hk 1 rfl rfl d_X_inGrid_20 ?_
        refine r_icmpR_ge (tgt := 30) hs d_X_inGrid_23 (by decide) (fun c_23 => ?_) (fun c_23 => ?_)
        · exact J0 (fun q => absurd q.2.2.2 (Int32.not_lt.mpr c_23))
        · refine r_iconst hs 1 d_X_inGrid_26 (by decide) ?_
          refine r_goto (tgt := 31) hs d_X_inGrid_27 (by decide) ?_
          exact r_ret hk d_X_inGrid_31 ⟨_, rfl, Or.inl ⟨rfl, Int32.not_lt.mp c_2, Int32.not_le.mp c_10, Int32.not_lt.mp c_15, Int32.not_le.mp c_23⟩, rfl, rfl⟩
theorem c_X_lineLength (l : Launch) (fi : Nat → Nat) (ar : Nat → Nat → Nat) (ln : Nat) (hln : ln < 2 ^ 31) (hr : fi 0 < 2 ^ 31) : oMetI l 0 y_X_lineLength b_X_lineLength 2 (some .int) 0 [.int (nI ln)] fi ar (fun r f a => r = nI (lenX fi ln) ∧ f = fi ∧ a = ar) := by
  refine oMetI_of (c := 0) (by decide) plain_X rfl (Or.inl rfl) rfl (Nat.le_of_ble_eq_true rfl) (fun h0 ad K hk => ?_)
  have hs := hk.sim
  refine r_iload_n hs d_X_lineLength_0 rfl rfl ?_
  refine r_aload_n hs d_X_lineLength_1 rfl rfl ?_
  refine r_geti hk 0 rfl rfl d_X_lineLength_2 ?_
  refine r_icmp_ge (tgt := 15) hs (by first | omega | exact hB _ _ | exact hF _) (by first | omega | exact hB _ _ | exact hF _) d_X_lineLength_5 (by decide) (fun c_5 => ?_) (fun c_5 => ?_)
  · refine r_aload_n hs d_X_lineLength_15 rfl rfl ?_
    refine r_geti hk 0 rfl rfl d_X_lineLength_16 ?_
    exact r_ret hk d_X_lineLength_19 ⟨_, rfl, by rw [lenX, if_neg (by omega)], rfl, rfl⟩
  · refine r_aload_n hs d_X_lineLength_8 rfl rfl ?_
    refine r_geti hk 1 rfl rfl d_X_lineLength_9 ?_
    refine r_goto (tgt := 19) hs d_X_lineLength_12 (by decide) ?_
    exact r_ret hk d_X_lineLength_19 ⟨_, rfl, by rw [lenX, if_pos c_5], rfl, rfl⟩
theorem c_X_cellOf (l : Launch) (fi : Nat → Nat) (ar : Nat → Nat → Nat) (ln t : Nat) (hln : ln < 2 ^ 31) (hr : fi 0 < 2 ^ 31) : oMetI l 0 y_X_cellOf b_X_cellOf 3 (some .int) 0 [.int (nI ln), .int (nI t)] fi ar (fun r f a => r = nI (celX fi ln t) ∧ f = fi ∧ a = ar) := by
  refine oMetI_of (c := 0) (by decide) plain_X rfl (Or.inl rfl) rfl (Nat.le_of_ble_eq_true rfl) (fun h0 ad K hk => ?_)
  have hs := hk.sim
  refine r_iload_n hs d_X_cellOf_0 rfl rfl ?_
  refine r_aload_n hs d_X_cellOf_1 rfl rfl ?_
  refine r_geti hk 0 rfl rfl d_X_cellOf_2 ?_
  refine r_icmp_ge (tgt := 19) hs (by first | omega | exact hB _ _ | exact hF _) (by first | omega | exact hB _ _ | exact hF _) d_X_cellOf_5 (by decide) (fun c_5 => ?_) (fun c_5 => ?_)
  · refine r_iload_n hs d_X_cellOf_19 rfl rfl ?_
    refine r_aload_n hs d_X_cellOf_20 rfl rfl ?_
    refine r_geti hk 1 rfl rfl d_X_cellOf_21 ?_
    refine r_imul hs d_X_cellOf_24 ?_
    refine r_iload_n hs d_X_cellOf_25 rfl rfl ?_
    refine r_iadd hs d_X_cellOf_26 ?_
    refine r_aload_n hs d_X_cellOf_27 rfl rfl ?_
    refine r_geti hk 0 rfl rfl d_X_cellOf_28 ?_
    refine r_isub hs (by omega) d_X_cellOf_31 ?_
    exact r_ret hk d_X_cellOf_32 ⟨_, rfl, by rw [celX, if_neg (by omega)], rfl, rfl⟩
  · refine r_iload_n hs d_X_cellOf_8 rfl rfl ?_
    refine r_aload_n hs d_X_cellOf_9 rfl rfl ?_
    refine r_geti hk 1 rfl rfl d_X_cellOf_10 ?_
    refine r_imul hs d_X_cellOf_13 ?_
    refine r_iload_n hs d_X_cellOf_14 rfl rfl ?_
    refine r_iadd hs d_X_cellOf_15 ?_
    refine r_goto (tgt := 32) hs d_X_cellOf_16 (by decide) ?_
    exact r_ret hk d_X_cellOf_32 ⟨_, rfl, by rw [celX, if_pos c_5], rfl, rfl⟩
theorem c_X_step (l : Launch) (fi : Nat → Nat) (ar : Nat → Nat → Nat) (ln set v : Nat) (hln : ln < 7) (hset : set < 2 ^ 31) (hv : v < 2 ^ 31) : oMetI l 0 y_X_step b_X_step 6 (some .int) 0 [.int (nI ln), .int (nI set), .int (nI v)] fi ar (fun r f a => r = nI (stp ar ln set v) ∧ f = fi ∧ a = ar) := by
  refine oMetI_of (c := 0) (by decide) plain_X rfl (Or.inl rfl) rfl (Nat.le_of_ble_eq_true rfl) (fun h0 ad K hk => ?_)
  have hs := hk.sim
  have J : ∀ p, p ≤ 8 → K 22 [.ref h0, .int (nI ln), .int (nI set), .int (nI v), .int (nI (rch ar ln set p)), .int (nI p)] [] (fi, ar) := by
    refine loopD (fun p hp ih => ?_)
    refine r_iload hs d_X_step_22 rfl ?_
    refine r_bipush hs 8 d_X_step_24 (by decide) ?_
    refine r_icmp_ge (tgt := 62) hs (by first | omega | exact hB _ _ | exact hF _) (by first | omega | exact hB _ _ | exact hF _) d_X_step_26 (by decide) (fun c_26 => ?_) (fun c_26 => ?_)
    · obtain rfl : p = 8 := by omega
      refine r_iload_n hs d_X_step_62 rfl rfl ?_
      refine r_if_ne (tgt := 78) hs (by first | omega | exact hB _ _ | exact hF _) d_X_step_63 (by decide) (fun c_63 => ?_) (fun c_63 => ?_)
      · refine r_iload hs d_X_step_78 rfl ?_
        refine r_aload_n hs d_X_step_80 rfl rfl ?_
        refine r_geta hk 20 rfl rfl d_X_step_81 ?_
        refine r_iload_n hs d_X_step_84 rfl rfl ?_
        refine r_ald hk 7 rfl rfl (by omega) d_X_step_85 ?_
        refine r_iand hs d_X_step_86 ?_
        exact r_ret hk d_X_step_87 ⟨_, rfl, by rw [stp, ltr, if_neg c_63], rfl, rfl⟩
      · refine r_iload hs d_X_step_66 rfl ?_
        refine r_aload_n hs d_X_step_68 rfl rfl ?_
        refine r_geta hk 19 rfl rfl d_X_step_69 ?_
        refine r_iload_n hs d_X_step_72 rfl rfl ?_
        refine r_ald hk 7 rfl rfl (by omega) d_X_step_73 ?_
        refine r_iand hs d_X_step_74 ?_
        refine r_goto (tgt := 87) hs d_X_step_75 (by decide) ?_
        exact r_ret hk d_X_step_87 ⟨_, rfl, by rw [stp, ltr, if_pos c_63], rfl, rfl⟩
    · have e := ih c_26
      rw [rch] at e
      have hb1 : set >>> p &&& 1 < 2 ^ 31 := Nat.lt_of_le_of_lt Nat.and_le_right (by decide)
      refine r_iload_n hs d_X_step_29 rfl rfl ?_
      refine r_iload hs d_X_step_30 rfl ?_
      refine r_ishr hs (by first | omega | exact hB _ _ | exact hF _) (by omega) d_X_step_32 ?_
      refine r_iconst hs 1 d_X_step_33 (by decide) ?_
      refine r_iand hs d_X_step_34 ?_
      refine r_iconst hs 1 d_X_step_35 (by decide) ?_
      refine r_icmp_ne (tgt := 56) hs (by first | omega | exact hB _ _ | exact hF _) (by first | omega | exact hB _ _ | exact hF _) d_X_step_36 (by decide) (fun c_36 => ?_) (fun c_36 => ?_)
      · rw [if_neg c_36] at e
        refine r_iinc hs d_X_step_56 rfl (Nat.le_of_ble_eq_true rfl) (Nat.le_of_ble_eq_true rfl) ?_
        refine r_goto (tgt := 22) hs d_X_step_59 (by decide) ?_
        exact e
      · rw [if_pos c_36] at e
        refine r_iload hs d_X_step_39 rfl ?_
        refine r_aload_n hs d_X_step_41 rfl rfl ?_
        refine r_geta hk 21 rfl rfl d_X_step_42 ?_
        refine r_iload_n hs d_X_step_45 rfl rfl ?_
        refine r_bipush hs 8 d_X_step_46 (by decide) ?_
        refine r_imul hs d_X_step_48 ?_
        refine r_iload hs d_X_step_49 rfl ?_
        refine r_iadd hs d_X_step_51 ?_
        refine r_ald hk 56 rfl rfl (by omega) d_X_step_52 ?_
        refine r_ior hs d_X_step_53 ?_
        refine r_istore hs d_X_step_54 (Nat.le_of_ble_eq_true rfl) (Nat.le_of_ble_eq_true rfl) ?_
        refine r_iinc hs d_X_step_56 rfl (Nat.le_of_ble_eq_true rfl) (Nat.le_of_ble_eq_true rfl) ?_
        refine r_goto (tgt := 22) hs d_X_step_59 (by decide) ?_
        exact e
  have e := J 0 (by decide)
  rw [rch] at e
  have hb1 : set &&& 256 < 2 ^ 31 := Nat.lt_of_le_of_lt Nat.and_le_right (by decide)
  refine r_iconst hs 0 d_X_step_0 (by decide) ?_
  refine r_istore hs d_X_step_1 (Nat.le_of_ble_eq_true rfl) (Nat.le_of_ble_eq_true rfl) ?_
  refine r_iload_n hs d_X_step_3 rfl rfl ?_
  refine r_sipush hs 256 d_X_step_4 (by decide) ?_
  refine r_iand hs d_X_step_7 ?_
  refine r_if_eq (tgt := 19) hs (by first | omega | exact hB _ _ | exact hF _) d_X_step_8 (by decide) (fun c_8 => ?_) (fun c_8 => ?_)
  · rw [if_pos c_8] at e
    refine r_iconst hs 0 d_X_step_19 (by decide) ?_
    refine r_istore hs d_X_step_20 (Nat.le_of_ble_eq_true rfl) (Nat.le_of_ble_eq_true rfl) ?_
    exact e
  · rw [if_neg c_8] at e
    refine r_aload_n hs d_X_step_11 rfl rfl ?_
    refine r_geta hk 16 rfl rfl d_X_step_12 ?_
    refine r_iload_n hs d_X_step_15 rfl rfl ?_
    refine r_ald hk 7 rfl rfl (by omega) d_X_step_16 ?_
    refine r_istore hs d_X_step_17 (Nat.le_of_ble_eq_true rfl) (Nat.le_of_ble_eq_true rfl) ?_
    refine r_iconst hs 0 d_X_step_19 (by decide) ?_
    refine r_istore hs d_X_step_20 (Nat.le_of_ble_eq_true rfl) (Nat.le_of_ble_eq_true rfl) ?_
    exact e
theorem c_X_before (l : Launch) (fi : Nat → Nat) (ar : Nat → Nat → Nat) (ln set v : Nat) (hln : ln < 7) (hset : set < 2 ^ 31) (hv : v < 2 ^ 31) : oMetI l 0 y_X_before b_X_before 7 (some .int) 0 [.int (nI ln), .int (nI set), .int (nI v)] fi ar (fun r f a => r = nI (bef ar ln set v) ∧ f = fi ∧ a = ar) := by
  refine oMetI_of (c := 0) (by decide) plain_X rfl (Or.inl rfl) rfl (Nat.le_of_ble_eq_true rfl) (fun h0 ad K hk => ?_)
  have hs := hk.sim
  have J2 : ∀ g, g = (set &&& ltr ar ln v) → K 23 [.ref h0, .int (nI ln), .int (nI set), .int (nI v)] [.int (nI g)] (fi, ar) := by
    intro g hg
    have hgb : g < 2 ^ 31 := by rw [hg]; exact Nat.lt_of_le_of_lt Nat.and_le_left hset
    have J : ∀ p, p ≤ 8 → K 48 [.ref h0, .int (nI ln), .int (nI set), .int (nI v), .int (nI g), .int (nI (bfr ar ln g p)), .int (nI p)] [] (fi, ar) := by
      refine loopD (fun p hp ih => ?_)
      refine r_iload hs d_X_before_48 rfl ?_
      refine r_bipush hs 8 d_X_before_50 (by decide) ?_
      refine r_icmp_ge (tgt := 88) hs (by first | omega | exact hB _ _ | exact hF _) (by first | omega | exact hB _ _ | exact hF _) d_X_before_52 (by decide) (fun c_52 => ?_) (fun c_52 => ?_)
      · obtain rfl : p = 8 := by omega
        refine r_iload hs d_X_before_88 rfl ?_
        exact r_ret hk d_X_before_90 ⟨_, rfl, by rw [bef, hg], rfl, rfl⟩
      · have e := ih c_52
        rw [bfr] at e
        have hb1 : ar 21 (ln * 8 + p) &&& g < 2 ^ 31 := Nat.lt_of_le_of_lt Nat.and_le_right hgb
        refine r_aload_n hs d_X_before_55 rfl rfl ?_
        refine r_geta hk 21 rfl rfl d_X_before_56 ?_
        refine r_iload_n hs d_X_before_59 rfl rfl ?_
        refine r_bipush hs 8 d_X_before_60 (by decide) ?_
        refine r_imul hs d_X_before_62 ?_
        refine r_iload hs d_X_before_63 rfl ?_
        refine r_iadd hs d_X_before_65 ?_
        refine r_ald hk 56 rfl rfl (by omega) d_X_before_66 ?_
        refine r_iload hs d_X_before_67 rfl ?_
        refine r_iand hs d_X_before_69 ?_
        refine r_if_eq (tgt := 82) hs (by first | omega | exact hB _ _ | exact hF _) d_X_before_70 (by decide) (fun c_70 => ?_) (fun c_70 => ?_)
        · rw [if_pos c_70] at e
          refine r_iinc hs d_X_before_82 rfl (Nat.le_of_ble_eq_true rfl) (Nat.le_of_ble_eq_true rfl) ?_
          refine r_goto (tgt := 48) hs d_X_before_85 (by decide) ?_
          exact e
        · rw [if_neg c_70] at e
          refine r_iload hs d_X_before_73 rfl ?_
          refine r_iconst hs 1 d_X_before_75 (by decide) ?_
          refine r_iload hs d_X_before_76 rfl ?_
          refine r_ishl hs (by omega) (shl1 (by omega)) d_X_before_78 ?_
          refine r_ior hs d_X_before_79 ?_
          refine r_istore hs d_X_before_80 (Nat.le_of_ble_eq_true rfl) (Nat.le_of_ble_eq_true rfl) ?_
          refine r_iinc hs d_X_before_82 rfl (Nat.le_of_ble_eq_true rfl) (Nat.le_of_ble_eq_true rfl) ?_
          refine r_goto (tgt := 48) hs d_X_before_85 (by decide) ?_
          exact e
    have e := J 0 (by decide)
    rw [bfr] at e
    have hb1 : ar 16 ln &&& g < 2 ^ 31 := Nat.lt_of_le_of_lt Nat.and_le_right hgb
    refine r_istore hs d_X_before_23 (Nat.le_of_ble_eq_true rfl) (Nat.le_of_ble_eq_true rfl) ?_
    refine r_iconst hs 0 d_X_before_25 (by decide) ?_
    refine r_istore hs d_X_before_26 (Nat.le_of_ble_eq_true rfl) (Nat.le_of_ble_eq_true rfl) ?_
    refine r_aload_n hs d_X_before_28 rfl rfl ?_
    refine r_geta hk 16 rfl rfl d_X_before_29 ?_
    refine r_iload_n hs d_X_before_32 rfl rfl ?_
    refine r_ald hk 7 rfl rfl (by omega) d_X_before_33 ?_
    refine r_iload hs d_X_before_34 rfl ?_
    refine r_iand hs d_X_before_36 ?_
    refine r_if_eq (tgt := 45) hs (by first | omega | exact hB _ _ | exact hF _) d_X_before_37 (by decide) (fun c_37 => ?_) (fun c_37 => ?_)
    · rw [if_pos c_37] at e
      refine r_iconst hs 0 d_X_before_45 (by decide) ?_
      refine r_istore hs d_X_before_46 (Nat.le_of_ble_eq_true rfl) (Nat.le_of_ble_eq_true rfl) ?_
      exact e
    · rw [if_neg c_37] at e
      refine r_sipush hs 256 d_X_before_40 (by decide) ?_
      refine r_istore hs d_X_before_43 (Nat.le_of_ble_eq_true rfl) (Nat.le_of_ble_eq_true rfl) ?_
      refine r_iconst hs 0 d_X_before_45 (by decide) ?_
      refine r_istore hs d_X_before_46 (Nat.le_of_ble_eq_true rfl) (Nat.le_of_ble_eq_true rfl) ?_
      exact e
  refine r_iload_n hs d_X_before_0 rfl rfl ?_
  refine r_if_ne (tgt := 15) hs (by first | omega | exact hB _ _ | exact hF _) d_X_before_1 (by decide) (fun c_1 => ?_) (fun c_1 => ?_)
  · refine r_iload_n hs d_X_before_15 rfl rfl ?_
    refine r_aload_n hs d_X_before_16 rfl rfl ?_
    refine r_geta hk 20 rfl rfl d_X_before_17 ?_
    refine r_iload_n hs d_X_before_20 rfl rfl ?_
    refine r_ald hk 7 rfl rfl (by omega) d_X_before_21 ?_
    refine r_iand hs d_X_before_22 ?_
    exact J2 _ (by rw [ltr, if_neg c_1])
  · refine r_iload_n hs d_X_before_4 rfl rfl ?_
    refine r_aload_n hs d_X_before_5 rfl rfl ?_
    refine r_geta hk 19 rfl rfl d_X_before_6 ?_
    refine r_iload_n hs d_X_before_9 rfl rfl ?_
    refine r_ald hk 7 rfl rfl (by omega) d_X_before_10 ?_
    refine r_iand hs d_X_before_11 ?_
    refine r_goto (tgt := 23) hs d_X_before_12 (by decide) ?_
    exact J2 _ (by rw [ltr, if_pos c_1])
end
section
/-! ExprCrossword: the methods that make expressions. Answers are codes: the int is nI of the code (4294967295 is -1, and so on). -/
def PI (q : Nat × (Nat → Nat) × (Nat → Nat → Nat)) : Int32 → (Nat → Nat) → (Nat → Nat → Nat) → Prop := fun r f a => r = nI q.1 ∧ f = q.2.1 ∧ a = q.2.2
theorem linkP_n {ar : Nat → Nat → Nat} {fr to p k : Nat} (h : k ≠ 14) : linkP ar fr to p k = ar k := by
  induction p with
  | zero => rfl
  | succ p ih =>
    rw [linkP]
    split
    · rw [up2_a h, ih]
    · exact ih
theorem turnP_n {ar : Nat → Nat → Nat} {q p k : Nat} (h : k ≠ 15) : turnP ar q p k = ar k := by
  induction p with
  | zero => rfl
  | succ p ih =>
    rw [turnP]
    split
    · rw [up2_a h, ih]
    · exact ih
def letX (x : Int32) (fi : Nat → Nat) (ar : Nat → Nat → Nat) : Nat × (Nat → Nat) × (Nat → Nat → Nat) :=
  if x < 0 ∨ 2 < x then (4294967295, fi, ar) else if fi 7 = 6 ∨ fi 8 = 8 then (4294967294, fi, ar) else
  (fi 7 + 1, up (up fi 7 (fi 7 + 1)) 8 (fi 8 + 1), up2 (up2 (pushA fi ar (1 <<< fi 8) (1 <<< fi 8) 0) 13 (fi 8) x.toNatClampNeg) 14 (fi 8) 0)
def unitX (fi : Nat → Nat) (ar : Nat → Nat → Nat) : Nat × (Nat → Nat) × (Nat → Nat → Nat) :=
  if fi 7 = 6 then (4294967294, fi, ar) else (fi 7 + 1, up fi 7 (fi 7 + 1), pushA fi ar 0 0 1)
def cat2 (a : Nat → Nat → Nat) (x y : Nat) : Nat → Nat → Nat := if a 12 x = 0 then a else up2 a 10 x (a 10 x ||| a 10 y)
def cat3 (a : Nat → Nat → Nat) (x y : Nat) : Nat → Nat → Nat := if a 12 y = 0 then up2 a 11 x (a 11 y) else up2 a 11 x (a 11 x ||| a 11 y)
def cat4 (a : Nat → Nat → Nat) (x y : Nat) : Nat → Nat → Nat := up2 a 12 x (if a 12 x = 0 then 0 else if a 12 y = 0 then 0 else 1)
def catX (fi : Nat → Nat) (ar : Nat → Nat → Nat) : Nat × (Nat → Nat) × (Nat → Nat → Nat) :=
  if fi 7 < 2 then (4294967293, fi, ar) else
  (fi 7 - 1, up fi 7 (fi 7 - 1), cat4 (cat3 (cat2 (linkP ar (ar 11 (fi 7 - 2)) (ar 10 (fi 7 - 1)) 8) (fi 7 - 2) (fi 7 - 1)) (fi 7 - 2) (fi 7 - 1)) (fi 7 - 2) (fi 7 - 1))
def alt1 (a : Nat → Nat → Nat) (x y : Nat) : Nat → Nat → Nat := up2 (up2 a 10 x (a 10 x ||| a 10 y)) 11 x (a 11 x ||| a 11 y)
def alt2 (a : Nat → Nat → Nat) (x y : Nat) : Nat → Nat → Nat := up2 a 12 x (if a 12 x = 0 then (if a 12 y = 0 then 0 else 1) else 1)
def altX (fi : Nat → Nat) (ar : Nat → Nat → Nat) : Nat × (Nat → Nat) × (Nat → Nat → Nat) :=
  if fi 7 < 2 then (4294967293, fi, ar) else (fi 7 - 1, up fi 7 (fi 7 - 1), alt2 (alt1 ar (fi 7 - 2) (fi 7 - 1)) (fi 7 - 2) (fi 7 - 1))
def starX (fi : Nat → Nat) (ar : Nat → Nat → Nat) : Nat × (Nat → Nat) × (Nat → Nat → Nat) :=
  if fi 7 < 1 then (4294967293, fi, ar) else (fi 7, fi, up2 (linkP ar (ar 11 (fi 7 - 1)) (ar 10 (fi 7 - 1)) 8) 12 (fi 7 - 1) 1)
def zerP (ar : Nat → Nat → Nat) : Nat → Nat → Nat → Nat
  | 0 => ar
  | p + 1 => up2 (zerP ar p) 15 p 0
def turP (ar : Nat → Nat → Nat) (lo : Nat) : Nat → Nat → Nat → Nat
  | 0 => ar
  | n + 1 => turnP (turP ar lo n) (lo + n) 8
def cpyP (ar : Nat → Nat → Nat) (lo : Nat) : Nat → Nat → Nat → Nat
  | 0 => ar
  | n + 1 => up2 (cpyP ar lo n) 14 (lo + n) (cpyP ar lo n 15 (lo + n))
def swpA (a : Nat → Nat → Nat) (x : Nat) : Nat → Nat → Nat := up2 (up2 a 10 x (a 11 x)) 11 x (a 10 x)
def revX (fi : Nat → Nat) (ar : Nat → Nat → Nat) : Nat × (Nat → Nat) × (Nat → Nat → Nat) :=
  if fi 7 < 1 then (4294967293, fi, ar) else
  (fi 7, fi, swpA (cpyP (turP (zerP ar 8) (ar 9 (fi 7 - 1)) (fi 8 - ar 9 (fi 7 - 1))) (ar 9 (fi 7 - 1)) (fi 8 - ar 9 (fi 7 - 1))) (fi 7 - 1))
def sl0 (ar : Nat → Nat → Nat) (ln x dn : Nat) : Nat → Nat → Nat := up2 (up2 (up2 (up2 (up2 ar 16 ln (ar 10 x >>> dn)) 17 ln (ar 11 x >>> dn)) 18 ln (ar 12 x)) 19 ln 0) 20 ln 0
def sl1 (a : Nat → Nat → Nat) (ln dn p : Nat) : Nat → Nat → Nat := if a 13 p = 1 then a else up2 a 19 ln (a 19 ln ||| 1 <<< (p - dn))
def sl2 (a : Nat → Nat → Nat) (ln dn p : Nat) : Nat → Nat → Nat := if a 13 p = 0 then a else up2 a 20 ln (a 20 ln ||| 1 <<< (p - dn))
def sl3 (a : Nat → Nat → Nat) (ln dn p : Nat) : Nat → Nat → Nat := up2 a 21 (ln * 8 + p - dn) (a 14 p >>> dn)
def slP (ar : Nat → Nat → Nat) (ln x dn : Nat) : Nat → Nat → Nat → Nat
  | 0 => sl0 ar ln x dn
  | i + 1 => sl3 (sl2 (sl1 (slP ar ln x dn i) ln dn (dn + i)) ln dn (dn + i)) ln dn (dn + i)
def setX (x : Int32) (fi : Nat → Nat) (ar : Nat → Nat → Nat) : Nat × (Nat → Nat) × (Nat → Nat → Nat) :=
  if x < 0 ∨ nI (fi 2) ≤ x then (4294967295, fi, ar) else if fi 7 < 1 then (4294967293, fi, ar) else
  (fi 7 - 1, up (up (up fi 8 (ar 9 (fi 7 - 1))) 7 (fi 7 - 1)) 23 0, slP ar x.toNatClampNeg (fi 7 - 1) (ar 9 (fi 7 - 1)) (fi 8 - ar 9 (fi 7 - 1)))
def freeX (x : Int32) (fi : Nat → Nat) (ar : Nat → Nat → Nat) : Nat × (Nat → Nat) × (Nat → Nat → Nat) :=
  if x < 0 ∨ nI (fi 2) ≤ x then (4294967295, fi, ar) else (0, up fi 23 0, awA ar x.toNatClampNeg)
theorem c_X_letter (l : Launch) (fi : Nat → Nat) (ar : Nat → Nat → Nat) (x : Int32) (hh : fi 7 ≤ 6) (hp : fi 8 ≤ 8) : oMetI l 0 y_X_letter b_X_letter 3 (some .int) 1 [.int x] fi ar (PI (letX x fi ar)) := by
  refine oMetI_of (c := 0) (by decide) plain_X rfl (Or.inl rfl) rfl (Nat.le_of_ble_eq_true rfl) (fun h0 ad K hk => ?_)
  have hs := hk.sim
  have J0 : (x < 0 ∨ 2 < x) → K 9 [.ref h0, .int x] [] (fi, ar) := by
    intro hx
    refine r_iconst hs 4294967295 d_X_letter_9 (by decide) ?_
    exact r_ret hk d_X_letter_10 ⟨_, rfl, by rw [letX, if_pos hx]; exact ⟨rfl, rfl, rfl⟩⟩
  refine r_iload_n hs d_X_letter_0 rfl rfl ?_
  refine r_ifR_lt (tgt := 9) hs d_X_letter_1 (by decide) (fun c_1 => ?_) (fun c_1 => ?_)
  · exact J0 (Or.inl c_1)
  · refine r_iload_n hs d_X_letter_4 rfl rfl ?_
    refine r_iconst hs 2 d_X_letter_5 (by decide) ?_
    refine r_icmpR_le (tgt := 11) hs d_X_letter_6 (by decide) (fun c_6 => ?_) (fun c_6 => ?_)
    · have hx : ¬ (x < 0 ∨ 2 < x) := by
        rintro (h | h)
        · exact c_1 h
        · exact absurd c_6 (Int32.not_le.mpr h)
      obtain ⟨j, hj, rfl⟩ := nI_of2 (M := 2) (n := 2) rfl c_1 c_6
      have J1 : (fi 7 = 6 ∨ fi 8 = 8) → K 29 [.ref h0, .int (nI j)] [] (fi, ar) := by
        intro hf
        refine r_bipush hs 4294967294 d_X_letter_29 (by decide) ?_
        exact r_ret hk d_X_letter_31 ⟨_, rfl, by rw [letX, if_neg hx, if_pos hf]; exact ⟨rfl, rfl, rfl⟩⟩
      refine r_aload_n hs d_X_letter_11 rfl rfl ?_
      refine r_geti hk 7 rfl rfl d_X_letter_12 ?_
      refine r_bipush hs 6 d_X_letter_15 (by decide) ?_
      refine r_icmp_eq (tgt := 29) hs (by first | omega | exact hB _ _ | exact hF _) (by first | omega | exact hB _ _ | exact hF _) d_X_letter_17 (by decide) (fun c_17 => ?_) (fun c_17 => ?_)
      · exact J1 (Or.inl c_17)
      · refine r_aload_n hs d_X_letter_20 rfl rfl ?_
        refine r_geti hk 8 rfl rfl d_X_letter_21 ?_
        refine r_bipush hs 8 d_X_letter_24 (by decide) ?_
        refine r_icmp_ne (tgt := 32) hs (by first | omega | exact hB _ _ | exact hF _) (by first | omega | exact hB _ _ | exact hF _) d_X_letter_26 (by decide) (fun c_26 => ?_) (fun c_26 => ?_)
        · refine r_iconst hs 1 d_X_letter_32 (by decide) ?_
          refine r_aload_n hs d_X_letter_33 rfl rfl ?_
          refine r_geti hk 8 rfl rfl d_X_letter_34 ?_
          refine r_ishl hs (by omega) (shl1 (by omega)) d_X_letter_37 ?_
          refine r_istore_n hs d_X_letter_38 rfl (Nat.le_of_ble_eq_true rfl) (Nat.le_of_ble_eq_true rfl) ?_
          refine r_aload_n hs d_X_letter_39 rfl rfl ?_
          refine r_iload_n hs d_X_letter_40 rfl rfl ?_
          refine r_iload_n hs d_X_letter_41 rfl rfl ?_
          refine r_iconst hs 0 d_X_letter_42 (by decide) ?_
          refine r_callv hk (c_X_push l fi ar (1 <<< fi 8) (1 <<< fi 8) 0 (by omega) (by decide)) k_X_push (by decide) (by decide) rfl (Nat.le_of_ble_eq_true rfl) d_X_letter_43 (fun fi_43 ar_43 p_43 => ?_)
          obtain ⟨rfl, rfl⟩ := p_43
          refine r_aload_n hs d_X_letter_46 rfl rfl ?_
          refine r_geta hk 13 rfl rfl d_X_letter_47 ?_
          refine r_aload_n hs d_X_letter_50 rfl rfl ?_
          refine r_geti hk 8 rfl rfl d_X_letter_51 ?_
          refine r_iload_n hs d_X_letter_54 rfl rfl ?_
          refine r_ast hk 8 rfl rfl (by simp only [up]; simp; omega) d_X_letter_55 ?_
          refine r_aload_n hs d_X_letter_56 rfl rfl ?_
          refine r_geta hk 14 rfl rfl d_X_letter_57 ?_
          refine r_aload_n hs d_X_letter_60 rfl rfl ?_
          refine r_geti hk 8 rfl rfl d_X_letter_61 ?_
          refine r_iconst hs 0 d_X_letter_64 (by decide) ?_
          refine r_ast hk 8 rfl rfl (by simp only [up]; simp; omega) d_X_letter_65 ?_
          refine r_aload_n hs d_X_letter_66 rfl rfl ?_
          refine r_dup hs d_X_letter_67 rfl ?_
          refine r_geti hk 8 rfl rfl d_X_letter_68 ?_
          refine r_iconst hs 1 d_X_letter_71 (by decide) ?_
          refine r_iadd hs d_X_letter_72 ?_
          refine r_puti hk 8 (by decide) rfl d_X_letter_73 ?_
          refine r_aload_n hs d_X_letter_76 rfl rfl ?_
          refine r_geti hk 7 rfl rfl d_X_letter_77 ?_
          refine r_ret hk d_X_letter_80 ⟨_, rfl, ?_⟩
          rw [letX, if_neg hx, if_neg (by omega), nI_clamp (by omega)]
          exact ⟨rfl, rfl, rfl⟩
        · exact J1 (Or.inr c_26)
    · exact J0 (Or.inr (Int32.not_le.mp c_6))
theorem c_X_unit (l : Launch) (fi : Nat → Nat) (ar : Nat → Nat → Nat) (hh : fi 7 ≤ 6) : oMetI l 0 y_X_unit b_X_unit 1 (some .int) 1 [] fi ar (PI (unitX fi ar)) := by
  refine oMetI_of (c := 0) (by decide) plain_X rfl (Or.inl rfl) rfl (Nat.le_of_ble_eq_true rfl) (fun h0 ad K hk => ?_)
  have hs := hk.sim
  refine r_aload_n hs d_X_unit_0 rfl rfl ?_
  refine r_geti hk 7 rfl rfl d_X_unit_1 ?_
  refine r_bipush hs 6 d_X_unit_4 (by decide) ?_
  refine r_icmp_ne (tgt := 12) hs (by first | omega | exact hB _ _ | exact hF _) (by first | omega | exact hB _ _ | exact hF _) d_X_unit_6 (by decide) (fun c_6 => ?_) (fun c_6 => ?_)
  · refine r_aload_n hs d_X_unit_12 rfl rfl ?_
    refine r_iconst hs 0 d_X_unit_13 (by decide) ?_
    refine r_iconst hs 0 d_X_unit_14 (by decide) ?_
    refine r_iconst hs 1 d_X_unit_15 (by decide) ?_
    refine r_callv hk (c_X_push l fi ar 0 0 1 (by omega) (by decide)) k_X_push (by decide) (by decide) rfl (Nat.le_of_ble_eq_true rfl) d_X_unit_16 (fun fi_16 ar_16 p_16 => ?_)
    obtain ⟨rfl, rfl⟩ := p_16
    refine r_aload_n hs d_X_unit_19 rfl rfl ?_
    refine r_geti hk 7 rfl rfl d_X_unit_20 ?_
    exact r_ret hk d_X_unit_23 ⟨_, rfl, by rw [unitX, if_neg c_6]; exact ⟨rfl, rfl, rfl⟩⟩
  · refine r_bipush hs 4294967294 d_X_unit_9 (by decide) ?_
    exact r_ret hk d_X_unit_11 ⟨_, rfl, by rw [unitX, if_pos c_6]; exact ⟨rfl, rfl, rfl⟩⟩
theorem c_X_cat (l : Launch) (fi : Nat → Nat) (ar : Nat → Nat → Nat) (hh : fi 7 ≤ 6) (hB : ∀ k j, ar k j < 2 ^ 31) : oMetI l 0 y_X_cat b_X_cat 3 (some .int) 1 [] fi ar (PI (catX fi ar)) := by
  refine oMetI_of (c := 0) (by decide) plain_X rfl (Or.inl rfl) rfl (Nat.le_of_ble_eq_true rfl) (fun h0 ad K hk => ?_)
  have hs := hk.sim
  refine r_aload_n hs d_X_cat_0 rfl rfl ?_
  refine r_geti hk 7 rfl rfl d_X_cat_1 ?_
  refine r_iconst hs 2 d_X_cat_4 (by decide) ?_
  refine r_icmp_ge (tgt := 11) hs (by first | omega | exact hB _ _ | exact hF _) (by first | omega | exact hB _ _ | exact hF _) d_X_cat_5 (by decide) (fun c_5 => ?_) (fun c_5 => ?_)
  · generalize hx : fi 7 - 2 = x
    generalize hy : fi 7 - 1 = y
    have hxb : x < 6 := by omega
    have hyb : y < 6 := by omega
    generalize ha1 : linkP ar (ar 11 x) (ar 10 y) 8 = a1
    have hB1 : ∀ j, a1 12 j < 2 ^ 31 := fun j => by rw [← ha1, linkP_n (by decide)]; exact hB 12 j
    have hB2 : ∀ j, cat2 a1 x y 12 j < 2 ^ 31 := fun j => by
      unfold cat2
      split
      · exact hB1 j
      · rw [up2_a (by decide)]; exact hB1 j
    have hB3 : ∀ j, cat3 (cat2 a1 x y) x y 12 j < 2 ^ 31 := fun j => by
      unfold cat3
      split <;> (rw [up2_a (by decide)]; exact hB2 j)
    have J4 : ∀ e, e < 2 → e = (if cat3 (cat2 a1 x y) x y 12 x = 0 then 0 else if cat3 (cat2 a1 x y) x y 12 y = 0 then 0 else 1) → K 140 [.ref h0, .int (nI y), .int (nI x)] [.int (nI e), .int (nI x), .ref (ad 12)] (fi, cat3 (cat2 a1 x y) x y) := by
      intro e he ee
      refine r_zast hk 6 rfl rfl (by omega) (by omega) d_X_cat_140 ?_
      refine r_aload_n hs d_X_cat_141 rfl rfl ?_
      refine r_iload_n hs d_X_cat_142 rfl rfl ?_
      refine r_puti hk 7 (by decide) rfl d_X_cat_143 ?_
      refine r_aload_n hs d_X_cat_146 rfl rfl ?_
      refine r_geti hk 7 rfl rfl d_X_cat_147 ?_
      refine r_ret hk d_X_cat_150 ⟨_, rfl, ?_⟩
      rw [catX, if_neg (by omega), hx, hy, ha1, cat4, ← ee]
      exact ⟨rfl, rfl, rfl⟩
    have J3 : K 112 [.ref h0, .int (nI y), .int (nI x)] [] (fi, cat3 (cat2 a1 x y) x y) := by
      refine r_aload_n hs d_X_cat_112 rfl rfl ?_
      refine r_geta hk 12 rfl rfl d_X_cat_113 ?_
      refine r_iload_n hs d_X_cat_116 rfl rfl ?_
      refine r_aload_n hs d_X_cat_117 rfl rfl ?_
      refine r_geta hk 12 rfl rfl d_X_cat_118 ?_
      refine r_iload_n hs d_X_cat_121 rfl rfl ?_
      refine r_zald hk 6 rfl rfl (by omega) d_X_cat_122 ?_
      refine r_if_eq (tgt := 139) hs (hB3 _) d_X_cat_123 (by decide) (fun c_123 => ?_) (fun c_123 => ?_)
      · refine r_iconst hs 0 d_X_cat_139 (by decide) ?_
        exact J4 0 (by decide) (by rw [if_pos c_123])
      · refine r_aload_n hs d_X_cat_126 rfl rfl ?_
        refine r_geta hk 12 rfl rfl d_X_cat_127 ?_
        refine r_iload_n hs d_X_cat_130 rfl rfl ?_
        refine r_zald hk 6 rfl rfl (by omega) d_X_cat_131 ?_
        refine r_if_eq (tgt := 139) hs (hB3 _) d_X_cat_132 (by decide) (fun c_132 => ?_) (fun c_132 => ?_)
        · refine r_iconst hs 0 d_X_cat_139 (by decide) ?_
          exact J4 0 (by decide) (by rw [if_neg c_123, if_pos c_132])
        · refine r_iconst hs 1 d_X_cat_135 (by decide) ?_
          refine r_goto (tgt := 140) hs d_X_cat_136 (by decide) ?_
          exact J4 1 (by decide) (by rw [if_neg c_123, if_neg c_132])
    have J2 : K 69 [.ref h0, .int (nI y), .int (nI x)] [] (fi, cat2 a1 x y) := by
      rw [cat3] at J3
      refine r_aload_n hs d_X_cat_69 rfl rfl ?_
      refine r_geta hk 12 rfl rfl d_X_cat_70 ?_
      refine r_iload_n hs d_X_cat_73 rfl rfl ?_
      refine r_zald hk 6 rfl rfl (by omega) d_X_cat_74 ?_
      refine r_if_eq (tgt := 100) hs (hB2 _) d_X_cat_75 (by decide) (fun c_75 => ?_) (fun c_75 => ?_)
      · rw [if_pos c_75] at J3
        refine r_aload_n hs d_X_cat_100 rfl rfl ?_
        refine r_geta hk 11 rfl rfl d_X_cat_101 ?_
        refine r_iload_n hs d_X_cat_104 rfl rfl ?_
        refine r_aload_n hs d_X_cat_105 rfl rfl ?_
        refine r_geta hk 11 rfl rfl d_X_cat_106 ?_
        refine r_iload_n hs d_X_cat_109 rfl rfl ?_
        refine r_ald hk 6 rfl rfl (by omega) d_X_cat_110 ?_
        refine r_ast hk 6 rfl rfl (by omega) d_X_cat_111 ?_
        exact J3
      · rw [if_neg c_75] at J3
        refine r_aload_n hs d_X_cat_78 rfl rfl ?_
        refine r_geta hk 11 rfl rfl d_X_cat_79 ?_
        refine r_iload_n hs d_X_cat_82 rfl rfl ?_
        refine r_aload_n hs d_X_cat_83 rfl rfl ?_
        refine r_geta hk 11 rfl rfl d_X_cat_84 ?_
        refine r_iload_n hs d_X_cat_87 rfl rfl ?_
        refine r_ald hk 6 rfl rfl (by omega) d_X_cat_88 ?_
        refine r_aload_n hs d_X_cat_89 rfl rfl ?_
        refine r_geta hk 11 rfl rfl d_X_cat_90 ?_
        refine r_iload_n hs d_X_cat_93 rfl rfl ?_
        refine r_ald hk 6 rfl rfl (by omega) d_X_cat_94 ?_
        refine r_ior hs d_X_cat_95 ?_
        refine r_ast hk 6 rfl rfl (by omega) d_X_cat_96 ?_
        refine r_goto (tgt := 112) hs d_X_cat_97 (by decide) ?_
        exact J3
    refine r_aload_n hs d_X_cat_11 rfl rfl ?_
    refine r_geti hk 7 rfl rfl d_X_cat_12 ?_
    refine r_iconst hs 1 d_X_cat_15 (by decide) ?_
    refine r_isub hs (by omega) d_X_cat_16 ?_
    refine r_istore_n hs d_X_cat_17 rfl (Nat.le_of_ble_eq_true rfl) (Nat.le_of_ble_eq_true rfl) ?_
    refine r_aload_n hs d_X_cat_18 rfl rfl ?_
    refine r_geti hk 7 rfl rfl d_X_cat_19 ?_
    refine r_iconst hs 2 d_X_cat_22 (by decide) ?_
    refine r_isub hs (by omega) d_X_cat_23 ?_
    refine r_istore_n hs d_X_cat_24 rfl (Nat.le_of_ble_eq_true rfl) (Nat.le_of_ble_eq_true rfl) ?_
    refine r_aload_n hs d_X_cat_25 rfl rfl ?_
    refine r_aload_n hs d_X_cat_26 rfl rfl ?_
    refine r_geta hk 11 rfl rfl d_X_cat_27 ?_
    refine r_iload_n hs d_X_cat_30 rfl rfl ?_
    refine r_ald hk 6 rfl rfl (by omega) d_X_cat_31 ?_
    refine r_aload_n hs d_X_cat_32 rfl rfl ?_
    refine r_geta hk 10 rfl rfl d_X_cat_33 ?_
    refine r_iload_n hs d_X_cat_36 rfl rfl ?_
    refine r_ald hk 6 rfl rfl (by omega) d_X_cat_37 ?_
    rw [hx, hy]
    refine r_callv hk (c_X_link l fi ar (ar 11 x) (ar 10 y) (hB _ _)) k_X_link (by decide) (by decide) rfl (Nat.le_of_ble_eq_true rfl) d_X_cat_38 (fun fi_38 ar_38 p_38 => ?_)
    obtain ⟨rfl, rfl⟩ := p_38
    rw [ha1]
    rw [cat2] at J2
    refine r_aload_n hs d_X_cat_41 rfl rfl ?_
    refine r_geta hk 12 rfl rfl d_X_cat_42 ?_
    refine r_iload_n hs d_X_cat_45 rfl rfl ?_
    refine r_zald hk 6 rfl rfl (by omega) d_X_cat_46 ?_
    refine r_if_eq (tgt := 69) hs (hB1 _) d_X_cat_47 (by decide) (fun c_47 => ?_) (fun c_47 => ?_)
    · rw [if_pos c_47] at J2
      exact J2
    · rw [if_neg c_47] at J2
      refine r_aload_n hs d_X_cat_50 rfl rfl ?_
      refine r_geta hk 10 rfl rfl d_X_cat_51 ?_
      refine r_iload_n hs d_X_cat_54 rfl rfl ?_
      refine r_aload_n hs d_X_cat_55 rfl rfl ?_
      refine r_geta hk 10 rfl rfl d_X_cat_56 ?_
      refine r_iload_n hs d_X_cat_59 rfl rfl ?_
      refine r_ald hk 6 rfl rfl (by omega) d_X_cat_60 ?_
      refine r_aload_n hs d_X_cat_61 rfl rfl ?_
      refine r_geta hk 10 rfl rfl d_X_cat_62 ?_
      refine r_iload_n hs d_X_cat_65 rfl rfl ?_
      refine r_ald hk 6 rfl rfl (by omega) d_X_cat_66 ?_
      refine r_ior hs d_X_cat_67 ?_
      refine r_ast hk 6 rfl rfl (by omega) d_X_cat_68 ?_
      exact J2
  · refine r_bipush hs 4294967293 d_X_cat_8 (by decide) ?_
    exact r_ret hk d_X_cat_10 ⟨_, rfl, by rw [catX, if_pos c_5]; exact ⟨rfl, rfl, rfl⟩⟩
theorem c_X_alt (l : Launch) (fi : Nat → Nat) (ar : Nat → Nat → Nat) (hh : fi 7 ≤ 6) (hB : ∀ k j, ar k j < 2 ^ 31) : oMetI l 0 y_X_alt b_X_alt 3 (some .int) 0 [] fi ar (PI (altX fi ar)) := by
  refine oMetI_of (c := 0) (by decide) plain_X rfl (Or.inl rfl) rfl (Nat.le_of_ble_eq_true rfl) (fun h0 ad K hk => ?_)
  have hs := hk.sim
  refine r_aload_n hs d_X_alt_0 rfl rfl ?_
  refine r_geti hk 7 rfl rfl d_X_alt_1 ?_
  refine r_iconst hs 2 d_X_alt_4 (by decide) ?_
  refine r_icmp_ge (tgt := 11) hs (by first | omega | exact hB _ _ | exact hF _) (by first | omega | exact hB _ _ | exact hF _) d_X_alt_5 (by decide) (fun c_5 => ?_) (fun c_5 => ?_)
  · generalize hx : fi 7 - 2 = x
    generalize hy : fi 7 - 1 = y
    have hxb : x < 6 := by omega
    have hyb : y < 6 := by omega
    have hB1 : ∀ j, alt1 ar x y 12 j < 2 ^ 31 := fun j => by
      unfold alt1
      rw [up2_a (by decide), up2_a (by decide)]
      exact hB 12 j
    have J4 : ∀ e, e < 2 → e = (if alt1 ar x y 12 x = 0 then (if alt1 ar x y 12 y = 0 then 0 else 1) else 1) → K 91 [.ref h0, .int (nI y), .int (nI x)] [.int (nI e), .int (nI x), .ref (ad 12)] (fi, alt1 ar x y) := by
      intro e he ee
      refine r_zast hk 6 rfl rfl (by omega) (by omega) d_X_alt_91 ?_
      refine r_aload_n hs d_X_alt_92 rfl rfl ?_
      refine r_iload_n hs d_X_alt_93 rfl rfl ?_
      refine r_puti hk 7 (by decide) rfl d_X_alt_94 ?_
      refine r_aload_n hs d_X_alt_97 rfl rfl ?_
      refine r_geti hk 7 rfl rfl d_X_alt_98 ?_
      refine r_ret hk d_X_alt_101 ⟨_, rfl, ?_⟩
      rw [altX, if_neg (by omega), hx, hy, alt2, ← ee]
      exact ⟨rfl, rfl, rfl⟩
    have J3 : K 63 [.ref h0, .int (nI y), .int (nI x)] [] (fi, alt1 ar x y) := by
      refine r_aload_n hs d_X_alt_63 rfl rfl ?_
      refine r_geta hk 12 rfl rfl d_X_alt_64 ?_
      refine r_iload_n hs d_X_alt_67 rfl rfl ?_
      refine r_aload_n hs d_X_alt_68 rfl rfl ?_
      refine r_geta hk 12 rfl rfl d_X_alt_69 ?_
      refine r_iload_n hs d_X_alt_72 rfl rfl ?_
      refine r_zald hk 6 rfl rfl (by omega) d_X_alt_73 ?_
      refine r_if_ne (tgt := 86) hs (hB1 _) d_X_alt_74 (by decide) (fun c_74 => ?_) (fun c_74 => ?_)
      · refine r_iconst hs 1 d_X_alt_86 (by decide) ?_
        refine r_goto (tgt := 91) hs d_X_alt_87 (by decide) ?_
        exact J4 1 (by decide) (by rw [if_neg c_74])
      · refine r_aload_n hs d_X_alt_77 rfl rfl ?_
        refine r_geta hk 12 rfl rfl d_X_alt_78 ?_
        refine r_iload_n hs d_X_alt_81 rfl rfl ?_
        refine r_zald hk 6 rfl rfl (by omega) d_X_alt_82 ?_
        refine r_if_eq (tgt := 90) hs (hB1 _) d_X_alt_83 (by decide) (fun c_83 => ?_) (fun c_83 => ?_)
        · refine r_iconst hs 0 d_X_alt_90 (by decide) ?_
          exact J4 0 (by decide) (by rw [if_pos c_74, if_pos c_83])
        · refine r_iconst hs 1 d_X_alt_86 (by decide) ?_
          refine r_goto (tgt := 91) hs d_X_alt_87 (by decide) ?_
          exact J4 1 (by decide) (by rw [if_pos c_74, if_neg c_83])
    refine r_aload_n hs d_X_alt_11 rfl rfl ?_
    refine r_geti hk 7 rfl rfl d_X_alt_12 ?_
    refine r_iconst hs 1 d_X_alt_15 (by decide) ?_
    refine r_isub hs (by omega) d_X_alt_16 ?_
    refine r_istore_n hs d_X_alt_17 rfl (Nat.le_of_ble_eq_true rfl) (Nat.le_of_ble_eq_true rfl) ?_
    refine r_aload_n hs d_X_alt_18 rfl rfl ?_
    refine r_geti hk 7 rfl rfl d_X_alt_19 ?_
    refine r_iconst hs 2 d_X_alt_22 (by decide) ?_
    refine r_isub hs (by omega) d_X_alt_23 ?_
    refine r_istore_n hs d_X_alt_24 rfl (Nat.le_of_ble_eq_true rfl) (Nat.le_of_ble_eq_true rfl) ?_
    refine r_aload_n hs d_X_alt_25 rfl rfl ?_
    refine r_geta hk 10 rfl rfl d_X_alt_26 ?_
    refine r_iload_n hs d_X_alt_29 rfl rfl ?_
    refine r_aload_n hs d_X_alt_30 rfl rfl ?_
    refine r_geta hk 10 rfl rfl d_X_alt_31 ?_
    refine r_iload_n hs d_X_alt_34 rfl rfl ?_
    refine r_ald hk 6 rfl rfl (by omega) d_X_alt_35 ?_
    refine r_aload_n hs d_X_alt_36 rfl rfl ?_
    refine r_geta hk 10 rfl rfl d_X_alt_37 ?_
    refine r_iload_n hs d_X_alt_40 rfl rfl ?_
    refine r_ald hk 6 rfl rfl (by omega) d_X_alt_41 ?_
    refine r_ior hs d_X_alt_42 ?_
    refine r_ast hk 6 rfl rfl (by omega) d_X_alt_43 ?_
    refine r_aload_n hs d_X_alt_44 rfl rfl ?_
    refine r_geta hk 11 rfl rfl d_X_alt_45 ?_
    refine r_iload_n hs d_X_alt_48 rfl rfl ?_
    refine r_aload_n hs d_X_alt_49 rfl rfl ?_
    refine r_geta hk 11 rfl rfl d_X_alt_50 ?_
    refine r_iload_n hs d_X_alt_53 rfl rfl ?_
    refine r_ald hk 6 rfl rfl (by omega) d_X_alt_54 ?_
    refine r_aload_n hs d_X_alt_55 rfl rfl ?_
    refine r_geta hk 11 rfl rfl d_X_alt_56 ?_
    refine r_iload_n hs d_X_alt_59 rfl rfl ?_
    refine r_ald hk 6 rfl rfl (by omega) d_X_alt_60 ?_
    refine r_ior hs d_X_alt_61 ?_
    refine r_ast hk 6 rfl rfl (by omega) d_X_alt_62 ?_
    rw [hx, hy]
    rw [alt1] at J3
    rw [up2_a (by decide)]
    exact J3
  · refine r_bipush hs 4294967293 d_X_alt_8 (by decide) ?_
    exact r_ret hk d_X_alt_10 ⟨_, rfl, by rw [altX, if_pos c_5]; exact ⟨rfl, rfl, rfl⟩⟩
theorem c_X_star (l : Launch) (fi : Nat → Nat) (ar : Nat → Nat → Nat) (hh : fi 7 ≤ 6) (hB : ∀ k j, ar k j < 2 ^ 31) : oMetI l 0 y_X_star b_X_star 2 (some .int) 1 [] fi ar (PI (starX fi ar)) := by
  refine oMetI_of (c := 0) (by decide) plain_X rfl (Or.inl rfl) rfl (Nat.le_of_ble_eq_true rfl) (fun h0 ad K hk => ?_)
  have hs := hk.sim
  refine r_aload_n hs d_X_star_0 rfl rfl ?_
  refine r_geti hk 7 rfl rfl d_X_star_1 ?_
  refine r_iconst hs 1 d_X_star_4 (by decide) ?_
  refine r_icmp_ge (tgt := 11) hs (by first | omega | exact hB _ _ | exact hF _) (by first | omega | exact hB _ _ | exact hF _) d_X_star_5 (by decide) (fun c_5 => ?_) (fun c_5 => ?_)
  · refine r_aload_n hs d_X_star_11 rfl rfl ?_
    refine r_geti hk 7 rfl rfl d_X_star_12 ?_
    refine r_iconst hs 1 d_X_star_15 (by decide) ?_
    refine r_isub hs (by omega) d_X_star_16 ?_
    refine r_istore_n hs d_X_star_17 rfl (Nat.le_of_ble_eq_true rfl) (Nat.le_of_ble_eq_true rfl) ?_
    refine r_aload_n hs d_X_star_18 rfl rfl ?_
    refine r_aload_n hs d_X_star_19 rfl rfl ?_
    refine r_geta hk 11 rfl rfl d_X_star_20 ?_
    refine r_iload_n hs d_X_star_23 rfl rfl ?_
    refine r_ald hk 6 rfl rfl (by omega) d_X_star_24 ?_
    refine r_aload_n hs d_X_star_25 rfl rfl ?_
    refine r_geta hk 10 rfl rfl d_X_star_26 ?_
    refine r_iload_n hs d_X_star_29 rfl rfl ?_
    refine r_ald hk 6 rfl rfl (by omega) d_X_star_30 ?_
    refine r_callv hk (c_X_link l fi ar (ar 11 (fi 7 - 1)) (ar 10 (fi 7 - 1)) (hB _ _)) k_X_link (by decide) (by decide) rfl (Nat.le_of_ble_eq_true rfl) d_X_star_31 (fun fi_31 ar_31 p_31 => ?_)
    obtain ⟨rfl, rfl⟩ := p_31
    refine r_aload_n hs d_X_star_34 rfl rfl ?_
    refine r_geta hk 12 rfl rfl d_X_star_35 ?_
    refine r_iload_n hs d_X_star_38 rfl rfl ?_
    refine r_iconst hs 1 d_X_star_39 (by decide) ?_
    refine r_zast hk 6 rfl rfl (by omega) (by omega) d_X_star_40 ?_
    refine r_aload_n hs d_X_star_41 rfl rfl ?_
    refine r_geti hk 7 rfl rfl d_X_star_42 ?_
    exact r_ret hk d_X_star_45 ⟨_, rfl, by rw [starX, if_neg (by omega)]; exact ⟨rfl, rfl, rfl⟩⟩
  · refine r_bipush hs 4294967293 d_X_star_8 (by decide) ?_
    exact r_ret hk d_X_star_10 ⟨_, rfl, by rw [starX, if_pos c_5]; exact ⟨rfl, rfl, rfl⟩⟩
end
section
/-! ExprCrossword: reverse, setLine, freeLine, pin, pinned -/
theorem zerP_n {ar : Nat → Nat → Nat} {p k : Nat} (h : k ≠ 15) : zerP ar p k = ar k := by
  induction p with
  | zero => rfl
  | succ p ih => rw [zerP, up2_a h, ih]
theorem turP_n {ar : Nat → Nat → Nat} {lo n k : Nat} (h : k ≠ 15) : turP ar lo n k = ar k := by
  induction n with
  | zero => rfl
  | succ p ih => rw [turP, turnP_n h, ih]
theorem cpyP_n {ar : Nat → Nat → Nat} {lo n k : Nat} (h : k ≠ 14) : cpyP ar lo n k = ar k := by
  induction n with
  | zero => rfl
  | succ p ih => rw [cpyP, up2_a h, ih]
abbrev slk (k : Nat) : Prop := k ≠ 16 ∧ k ≠ 17 ∧ k ≠ 18 ∧ k ≠ 19 ∧ k ≠ 20 ∧ k ≠ 21
theorem slP_n {ar : Nat → Nat → Nat} {ln x dn n k : Nat} (h : slk k) : slP ar ln x dn n k = ar k := by
  obtain ⟨h1, h2, h3, h4, h5, h6⟩ := h
  induction n with
  | zero => rw [slP, sl0, up2_a h5, up2_a h4, up2_a h3, up2_a h2, up2_a h1]
  | succ p ih =>
    rw [slP, sl3, up2_a h6, sl2]
    have e1 : sl1 (slP ar ln x dn p) ln dn (dn + p) k = ar k := by
      rw [sl1]
      split
      · exact ih
      · rw [up2_a h4, ih]
    split
    · exact e1
    · rw [up2_a h5, e1]
def pinX (r c v : Int32) (fi : Nat → Nat) (ar : Nat → Nat → Nat) : Nat × (Nat → Nat) × (Nat → Nat → Nat) :=
  if 0 ≤ r ∧ r < nI (fi 0) ∧ 0 ≤ c ∧ c < nI (fi 1) ∧ 0 ≤ v ∧ v ≤ 2 then (ar 6 (r.toNatClampNeg * fi 1 + c.toNatClampNeg), up fi 23 0, up2 ar 6 (r.toNatClampNeg * fi 1 + c.toNatClampNeg) v.toNatClampNeg) else (4294967295, fi, ar)
def pindX (r c : Int32) (fi : Nat → Nat) (ar : Nat → Nat → Nat) : Nat × (Nat → Nat) × (Nat → Nat → Nat) :=
  if 0 ≤ r ∧ r < nI (fi 0) ∧ 0 ≤ c ∧ c < nI (fi 1) then (ar 6 (r.toNatClampNeg * fi 1 + c.toNatClampNeg), fi, ar) else (4294967295, fi, ar)
theorem cell12 {r c R C : Nat} (hr : r < R) (hc : c < C) (hR : R ≤ 3) (hC : C ≤ 4) : r * C + c < 12 := by
  have h1 : r * C ≤ 2 * C := Nat.mul_le_mul_right C (by omega)
  omega
theorem c_X_reverse (l : Launch) (fi : Nat → Nat) (ar : Nat → Nat → Nat) (hh : fi 7 ≤ 6) (hp : fi 8 ≤ 8) (hB : ∀ k j, ar k j < 2 ^ 31) (hlo : 1 ≤ fi 7 → ar 9 (fi 7 - 1) ≤ fi 8) : oMetI l 0 y_X_reverse b_X_reverse 3 (some .int) 1 [] fi ar (PI (revX fi ar)) := by
  refine oMetI_of (c := 0) (by decide) plain_X rfl (Or.inl rfl) rfl (Nat.le_of_ble_eq_true rfl) (fun h0 ad K hk => ?_)
  have hs := hk.sim
  refine r_aload_n hs d_X_reverse_0 rfl rfl ?_
  refine r_geti hk 7 rfl rfl d_X_reverse_1 ?_
  refine r_iconst hs 1 d_X_reverse_4 (by decide) ?_
  refine r_icmp_ge (tgt := 11) hs (by first | omega | exact hB _ _ | exact hF _) (by first | omega | exact hB _ _ | exact hF _) d_X_reverse_5 (by decide) (fun c_5 => ?_) (fun c_5 => ?_)
  · have hlo := hlo c_5
    have hB9 := hB 9 (fi 7 - 1)
    generalize hlo0 : ar 9 (fi 7 - 1) = lo at hlo hB9
    generalize hx : fi 7 - 1 = x at hlo0
    have hxb : x < 6 := by omega
    have J3 : ∀ i, i ≤ fi 8 - lo → K 72 [.ref h0, .int (nI x), .int (nI (lo + i))] [] (fi, cpyP (turP (zerP ar 8) lo (fi 8 - lo)) lo i) := by
      refine loopD (fun i hi ih => ?_)
      refine r_iload_n hs d_X_reverse_72 rfl rfl ?_
      refine r_aload_n hs d_X_reverse_73 rfl rfl ?_
      refine r_geti hk 8 rfl rfl d_X_reverse_74 ?_
      refine r_icmp_ge (tgt := 98) hs (by first | omega | exact hB _ _ | exact hF _) (by first | omega | exact hB _ _ | exact hF _) d_X_reverse_77 (by decide) (fun c_77 => ?_) (fun c_77 => ?_)
      · obtain rfl : i = fi 8 - lo := by omega
        refine r_aload_n hs d_X_reverse_98 rfl rfl ?_
        refine r_geta hk 10 rfl rfl d_X_reverse_99 ?_
        refine r_iload_n hs d_X_reverse_102 rfl rfl ?_
        refine r_ald hk 6 rfl rfl (by omega) d_X_reverse_103 ?_
        refine r_istore_n hs d_X_reverse_104 rfl (Nat.le_of_ble_eq_true rfl) (Nat.le_of_ble_eq_true rfl) ?_
        refine r_aload_n hs d_X_reverse_105 rfl rfl ?_
        refine r_geta hk 10 rfl rfl d_X_reverse_106 ?_
        refine r_iload_n hs d_X_reverse_109 rfl rfl ?_
        refine r_aload_n hs d_X_reverse_110 rfl rfl ?_
        refine r_geta hk 11 rfl rfl d_X_reverse_111 ?_
        refine r_iload_n hs d_X_reverse_114 rfl rfl ?_
        refine r_ald hk 6 rfl rfl (by omega) d_X_reverse_115 ?_
        refine r_ast hk 6 rfl rfl (by omega) d_X_reverse_116 ?_
        refine r_aload_n hs d_X_reverse_117 rfl rfl ?_
        refine r_geta hk 11 rfl rfl d_X_reverse_118 ?_
        refine r_iload_n hs d_X_reverse_121 rfl rfl ?_
        refine r_iload_n hs d_X_reverse_122 rfl rfl ?_
        refine r_ast hk 6 rfl rfl (by omega) d_X_reverse_123 ?_
        refine r_aload_n hs d_X_reverse_124 rfl rfl ?_
        refine r_geti hk 7 rfl rfl d_X_reverse_125 ?_
        refine r_ret hk d_X_reverse_128 ⟨_, rfl, ?_⟩
        rw [revX, if_neg (by omega), hx, hlo0, swpA]
        exact ⟨rfl, rfl, rfl⟩
      · have e := ih (by omega)
        rw [cpyP] at e
        refine r_aload_n hs d_X_reverse_80 rfl rfl ?_
        refine r_geta hk 14 rfl rfl d_X_reverse_81 ?_
        refine r_iload_n hs d_X_reverse_84 rfl rfl ?_
        refine r_aload_n hs d_X_reverse_85 rfl rfl ?_
        refine r_geta hk 15 rfl rfl d_X_reverse_86 ?_
        refine r_iload_n hs d_X_reverse_89 rfl rfl ?_
        refine r_ald hk 8 rfl rfl (by omega) d_X_reverse_90 ?_
        refine r_ast hk 8 rfl rfl (by omega) d_X_reverse_91 ?_
        refine r_iinc hs d_X_reverse_92 rfl (Nat.le_of_ble_eq_true rfl) (Nat.le_of_ble_eq_true rfl) ?_
        refine r_goto (tgt := 72) hs d_X_reverse_95 (by decide) ?_
        exact e
    have J2 : ∀ i, i ≤ fi 8 - lo → K 46 [.ref h0, .int (nI x), .int (nI (lo + i))] [] (fi, turP (zerP ar 8) lo i) := by
      refine loopD (fun i hi ih => ?_)
      refine r_iload_n hs d_X_reverse_46 rfl rfl ?_
      refine r_aload_n hs d_X_reverse_47 rfl rfl ?_
      refine r_geti hk 8 rfl rfl d_X_reverse_48 ?_
      refine r_icmp_ge (tgt := 65) hs (by first | omega | exact hB _ _ | exact hF _) (by first | omega | exact hB _ _ | exact hF _) d_X_reverse_51 (by decide) (fun c_51 => ?_) (fun c_51 => ?_)
      · obtain rfl : i = fi 8 - lo := by omega
        refine r_aload_n hs d_X_reverse_65 rfl rfl ?_
        refine r_geta hk 9 rfl rfl d_X_reverse_66 ?_
        refine r_iload_n hs d_X_reverse_69 rfl rfl ?_
        refine r_ald hk 6 rfl rfl (by omega) d_X_reverse_70 ?_
        rw [turP_n (by decide), zerP_n (by decide), hlo0]
        refine r_istore_n hs d_X_reverse_71 rfl (Nat.le_of_ble_eq_true rfl) (Nat.le_of_ble_eq_true rfl) ?_
        exact J3 0 (by omega)
      · have e := ih (by omega)
        rw [turP] at e
        refine r_aload_n hs d_X_reverse_54 rfl rfl ?_
        refine r_iload_n hs d_X_reverse_55 rfl rfl ?_
        refine r_callv hk (c_X_turn l fi (turP (zerP ar 8) lo i) (lo + i) (by omega) (fun j => by rw [turP_n (by decide), zerP_n (by decide)]; exact hB _ _)) k_X_turn (by decide) (by decide) rfl (Nat.le_of_ble_eq_true rfl) d_X_reverse_56 (fun fi_56 ar_56 p_56 => ?_)
        obtain ⟨rfl, rfl⟩ := p_56
        refine r_iinc hs d_X_reverse_59 rfl (Nat.le_of_ble_eq_true rfl) (Nat.le_of_ble_eq_true rfl) ?_
        refine r_goto (tgt := 46) hs d_X_reverse_62 (by decide) ?_
        exact e
    have J1 : ∀ i, i ≤ 8 → K 20 [.ref h0, .int (nI x), .int (nI i)] [] (fi, zerP ar i) := by
      refine loopD (fun i hi ih => ?_)
      refine r_iload_n hs d_X_reverse_20 rfl rfl ?_
      refine r_bipush hs 8 d_X_reverse_21 (by decide) ?_
      refine r_icmp_ge (tgt := 39) hs (by first | omega | exact hB _ _ | exact hF _) (by first | omega | exact hB _ _ | exact hF _) d_X_reverse_23 (by decide) (fun c_23 => ?_) (fun c_23 => ?_)
      · obtain rfl : i = 8 := by omega
        refine r_aload_n hs d_X_reverse_39 rfl rfl ?_
        refine r_geta hk 9 rfl rfl d_X_reverse_40 ?_
        refine r_iload_n hs d_X_reverse_43 rfl rfl ?_
        refine r_ald hk 6 rfl rfl (by omega) d_X_reverse_44 ?_
        rw [zerP_n (by decide), hlo0]
        refine r_istore_n hs d_X_reverse_45 rfl (Nat.le_of_ble_eq_true rfl) (Nat.le_of_ble_eq_true rfl) ?_
        exact J2 0 (by omega)
      · have e := ih (by omega)
        rw [zerP] at e
        refine r_aload_n hs d_X_reverse_26 rfl rfl ?_
        refine r_geta hk 15 rfl rfl d_X_reverse_27 ?_
        refine r_iload_n hs d_X_reverse_30 rfl rfl ?_
        refine r_iconst hs 0 d_X_reverse_31 (by decide) ?_
        refine r_ast hk 8 rfl rfl (by omega) d_X_reverse_32 ?_
        refine r_iinc hs d_X_reverse_33 rfl (Nat.le_of_ble_eq_true rfl) (Nat.le_of_ble_eq_true rfl) ?_
        refine r_goto (tgt := 20) hs d_X_reverse_36 (by decide) ?_
        exact e
    refine r_aload_n hs d_X_reverse_11 rfl rfl ?_
    refine r_geti hk 7 rfl rfl d_X_reverse_12 ?_
    refine r_iconst hs 1 d_X_reverse_15 (by decide) ?_
    refine r_isub hs (by omega) d_X_reverse_16 ?_
    refine r_istore_n hs d_X_reverse_17 rfl (Nat.le_of_ble_eq_true rfl) (Nat.le_of_ble_eq_true rfl) ?_
    refine r_iconst hs 0 d_X_reverse_18 (by decide) ?_
    refine r_istore_n hs d_X_reverse_19 rfl (Nat.le_of_ble_eq_true rfl) (Nat.le_of_ble_eq_true rfl) ?_
    rw [hx]
    exact J1 0 (by omega)
  · refine r_bipush hs 4294967293 d_X_reverse_8 (by decide) ?_
    exact r_ret hk d_X_reverse_10 ⟨_, rfl, by rw [revX, if_pos c_5]; exact ⟨rfl, rfl, rfl⟩⟩
theorem c_X_freeLine (l : Launch) (fi : Nat → Nat) (ar : Nat → Nat → Nat) (x : Int32) (h2 : fi 2 ≤ 7) : oMetI l 0 y_X_freeLine b_X_freeLine 2 (some .int) 1 [.int x] fi ar (PI (freeX x fi ar)) := by
  refine oMetI_of (c := 0) (by decide) plain_X rfl (Or.inl rfl) rfl (Nat.le_of_ble_eq_true rfl) (fun h0 ad K hk => ?_)
  have hs := hk.sim
  have J0 : (x < 0 ∨ nI (fi 2) ≤ x) → K 12 [.ref h0, .int x] [] (fi, ar) := by
    intro hx
    refine r_iconst hs 4294967295 d_X_freeLine_12 (by decide) ?_
    exact r_ret hk d_X_freeLine_13 ⟨_, rfl, by rw [freeX, if_pos hx]; exact ⟨rfl, rfl, rfl⟩⟩
  refine r_iload_n hs d_X_freeLine_0 rfl rfl ?_
  refine r_ifR_lt (tgt := 12) hs d_X_freeLine_1 (by decide) (fun c_1 => ?_) (fun c_1 => ?_)
  · exact J0 (Or.inl c_1)
  · refine r_iload_n hs d_X_freeLine_4 rfl rfl ?_
    refine r_aload_n hs d_X_freeLine_5 rfl rfl ?_
    refine r_geti hk 2 rfl rfl d_X_freeLine_6 ?_
    refine r_icmpR_lt (tgt := 14) hs d_X_freeLine_9 (by decide) (fun c_9 => ?_) (fun c_9 => ?_)
    · rcases pk_ix x (n := fi 2) (by omega) with h | h | ⟨j, hj, rfl⟩
      · exact absurd h c_1
      · exact absurd c_9 (Int32.not_lt.mpr h)
      · refine r_aload_n hs d_X_freeLine_14 rfl rfl ?_
        refine r_iload_n hs d_X_freeLine_15 rfl rfl ?_
        refine r_callv hk (c_X_anyWord l fi ar j (by omega)) k_X_anyWord (by decide) (by decide) rfl (Nat.le_of_ble_eq_true rfl) d_X_freeLine_16 (fun fi_16 ar_16 p_16 => ?_)
        obtain ⟨rfl, rfl⟩ := p_16
        refine r_iconst hs 0 d_X_freeLine_19 (by decide) ?_
        refine r_ret hk d_X_freeLine_20 ⟨_, rfl, ?_⟩
        rw [freeX, if_neg (by rintro (h | h); exact c_1 h; exact absurd c_9 (Int32.not_lt.mpr h)), nI_clamp (by omega)]
        exact ⟨rfl, rfl, rfl⟩
    · exact J0 (Or.inr (Int32.not_lt.mp c_9))
theorem c_X_setLine (l : Launch) (fi : Nat → Nat) (ar : Nat → Nat → Nat) (x : Int32) (h2 : fi 2 ≤ 7) (hh : fi 7 ≤ 6) (hp : fi 8 ≤ 8) (hB : ∀ k j, ar k j < 2 ^ 31) (hE : ∀ j, ar 12 j < 2) (hlo : 1 ≤ fi 7 → ar 9 (fi 7 - 1) ≤ fi 8) : oMetI l 0 y_X_setLine b_X_setLine 6 (some .int) 0 [.int x] fi ar (PI (setX x fi ar)) := by
  refine oMetI_of (c := 0) (by decide) plain_X rfl (Or.inl rfl) rfl (Nat.le_of_ble_eq_true rfl) (fun h0 ad K hk => ?_)
  have hs := hk.sim
  have J0 : (x < 0 ∨ nI (fi 2) ≤ x) → K 12 [.ref h0, .int x] [] (fi, ar) := by
    intro hx
    refine r_iconst hs 4294967295 d_X_setLine_12 (by decide) ?_
    exact r_ret hk d_X_setLine_13 ⟨_, rfl, by rw [setX, if_pos hx]; exact ⟨rfl, rfl, rfl⟩⟩
  refine r_iload_n hs d_X_setLine_0 rfl rfl ?_
  refine r_ifR_lt (tgt := 12) hs d_X_setLine_1 (by decide) (fun c_1 => ?_) (fun c_1 => ?_)
  · exact J0 (Or.inl c_1)
  · refine r_iload_n hs d_X_setLine_4 rfl rfl ?_
    refine r_aload_n hs d_X_setLine_5 rfl rfl ?_
    refine r_geti hk 2 rfl rfl d_X_setLine_6 ?_
    refine r_icmpR_lt (tgt := 14) hs d_X_setLine_9 (by decide) (fun c_9 => ?_) (fun c_9 => ?_)
    · rcases pk_ix x (n := fi 2) (by omega) with h | h | ⟨ln, hj, rfl⟩
      · exact absurd h c_1
      · exact absurd c_9 (Int32.not_lt.mpr h)
      · have hx : ¬ (nI ln < 0 ∨ nI (fi 2) ≤ nI ln) := by
          rintro (h | h)
          · exact c_1 h
          · exact absurd c_9 (Int32.not_lt.mpr h)
        refine r_aload_n hs d_X_setLine_14 rfl rfl ?_
        refine r_geti hk 7 rfl rfl d_X_setLine_15 ?_
        refine r_iconst hs 1 d_X_setLine_18 (by decide) ?_
        refine r_icmp_ge (tgt := 25) hs (by first | omega | exact hB _ _ | exact hF _) (by first | omega | exact hB _ _ | exact hF _) d_X_setLine_19 (by decide) (fun c_19 => ?_) (fun c_19 => ?_)
        · have hlo := hlo c_19
          have hB9 := hB 9 (fi 7 - 1)
          generalize hlo0 : ar 9 (fi 7 - 1) = dn at hlo hB9
          generalize hx0 : fi 7 - 1 = x at hlo0
          have hxb : x < 6 := by omega
          have J1 : ∀ i, i ≤ fi 8 - dn → K 96 [.ref h0, .int (nI ln), .int (nI x), .int (nI dn), .int (nI (dn + i))] [] (fi, slP ar ln x dn i) := by
            refine loopD (fun i hi ih => ?_)
            refine r_iload hs d_X_setLine_96 rfl ?_
            refine r_aload_n hs d_X_setLine_98 rfl rfl ?_
            refine r_geti hk 8 rfl rfl d_X_setLine_99 ?_
            refine r_icmp_ge (tgt := 193) hs (by first | omega | exact hB _ _ | exact hF _) (by first | omega | exact hB _ _ | exact hF _) d_X_setLine_102 (by decide) (fun c_102 => ?_) (fun c_102 => ?_)
            · obtain rfl : i = fi 8 - dn := by omega
              refine r_aload_n hs d_X_setLine_193 rfl rfl ?_
              refine r_iload_n hs d_X_setLine_194 rfl rfl ?_
              refine r_puti hk 8 (by decide) rfl d_X_setLine_195 ?_
              refine r_aload_n hs d_X_setLine_198 rfl rfl ?_
              refine r_iload_n hs d_X_setLine_199 rfl rfl ?_
              refine r_puti hk 7 (by decide) rfl d_X_setLine_200 ?_
              refine r_aload_n hs d_X_setLine_203 rfl rfl ?_
              refine r_iconst hs 0 d_X_setLine_204 (by decide) ?_
              refine r_putz hk (by omega) d_X_setLine_205 ?_
              refine r_aload_n hs d_X_setLine_208 rfl rfl ?_
              refine r_geti hk 7 rfl rfl d_X_setLine_209 ?_
              refine r_ret hk d_X_setLine_212 ⟨_, rfl, ?_⟩
              rw [setX, if_neg hx, if_neg (by omega), hx0, hlo0, nI_clamp (by omega)]
              exact ⟨rfl, rfl, rfl⟩
            · have e := ih (by omega)
              rw [slP] at e
              have hk13 : ∀ j, slP ar ln x dn i 13 j < 2 ^ 31 := fun j => by rw [slP_n (by decide)]; exact hB _ _
              have hk13' : ∀ j, sl1 (slP ar ln x dn i) ln dn (dn + i) 13 j < 2 ^ 31 := fun j => by
                unfold sl1
                split
                · exact hk13 j
                · rw [up2_a (by decide)]; exact hk13 j
              have hk14 : ∀ j, sl2 (sl1 (slP ar ln x dn i) ln dn (dn + i)) ln dn (dn + i) 14 j < 2 ^ 31 := fun j => by
                have h1 : sl1 (slP ar ln x dn i) ln dn (dn + i) 14 j < 2 ^ 31 := by
                  unfold sl1
                  split
                  · rw [slP_n (by decide)]; exact hB _ _
                  · rw [up2_a (by decide), slP_n (by decide)]; exact hB _ _
                rw [sl2]
                split
                · exact h1
                · rw [up2_a (by decide)]; exact h1
              have J3 : K 164 [.ref h0, .int (nI ln), .int (nI x), .int (nI dn), .int (nI (dn + i)), .int (nI (1 <<< (dn + i - dn)))] [] (fi, sl2 (sl1 (slP ar ln x dn i) ln dn (dn + i)) ln dn (dn + i)) := by
                refine r_aload_n hs d_X_setLine_164 rfl rfl ?_
                refine r_geta hk 21 rfl rfl d_X_setLine_165 ?_
                refine r_iload_n hs d_X_setLine_168 rfl rfl ?_
                refine r_bipush hs 8 d_X_setLine_169 (by decide) ?_
                refine r_imul hs d_X_setLine_171 ?_
                refine r_iload hs d_X_setLine_172 rfl ?_
                refine r_iadd hs d_X_setLine_174 ?_
                refine r_iload_n hs d_X_setLine_175 rfl rfl ?_
                refine r_isub hs (by omega) d_X_setLine_176 ?_
                refine r_aload_n hs d_X_setLine_177 rfl rfl ?_
                refine r_geta hk 14 rfl rfl d_X_setLine_178 ?_
                refine r_iload hs d_X_setLine_181 rfl ?_
                refine r_ald hk 8 rfl rfl (by omega) d_X_setLine_183 ?_
                refine r_iload_n hs d_X_setLine_184 rfl rfl ?_
                refine r_ishr hs (hk14 _) (by omega) d_X_setLine_185 ?_
                refine r_ast hk 56 rfl rfl (by omega) d_X_setLine_186 ?_
                refine r_iinc hs d_X_setLine_187 rfl (Nat.le_of_ble_eq_true rfl) (Nat.le_of_ble_eq_true rfl) ?_
                refine r_goto (tgt := 96) hs d_X_setLine_190 (by decide) ?_
                exact r_take hs 5 e
              have J2 : K 139 [.ref h0, .int (nI ln), .int (nI x), .int (nI dn), .int (nI (dn + i)), .int (nI (1 <<< (dn + i - dn)))] [] (fi, sl1 (slP ar ln x dn i) ln dn (dn + i)) := by
                rw [sl2] at J3
                refine r_aload_n hs d_X_setLine_139 rfl rfl ?_
                refine r_geta hk 13 rfl rfl d_X_setLine_140 ?_
                refine r_iload hs d_X_setLine_143 rfl ?_
                refine r_ald hk 8 rfl rfl (by omega) d_X_setLine_145 ?_
                refine r_if_eq (tgt := 164) hs (hk13' _) d_X_setLine_146 (by decide) (fun c_146 => ?_) (fun c_146 => ?_)
                · rw [if_pos c_146] at J3
                  exact J3
                · rw [if_neg c_146] at J3
                  refine r_aload_n hs d_X_setLine_149 rfl rfl ?_
                  refine r_geta hk 20 rfl rfl d_X_setLine_150 ?_
                  refine r_iload_n hs d_X_setLine_153 rfl rfl ?_
                  refine r_aload_n hs d_X_setLine_154 rfl rfl ?_
                  refine r_geta hk 20 rfl rfl d_X_setLine_155 ?_
                  refine r_iload_n hs d_X_setLine_158 rfl rfl ?_
                  refine r_ald hk 7 rfl rfl (by omega) d_X_setLine_159 ?_
                  refine r_iload hs d_X_setLine_160 rfl ?_
                  refine r_ior hs d_X_setLine_162 ?_
                  refine r_ast hk 7 rfl rfl (by omega) d_X_setLine_163 ?_
                  exact J3
              rw [sl1] at J2
              refine r_iconst hs 1 d_X_setLine_105 (by decide) ?_
              refine r_iload hs d_X_setLine_106 rfl ?_
              refine r_iload_n hs d_X_setLine_108 rfl rfl ?_
              refine r_isub hs (by omega) d_X_setLine_109 ?_
              refine r_ishl hs (by omega) (shl1 (by omega)) d_X_setLine_110 ?_
              refine r_istore hs d_X_setLine_111 (Nat.le_of_ble_eq_true rfl) (Nat.le_of_ble_eq_true rfl) ?_
              refine r_aload_n hs d_X_setLine_113 rfl rfl ?_
              refine r_geta hk 13 rfl rfl d_X_setLine_114 ?_
              refine r_iload hs d_X_setLine_117 rfl ?_
              refine r_ald hk 8 rfl rfl (by omega) d_X_setLine_119 ?_
              refine r_iconst hs 1 d_X_setLine_120 (by decide) ?_
              refine r_icmp_eq (tgt := 139) hs (hk13 _) (by decide) d_X_setLine_121 (by decide) (fun c_121 => ?_) (fun c_121 => ?_)
              · rw [if_pos c_121] at J2
                exact J2
              · rw [if_neg c_121] at J2
                refine r_aload_n hs d_X_setLine_124 rfl rfl ?_
                refine r_geta hk 19 rfl rfl d_X_setLine_125 ?_
                refine r_iload_n hs d_X_setLine_128 rfl rfl ?_
                refine r_aload_n hs d_X_setLine_129 rfl rfl ?_
                refine r_geta hk 19 rfl rfl d_X_setLine_130 ?_
                refine r_iload_n hs d_X_setLine_133 rfl rfl ?_
                refine r_ald hk 7 rfl rfl (by omega) d_X_setLine_134 ?_
                refine r_iload hs d_X_setLine_135 rfl ?_
                refine r_ior hs d_X_setLine_137 ?_
                refine r_ast hk 7 rfl rfl (by omega) d_X_setLine_138 ?_
                exact J2
          have e0 := J1 0 (by omega)
          rw [slP, sl0] at e0
          refine r_aload_n hs d_X_setLine_25 rfl rfl ?_
          refine r_geti hk 7 rfl rfl d_X_setLine_26 ?_
          refine r_iconst hs 1 d_X_setLine_29 (by decide) ?_
          refine r_isub hs (by omega) d_X_setLine_30 ?_
          refine r_istore_n hs d_X_setLine_31 rfl (Nat.le_of_ble_eq_true rfl) (Nat.le_of_ble_eq_true rfl) ?_
          refine r_aload_n hs d_X_setLine_32 rfl rfl ?_
          refine r_geta hk 9 rfl rfl d_X_setLine_33 ?_
          refine r_iload_n hs d_X_setLine_36 rfl rfl ?_
          refine r_ald hk 6 rfl rfl (by omega) d_X_setLine_37 ?_
          rw [hx0, hlo0]
          refine r_istore_n hs d_X_setLine_38 rfl (Nat.le_of_ble_eq_true rfl) (Nat.le_of_ble_eq_true rfl) ?_
          refine r_aload_n hs d_X_setLine_39 rfl rfl ?_
          refine r_geta hk 16 rfl rfl d_X_setLine_40 ?_
          refine r_iload_n hs d_X_setLine_43 rfl rfl ?_
          refine r_aload_n hs d_X_setLine_44 rfl rfl ?_
          refine r_geta hk 10 rfl rfl d_X_setLine_45 ?_
          refine r_iload_n hs d_X_setLine_48 rfl rfl ?_
          refine r_ald hk 6 rfl rfl (by omega) d_X_setLine_49 ?_
          refine r_iload_n hs d_X_setLine_50 rfl rfl ?_
          refine r_ishr hs (hB _ _) (by omega) d_X_setLine_51 ?_
          refine r_ast hk 7 rfl rfl (by omega) d_X_setLine_52 ?_
          refine r_aload_n hs d_X_setLine_53 rfl rfl ?_
          refine r_geta hk 17 rfl rfl d_X_setLine_54 ?_
          refine r_iload_n hs d_X_setLine_57 rfl rfl ?_
          refine r_aload_n hs d_X_setLine_58 rfl rfl ?_
          refine r_geta hk 11 rfl rfl d_X_setLine_59 ?_
          refine r_iload_n hs d_X_setLine_62 rfl rfl ?_
          refine r_ald hk 6 rfl rfl (by omega) d_X_setLine_63 ?_
          refine r_iload_n hs d_X_setLine_64 rfl rfl ?_
          refine r_ishr hs (by rw [up2_a (by decide)]; exact hB _ _) (by omega) d_X_setLine_65 ?_
          refine r_ast hk 7 rfl rfl (by omega) d_X_setLine_66 ?_
          refine r_aload_n hs d_X_setLine_67 rfl rfl ?_
          refine r_geta hk 18 rfl rfl d_X_setLine_68 ?_
          refine r_iload_n hs d_X_setLine_71 rfl rfl ?_
          refine r_aload_n hs d_X_setLine_72 rfl rfl ?_
          refine r_geta hk 12 rfl rfl d_X_setLine_73 ?_
          refine r_iload_n hs d_X_setLine_76 rfl rfl ?_
          refine r_zald hk 6 rfl rfl (by omega) d_X_setLine_77 ?_
          refine r_zast hk 7 rfl rfl (by omega) (by rw [up2_a (by decide), up2_a (by decide)]; exact hE _) d_X_setLine_78 ?_
          refine r_aload_n hs d_X_setLine_79 rfl rfl ?_
          refine r_geta hk 19 rfl rfl d_X_setLine_80 ?_
          refine r_iload_n hs d_X_setLine_83 rfl rfl ?_
          refine r_iconst hs 0 d_X_setLine_84 (by decide) ?_
          refine r_ast hk 7 rfl rfl (by omega) d_X_setLine_85 ?_
          refine r_aload_n hs d_X_setLine_86 rfl rfl ?_
          refine r_geta hk 20 rfl rfl d_X_setLine_87 ?_
          refine r_iload_n hs d_X_setLine_90 rfl rfl ?_
          refine r_iconst hs 0 d_X_setLine_91 (by decide) ?_
          refine r_ast hk 7 rfl rfl (by omega) d_X_setLine_92 ?_
          refine r_iload_n hs d_X_setLine_93 rfl rfl ?_
          refine r_istore hs d_X_setLine_94 (Nat.le_of_ble_eq_true rfl) (Nat.le_of_ble_eq_true rfl) ?_
          rw [up2_a (by decide), up2_a (by decide), up2_a (by decide)]
          exact e0
        · refine r_bipush hs 4294967293 d_X_setLine_22 (by decide) ?_
          exact r_ret hk d_X_setLine_24 ⟨_, rfl, by rw [setX, if_neg hx, if_pos c_19]; exact ⟨rfl, rfl, rfl⟩⟩
    · exact J0 (Or.inr (Int32.not_lt.mp c_9))
theorem c_X_pin (l : Launch) (fi : Nat → Nat) (ar : Nat → Nat → Nat) (r c v : Int32) (hr : fi 0 ≤ 3) (hc : fi 1 ≤ 4) : oMetI l 0 y_X_pin b_X_pin 6 (some .int) 1 [.int r, .int c, .int v] fi ar (PI (pinX r c v fi ar)) := by
  refine oMetI_of (c := 0) (by decide) plain_X rfl (Or.inl rfl) rfl (Nat.le_of_ble_eq_true rfl) (fun h0 ad K hk => ?_)
  have hs := hk.sim
  have J0 : ¬ (0 ≤ r ∧ r < nI (fi 0) ∧ 0 ≤ c ∧ c < nI (fi 1) ∧ 0 ≤ v ∧ v ≤ 2) → K 18 [.ref h0, .int r, .int c, .int v] [] (fi, ar) := by
    intro hx
    refine r_iconst hs 4294967295 d_X_pin_18 (by decide) ?_
    exact r_ret hk d_X_pin_19 ⟨_, rfl, by rw [pinX, if_neg hx]; exact ⟨rfl, rfl, rfl⟩⟩
  refine r_aload_n hs d_X_pin_0 rfl rfl ?_
  refine r_iload_n hs d_X_pin_1 rfl rfl ?_
  refine r_iload_n hs d_X_pin_2 rfl rfl ?_
  refine r_calli hk (c_X_inGrid l fi ar r c) k_X_inGrid (by decide) (by decide) rfl (Nat.le_of_ble_eq_true rfl) d_X_pin_3 (fun r_3 fi_3 ar_3 p_3 => ?_)
  obtain ⟨hg, rfl, rfl⟩ := p_3
  unfold inG at hg
  rcases hg with ⟨rfl, hg⟩ | ⟨rfl, hg⟩
  · refine r_ifR_eq (tgt := 18) hs d_X_pin_6 (by decide) (fun c_6 => ?_) (fun c_6 => ?_)
    · exact absurd c_6 (by decide)
    · refine r_iload_n hs d_X_pin_9 rfl rfl ?_
      refine r_ifR_lt (tgt := 18) hs d_X_pin_10 (by decide) (fun c_10 => ?_) (fun c_10 => ?_)
      · exact J0 (fun q => absurd c_10 (Int32.not_lt.mpr q.2.2.2.2.1))
      · refine r_iload_n hs d_X_pin_13 rfl rfl ?_
        refine r_iconst hs 2 d_X_pin_14 (by decide) ?_
        refine r_icmpR_le (tgt := 20) hs d_X_pin_15 (by decide) (fun c_15 => ?_) (fun c_15 => ?_)
        · have hx : 0 ≤ r ∧ r < nI (fi_3 0) ∧ 0 ≤ c ∧ c < nI (fi_3 1) ∧ 0 ≤ v ∧ v ≤ 2 := ⟨hg.1, hg.2.1, hg.2.2.1, hg.2.2.2, Int32.not_lt.mp c_10, c_15⟩
          obtain ⟨v0, hv0, rfl⟩ := nI_of2 (M := 2) (n := 2) rfl c_10 c_15
          rcases pk_ix r (n := fi_3 0) (by omega) with h | h | ⟨r0, hr0, rfl⟩
          · exact absurd h (Int32.not_lt.mpr hg.1)
          · exact absurd hg.2.1 (Int32.not_lt.mpr h)
          rcases pk_ix c (n := fi_3 1) (by omega) with h | h | ⟨c0, hc0, rfl⟩
          · exact absurd h (Int32.not_lt.mpr hg.2.2.1)
          · exact absurd hg.2.2.2 (Int32.not_lt.mpr h)
          have h12 := cell12 hr0 hc0 hr hc
          refine r_iload_n hs d_X_pin_20 rfl rfl ?_
          refine r_aload_n hs d_X_pin_21 rfl rfl ?_
          refine r_geti hk 1 rfl rfl d_X_pin_22 ?_
          refine r_imul hs d_X_pin_25 ?_
          refine r_iload_n hs d_X_pin_26 rfl rfl ?_
          refine r_iadd hs d_X_pin_27 ?_
          refine r_istore hs d_X_pin_28 (Nat.le_of_ble_eq_true rfl) (Nat.le_of_ble_eq_true rfl) ?_
          refine r_aload_n hs d_X_pin_30 rfl rfl ?_
          refine r_geta hk 6 rfl rfl d_X_pin_31 ?_
          refine r_iload hs d_X_pin_34 rfl ?_
          refine r_ald hk 12 rfl rfl h12 d_X_pin_36 ?_
          refine r_istore hs d_X_pin_37 (Nat.le_of_ble_eq_true rfl) (Nat.le_of_ble_eq_true rfl) ?_
          refine r_aload_n hs d_X_pin_39 rfl rfl ?_
          refine r_geta hk 6 rfl rfl d_X_pin_40 ?_
          refine r_iload hs d_X_pin_43 rfl ?_
          refine r_iload_n hs d_X_pin_45 rfl rfl ?_
          refine r_ast hk 12 rfl rfl h12 d_X_pin_46 ?_
          refine r_aload_n hs d_X_pin_47 rfl rfl ?_
          refine r_iconst hs 0 d_X_pin_48 (by decide) ?_
          refine r_putz hk (by omega) d_X_pin_49 ?_
          refine r_iload hs d_X_pin_52 rfl ?_
          refine r_ret hk d_X_pin_54 ⟨_, rfl, ?_⟩
          rw [pinX, if_pos hx, nI_clamp (by omega), nI_clamp (by omega), nI_clamp (by omega)]
          exact ⟨rfl, rfl, rfl⟩
        · exact J0 (fun q => absurd q.2.2.2.2.2 c_15)
  · refine r_ifR_eq (tgt := 18) hs d_X_pin_6 (by decide) (fun c_6 => ?_) (fun c_6 => ?_)
    · exact J0 (fun q => hg ⟨q.1, q.2.1, q.2.2.1, q.2.2.2.1⟩)
    · exact absurd rfl c_6
theorem c_X_pinned (l : Launch) (fi : Nat → Nat) (ar : Nat → Nat → Nat) (r c : Int32) (hr : fi 0 ≤ 3) (hc : fi 1 ≤ 4) : oMetI l 0 y_X_pinned b_X_pinned 3 (some .int) 1 [.int r, .int c] fi ar (PI (pindX r c fi ar)) := by
  refine oMetI_of (c := 0) (by decide) plain_X rfl (Or.inl rfl) rfl (Nat.le_of_ble_eq_true rfl) (fun h0 ad K hk => ?_)
  have hs := hk.sim
  refine r_aload_n hs d_X_pinned_0 rfl rfl ?_
  refine r_iload_n hs d_X_pinned_1 rfl rfl ?_
  refine r_iload_n hs d_X_pinned_2 rfl rfl ?_
  refine r_calli hk (c_X_inGrid l fi ar r c) k_X_inGrid (by decide) (by decide) rfl (Nat.le_of_ble_eq_true rfl) d_X_pinned_3 (fun r_3 fi_3 ar_3 p_3 => ?_)
  obtain ⟨hg, rfl, rfl⟩ := p_3
  unfold inG at hg
  rcases hg with ⟨rfl, hg⟩ | ⟨rfl, hg⟩
  · refine r_ifR_ne (tgt := 11) hs d_X_pinned_6 (by decide) (fun c_6 => ?_) (fun c_6 => ?_)
    · rcases pk_ix r (n := fi_3 0) (by omega) with h | h | ⟨r0, hr0, rfl⟩
      · exact absurd h (Int32.not_lt.mpr hg.1)
      · exact absurd hg.2.1 (Int32.not_lt.mpr h)
      rcases pk_ix c (n := fi_3 1) (by omega) with h | h | ⟨c0, hc0, rfl⟩
      · exact absurd h (Int32.not_lt.mpr hg.2.2.1)
      · exact absurd hg.2.2.2 (Int32.not_lt.mpr h)
      have h12 := cell12 hr0 hc0 hr hc
      refine r_aload_n hs d_X_pinned_11 rfl rfl ?_
      refine r_geta hk 6 rfl rfl d_X_pinned_12 ?_
      refine r_iload_n hs d_X_pinned_15 rfl rfl ?_
      refine r_aload_n hs d_X_pinned_16 rfl rfl ?_
      refine r_geti hk 1 rfl rfl d_X_pinned_17 ?_
      refine r_imul hs d_X_pinned_20 ?_
      refine r_iload_n hs d_X_pinned_21 rfl rfl ?_
      refine r_iadd hs d_X_pinned_22 ?_
      refine r_ald hk 12 rfl rfl h12 d_X_pinned_23 ?_
      refine r_ret hk d_X_pinned_24 ⟨_, rfl, ?_⟩
      rw [pindX, if_pos hg, nI_clamp (by omega), nI_clamp (by omega)]
      exact ⟨rfl, rfl, rfl⟩
    · exact absurd c_6 (by decide)
  · refine r_ifR_ne (tgt := 11) hs d_X_pinned_6 (by decide) (fun c_6 => ?_) (fun c_6 => ?_)
    · exact absurd rfl c_6
    · refine r_iconst hs 4294967295 d_X_pinned_9 (by decide) ?_
      exact r_ret hk d_X_pinned_10 ⟨_, rfl, by rw [pindX, if_neg hg]; exact ⟨rfl, rfl, rfl⟩⟩
end
section
/-! ExprCrossword: the lines' machines backwards (prepareLine, prepare), the search (place, enter, scan) -/
theorem bfr_lt {ar : Nat → Nat → Nat} {ln g p : Nat} (hp : p ≤ 8) : bfr ar ln g p < 2 ^ 9 := by
  induction p with
  | zero =>
    rw [bfr]
    split <;> decide
  | succ p ih =>
    have ih := ih (by omega)
    rw [bfr]
    split
    · exact ih
    · refine Nat.or_lt_two_pow ih ?_
      rw [Nat.one_shiftLeft]
      exact Nat.pow_lt_pow_right (by decide) (by omega)
theorem bef_lt {ar : Nat → Nat → Nat} {ln s v : Nat} : bef ar ln s v < 2 ^ 9 := bfr_lt (Nat.le_refl 8)
theorem stp_le {ar : Nat → Nat → Nat} {ln s v : Nat} : stp ar ln s v ≤ ltr ar ln v := Nat.and_le_right
theorem ltr_lt {ar : Nat → Nat → Nat} {ln v : Nat} (hB : ∀ k j, ar k j < 2 ^ 31) : ltr ar ln v < 2 ^ 31 := by
  unfold ltr
  split <;> exact hB _ _
/-- alike but for the slots 22 and 24 to 27: what the search writes -/
def lik (a b : Nat → Nat → Nat) : Prop := ∀ k, k ≤ 21 → a k = b k
theorem rch_lik {a b : Nat → Nat → Nat} (h : lik a b) (ln s p : Nat) : rch a ln s p = rch b ln s p := by
  induction p with
  | zero => rw [rch, rch, h 16 (by decide)]
  | succ p ih => rw [rch, rch, h 21 (by decide), ih]
theorem ltr_lik {a b : Nat → Nat → Nat} (h : lik a b) (ln v : Nat) : ltr a ln v = ltr b ln v := by
  rw [ltr, ltr, h 19 (by decide), h 20 (by decide)]
theorem stp_lik {a b : Nat → Nat → Nat} (h : lik a b) (ln s v : Nat) : stp a ln s v = stp b ln s v := by
  rw [stp, stp, rch_lik h, ltr_lik h]
theorem bfr_lik {a b : Nat → Nat → Nat} (h : lik a b) (ln g p : Nat) : bfr a ln g p = bfr b ln g p := by
  induction p with
  | zero => rw [bfr, bfr, h 16 (by decide)]
  | succ p ih => rw [bfr, bfr, h 21 (by decide), ih]
theorem bef_lik {a b : Nat → Nat → Nat} (h : lik a b) (ln s v : Nat) : bef a ln s v = bef b ln s v := by
  rw [bef, bef, ltr_lik h, bfr_lik h]
theorem lik_up {a b : Nat → Nat → Nat} {k i v : Nat} (h : lik a b) (hk : 21 < k) : lik (up2 a k i v) b := fun q hq => by
  rw [up2_a (by omega)]
  exact h q hq
theorem lik_rf (a : Nat → Nat → Nat) : lik a a := fun _ _ => rfl
-- backwards: the set of places from which a line with m letters to come can still end well
def bk0 (ar : Nat → Nat → Nat) (ln : Nat) : Nat := if ar 18 ln = 0 then ar 17 ln else ar 17 ln ||| 256
def bk1 (ar : Nat → Nat → Nat) (ln s p : Nat) : Nat := if p = 1 then 0 else bef ar ln s 0
def bk2 (ar : Nat → Nat → Nat) (ln s p : Nat) : Nat := if p = 0 then bk1 ar ln s p else bk1 ar ln s p ||| bef ar ln s 1
def bkv (fi : Nat → Nat) (ar : Nat → Nat → Nat) (ln : Nat) : Nat → Nat
  | 0 => bk0 ar ln
  | m + 1 => bk2 ar ln (bkv fi ar ln m) (ar 6 (celX fi ln (lenX fi ln - 1 - m)))
theorem bkv_lt {fi : Nat → Nat} {ar : Nat → Nat → Nat} {ln m : Nat} (hB : ∀ k j, ar k j < 2 ^ 31) : bkv fi ar ln m < 2 ^ 31 := by
  have hb : ∀ s v, bef ar ln s v < 2 ^ 31 := fun s v => Nat.lt_trans bef_lt (by decide)
  have h1 : ∀ s p, bk1 ar ln s p < 2 ^ 31 := fun s p => by
    unfold bk1
    split
    · decide
    · exact hb _ _
  cases m with
  | zero =>
    rw [bkv, bk0]
    split
    · exact hB _ _
    · exact Nat.or_lt_two_pow (hB _ _) (by decide)
  | succ m =>
    rw [bkv, bk2]
    split
    · exact h1 _ _
    · exact Nat.or_lt_two_pow (h1 _ _) (hb _ _)
def plP (fi : Nat → Nat) (ar : Nat → Nat → Nat) (ln : Nat) : Nat → Nat → Nat → Nat
  | 0 => up2 ar 22 (ln * 5 + lenX fi ln) (bkv fi ar ln 0)
  | m + 1 => up2 (plP fi ar ln m) 22 (ln * 5 + (lenX fi ln - 1 - m)) (bkv fi ar ln (m + 1))
theorem plP_n {fi : Nat → Nat} {ar : Nat → Nat → Nat} {ln m k : Nat} (h : k ≠ 22) : plP fi ar ln m k = ar k := by
  induction m with
  | zero => rw [plP, up2_a h]
  | succ m ih => rw [plP, up2_a h, ih]
def prP (fi : Nat → Nat) (ar : Nat → Nat → Nat) : Nat → Nat → Nat → Nat
  | 0 => ar
  | i + 1 => plP fi (prP fi ar i) i (lenX fi i)
theorem prP_n {fi : Nat → Nat} {ar : Nat → Nat → Nat} {i k : Nat} (h : k ≠ 22) : prP fi ar i k = ar k := by
  induction i with
  | zero => rfl
  | succ i ih => rw [prP, plP_n h, ih]
def prpF (fi : Nat → Nat) : Nat → Nat := if fi 23 = 0 then up fi 23 1 else fi
def prpA (fi : Nat → Nat) (ar : Nat → Nat → Nat) : Nat → Nat → Nat := if fi 23 = 0 then prP fi ar (fi 2) else ar
/-- the grid's numbers -/
def gridF (fi : Nat → Nat) : Prop := 1 ≤ fi 0 ∧ fi 0 ≤ 3 ∧ 1 ≤ fi 1 ∧ fi 1 ≤ 4 ∧ fi 2 = fi 0 + fi 1 ∧ fi 3 = fi 0 * fi 1
theorem lenX_in {fi : Nat → Nat} (h : gridF fi) (ln : Nat) : 1 ≤ lenX fi ln ∧ lenX fi ln ≤ 4 := by
  obtain ⟨h1, h2, h3, h4, -⟩ := h
  unfold lenX
  split <;> omega
theorem celX_in {fi : Nat → Nat} (h : gridF fi) {ln t : Nat} (hl : ln < fi 2) (ht : t < lenX fi ln) : celX fi ln t < fi 3 ∧ celX fi ln t < 12 := by
  obtain ⟨h1, h2, h3, h4, h5, h6⟩ := h
  have key : ∀ r c, r < fi 0 → c < fi 1 → r * fi 1 + c < fi 0 * fi 1 := by
    intro r c hr hc
    have : (r + 1) * fi 1 ≤ fi 0 * fi 1 := Nat.mul_le_mul_right _ hr
    rw [Nat.add_mul] at this
    omega
  have h12 : fi 0 * fi 1 ≤ 12 := Nat.le_trans (Nat.mul_le_mul h2 h4) (by decide)
  rw [h6]
  unfold celX
  unfold lenX at ht
  split
  · next hq =>
    rw [if_pos hq] at ht
    have := key ln t hq ht
    omega
  · next hq =>
    rw [if_neg hq] at ht
    have := key t (ln - fi 0) ht (by omega)
    rw [show t * fi 1 + ln - fi 0 = t * fi 1 + (ln - fi 0) by omega]
    omega
def tv (n m : Nat) : Int32 := if m < n then nI (n - 1 - m) else nI 4294967295
theorem tv_dec {n m : Nat} (h : m < n) : nI (n - 1 - m) + Int32.ofInt (-1) = tv n (m + 1) := by
  unfold tv
  split
  · rw [show (Int32.ofInt (-1)) = -1 by decide, sb_m1 (by omega)]
    congr 1
    try omega
  · rw [show n - 1 - m = 0 by omega]
    decide
theorem c_X_prepareLine (l : Launch) (fi : Nat → Nat) (ar : Nat → Nat → Nat) (ln : Nat) (hg : gridF fi) (hln : ln < fi 2) (hB : ∀ k j, ar k j < 2 ^ 31) : oMetV l 0 y_X_prepareLine b_X_prepareLine 8 1 [.int (nI ln)] fi ar (fun f a => f = fi ∧ a = plP fi ar ln (lenX fi ln)) := by
  have hln7 : ln < 7 := by obtain ⟨h1, h2, h3, h4, h5, h6⟩ := hg; omega
  have hr31 : fi 0 < 2 ^ 31 := by obtain ⟨h1, h2, -⟩ := hg; omega
  obtain ⟨hn1, hn4⟩ := lenX_in hg ln
  have hci := fun t => celX_in hg hln (t := t)
  generalize hn : lenX fi ln = n at hn1 hn4 hci
  refine oMetV_of (c := 0) (by decide) plain_X rfl rfl (Nat.le_of_ble_eq_true rfl) (fun h0 ad K hk => ?_)
  have hs := hk.sim
  have J : ∀ m, m ≤ n → K 44 [.ref h0, .int (nI ln), .int (nI n), .int (nI (bkv fi ar ln m)), .int (tv n m)] [] (fi, plP fi ar ln m) := by
    refine loopD (fun m hm ih => ?_)
    refine r_iload hs d_X_prepareLine_44 rfl ?_
    refine r_ifR_lt (tgt := 128) hs d_X_prepareLine_46 (by decide) (fun c_46 => ?_) (fun c_46 => ?_)
    · rcases Nat.lt_or_ge m n with h | h
      · rw [tv, if_pos h] at c_46
        exact absurd c_46 (nI_pos (by omega))
      · obtain rfl : m = n := by omega
        exact r_vret hk d_X_prepareLine_128 ⟨rfl, rfl, rfl⟩
    · rcases Nat.lt_or_ge m n with h | h
      · have e := ih h
        have hci := hci (n - 1 - m) (by omega)
        have hlik : lik (plP fi ar ln m) ar := fun k hk => plP_n (by omega)
        rw [bkv, plP, bkv, hn] at e
        generalize hs0 : bkv fi ar ln m = s at e
        have hsb : s < 2 ^ 31 := by rw [← hs0]; exact bkv_lt hB
        generalize hcl : celX fi ln (n - 1 - m) = cl at e hci
        generalize hpa : plP fi ar ln m = a at e hlik
        have h6 : a 6 = ar 6 := hlik 6 (by decide)
        rw [tv, if_pos h]
        refine r_aload_n hs d_X_prepareLine_49 rfl rfl ?_
        refine r_iload_n hs d_X_prepareLine_50 rfl rfl ?_
        refine r_iload hs d_X_prepareLine_51 rfl ?_
        refine r_calli hk (c_X_cellOf l fi a ln (n - 1 - m) (by omega) hr31) k_X_cellOf (by decide) (by decide) rfl (Nat.le_of_ble_eq_true rfl) d_X_prepareLine_53 (fun r_53 fi_53 ar_53 p_53 => ?_)
        obtain ⟨rfl, h1, h2⟩ := p_53
        rw [h1, h2, hcl]
        have J3 : ∀ w, w = bk2 ar ln s (ar 6 cl) → ∀ lv7, K 107 ([.ref h0, .int (nI ln), .int (nI n), .int (nI s), .int (nI (n - 1 - m)), .int (nI cl), .int (nI w)] ++ lv7) [] (fi, a) := by
          intro w hw lv7
          refine r_take hs 7 ?_
          refine r_iload hs d_X_prepareLine_107 rfl ?_
          refine r_istore_n hs d_X_prepareLine_109 rfl (Nat.le_of_ble_eq_true rfl) (Nat.le_of_ble_eq_true rfl) ?_
          refine r_aload_n hs d_X_prepareLine_110 rfl rfl ?_
          refine r_geta hk 22 rfl rfl d_X_prepareLine_111 ?_
          refine r_iload_n hs d_X_prepareLine_114 rfl rfl ?_
          refine r_iconst hs 5 d_X_prepareLine_115 (by decide) ?_
          refine r_imul hs d_X_prepareLine_116 ?_
          refine r_iload hs d_X_prepareLine_117 rfl ?_
          refine r_iadd hs d_X_prepareLine_119 ?_
          refine r_iload_n hs d_X_prepareLine_120 rfl rfl ?_
          refine r_ast hk 35 rfl rfl (by omega) d_X_prepareLine_121 ?_
          refine r_iincV hs d_X_prepareLine_122 rfl (tv_dec h) (Nat.le_of_ble_eq_true rfl) (Nat.le_of_ble_eq_true rfl) ?_
          refine r_goto (tgt := 44) hs d_X_prepareLine_125 (by decide) ?_
          rw [hw]
          exact r_take hs 5 e
        have J2 : ∀ w, w = bk1 ar ln s (ar 6 cl) → K 81 [.ref h0, .int (nI ln), .int (nI n), .int (nI s), .int (nI (n - 1 - m)), .int (nI cl), .int (nI w)] [] (fi, a) := by
          intro w hw
          rw [bk2] at J3
          refine r_aload_n hs d_X_prepareLine_81 rfl rfl ?_
          refine r_geta hk 6 rfl rfl d_X_prepareLine_82 ?_
          refine r_iload hs d_X_prepareLine_85 rfl ?_
          refine r_ald hk 12 rfl rfl (by omega) d_X_prepareLine_87 ?_
          refine r_if_eq (tgt := 107) hs (by rw [h6]; exact hB _ _) d_X_prepareLine_88 (by decide) (fun c_88 => ?_) (fun c_88 => ?_)
          · rw [h6] at c_88
            exact J3 w (by rw [if_pos c_88, hw]) []
          · rw [h6] at c_88
            refine r_aload_n hs d_X_prepareLine_91 rfl rfl ?_
            refine r_iload_n hs d_X_prepareLine_92 rfl rfl ?_
            refine r_iload_n hs d_X_prepareLine_93 rfl rfl ?_
            refine r_iconst hs 1 d_X_prepareLine_94 (by decide) ?_
            refine r_calli hk (c_X_before l fi a ln s 1 hln7 hsb (by decide)) k_X_before (by decide) (by decide) rfl (Nat.le_of_ble_eq_true rfl) d_X_prepareLine_95 (fun r_95 fi_95 ar_95 p_95 => ?_)
            obtain ⟨rfl, h1, h2⟩ := p_95
            rw [h1, h2, bef_lik hlik]
            refine r_istore hs d_X_prepareLine_98 (Nat.le_of_ble_eq_true rfl) (Nat.le_of_ble_eq_true rfl) ?_
            refine r_iload hs d_X_prepareLine_100 rfl ?_
            refine r_iload hs d_X_prepareLine_102 rfl ?_
            refine r_ior hs d_X_prepareLine_104 ?_
            refine r_istore hs d_X_prepareLine_105 (Nat.le_of_ble_eq_true rfl) (Nat.le_of_ble_eq_true rfl) ?_
            exact J3 _ (by rw [if_neg c_88, hw]) [_]
        rw [bk1] at J2
        refine r_istore hs d_X_prepareLine_56 (Nat.le_of_ble_eq_true rfl) (Nat.le_of_ble_eq_true rfl) ?_
        refine r_iconst hs 0 d_X_prepareLine_58 (by decide) ?_
        refine r_istore hs d_X_prepareLine_59 (Nat.le_of_ble_eq_true rfl) (Nat.le_of_ble_eq_true rfl) ?_
        refine r_aload_n hs d_X_prepareLine_61 rfl rfl ?_
        refine r_geta hk 6 rfl rfl d_X_prepareLine_62 ?_
        refine r_iload hs d_X_prepareLine_65 rfl ?_
        refine r_ald hk 12 rfl rfl (by omega) d_X_prepareLine_67 ?_
        refine r_iconst hs 1 d_X_prepareLine_68 (by decide) ?_
        refine r_icmp_eq (tgt := 81) hs (by rw [h6]; exact hB _ _) (by decide) d_X_prepareLine_69 (by decide) (fun c_69 => ?_) (fun c_69 => ?_)
        · rw [h6] at c_69
          exact J2 0 (by rw [if_pos c_69])
        · rw [h6] at c_69
          refine r_aload_n hs d_X_prepareLine_72 rfl rfl ?_
          refine r_iload_n hs d_X_prepareLine_73 rfl rfl ?_
          refine r_iload_n hs d_X_prepareLine_74 rfl rfl ?_
          refine r_iconst hs 0 d_X_prepareLine_75 (by decide) ?_
          refine r_calli hk (c_X_before l fi a ln s 0 hln7 hsb (by decide)) k_X_before (by decide) (by decide) rfl (Nat.le_of_ble_eq_true rfl) d_X_prepareLine_76 (fun r_76 fi_76 ar_76 p_76 => ?_)
          obtain ⟨rfl, h1, h2⟩ := p_76
          rw [h1, h2, bef_lik hlik]
          refine r_istore hs d_X_prepareLine_79 (Nat.le_of_ble_eq_true rfl) (Nat.le_of_ble_eq_true rfl) ?_
          exact J2 _ (by rw [if_neg c_69])
      · obtain rfl : m = n := by omega
        rw [tv, if_neg (by omega)] at c_46
        exact absurd (by decide) c_46
  have J0 : K 28 [.ref h0, .int (nI ln), .int (nI n), .int (nI (bkv fi ar ln 0))] [] (fi, ar) := by
    have e := J 0 (by omega)
    rw [plP, tv, if_pos (by omega), hn] at e
    refine r_aload_n hs d_X_prepareLine_28 rfl rfl ?_
    refine r_geta hk 22 rfl rfl d_X_prepareLine_29 ?_
    refine r_iload_n hs d_X_prepareLine_32 rfl rfl ?_
    refine r_iconst hs 5 d_X_prepareLine_33 (by decide) ?_
    refine r_imul hs d_X_prepareLine_34 ?_
    refine r_iload_n hs d_X_prepareLine_35 rfl rfl ?_
    refine r_iadd hs d_X_prepareLine_36 ?_
    refine r_iload_n hs d_X_prepareLine_37 rfl rfl ?_
    refine r_ast hk 35 rfl rfl (by omega) d_X_prepareLine_38 ?_
    refine r_iload_n hs d_X_prepareLine_39 rfl rfl ?_
    refine r_iconst hs 1 d_X_prepareLine_40 (by decide) ?_
    refine r_isub hs (by omega) d_X_prepareLine_41 ?_
    refine r_istore hs d_X_prepareLine_42 (Nat.le_of_ble_eq_true rfl) (Nat.le_of_ble_eq_true rfl) ?_
    exact e
  refine r_aload_n hs d_X_prepareLine_0 rfl rfl ?_
  refine r_iload_n hs d_X_prepareLine_1 rfl rfl ?_
  refine r_calli hk (c_X_lineLength l fi ar ln (by omega) hr31) k_X_lineLength (by decide) (by decide) rfl (Nat.le_of_ble_eq_true rfl) d_X_prepareLine_2 (fun r_2 fi_2 ar_2 p_2 => ?_)
  obtain ⟨rfl, h1, h2⟩ := p_2
  rw [h1, h2, hn]
  rw [bkv, bk0] at J0
  refine r_istore_n hs d_X_prepareLine_5 rfl (Nat.le_of_ble_eq_true rfl) (Nat.le_of_ble_eq_true rfl) ?_
  refine r_aload_n hs d_X_prepareLine_6 rfl rfl ?_
  refine r_geta hk 17 rfl rfl d_X_prepareLine_7 ?_
  refine r_iload_n hs d_X_prepareLine_10 rfl rfl ?_
  refine r_ald hk 7 rfl rfl (by omega) d_X_prepareLine_11 ?_
  refine r_istore_n hs d_X_prepareLine_12 rfl (Nat.le_of_ble_eq_true rfl) (Nat.le_of_ble_eq_true rfl) ?_
  refine r_aload_n hs d_X_prepareLine_13 rfl rfl ?_
  refine r_geta hk 18 rfl rfl d_X_prepareLine_14 ?_
  refine r_iload_n hs d_X_prepareLine_17 rfl rfl ?_
  refine r_zald hk 7 rfl rfl (by omega) d_X_prepareLine_18 ?_
  refine r_if_eq (tgt := 28) hs (by first | omega | exact hB _ _ | exact hF _) d_X_prepareLine_19 (by decide) (fun c_19 => ?_) (fun c_19 => ?_)
  · rw [if_pos c_19] at J0
    exact J0
  · rw [if_neg c_19] at J0
    refine r_iload_n hs d_X_prepareLine_22 rfl rfl ?_
    refine r_sipush hs 256 d_X_prepareLine_23 (by decide) ?_
    refine r_ior hs d_X_prepareLine_26 ?_
    refine r_istore_n hs d_X_prepareLine_27 rfl (Nat.le_of_ble_eq_true rfl) (Nat.le_of_ble_eq_true rfl) ?_
    exact J0
theorem c_X_prepare (l : Launch) (fi : Nat → Nat) (ar : Nat → Nat → Nat) (hg : gridF fi) (hB : ∀ k j, ar k j < 2 ^ 31) (hz : fi 23 < 2 ^ 31) : oMetV l 0 y_X_prepare b_X_prepare 2 2 [] fi ar (fun f a => f = prpF fi ∧ a = prpA fi ar) := by
  have h2 : fi 2 ≤ 7 := by obtain ⟨h1, h2, h3, h4, h5, h6⟩ := hg; omega
  refine oMetV_of (c := 0) (by decide) plain_X rfl rfl (Nat.le_of_ble_eq_true rfl) (fun h0 ad K hk => ?_)
  have hs := hk.sim
  refine r_aload_n hs d_X_prepare_0 rfl rfl ?_
  refine r_geti hk 23 rfl rfl d_X_prepare_1 ?_
  refine r_if_eq (tgt := 8) hs (by first | omega | exact hB _ _ | exact hF _) d_X_prepare_4 (by decide) (fun c_4 => ?_) (fun c_4 => ?_)
  · have hBp : ∀ i k j, prP fi ar i k j < 2 ^ 31 := by
      intro i
      induction i with
      | zero => exact hB
      | succ i ih =>
        intro k j
        by_cases hk : k = 22
        · subst hk
          rw [prP]
          generalize lenX fi i = n
          induction n with
          | zero =>
            rw [plP, up2_k]
            split
            · exact bkv_lt ih
            · exact ih _ _
          | succ n ih2 =>
            rw [plP, up2_k]
            split
            · exact bkv_lt ih
            · exact ih2
        · rw [prP_n hk]; exact hB _ _
    have J : ∀ i, i ≤ fi 2 → K 10 [.ref h0, .int (nI i)] [] (fi, prP fi ar i) := by
      refine loopD (fun i hi ih => ?_)
      refine r_iload_n hs d_X_prepare_10 rfl rfl ?_
      refine r_aload_n hs d_X_prepare_11 rfl rfl ?_
      refine r_geti hk 2 rfl rfl d_X_prepare_12 ?_
      refine r_icmp_ge (tgt := 29) hs (by first | omega | exact hB _ _ | exact hF _) (by first | omega | exact hB _ _ | exact hF _) d_X_prepare_15 (by decide) (fun c_15 => ?_) (fun c_15 => ?_)
      · obtain rfl : i = fi 2 := by omega
        refine r_aload_n hs d_X_prepare_29 rfl rfl ?_
        refine r_iconst hs 1 d_X_prepare_30 (by decide) ?_
        refine r_putz hk (by omega) d_X_prepare_31 ?_
        exact r_vret hk d_X_prepare_34 ⟨rfl, by rw [prpF, if_pos c_4], by rw [prpA, if_pos c_4]⟩
      · refine r_aload_n hs d_X_prepare_18 rfl rfl ?_
        refine r_iload_n hs d_X_prepare_19 rfl rfl ?_
        refine r_callv hk (c_X_prepareLine l fi (prP fi ar i) i hg c_15 (hBp i)) k_X_prepareLine (by decide) (by decide) rfl (Nat.le_of_ble_eq_true rfl) d_X_prepare_20 (fun fi_20 ar_20 p_20 => ?_)
        obtain ⟨h1, h2⟩ := p_20
        rw [h1, h2]
        refine r_iinc hs d_X_prepare_23 rfl (Nat.le_of_ble_eq_true rfl) (Nat.le_of_ble_eq_true rfl) ?_
        refine r_goto (tgt := 10) hs d_X_prepare_26 (by decide) ?_
        exact ih c_15
    refine r_iconst hs 0 d_X_prepare_8 (by decide) ?_
    refine r_istore_n hs d_X_prepare_9 rfl (Nat.le_of_ble_eq_true rfl) (Nat.le_of_ble_eq_true rfl) ?_
    exact J 0 (by omega)
  · exact r_vret hk d_X_prepare_7 ⟨rfl, by rw [prpF, if_neg c_4], by rw [prpA, if_neg c_4]⟩
end
section
/-! ExprCrossword: place, enter, scan -/
def acr (ar : Nat → Nat → Nat) (d v : Nat) : Nat := stp ar (ar 4 d) (if ar 5 d = 0 then 256 else ar 26 (d - 1)) v &&& ar 22 (ar 4 d * 5 + ar 5 d + 1)
def dwn (fi : Nat → Nat) (ar : Nat → Nat → Nat) (d v : Nat) : Nat := stp ar (fi 0 + ar 5 d) (if ar 4 d = 0 then 256 else ar 27 (d - fi 1)) v &&& ar 22 ((fi 0 + ar 5 d) * 5 + ar 4 d + 1)
/-- place(d, v) succeeds -/
def plOk (fi : Nat → Nat) (ar : Nat → Nat → Nat) (d v : Nat) : Prop := (ar 6 d = 2 ∨ ar 6 d = v) ∧ acr ar d v ≠ 0 ∧ dwn fi ar d v ≠ 0
def plA (fi : Nat → Nat) (ar : Nat → Nat → Nat) (d v : Nat) : Nat → Nat → Nat := up2 (up2 (up2 ar 24 d v) 26 d (acr ar d v)) 27 d (dwn fi ar d v)
theorem c_X_place (l : Launch) (fi : Nat → Nat) (ar : Nat → Nat → Nat) (d v : Nat) (hg : gridF fi) (hB : ∀ k j, ar k j < 2 ^ 31) (hd12 : d < 12) (hv : v < 2) (hrc : d = ar 4 d * fi 1 + ar 5 d) (hr : ar 4 d < fi 0) (hc : ar 5 d < fi 1) : oMetI l 0 y_X_place b_X_place 9 (some .boolean) 1 [.int (nI d), .int (nI v)] fi ar (fun r f a => (r = 1 ∧ plOk fi ar d v ∧ f = fi ∧ a = plA fi ar d v) ∨ (r = 0 ∧ ¬ plOk fi ar d v ∧ f = fi ∧ a = ar)) := by
  obtain ⟨g1, g2, g3, g4, g5, g6⟩ := hg
  refine oMetI_of (c := 0) (by decide) plain_X rfl (Or.inr ⟨rfl, fun r f a h => by rcases h with h | h; exact Or.inr h.1; exact Or.inl h.1⟩) rfl (Nat.le_of_ble_eq_true rfl) (fun h0 ad K hk => ?_)
  have hs := hk.sim
  have F : ∀ (pc : Nat) (lv : List Value), decode b_X_place pc = .ok (.ireturn, 1) → ¬ plOk fi ar d v → K pc lv [.int (nI 0)] (fi, ar) := fun pc lv h1 h2 => r_ret hk h1 ⟨_, rfl, Or.inr ⟨rfl, h2, rfl, rfl⟩⟩
  have hstb : ∀ ln s, stp ar ln s v < 2 ^ 31 := fun ln s => Nat.lt_of_le_of_lt stp_le (ltr_lt hB)
  have J1 : (ar 6 d = 2 ∨ ar 6 d = v) → K 22 [.ref h0, .int (nI d), .int (nI v)] [] (fi, ar) := by
    intro hpin
    have J2 : acr ar d v ≠ 0 → ∀ cf, cf = (if ar 4 d = 0 then 256 else ar 27 (d - fi 1)) → cf < 2 ^ 31 → ∀ w, K 114 [.ref h0, .int (nI d), .int (nI v), .int (nI (ar 4 d)), .int (nI (ar 5 d)), w, .int (nI (acr ar d v)), .int (nI cf)] [] (fi, ar) := by
      intro hac cf hcf hcb w
      refine r_aload_n hs d_X_place_114 rfl rfl ?_
      refine r_aload_n hs d_X_place_115 rfl rfl ?_
      refine r_geti hk 0 rfl rfl d_X_place_116 ?_
      refine r_iload hs d_X_place_119 rfl ?_
      refine r_iadd hs d_X_place_121 ?_
      refine r_iload hs d_X_place_122 rfl ?_
      refine r_iload_n hs d_X_place_124 rfl rfl ?_
      refine r_calli hk (c_X_step l fi ar (fi 0 + ar 5 d) cf v (by omega) hcb (by omega)) k_X_step (by decide) (by decide) rfl (Nat.le_of_ble_eq_true rfl) d_X_place_125 (fun r_125 fi_125 ar_125 p_125 => ?_)
      obtain ⟨rfl, h1, h2⟩ := p_125
      rw [h1, h2]
      have hdw : stp ar (fi 0 + ar 5 d) cf v &&& ar 22 ((fi 0 + ar 5 d) * 5 + ar 4 d + 1) = dwn fi ar d v := by rw [dwn, hcf]
      have hdwb : dwn fi ar d v < 2 ^ 31 := by rw [← hdw]; exact Nat.lt_of_le_of_lt Nat.and_le_left (hstb _ _)
      refine r_istore hs d_X_place_128 (Nat.le_of_ble_eq_true rfl) (Nat.le_of_ble_eq_true rfl) ?_
      refine r_iload hs d_X_place_130 rfl ?_
      refine r_aload_n hs d_X_place_132 rfl rfl ?_
      refine r_geta hk 22 rfl rfl d_X_place_133 ?_
      refine r_aload_n hs d_X_place_136 rfl rfl ?_
      refine r_geti hk 0 rfl rfl d_X_place_137 ?_
      refine r_iload hs d_X_place_140 rfl ?_
      refine r_iadd hs d_X_place_142 ?_
      refine r_iconst hs 5 d_X_place_143 (by decide) ?_
      refine r_imul hs d_X_place_144 ?_
      refine r_iload_n hs d_X_place_145 rfl rfl ?_
      refine r_iadd hs d_X_place_146 ?_
      refine r_iconst hs 1 d_X_place_147 (by decide) ?_
      refine r_iadd hs d_X_place_148 ?_
      refine r_ald hk 35 rfl rfl (by omega) d_X_place_149 ?_
      refine r_iand hs d_X_place_150 ?_
      rw [hdw]
      refine r_istore hs d_X_place_151 (Nat.le_of_ble_eq_true rfl) (Nat.le_of_ble_eq_true rfl) ?_
      refine r_iload hs d_X_place_153 rfl ?_
      refine r_if_ne (tgt := 160) hs (by first | omega | exact hB _ _ | exact hF _) d_X_place_155 (by decide) (fun c_155 => ?_) (fun c_155 => ?_)
      · refine r_aload_n hs d_X_place_160 rfl rfl ?_
        refine r_geta hk 24 rfl rfl d_X_place_161 ?_
        refine r_iload_n hs d_X_place_164 rfl rfl ?_
        refine r_iload_n hs d_X_place_165 rfl rfl ?_
        refine r_ast hk 12 rfl rfl (by omega) d_X_place_166 ?_
        refine r_aload_n hs d_X_place_167 rfl rfl ?_
        refine r_geta hk 26 rfl rfl d_X_place_168 ?_
        refine r_iload_n hs d_X_place_171 rfl rfl ?_
        refine r_iload hs d_X_place_172 rfl ?_
        refine r_ast hk 12 rfl rfl (by omega) d_X_place_174 ?_
        refine r_aload_n hs d_X_place_175 rfl rfl ?_
        refine r_geta hk 27 rfl rfl d_X_place_176 ?_
        refine r_iload_n hs d_X_place_179 rfl rfl ?_
        refine r_iload hs d_X_place_180 rfl ?_
        refine r_ast hk 12 rfl rfl (by omega) d_X_place_182 ?_
        refine r_iconst hs 1 d_X_place_183 (by decide) ?_
        exact r_ret hk d_X_place_184 ⟨_, rfl, Or.inl ⟨rfl, ⟨hpin, hac, c_155⟩, rfl, rfl⟩⟩
      · refine r_iconst hs 0 d_X_place_158 (by decide) ?_
        exact F _ _ d_X_place_159 (fun q => q.2.2 c_155)
    have J3 : ∀ rf, rf = (if ar 5 d = 0 then 256 else ar 26 (d - 1)) → rf < 2 ^ 31 → K 57 [.ref h0, .int (nI d), .int (nI v), .int (nI (ar 4 d)), .int (nI (ar 5 d)), .int (nI rf)] [] (fi, ar) := by
      intro rf hrf hrb
      refine r_aload_n hs d_X_place_57 rfl rfl ?_
      refine r_iload_n hs d_X_place_58 rfl rfl ?_
      refine r_iload hs d_X_place_59 rfl ?_
      refine r_iload_n hs d_X_place_61 rfl rfl ?_
      refine r_calli hk (c_X_step l fi ar (ar 4 d) rf v (by omega) hrb (by omega)) k_X_step (by decide) (by decide) rfl (Nat.le_of_ble_eq_true rfl) d_X_place_62 (fun r_62 fi_62 ar_62 p_62 => ?_)
      obtain ⟨rfl, h1, h2⟩ := p_62
      rw [h1, h2]
      have hac : stp ar (ar 4 d) rf v &&& ar 22 (ar 4 d * 5 + ar 5 d + 1) = acr ar d v := by rw [acr, hrf]
      have hacb : acr ar d v < 2 ^ 31 := by rw [← hac]; exact Nat.lt_of_le_of_lt Nat.and_le_left (hstb _ _)
      refine r_istore hs d_X_place_65 (Nat.le_of_ble_eq_true rfl) (Nat.le_of_ble_eq_true rfl) ?_
      refine r_iload hs d_X_place_67 rfl ?_
      refine r_aload_n hs d_X_place_69 rfl rfl ?_
      refine r_geta hk 22 rfl rfl d_X_place_70 ?_
      refine r_iload_n hs d_X_place_73 rfl rfl ?_
      refine r_iconst hs 5 d_X_place_74 (by decide) ?_
      refine r_imul hs d_X_place_75 ?_
      refine r_iload hs d_X_place_76 rfl ?_
      refine r_iadd hs d_X_place_78 ?_
      refine r_iconst hs 1 d_X_place_79 (by decide) ?_
      refine r_iadd hs d_X_place_80 ?_
      refine r_ald hk 35 rfl rfl (by omega) d_X_place_81 ?_
      refine r_iand hs d_X_place_82 ?_
      rw [hac]
      refine r_istore hs d_X_place_83 (Nat.le_of_ble_eq_true rfl) (Nat.le_of_ble_eq_true rfl) ?_
      refine r_iload hs d_X_place_85 rfl ?_
      refine r_if_ne (tgt := 92) hs (by first | omega | exact hB _ _ | exact hF _) d_X_place_87 (by decide) (fun c_87 => ?_) (fun c_87 => ?_)
      · refine r_sipush hs 256 d_X_place_92 (by decide) ?_
        refine r_istore hs d_X_place_95 (Nat.le_of_ble_eq_true rfl) (Nat.le_of_ble_eq_true rfl) ?_
        refine r_iload_n hs d_X_place_97 rfl rfl ?_
        refine r_if_le (tgt := 114) hs (by first | omega | exact hB _ _ | exact hF _) d_X_place_98 (by decide) (fun c_98 => ?_) (fun c_98 => ?_)
        · exact J2 c_87 256 (by rw [if_pos c_98]) (by decide) _
        · have h1 : fi 1 ≤ d := by
            have h1 : 1 * fi 1 ≤ ar 4 d * fi 1 := Nat.mul_le_mul_right _ (by omega)
            omega
          refine r_aload_n hs d_X_place_101 rfl rfl ?_
          refine r_geta hk 27 rfl rfl d_X_place_102 ?_
          refine r_iload_n hs d_X_place_105 rfl rfl ?_
          refine r_aload_n hs d_X_place_106 rfl rfl ?_
          refine r_geti hk 1 rfl rfl d_X_place_107 ?_
          refine r_isub hs (by omega) d_X_place_110 ?_
          refine r_ald hk 12 rfl rfl (by omega) d_X_place_111 ?_
          refine r_istore hs d_X_place_112 (Nat.le_of_ble_eq_true rfl) (Nat.le_of_ble_eq_true rfl) ?_
          exact J2 c_87 _ (by rw [if_neg c_98]) (hB _ _) _
      · refine r_iconst hs 0 d_X_place_90 (by decide) ?_
        exact F _ _ d_X_place_91 (fun q => q.2.1 c_87)
    refine r_aload_n hs d_X_place_22 rfl rfl ?_
    refine r_geta hk 4 rfl rfl d_X_place_23 ?_
    refine r_iload_n hs d_X_place_26 rfl rfl ?_
    refine r_ald hk 12 rfl rfl (by omega) d_X_place_27 ?_
    refine r_istore_n hs d_X_place_28 rfl (Nat.le_of_ble_eq_true rfl) (Nat.le_of_ble_eq_true rfl) ?_
    refine r_aload_n hs d_X_place_29 rfl rfl ?_
    refine r_geta hk 5 rfl rfl d_X_place_30 ?_
    refine r_iload_n hs d_X_place_33 rfl rfl ?_
    refine r_ald hk 12 rfl rfl (by omega) d_X_place_34 ?_
    refine r_istore hs d_X_place_35 (Nat.le_of_ble_eq_true rfl) (Nat.le_of_ble_eq_true rfl) ?_
    refine r_sipush hs 256 d_X_place_37 (by decide) ?_
    refine r_istore hs d_X_place_40 (Nat.le_of_ble_eq_true rfl) (Nat.le_of_ble_eq_true rfl) ?_
    refine r_iload hs d_X_place_42 rfl ?_
    refine r_if_le (tgt := 57) hs (by first | omega | exact hB _ _ | exact hF _) d_X_place_44 (by decide) (fun c_44 => ?_) (fun c_44 => ?_)
    · exact J3 256 (by rw [if_pos c_44]) (by decide)
    · refine r_aload_n hs d_X_place_47 rfl rfl ?_
      refine r_geta hk 26 rfl rfl d_X_place_48 ?_
      refine r_iload_n hs d_X_place_51 rfl rfl ?_
      refine r_iconst hs 1 d_X_place_52 (by decide) ?_
      refine r_isub hs (by omega) d_X_place_53 ?_
      refine r_ald hk 12 rfl rfl (by omega) d_X_place_54 ?_
      refine r_istore hs d_X_place_55 (Nat.le_of_ble_eq_true rfl) (Nat.le_of_ble_eq_true rfl) ?_
      exact J3 _ (by rw [if_neg c_44]) (hB _ _)
  refine r_aload_n hs d_X_place_0 rfl rfl ?_
  refine r_geta hk 6 rfl rfl d_X_place_1 ?_
  refine r_iload_n hs d_X_place_4 rfl rfl ?_
  refine r_ald hk 12 rfl rfl (by omega) d_X_place_5 ?_
  refine r_iconst hs 2 d_X_place_6 (by decide) ?_
  refine r_icmp_eq (tgt := 22) hs (by first | omega | exact hB _ _ | exact hF _) (by first | omega | exact hB _ _ | exact hF _) d_X_place_7 (by decide) (fun c_7 => ?_) (fun c_7 => ?_)
  · exact J1 (Or.inl c_7)
  · refine r_aload_n hs d_X_place_10 rfl rfl ?_
    refine r_geta hk 6 rfl rfl d_X_place_11 ?_
    refine r_iload_n hs d_X_place_14 rfl rfl ?_
    refine r_ald hk 12 rfl rfl (by omega) d_X_place_15 ?_
    refine r_iload_n hs d_X_place_16 rfl rfl ?_
    refine r_icmp_eq (tgt := 22) hs (by first | omega | exact hB _ _ | exact hF _) (by first | omega | exact hB _ _ | exact hF _) d_X_place_17 (by decide) (fun c_17 => ?_) (fun c_17 => ?_)
    · exact J1 (Or.inr c_17)
    · refine r_iconst hs 0 d_X_place_20 (by decide) ?_
      exact F _ _ d_X_place_21 (fun q => by rcases q.1 with h | h; exact c_7 h; exact c_17 h)
def numP (ar : Nat → Nat → Nat) : Nat → Nat
  | 0 => 0
  | i + 1 => numP ar i * 2 + ar 24 i
def entF (fi : Nat → Nat) (n : Nat) : Nat → Nat := up (up (up (up fi 29 n) 30 (fi 30 &&& n)) 31 (fi 31 ||| n)) 28 (fi 28 + 1)
theorem c_X_enter (l : Launch) (fi : Nat → Nat) (ar : Nat → Nat → Nat) (stop : Nat) (bound : Int32) (h3 : fi 3 ≤ 12) (hst : stop < 2 ^ 31) (hfo : fi 28 + 1 < 2 ^ 31) : oMetI l 0 y_X_enter b_X_enter 5 (some .boolean) 0 [.int (nI stop), .int bound] fi ar (fun r f a => ((nI (numP ar (fi 3)) < bound ∧ f = entF fi (numP ar (fi 3)) ∧ ((r = 1 ∧ fi 28 + 1 = stop) ∨ (r = 0 ∧ fi 28 + 1 ≠ stop))) ∨ (¬ nI (numP ar (fi 3)) < bound ∧ f = fi ∧ r = 1)) ∧ a = ar) := by
  refine oMetI_of (c := 0) (by decide) plain_X rfl (Or.inr ⟨rfl, fun r f a h => by rcases h.1 with ⟨-, -, h | h⟩ | h; exact Or.inr h.1; exact Or.inl h.1; exact Or.inr h.2.2⟩) rfl (Nat.le_of_ble_eq_true rfl) (fun h0 ad K hk => ?_)
  have hs := hk.sim
  have J : ∀ i, i ≤ fi 3 → K 5 [.ref h0, .int (nI stop), .int bound, .int (nI (numP ar i)), .int (nI i)] [] (fi, ar) := by
    refine loopD (fun i hi ih => ?_)
    refine r_iload hs d_X_enter_5 rfl ?_
    refine r_aload_n hs d_X_enter_7 rfl rfl ?_
    refine r_geti hk 3 rfl rfl d_X_enter_8 ?_
    refine r_icmp_ge (tgt := 32) hs (by first | omega | exact hB _ _ | exact hF _) (by first | omega | exact hB _ _ | exact hF _) d_X_enter_11 (by decide) (fun c_11 => ?_) (fun c_11 => ?_)
    · obtain rfl : i = fi 3 := by omega
      refine r_iload_n hs d_X_enter_32 rfl rfl ?_
      refine r_iload_n hs d_X_enter_33 rfl rfl ?_
      refine r_icmpR_lt (tgt := 39) hs d_X_enter_34 (by decide) (fun c_34 => ?_) (fun c_34 => ?_)
      · have hf28 : entF fi (numP ar (fi 3)) 28 = fi 28 + 1 := by rw [entF, up_s]
        refine r_aload_n hs d_X_enter_39 rfl rfl ?_
        refine r_iload_n hs d_X_enter_40 rfl rfl ?_
        refine r_puti hk 29 (by decide) rfl d_X_enter_41 ?_
        refine r_aload_n hs d_X_enter_44 rfl rfl ?_
        refine r_aload_n hs d_X_enter_45 rfl rfl ?_
        refine r_geti hk 30 rfl rfl d_X_enter_46 ?_
        refine r_iload_n hs d_X_enter_49 rfl rfl ?_
        refine r_iand hs d_X_enter_50 ?_
        refine r_puti hk 30 (by decide) rfl d_X_enter_51 ?_
        refine r_aload_n hs d_X_enter_54 rfl rfl ?_
        refine r_aload_n hs d_X_enter_55 rfl rfl ?_
        refine r_geti hk 31 rfl rfl d_X_enter_56 ?_
        refine r_iload_n hs d_X_enter_59 rfl rfl ?_
        refine r_ior hs d_X_enter_60 ?_
        refine r_puti hk 31 (by decide) rfl d_X_enter_61 ?_
        refine r_aload_n hs d_X_enter_64 rfl rfl ?_
        refine r_dup hs d_X_enter_65 rfl ?_
        refine r_geti hk 28 rfl rfl d_X_enter_66 ?_
        refine r_iconst hs 1 d_X_enter_69 (by decide) ?_
        refine r_iadd hs d_X_enter_70 ?_
        refine r_puti hk 28 (by decide) rfl d_X_enter_71 ?_
        refine r_aload_n hs d_X_enter_74 rfl rfl ?_
        refine r_geti hk 28 rfl rfl d_X_enter_75 ?_
        refine r_iload_n hs d_X_enter_78 rfl rfl ?_
        rw [show up (up (up (up fi 29 (numP ar (fi 3))) 30 (up fi 29 (numP ar (fi 3)) 30 &&& numP ar (fi 3))) 31 (up (up fi 29 (numP ar (fi 3))) 30 (up fi 29 (numP ar (fi 3)) 30 &&& numP ar (fi 3)) 31 ||| numP ar (fi 3))) 28 (up (up (up fi 29 (numP ar (fi 3))) 30 (up fi 29 (numP ar (fi 3)) 30 &&& numP ar (fi 3))) 31 (up (up fi 29 (numP ar (fi 3))) 30 (up fi 29 (numP ar (fi 3)) 30 &&& numP ar (fi 3)) 31 ||| numP ar (fi 3)) 28 + 1) = entF fi (numP ar (fi 3)) from rfl, hf28]
        refine r_icmp_ne (tgt := 86) hs (by first | omega | exact hB _ _ | exact hF _) (by first | omega | exact hB _ _ | exact hF _) d_X_enter_79 (by decide) (fun c_79 => ?_) (fun c_79 => ?_)
        · refine r_iconst hs 0 d_X_enter_86 (by decide) ?_
          exact r_ret hk d_X_enter_87 ⟨_, rfl, Or.inl ⟨c_34, rfl, Or.inr ⟨rfl, c_79⟩⟩, rfl⟩
        · refine r_iconst hs 1 d_X_enter_82 (by decide) ?_
          refine r_goto (tgt := 87) hs d_X_enter_83 (by decide) ?_
          exact r_ret hk d_X_enter_87 ⟨_, rfl, Or.inl ⟨c_34, rfl, Or.inl ⟨rfl, c_79⟩⟩, rfl⟩
      · refine r_iconst hs 1 d_X_enter_37 (by decide) ?_
        exact r_ret hk d_X_enter_38 ⟨_, rfl, Or.inr ⟨c_34, rfl, rfl⟩, rfl⟩
    · refine r_iload_n hs d_X_enter_14 rfl rfl ?_
      refine r_iconst hs 2 d_X_enter_15 (by decide) ?_
      refine r_imul hs d_X_enter_16 ?_
      refine r_aload_n hs d_X_enter_17 rfl rfl ?_
      refine r_geta hk 24 rfl rfl d_X_enter_18 ?_
      refine r_iload hs d_X_enter_21 rfl ?_
      refine r_ald hk 12 rfl rfl (by omega) d_X_enter_23 ?_
      refine r_iadd hs d_X_enter_24 ?_
      refine r_istore_n hs d_X_enter_25 rfl (Nat.le_of_ble_eq_true rfl) (Nat.le_of_ble_eq_true rfl) ?_
      refine r_iinc hs d_X_enter_26 rfl (Nat.le_of_ble_eq_true rfl) (Nat.le_of_ble_eq_true rfl) ?_
      refine r_goto (tgt := 5) hs d_X_enter_29 (by decide) ?_
      exact ih c_11
  refine r_iconst hs 0 d_X_enter_0 (by decide) ?_
  refine r_istore_n hs d_X_enter_1 rfl (Nat.le_of_ble_eq_true rfl) (Nat.le_of_ble_eq_true rfl) ?_
  refine r_iconst hs 0 d_X_enter_2 (by decide) ?_
  refine r_istore hs d_X_enter_3 (Nat.le_of_ble_eq_true rfl) (Nat.le_of_ble_eq_true rfl) ?_
  exact J 0 (by omega)
/-- what the loop of 'scan' asks of an invariant Inv: round, cell + 1, over, fields, arrays -/
def ScI (stop : Nat) (bound : Int32) (Inv : Nat → Nat → Nat → (Nat → Nat) → (Nat → Nat → Nat) → Prop) (Post : (Nat → Nat) → (Nat → Nat → Nat) → Prop) : Prop :=
  (∀ i d o f a, Inv i d o f a → i ≤ 20000 ∧ o < 2 ∧ d ≤ f 3 ∧ f 3 ≤ 12 ∧ 1 ≤ f 3) ∧
  (∀ i d f a, Inv i (d + 1) 0 f a → gridF f ∧ (∀ k j, a k j < 2 ^ 31) ∧ d = a 4 d * f 1 + a 5 d ∧ a 4 d < f 0 ∧ a 5 d < f 1 ∧ a 25 d ≤ 2 ∧ f 28 + 1 < 2 ^ 31) ∧
  (∀ i d f a, Inv i (d + 1) 0 f a → i < 20000 → a 25 d = 2 → Inv (i + 1) d 0 f a) ∧
  (∀ i d f a v, Inv i (d + 1) 0 f a → i < 20000 → a 25 d = v → v < 2 → ¬ plOk f (up2 a 25 d (v + 1)) d v → Inv (i + 1) (d + 1) 0 f (up2 a 25 d (v + 1))) ∧
  (∀ i d f a v, Inv i (d + 1) 0 f a → i < 20000 → a 25 d = v → v < 2 → plOk f (up2 a 25 d (v + 1)) d v → d + 1 ≠ f 3 → Inv (i + 1) (d + 2) 0 f (up2 (plA f (up2 a 25 d (v + 1)) d v) 25 (d + 1) 0)) ∧
  (∀ i d f a v, Inv i (d + 1) 0 f a → i < 20000 → a 25 d = v → v < 2 → plOk f (up2 a 25 d (v + 1)) d v → d + 1 = f 3 →
    (¬ nI (numP (plA f (up2 a 25 d (v + 1)) d v) (f 3)) < bound → Inv (i + 1) (d + 1) 1 f (plA f (up2 a 25 d (v + 1)) d v)) ∧
    (nI (numP (plA f (up2 a 25 d (v + 1)) d v) (f 3)) < bound → ∀ o, (o = if f 28 + 1 = stop then 1 else 0) → Inv (i + 1) (d + 1) o (entF f (numP (plA f (up2 a 25 d (v + 1)) d v) (f 3))) (plA f (up2 a 25 d (v + 1)) d v))) ∧
  (∀ i d o f a, Inv i d o f a → (20000 ≤ i ∨ d = 0 ∨ o = 1) → Post f a)
def scF (fi : Nat → Nat) : Nat → Nat := up (up (up (up (prpF fi) 28 0) 29 4294967295) 30 4095) 31 0
def scA (fi : Nat → Nat) (ar : Nat → Nat → Nat) : Nat → Nat → Nat := up2 (prpA fi ar) 25 0 0
def dv (d : Nat) : Int32 := if d = 0 then nI 4294967295 else nI (d - 1)
theorem dv_s (d : Nat) : dv (d + 1) = nI d := rfl
theorem dv_dec (d : Nat) : nI d + Int32.ofInt (-1) = dv d := by
  unfold dv
  split
  · next h => subst h; decide
  · rw [show (Int32.ofInt (-1)) = -1 by decide, sb_m1 (by omega)]
theorem c_X_scan (l : Launch) (fi : Nat → Nat) (ar : Nat → Nat → Nat) (stop : Nat) (bound : Int32) (Inv : Nat → Nat → Nat → (Nat → Nat) → (Nat → Nat → Nat) → Prop) (Post : (Nat → Nat) → (Nat → Nat → Nat) → Prop) (hI : ScI stop bound Inv Post) (hg : gridF fi) (hB : ∀ k j, ar k j < 2 ^ 31) (hz : fi 23 < 2 ^ 31) (hst : stop < 2 ^ 31) (hst0 : stop ≠ 0) (h0i : Inv 0 1 0 (scF fi) (scA fi ar)) : oMetV l 0 y_X_scan b_X_scan 8 3 [.int (nI stop), .int bound] fi ar Post := by
  obtain ⟨I1, I2, I3, I4, I5, I6, I7⟩ := hI
  refine oMetV_of (c := 0) (by decide) plain_X rfl rfl (Nat.le_of_ble_eq_true rfl) (fun h0 ad K hk => ?_)
  have hs := hk.sim
  have J : ∀ n i d o f a, i + n = 20000 → Inv i d o f a → K 49 [.ref h0, .int (nI stop), .int bound, .int (dv d), .int (nI o), .int (nI i)] [] (f, a) := by
    intro n
    induction n with
    | zero =>
      intro i d o f a hin hi
      obtain rfl : i = 20000 := by omega
      refine r_iload hs d_X_scan_49 rfl ?_
      refine r_sipush hs 20000 d_X_scan_51 (by decide) ?_
      refine r_icmp_ge (tgt := 152) hs (by first | omega | exact hB _ _ | exact hF _) (by first | omega | exact hB _ _ | exact hF _) d_X_scan_54 (by decide) (fun c_54 => ?_) (fun c_54 => ?_)
      · exact r_vret hk d_X_scan_152 ⟨rfl, I7 _ _ _ _ _ hi (Or.inl (Nat.le_refl _))⟩
      · omega
    | succ n ih =>
      intro i d o f a hin hi
      obtain ⟨b1, b2, b3, b4, b5⟩ := I1 _ _ _ _ _ hi
      refine r_iload hs d_X_scan_49 rfl ?_
      refine r_sipush hs 20000 d_X_scan_51 (by decide) ?_
      refine r_icmp_ge (tgt := 152) hs (by first | omega | exact hB _ _ | exact hF _) (by first | omega | exact hB _ _ | exact hF _) d_X_scan_54 (by decide) (fun c_54 => ?_) (fun c_54 => ?_)
      · omega
      · refine r_iload_n hs d_X_scan_57 rfl rfl ?_
        cases d with
        | zero =>
          refine r_ifR_lt (tgt := 152) hs d_X_scan_58 (by decide) (fun c_58 => ?_) (fun c_58 => ?_)
          · exact r_vret hk d_X_scan_152 ⟨rfl, I7 _ _ _ _ _ hi (Or.inr (Or.inl rfl))⟩
          · exact absurd (by decide) c_58
        | succ d =>
          rw [dv_s]
          refine r_ifR_lt (tgt := 152) hs d_X_scan_58 (by decide) (fun c_58 => ?_) (fun c_58 => ?_)
          · exact absurd c_58 (nI_pos (by omega))
          · refine r_iload hs d_X_scan_61 rfl ?_
            refine r_if_ne (tgt := 152) hs (by first | omega | exact hB _ _ | exact hF _) d_X_scan_63 (by decide) (fun c_63 => ?_) (fun c_63 => ?_)
            · exact r_vret hk d_X_scan_152 ⟨rfl, I7 _ _ _ _ _ hi (Or.inr (Or.inr (by omega)))⟩
            · subst c_63
              obtain ⟨hg', hB', hrc, hr, hc, ht2, hfo⟩ := I2 _ _ _ _ hi
              generalize hv : a 25 d = v at ht2
              have JE : ∀ d' o' f' a', Inv (i + 1) d' o' f' a' → ∀ w, K 146 ([.ref h0, .int (nI stop), .int bound, .int (dv d'), .int (nI o'), .int (nI i)] ++ w) [] (f', a') := by
                intro d' o' f' a' hi' w
                refine r_take hs 6 ?_
                refine r_iinc hs d_X_scan_146 rfl (Nat.le_of_ble_eq_true rfl) (Nat.le_of_ble_eq_true rfl) ?_
                refine r_goto (tgt := 49) hs d_X_scan_149 (by decide) ?_
                exact ih (i + 1) d' o' f' a' (by omega) hi'
              refine r_aload_n hs d_X_scan_66 rfl rfl ?_
              refine r_geta hk 25 rfl rfl d_X_scan_67 ?_
              refine r_iload_n hs d_X_scan_70 rfl rfl ?_
              refine r_ald hk 12 rfl rfl (by omega) d_X_scan_71 ?_
              rw [hv]
              refine r_istore hs d_X_scan_72 (Nat.le_of_ble_eq_true rfl) (Nat.le_of_ble_eq_true rfl) ?_
              refine r_iload hs d_X_scan_74 rfl ?_
              refine r_iconst hs 2 d_X_scan_76 (by decide) ?_
              refine r_icmp_ne (tgt := 86) hs (by first | omega | exact hB _ _ | exact hF _) (by first | omega | exact hB _ _ | exact hF _) d_X_scan_77 (by decide) (fun c_77 => ?_) (fun c_77 => ?_)
              · have hv2 : v < 2 := by omega
                refine r_aload_n hs d_X_scan_86 rfl rfl ?_
                refine r_geta hk 25 rfl rfl d_X_scan_87 ?_
                refine r_iload_n hs d_X_scan_90 rfl rfl ?_
                refine r_iload hs d_X_scan_91 rfl ?_
                refine r_iconst hs 1 d_X_scan_93 (by decide) ?_
                refine r_iadd hs d_X_scan_94 ?_
                refine r_ast hk 12 rfl rfl (by omega) d_X_scan_95 ?_
                refine r_aload_n hs d_X_scan_96 rfl rfl ?_
                refine r_iload_n hs d_X_scan_97 rfl rfl ?_
                refine r_iload hs d_X_scan_98 rfl ?_
                generalize ha1 : up2 a 25 d (v + 1) = a1
                have hB1 : ∀ k j, a1 k j < 2 ^ 31 := fun k j => by
                  rw [← ha1]
                  unfold up2
                  split
                  · omega
                  · exact hB' _ _
                have e4 : a1 4 = a 4 := by rw [← ha1, up2_a (by decide)]
                have e5 : a1 5 = a 5 := by rw [← ha1, up2_a (by decide)]
                refine r_calli hk (c_X_place l f a1 d v hg' hB1 (by omega) hv2 (by rw [e4, e5]; exact hrc) (by rw [e4]; exact hr) (by rw [e5]; exact hc)) k_X_place (by decide) (by decide) rfl (Nat.le_of_ble_eq_true rfl) d_X_scan_100 (fun r_100 fi_100 ar_100 p_100 => ?_)
                rcases p_100 with ⟨rfl, hpl, h1, h2⟩ | ⟨rfl, hpl, h1, h2⟩
                · rw [h1, h2]
                  refine r_istore hs d_X_scan_103 (Nat.le_of_ble_eq_true rfl) (Nat.le_of_ble_eq_true rfl) ?_
                  refine r_iload hs d_X_scan_105 rfl ?_
                  refine r_ifR_eq (tgt := 131) hs d_X_scan_107 (by decide) (fun c_107 => ?_) (fun c_107 => ?_)
                  · exact absurd c_107 (by decide)
                  · refine r_iload_n hs d_X_scan_110 rfl rfl ?_
                    refine r_aload_n hs d_X_scan_111 rfl rfl ?_
                    refine r_geti hk 3 rfl rfl d_X_scan_112 ?_
                    refine r_iconst hs 1 d_X_scan_115 (by decide) ?_
                    refine r_isub hs (by omega) d_X_scan_116 ?_
                    refine r_icmp_ne (tgt := 131) hs (by first | omega | exact hB _ _ | exact hF _) (by first | omega | exact hB _ _ | exact hF _) d_X_scan_117 (by decide) (fun c_117 => ?_) (fun c_117 => ?_)
                    · refine r_iload hs d_X_scan_131 rfl ?_
                      refine r_ifR_eq (tgt := 146) hs d_X_scan_133 (by decide) (fun c_133 => ?_) (fun c_133 => ?_)
                      · exact absurd c_133 (by decide)
                      · refine r_iinc hs d_X_scan_136 rfl (Nat.le_of_ble_eq_true rfl) (Nat.le_of_ble_eq_true rfl) ?_
                        refine r_aload_n hs d_X_scan_139 rfl rfl ?_
                        refine r_geta hk 25 rfl rfl d_X_scan_140 ?_
                        refine r_iload_n hs d_X_scan_143 rfl rfl ?_
                        refine r_iconst hs 0 d_X_scan_144 (by decide) ?_
                        refine r_ast hk 12 rfl rfl (by omega) d_X_scan_145 ?_
                        rw [← ha1] at hpl
                        have hi' := I5 _ _ _ _ _ hi c_54 hv hv2 hpl (by omega)
                        rw [ha1] at hi'
                        exact JE (d + 2) 0 _ _ hi' [_, _]
                    · refine r_aload_n hs d_X_scan_120 rfl rfl ?_
                      refine r_iload_n hs d_X_scan_121 rfl rfl ?_
                      refine r_iload_n hs d_X_scan_122 rfl rfl ?_
                      refine r_calli hk (c_X_enter l f (plA f a1 d v) stop bound b4 hst hfo) k_X_enter (by decide) (by decide) rfl (Nat.le_of_ble_eq_true rfl) d_X_scan_123 (fun r_123 fi_123 ar_123 p_123 => ?_)
                      rw [← ha1] at hpl
                      obtain ⟨e1, e2⟩ := I6 _ _ _ _ _ hi c_54 hv hv2 hpl (by omega)
                      rw [ha1] at e1 e2
                      obtain ⟨p1, rfl⟩ := p_123
                      refine r_istore hs d_X_scan_126 (Nat.le_of_ble_eq_true rfl) (Nat.le_of_ble_eq_true rfl) ?_
                      refine r_goto (tgt := 146) hs d_X_scan_128 (by decide) ?_
                      rcases p1 with ⟨q1, rfl, q2⟩ | ⟨q1, rfl, rfl⟩
                      · rcases q2 with ⟨rfl, q2⟩ | ⟨rfl, q2⟩
                        · exact JE (d + 1) 1 _ _ (e2 q1 1 (by rw [if_pos q2])) [_, _]
                        · exact JE (d + 1) 0 _ _ (e2 q1 0 (by rw [if_neg q2])) [_, _]
                      · exact JE (d + 1) 1 _ _ (e1 q1) [_, _]
                · rw [h1, h2]
                  refine r_istore hs d_X_scan_103 (Nat.le_of_ble_eq_true rfl) (Nat.le_of_ble_eq_true rfl) ?_
                  refine r_iload hs d_X_scan_105 rfl ?_
                  refine r_ifR_eq (tgt := 131) hs d_X_scan_107 (by decide) (fun c_107 => ?_) (fun c_107 => ?_)
                  · refine r_iload hs d_X_scan_131 rfl ?_
                    refine r_ifR_eq (tgt := 146) hs d_X_scan_133 (by decide) (fun c_133 => ?_) (fun c_133 => ?_)
                    · rw [← ha1] at hpl
                      have hi' := I4 _ _ _ _ _ hi c_54 hv hv2 hpl
                      rw [ha1] at hi'
                      exact JE (d + 1) 0 _ _ hi' [_, _]
                    · exact absurd rfl c_133
                  · exact absurd rfl c_107
              · subst c_77
                refine r_iincV hs d_X_scan_80 rfl (dv_dec d) (Nat.le_of_ble_eq_true rfl) (Nat.le_of_ble_eq_true rfl) ?_
                refine r_goto (tgt := 146) hs d_X_scan_83 (by decide) ?_
                exact JE d 0 _ _ (I3 _ _ _ _ hi c_54 hv) [_]
  refine r_aload_n hs d_X_scan_0 rfl rfl ?_
  refine r_callv hk (c_X_prepare l fi ar hg hB hz) k_X_prepare (by decide) (by decide) rfl (Nat.le_of_ble_eq_true rfl) d_X_scan_1 (fun fi_1 ar_1 p_1 => ?_)
  obtain ⟨h1, h2⟩ := p_1
  rw [h1, h2]
  have e := J 20000 0 1 0 _ _ (by decide) h0i
  refine r_aload_n hs d_X_scan_4 rfl rfl ?_
  refine r_iconst hs 0 d_X_scan_5 (by decide) ?_
  refine r_puti hk 28 (by decide) rfl d_X_scan_6 ?_
  refine r_aload_n hs d_X_scan_9 rfl rfl ?_
  refine r_iconst hs 4294967295 d_X_scan_10 (by decide) ?_
  refine r_puti hk 29 (by decide) rfl d_X_scan_11 ?_
  refine r_aload_n hs d_X_scan_14 rfl rfl ?_
  refine r_sipush hs 4095 d_X_scan_15 (by decide) ?_
  refine r_puti hk 30 (by decide) rfl d_X_scan_18 ?_
  refine r_aload_n hs d_X_scan_21 rfl rfl ?_
  refine r_iconst hs 0 d_X_scan_22 (by decide) ?_
  refine r_puti hk 31 (by decide) rfl d_X_scan_23 ?_
  refine r_iconst hs 0 d_X_scan_26 (by decide) ?_
  refine r_istore_n hs d_X_scan_27 rfl (Nat.le_of_ble_eq_true rfl) (Nat.le_of_ble_eq_true rfl) ?_
  refine r_aload_n hs d_X_scan_28 rfl rfl ?_
  refine r_geta hk 25 rfl rfl d_X_scan_29 ?_
  refine r_iconst hs 0 d_X_scan_32 (by decide) ?_
  refine r_iconst hs 0 d_X_scan_33 (by decide) ?_
  refine r_ast hk 12 rfl rfl (by omega) d_X_scan_34 ?_
  refine r_iload_n hs d_X_scan_35 rfl rfl ?_
  refine r_if_gt (tgt := 43) hs (by first | omega | exact hB _ _ | exact hF _) d_X_scan_36 (by decide) (fun c_36 => ?_) (fun c_36 => ?_)
  · refine r_iconst hs 0 d_X_scan_43 (by decide) ?_
    refine r_istore hs d_X_scan_44 (Nat.le_of_ble_eq_true rfl) (Nat.le_of_ble_eq_true rfl) ?_
    refine r_iconst hs 0 d_X_scan_46 (by decide) ?_
    refine r_istore hs d_X_scan_47 (Nat.le_of_ble_eq_true rfl) (Nat.le_of_ble_eq_true rfl) ?_
    exact e
  · exact absurd c_36 hst0
end
section
/-! ExprCrossword: the questions (fillings, filling, below, forced, lineWords, spells), over what 'scan' leaves (Post) -/
def bitv (n bits t : Nat) : Nat := bits >>> (n - 1 - t) &&& 1
def spS (ar : Nat → Nat → Nat) (ln n bits : Nat) : Nat → Nat
  | 0 => 256
  | t + 1 => stp ar ln (spS ar ln n bits t) (bitv n bits t) &&& ar 22 (ln * 5 + t + 1)
abbrev spP (fi : Nat → Nat) (ar : Nat → Nat → Nat) (ln n bits t : Nat) : Prop := ar 6 (celX fi ln t) = 2 ∨ ar 6 (celX fi ln t) = bitv n bits t
abbrev spOk (fi : Nat → Nat) (ar : Nat → Nat → Nat) (ln n bits : Nat) : Prop := (∀ t, t < n → spP fi ar ln n bits t) ∧ spS ar ln n bits n ≠ 0
theorem c_X_spells (l : Launch) (fi : Nat → Nat) (ar : Nat → Nat → Nat) (ln bits : Nat) (hg : gridF fi) (hln : ln < fi 2) (hB : ∀ k j, ar k j < 2 ^ 31) (hbi : bits < 2 ^ 31) : oMetI l 0 y_X_spells b_X_spells 8 (some .boolean) 1 [.int (nI ln), .int (nI (lenX fi ln)), .int (nI bits)] fi ar (fun r f a => ((r = 1 ∧ spOk fi ar ln (lenX fi ln) bits) ∨ (r = 0 ∧ ¬ spOk fi ar ln (lenX fi ln) bits)) ∧ f = fi ∧ a = ar) := by
  have hln7 : ln < 7 := by obtain ⟨h1, h2, h3, h4, h5, h6⟩ := hg; omega
  have hr31 : fi 0 < 2 ^ 31 := by obtain ⟨h1, h2, -⟩ := hg; omega
  obtain ⟨hn1, hn4⟩ := lenX_in hg ln
  have hci := fun t => celX_in hg hln (t := t)
  generalize hn : lenX fi ln = n at hn1 hn4 hci
  refine oMetI_of (c := 0) (by decide) plain_X rfl (Or.inr ⟨rfl, fun r f a h => by rcases h.1 with h | h; exact Or.inr h.1; exact Or.inl h.1⟩) rfl (Nat.le_of_ble_eq_true rfl) (fun h0 ad K hk => ?_)
  have hs := hk.sim
  have J : ∀ t, t ≤ n → (∀ q, q < t → spP fi ar ln n bits q) → spS ar ln n bits t < 2 ^ 31 → K 8 [.ref h0, .int (nI ln), .int (nI n), .int (nI bits), .int (nI (spS ar ln n bits t)), .int (nI t)] [] (fi, ar) := by
    refine loopD (fun t ht ih hpt hsb => ?_)
    refine r_iload hs d_X_spells_8 rfl ?_
    refine r_iload_n hs d_X_spells_10 rfl rfl ?_
    refine r_icmp_ge (tgt := 90) hs (by first | omega | exact hB _ _ | exact hF _) (by first | omega | exact hB _ _ | exact hF _) d_X_spells_11 (by decide) (fun c_11 => ?_) (fun c_11 => ?_)
    · obtain rfl : t = n := by omega
      refine r_iload hs d_X_spells_90 rfl ?_
      refine r_if_eq (tgt := 99) hs (by first | omega | exact hB _ _ | exact hF _) d_X_spells_92 (by decide) (fun c_92 => ?_) (fun c_92 => ?_)
      · refine r_iconst hs 0 d_X_spells_99 (by decide) ?_
        exact r_ret hk d_X_spells_100 ⟨_, rfl, Or.inr ⟨rfl, fun q => q.2 c_92⟩, rfl, rfl⟩
      · refine r_iconst hs 1 d_X_spells_95 (by decide) ?_
        refine r_goto (tgt := 100) hs d_X_spells_96 (by decide) ?_
        exact r_ret hk d_X_spells_100 ⟨_, rfl, Or.inl ⟨rfl, hpt, c_92⟩, rfl, rfl⟩
    · have hci := hci t c_11
      have hvb : bitv n bits t < 2 := Nat.lt_of_le_of_lt Nat.and_le_right (by decide)
      refine r_iload_n hs d_X_spells_14 rfl rfl ?_
      refine r_iload_n hs d_X_spells_15 rfl rfl ?_
      refine r_iconst hs 1 d_X_spells_16 (by decide) ?_
      refine r_isub hs (by omega) d_X_spells_17 ?_
      refine r_iload hs d_X_spells_18 rfl ?_
      refine r_isub hs (by omega) d_X_spells_20 ?_
      refine r_ishr hs (by first | omega | exact hB _ _ | exact hF _) (by omega) d_X_spells_21 ?_
      refine r_iconst hs 1 d_X_spells_22 (by decide) ?_
      refine r_iand hs d_X_spells_23 ?_
      rw [show bits >>> (n - 1 - t) &&& 1 = bitv n bits t from rfl]
      refine r_istore hs d_X_spells_24 (Nat.le_of_ble_eq_true rfl) (Nat.le_of_ble_eq_true rfl) ?_
      refine r_aload_n hs d_X_spells_26 rfl rfl ?_
      refine r_geta hk 6 rfl rfl d_X_spells_27 ?_
      refine r_aload_n hs d_X_spells_30 rfl rfl ?_
      refine r_iload_n hs d_X_spells_31 rfl rfl ?_
      refine r_iload hs d_X_spells_32 rfl ?_
      refine r_calli hk (c_X_cellOf l fi ar ln t (by omega) hr31) k_X_cellOf (by decide) (by decide) rfl (Nat.le_of_ble_eq_true rfl) d_X_spells_34 (fun r_34 fi_34 ar_34 p_34 => ?_)
      obtain ⟨rfl, h1, h2⟩ := p_34
      rw [h1, h2]
      have J2 : spP fi ar ln n bits t → K 55 [.ref h0, .int (nI ln), .int (nI n), .int (nI bits), .int (nI (spS ar ln n bits t)), .int (nI t), .int (nI (bitv n bits t)), .int (nI (ar 6 (celX fi ln t)))] [] (fi, ar) := by
        intro hp
        have e := ih c_11 (fun q hq => by
          rcases Nat.lt_or_ge q t with h | h
          · exact hpt q h
          · rw [show q = t by omega]; exact hp) (by
          rw [spS]
          exact Nat.lt_of_le_of_lt Nat.and_le_right (hB _ _))
        rw [spS] at e
        refine r_aload_n hs d_X_spells_55 rfl rfl ?_
        refine r_iload_n hs d_X_spells_56 rfl rfl ?_
        refine r_iload hs d_X_spells_57 rfl ?_
        refine r_iload hs d_X_spells_59 rfl ?_
        refine r_calli hk (c_X_step l fi ar ln (spS ar ln n bits t) (bitv n bits t) hln7 hsb (by omega)) k_X_step (by decide) (by decide) rfl (Nat.le_of_ble_eq_true rfl) d_X_spells_61 (fun r_61 fi_61 ar_61 p_61 => ?_)
        obtain ⟨rfl, h1, h2⟩ := p_61
        rw [h1, h2]
        refine r_istore hs d_X_spells_64 (Nat.le_of_ble_eq_true rfl) (Nat.le_of_ble_eq_true rfl) ?_
        refine r_iload hs d_X_spells_66 rfl ?_
        refine r_aload_n hs d_X_spells_68 rfl rfl ?_
        refine r_geta hk 22 rfl rfl d_X_spells_69 ?_
        refine r_iload_n hs d_X_spells_72 rfl rfl ?_
        refine r_iconst hs 5 d_X_spells_73 (by decide) ?_
        refine r_imul hs d_X_spells_74 ?_
        refine r_iload hs d_X_spells_75 rfl ?_
        refine r_iadd hs d_X_spells_77 ?_
        refine r_iconst hs 1 d_X_spells_78 (by decide) ?_
        refine r_iadd hs d_X_spells_79 ?_
        refine r_ald hk 35 rfl rfl (by omega) d_X_spells_80 ?_
        refine r_iand hs d_X_spells_81 ?_
        refine r_istore hs d_X_spells_82 (Nat.le_of_ble_eq_true rfl) (Nat.le_of_ble_eq_true rfl) ?_
        refine r_iinc hs d_X_spells_84 rfl (Nat.le_of_ble_eq_true rfl) (Nat.le_of_ble_eq_true rfl) ?_
        refine r_goto (tgt := 8) hs d_X_spells_87 (by decide) ?_
        exact r_take hs 6 e
      refine r_ald hk 12 rfl rfl (by omega) d_X_spells_37 ?_
      refine r_istore hs d_X_spells_38 (Nat.le_of_ble_eq_true rfl) (Nat.le_of_ble_eq_true rfl) ?_
      refine r_iload hs d_X_spells_40 rfl ?_
      refine r_iconst hs 2 d_X_spells_42 (by decide) ?_
      refine r_icmp_eq (tgt := 55) hs (by first | omega | exact hB _ _ | exact hF _) (by first | omega | exact hB _ _ | exact hF _) d_X_spells_43 (by decide) (fun c_43 => ?_) (fun c_43 => ?_)
      · exact J2 (Or.inl c_43)
      · refine r_iload hs d_X_spells_46 rfl ?_
        refine r_iload hs d_X_spells_48 rfl ?_
        refine r_icmp_eq (tgt := 55) hs (by first | omega | exact hB _ _ | exact hF _) (by first | omega | exact hB _ _ | exact hF _) d_X_spells_50 (by decide) (fun c_50 => ?_) (fun c_50 => ?_)
        · exact J2 (Or.inr c_50)
        · refine r_iconst hs 0 d_X_spells_53 (by decide) ?_
          exact r_ret hk d_X_spells_54 ⟨_, rfl, Or.inr ⟨rfl, fun q => by rcases q.1 t c_11 with h | h; exact c_43 h; exact c_50 h⟩, rfl, rfl⟩
  refine r_sipush hs 256 d_X_spells_0 (by decide) ?_
  refine r_istore hs d_X_spells_3 (Nat.le_of_ble_eq_true rfl) (Nat.le_of_ble_eq_true rfl) ?_
  refine r_iconst hs 0 d_X_spells_5 (by decide) ?_
  refine r_istore hs d_X_spells_6 (Nat.le_of_ble_eq_true rfl) (Nat.le_of_ble_eq_true rfl) ?_
  exact J 0 (by omega) (fun q hq => by omega) (by rw [spS]; decide)
def lwP (fi : Nat → Nat) (ar : Nat → Nat → Nat) (ln : Nat) : Nat → Nat
  | 0 => 0
  | b + 1 => lwP fi ar ln b + if spOk fi ar ln (lenX fi ln) b then 1 else 0
theorem prpA_B {fi : Nat → Nat} {ar : Nat → Nat → Nat} (hB : ∀ k j, ar k j < 2 ^ 31) : ∀ k j, prpA fi ar k j < 2 ^ 31 := by
  have hBp : ∀ i k j, prP fi ar i k j < 2 ^ 31 := by
    intro i
    induction i with
    | zero => exact hB
    | succ i ih =>
      intro k j
      by_cases hk : k = 22
      · subst hk
        rw [prP]
        generalize lenX fi i = n
        induction n with
        | zero =>
          rw [plP, up2_k]
          split
          · exact bkv_lt ih
          · exact ih _ _
        | succ n ih2 =>
          rw [plP, up2_k]
          split
          · exact bkv_lt ih
          · exact ih2
      · rw [prP_n hk]; exact hB _ _
  intro k j
  unfold prpA
  split
  · exact hBp _ _ _
  · exact hB _ _
theorem prpF_n {fi : Nat → Nat} {k : Nat} (h : k ≠ 23) : prpF fi k = fi k := by
  unfold prpF
  split
  · exact up_n h
  · rfl
theorem prpF_g {fi : Nat → Nat} (h : gridF fi) : gridF (prpF fi) := by
  unfold gridF
  rw [prpF_n (by decide), prpF_n (by decide), prpF_n (by decide), prpF_n (by decide)]
  exact h
def lwX (x : Int32) (fi : Nat → Nat) (ar : Nat → Nat → Nat) : Nat × (Nat → Nat) × (Nat → Nat → Nat) :=
  if x < 0 ∨ nI (fi 2) ≤ x then (4294967295, fi, ar) else
  (lwP (prpF fi) (prpA fi ar) x.toNatClampNeg (1 <<< lenX (prpF fi) x.toNatClampNeg), prpF fi, prpA fi ar)
theorem c_X_lineWords (l : Launch) (fi : Nat → Nat) (ar : Nat → Nat → Nat) (x : Int32) (hg : gridF fi) (hB : ∀ k j, ar k j < 2 ^ 31) (hz : fi 23 < 2 ^ 31) : oMetI l 0 y_X_lineWords b_X_lineWords 5 (some .int) 3 [.int x] fi ar (PI (lwX x fi ar)) := by
  have h27 : fi 2 ≤ 7 := by obtain ⟨h1, h2, h3, h4, h5, h6⟩ := hg; omega
  refine oMetI_of (c := 0) (by decide) plain_X rfl (Or.inl rfl) rfl (Nat.le_of_ble_eq_true rfl) (fun h0 ad K hk => ?_)
  have hs := hk.sim
  have J0 : (x < 0 ∨ nI (fi 2) ≤ x) → K 12 [.ref h0, .int x] [] (fi, ar) := by
    intro hx
    refine r_iconst hs 4294967295 d_X_lineWords_12 (by decide) ?_
    exact r_ret hk d_X_lineWords_13 ⟨_, rfl, by rw [lwX, if_pos hx]; exact ⟨rfl, rfl, rfl⟩⟩
  refine r_iload_n hs d_X_lineWords_0 rfl rfl ?_
  refine r_ifR_lt (tgt := 12) hs d_X_lineWords_1 (by decide) (fun c_1 => ?_) (fun c_1 => ?_)
  · exact J0 (Or.inl c_1)
  · refine r_iload_n hs d_X_lineWords_4 rfl rfl ?_
    refine r_aload_n hs d_X_lineWords_5 rfl rfl ?_
    refine r_geti hk 2 rfl rfl d_X_lineWords_6 ?_
    refine r_icmpR_lt (tgt := 14) hs d_X_lineWords_9 (by decide) (fun c_9 => ?_) (fun c_9 => ?_)
    · rcases pk_ix x (n := fi 2) (by omega) with h | h | ⟨ln, hj, rfl⟩
      · exact absurd h c_1
      · exact absurd c_9 (Int32.not_lt.mpr h)
      · have hx : ¬ (nI ln < 0 ∨ nI (fi 2) ≤ nI ln) := by
          rintro (h | h)
          · exact c_1 h
          · exact absurd c_9 (Int32.not_lt.mpr h)
        have hlw : lwX (nI ln) fi ar = (lwP (prpF fi) (prpA fi ar) ln (1 <<< lenX (prpF fi) ln), prpF fi, prpA fi ar) := by
          rw [lwX, if_neg hx, nI_clamp (by omega)]
        refine r_aload_n hs d_X_lineWords_14 rfl rfl ?_
        refine r_callv hk (c_X_prepare l fi ar hg hB hz) k_X_prepare (by decide) (by decide) rfl (Nat.le_of_ble_eq_true rfl) d_X_lineWords_15 (fun fi_15 ar_15 p_15 => ?_)
        obtain ⟨h1, h2⟩ := p_15
        rw [h1, h2]
        have hg' := prpF_g hg
        have hB' := prpA_B (fi := fi) hB
        have hj' : ln < prpF fi 2 := by rw [prpF_n (by decide)]; exact hj
        generalize prpF fi = f at *
        generalize prpA fi ar = a at *
        obtain ⟨hn1, hn4⟩ := lenX_in hg' ln
        have hr31 : f 0 < 2 ^ 31 := by obtain ⟨h1, h2, -⟩ := hg'; omega
        have hpw : 1 <<< lenX f ln ≤ 16 := by
          rw [Nat.one_shiftLeft]
          exact Nat.pow_le_pow_right (n := 2) (by decide) hn4
        refine r_aload_n hs d_X_lineWords_18 rfl rfl ?_
        refine r_iload_n hs d_X_lineWords_19 rfl rfl ?_
        refine r_calli hk (c_X_lineLength l f a ln (by omega) hr31) k_X_lineLength (by decide) (by decide) rfl (Nat.le_of_ble_eq_true rfl) d_X_lineWords_20 (fun r_20 fi_20 ar_20 p_20 => ?_)
        obtain ⟨rfl, h1, h2⟩ := p_20
        rw [h1, h2]
        have J : ∀ q, q ≤ 1 <<< lenX f ln → K 29 [.ref h0, .int (nI ln), .int (nI (lenX f ln)), .int (nI (lwP f a ln q)), .int (nI q)] [] (f, a) := by
          refine loopD (fun q hq ih => ?_)
          refine r_iload hs d_X_lineWords_29 rfl ?_
          refine r_iconst hs 1 d_X_lineWords_31 (by decide) ?_
          refine r_iload_n hs d_X_lineWords_32 rfl rfl ?_
          refine r_ishl hs (by omega) (shl1 (by omega)) d_X_lineWords_33 ?_
          refine r_icmp_ge (tgt := 57) hs (by first | omega | exact hB _ _ | exact hF _) (by first | omega | exact hB _ _ | exact hF _) d_X_lineWords_34 (by decide) (fun c_34 => ?_) (fun c_34 => ?_)
          · obtain rfl : q = 1 <<< lenX f ln := by omega
            refine r_iload_n hs d_X_lineWords_57 rfl rfl ?_
            exact r_ret hk d_X_lineWords_58 ⟨_, rfl, by rw [hlw]; exact ⟨rfl, rfl, rfl⟩⟩
          · have e := ih c_34
            rw [lwP] at e
            refine r_aload_n hs d_X_lineWords_37 rfl rfl ?_
            refine r_iload_n hs d_X_lineWords_38 rfl rfl ?_
            refine r_iload_n hs d_X_lineWords_39 rfl rfl ?_
            refine r_iload hs d_X_lineWords_40 rfl ?_
            refine r_calli hk (c_X_spells l f a ln q hg' hj' hB' (by omega)) k_X_spells (by decide) (by decide) rfl (Nat.le_of_ble_eq_true rfl) d_X_lineWords_42 (fun r_42 fi_42 ar_42 p_42 => ?_)
            obtain ⟨p1, h1, h2⟩ := p_42
            rw [h1, h2]
            rcases p1 with ⟨rfl, p1⟩ | ⟨rfl, p1⟩
            · rw [if_pos p1] at e
              refine r_ifR_eq (tgt := 51) hs d_X_lineWords_45 (by decide) (fun c_45 => ?_) (fun c_45 => ?_)
              · exact absurd c_45 (by decide)
              · refine r_iinc hs d_X_lineWords_48 rfl (Nat.le_of_ble_eq_true rfl) (Nat.le_of_ble_eq_true rfl) ?_
                refine r_iinc hs d_X_lineWords_51 rfl (Nat.le_of_ble_eq_true rfl) (Nat.le_of_ble_eq_true rfl) ?_
                refine r_goto (tgt := 29) hs d_X_lineWords_54 (by decide) ?_
                exact e
            · rw [if_neg p1] at e
              refine r_ifR_eq (tgt := 51) hs d_X_lineWords_45 (by decide) (fun c_45 => ?_) (fun c_45 => ?_)
              · refine r_iinc hs d_X_lineWords_51 rfl (Nat.le_of_ble_eq_true rfl) (Nat.le_of_ble_eq_true rfl) ?_
                refine r_goto (tgt := 29) hs d_X_lineWords_54 (by decide) ?_
                exact e
              · exact absurd rfl c_45
        refine r_istore_n hs d_X_lineWords_23 rfl (Nat.le_of_ble_eq_true rfl) (Nat.le_of_ble_eq_true rfl) ?_
        refine r_iconst hs 0 d_X_lineWords_24 (by decide) ?_
        refine r_istore_n hs d_X_lineWords_25 rfl (Nat.le_of_ble_eq_true rfl) (Nat.le_of_ble_eq_true rfl) ?_
        refine r_iconst hs 0 d_X_lineWords_26 (by decide) ?_
        refine r_istore hs d_X_lineWords_27 (Nat.le_of_ble_eq_true rfl) (Nat.le_of_ble_eq_true rfl) ?_
        exact J 0 (Nat.zero_le _)
    · exact J0 (Or.inr (Int32.not_lt.mp c_9))
theorem c_X_fillings (l : Launch) (fi : Nat → Nat) (ar : Nat → Nat → Nat) (Post : (Nat → Nat) → (Nat → Nat → Nat) → Prop) (hS : oMetV l 0 y_X_scan b_X_scan 8 3 [.int (nI 4096), .int (nI 4096)] fi ar Post) : oMetI l 0 y_X_fillings b_X_fillings 1 (some .int) 4 [] fi ar (fun r f a => Post f a ∧ r = nI (f 28)) := by
  refine oMetI_of (c := 0) (by decide) plain_X rfl (Or.inl rfl) rfl (Nat.le_of_ble_eq_true rfl) (fun h0 ad K hk => ?_)
  have hs := hk.sim
  refine r_aload_n hs d_X_fillings_0 rfl rfl ?_
  refine r_sipush hs 4096 d_X_fillings_1 (by decide) ?_
  refine r_sipush hs 4096 d_X_fillings_4 (by decide) ?_
  refine r_callv hk (hS) k_X_scan (by decide) (by decide) rfl (Nat.le_of_ble_eq_true rfl) d_X_fillings_7 (fun fi_7 ar_7 p_7 => ?_)
  refine r_aload_n hs d_X_fillings_10 rfl rfl ?_
  refine r_geti hk 28 rfl rfl d_X_fillings_11 ?_
  exact r_ret hk d_X_fillings_14 ⟨_, rfl, p_7, rfl⟩
theorem c_X_below (l : Launch) (fi : Nat → Nat) (ar : Nat → Nat → Nat) (x : Int32) (Post : (Nat → Nat) → (Nat → Nat → Nat) → Prop) (hS : oMetV l 0 y_X_scan b_X_scan 8 3 [.int (nI 4096), .int x] fi ar Post) : oMetI l 0 y_X_below b_X_below 2 (some .int) 4 [.int x] fi ar (fun r f a => Post f a ∧ r = nI (f 28)) := by
  refine oMetI_of (c := 0) (by decide) plain_X rfl (Or.inl rfl) rfl (Nat.le_of_ble_eq_true rfl) (fun h0 ad K hk => ?_)
  have hs := hk.sim
  refine r_aload_n hs d_X_below_0 rfl rfl ?_
  refine r_sipush hs 4096 d_X_below_1 (by decide) ?_
  refine r_iload_n hs d_X_below_4 rfl rfl ?_
  refine r_callv hk (hS) k_X_scan (by decide) (by decide) rfl (Nat.le_of_ble_eq_true rfl) d_X_below_5 (fun fi_5 ar_5 p_5 => ?_)
  refine r_aload_n hs d_X_below_8 rfl rfl ?_
  refine r_geti hk 28 rfl rfl d_X_below_9 ?_
  exact r_ret hk d_X_below_12 ⟨_, rfl, p_5, rfl⟩
theorem c_X_filling (l : Launch) (fi : Nat → Nat) (ar : Nat → Nat → Nat) (x : Int32) (Post : Nat → (Nat → Nat) → (Nat → Nat → Nat) → Prop) (hS : ∀ k, k < 4096 → oMetV l 0 y_X_scan b_X_scan 8 3 [.int (nI (k + 1)), .int (nI 4096)] fi ar (Post k)) (hP : ∀ k f a, Post k f a → f 28 < 2 ^ 31) : oMetI l 0 y_X_filling b_X_filling 2 (some .int) 4 [.int x] fi ar (fun r f a => (x < 0 ∧ r = nI 4294967295 ∧ f = fi ∧ a = ar) ∨ (nI 4096 ≤ x ∧ ¬ x < 0 ∧ r = nI 4294967292 ∧ f = fi ∧ a = ar) ∨ (∃ k, k < 4096 ∧ x = nI k ∧ Post k f a ∧ r = nI (if f 28 = k + 1 then f 29 else 4294967292))) := by
  refine oMetI_of (c := 0) (by decide) plain_X rfl (Or.inl rfl) rfl (Nat.le_of_ble_eq_true rfl) (fun h0 ad K hk => ?_)
  have hs := hk.sim
  refine r_iload_n hs d_X_filling_0 rfl rfl ?_
  refine r_ifR_ge (tgt := 6) hs d_X_filling_1 (by decide) (fun c_1 => ?_) (fun c_1 => ?_)
  · refine r_iload_n hs d_X_filling_6 rfl rfl ?_
    refine r_sipush hs 4096 d_X_filling_7 (by decide) ?_
    refine r_icmpR_lt (tgt := 16) hs d_X_filling_10 (by decide) (fun c_10 => ?_) (fun c_10 => ?_)
    · rcases pk_ix x (n := 4096) (by decide) with h | h | ⟨k, hk4, rfl⟩
      · exact absurd c_1 (Int32.not_le.mpr h)
      · exact absurd c_10 (Int32.not_lt.mpr h)
      · refine r_aload_n hs d_X_filling_16 rfl rfl ?_
        refine r_iload_n hs d_X_filling_17 rfl rfl ?_
        refine r_iconst hs 1 d_X_filling_18 (by decide) ?_
        refine r_iadd hs d_X_filling_19 ?_
        refine r_sipush hs 4096 d_X_filling_20 (by decide) ?_
        refine r_callv hk (hS k hk4) k_X_scan (by decide) (by decide) rfl (Nat.le_of_ble_eq_true rfl) d_X_filling_23 (fun fi_23 ar_23 p_23 => ?_)
        have hfb := hP _ _ _ p_23
        refine r_aload_n hs d_X_filling_26 rfl rfl ?_
        refine r_geti hk 28 rfl rfl d_X_filling_27 ?_
        refine r_iload_n hs d_X_filling_30 rfl rfl ?_
        refine r_iconst hs 1 d_X_filling_31 (by decide) ?_
        refine r_iadd hs d_X_filling_32 ?_
        refine r_icmp_ne (tgt := 43) hs (by first | omega | exact hB _ _ | exact hF _) (by first | omega | exact hB _ _ | exact hF _) d_X_filling_33 (by decide) (fun c_33 => ?_) (fun c_33 => ?_)
        · refine r_bipush hs 4294967292 d_X_filling_43 (by decide) ?_
          exact r_ret hk d_X_filling_45 ⟨_, rfl, Or.inr (Or.inr ⟨k, hk4, rfl, p_23, by rw [if_neg c_33]⟩)⟩
        · refine r_aload_n hs d_X_filling_36 rfl rfl ?_
          refine r_geti hk 29 rfl rfl d_X_filling_37 ?_
          refine r_goto (tgt := 45) hs d_X_filling_40 (by decide) ?_
          exact r_ret hk d_X_filling_45 ⟨_, rfl, Or.inr (Or.inr ⟨k, hk4, rfl, p_23, by rw [if_pos c_33]⟩)⟩
    · refine r_bipush hs 4294967292 d_X_filling_13 (by decide) ?_
      exact r_ret hk d_X_filling_15 ⟨_, rfl, Or.inr (Or.inl ⟨Int32.not_lt.mp c_10, Int32.not_lt.mpr c_1, rfl, rfl, rfl⟩)⟩
  · refine r_iconst hs 4294967295 d_X_filling_4 (by decide) ?_
    exact r_ret hk d_X_filling_5 ⟨_, rfl, Or.inl ⟨Int32.not_le.mp c_1, rfl, rfl, rfl⟩⟩
def frcV (f : Nat → Nat) (r c : Nat) : Nat := if f 28 = 0 then 4294967292 else if f 30 >>> (f 3 - 1 - r * f 1 - c) &&& 1 = 1 then 1 else if f 31 >>> (f 3 - 1 - r * f 1 - c) &&& 1 = 1 then 2 else 0
theorem c_X_forced (l : Launch) (fi : Nat → Nat) (ar : Nat → Nat → Nat) (r0 c0 : Int32) (hg : gridF fi) (Post : (Nat → Nat) → (Nat → Nat → Nat) → Prop) (hS : oMetV l 0 y_X_scan b_X_scan 8 3 [.int (nI 4096), .int (nI 4096)] fi ar Post) (hP : ∀ f a, Post f a → f 28 < 2 ^ 31 ∧ f 30 < 2 ^ 31 ∧ f 31 < 2 ^ 31 ∧ f 1 = fi 1 ∧ f 3 = fi 3) : oMetI l 0 y_X_forced b_X_forced 4 (some .int) 4 [.int r0, .int c0] fi ar (fun r f a => (¬ inG fi r0 c0 ∧ r = nI 4294967295 ∧ f = fi ∧ a = ar) ∨ (∃ r1 c1, r1 < fi 0 ∧ c1 < fi 1 ∧ r0 = nI r1 ∧ c0 = nI c1 ∧ Post f a ∧ r = nI (frcV f r1 c1))) := by
  obtain ⟨g1, g2, g3, g4, g5, g6⟩ := hg
  refine oMetI_of (c := 0) (by decide) plain_X rfl (Or.inl rfl) rfl (Nat.le_of_ble_eq_true rfl) (fun h0 ad K hk => ?_)
  have hs := hk.sim
  refine r_aload_n hs d_X_forced_0 rfl rfl ?_
  refine r_iload_n hs d_X_forced_1 rfl rfl ?_
  refine r_iload_n hs d_X_forced_2 rfl rfl ?_
  refine r_calli hk (c_X_inGrid l fi ar r0 c0) k_X_inGrid (by decide) (by decide) rfl (Nat.le_of_ble_eq_true rfl) d_X_forced_3 (fun r_3 fi_3 ar_3 p_3 => ?_)
  obtain ⟨hg, h1, h2⟩ := p_3
  rw [h1, h2]
  unfold inG at hg
  rcases hg with ⟨rfl, hg⟩ | ⟨rfl, hg⟩
  · refine r_ifR_ne (tgt := 11) hs d_X_forced_6 (by decide) (fun c_6 => ?_) (fun c_6 => ?_)
    · rcases pk_ix r0 (n := fi 0) (by omega) with h | h | ⟨r1, hr1, rfl⟩
      · exact absurd h (Int32.not_lt.mpr hg.1)
      · exact absurd hg.2.1 (Int32.not_lt.mpr h)
      rcases pk_ix c0 (n := fi 1) (by omega) with h | h | ⟨c1, hc1, rfl⟩
      · exact absurd h (Int32.not_lt.mpr hg.2.2.1)
      · exact absurd hg.2.2.2 (Int32.not_lt.mpr h)
      have h12 := cell12 hr1 hc1 g2 g4
      have hcl : r1 * fi 1 + c1 < fi 0 * fi 1 := by
        have : (r1 + 1) * fi 1 ≤ fi 0 * fi 1 := Nat.mul_le_mul_right _ hr1
        rw [Nat.add_mul] at this
        omega
      have hc12 : fi 0 * fi 1 ≤ 12 := Nat.le_trans (Nat.mul_le_mul g2 g4) (by decide)
      refine r_aload_n hs d_X_forced_11 rfl rfl ?_
      refine r_sipush hs 4096 d_X_forced_12 (by decide) ?_
      refine r_sipush hs 4096 d_X_forced_15 (by decide) ?_
      refine r_callv hk (hS) k_X_scan (by decide) (by decide) rfl (Nat.le_of_ble_eq_true rfl) d_X_forced_18 (fun fi_18 ar_18 p_18 => ?_)
      obtain ⟨b1, b2, b3, b4, b5⟩ := hP _ _ p_18
      refine r_aload_n hs d_X_forced_21 rfl rfl ?_
      refine r_geti hk 28 rfl rfl d_X_forced_22 ?_
      refine r_if_ne (tgt := 31) hs (by first | omega | exact hB _ _ | exact hF _) d_X_forced_25 (by decide) (fun c_25 => ?_) (fun c_25 => ?_)
      · refine r_aload_n hs d_X_forced_31 rfl rfl ?_
        refine r_geti hk 3 rfl rfl d_X_forced_32 ?_
        refine r_iconst hs 1 d_X_forced_35 (by decide) ?_
        refine r_isub hs (by omega) d_X_forced_36 ?_
        refine r_iload_n hs d_X_forced_37 rfl rfl ?_
        refine r_aload_n hs d_X_forced_38 rfl rfl ?_
        refine r_geti hk 1 rfl rfl d_X_forced_39 ?_
        refine r_imul hs d_X_forced_42 ?_
        refine r_isub hs (by rw [b4, b5, g6]; omega) d_X_forced_43 ?_
        refine r_iload_n hs d_X_forced_44 rfl rfl ?_
        refine r_isub hs (by rw [b4, b5, g6]; omega) d_X_forced_45 ?_
        have hbit : fi_18 3 - 1 - r1 * fi_18 1 - c1 < 32 := by rw [b5, g6]; omega
        refine r_istore_n hs d_X_forced_46 rfl (Nat.le_of_ble_eq_true rfl) (Nat.le_of_ble_eq_true rfl) ?_
        refine r_aload_n hs d_X_forced_47 rfl rfl ?_
        refine r_geti hk 30 rfl rfl d_X_forced_48 ?_
        refine r_iload_n hs d_X_forced_51 rfl rfl ?_
        refine r_ishr hs (by omega) hbit d_X_forced_52 ?_
        refine r_iconst hs 1 d_X_forced_53 (by decide) ?_
        refine r_iand hs d_X_forced_54 ?_
        refine r_iconst hs 1 d_X_forced_55 (by decide) ?_
        have hb1 : ∀ z, z &&& 1 < 2 ^ 31 := fun z => Nat.lt_of_le_of_lt Nat.and_le_right (by decide)
        refine r_icmp_ne (tgt := 61) hs (hb1 _) (by decide) d_X_forced_56 (by decide) (fun c_56 => ?_) (fun c_56 => ?_)
        · refine r_aload_n hs d_X_forced_61 rfl rfl ?_
          refine r_geti hk 31 rfl rfl d_X_forced_62 ?_
          refine r_iload_n hs d_X_forced_65 rfl rfl ?_
          refine r_ishr hs (by omega) hbit d_X_forced_66 ?_
          refine r_iconst hs 1 d_X_forced_67 (by decide) ?_
          refine r_iand hs d_X_forced_68 ?_
          refine r_iconst hs 1 d_X_forced_69 (by decide) ?_
          refine r_icmp_ne (tgt := 77) hs (hb1 _) (by decide) d_X_forced_70 (by decide) (fun c_70 => ?_) (fun c_70 => ?_)
          · refine r_iconst hs 0 d_X_forced_77 (by decide) ?_
            exact r_ret hk d_X_forced_78 ⟨_, rfl, Or.inr ⟨r1, c1, hr1, hc1, rfl, rfl, p_18, by rw [frcV, if_neg c_25, if_neg c_56, if_neg c_70]⟩⟩
          · refine r_iconst hs 2 d_X_forced_73 (by decide) ?_
            refine r_goto (tgt := 78) hs d_X_forced_74 (by decide) ?_
            exact r_ret hk d_X_forced_78 ⟨_, rfl, Or.inr ⟨r1, c1, hr1, hc1, rfl, rfl, p_18, by rw [frcV, if_neg c_25, if_neg c_56, if_pos c_70]⟩⟩
        · refine r_iconst hs 1 d_X_forced_59 (by decide) ?_
          exact r_ret hk d_X_forced_60 ⟨_, rfl, Or.inr ⟨r1, c1, hr1, hc1, rfl, rfl, p_18, by rw [frcV, if_neg c_25, if_pos c_56]⟩⟩
      · refine r_bipush hs 4294967292 d_X_forced_28 (by decide) ?_
        exact r_ret hk d_X_forced_30 ⟨_, rfl, Or.inr ⟨r1, c1, hr1, hc1, rfl, rfl, p_18, by rw [frcV, if_pos c_25]⟩⟩
    · exact absurd c_6 (by decide)
  · refine r_ifR_ne (tgt := 11) hs d_X_forced_6 (by decide) (fun c_6 => ?_) (fun c_6 => ?_)
    · exact absurd rfl c_6
    · refine r_iconst hs 4294967295 d_X_forced_9 (by decide) ?_
      exact r_ret hk d_X_forced_10 ⟨_, rfl, Or.inl ⟨hg, rfl, rfl, rfl⟩⟩
end
section
/-! ExprCrosswordModel: sets of words, and the methods that make them. Slots: 0 stack, 1 letterCount, 2 depth, 3 lines, 4 pins, 5 rows, 6 columns. -/
theorem pw16 {n : Nat} (h : n ≤ 4) : 1 ≤ 1 <<< n ∧ 1 <<< n ≤ 16 := by
  rw [Nat.one_shiftLeft]
  exact ⟨Nat.two_pow_pos n, Nat.pow_le_pow_right (n := 2) (by decide) h⟩
theorem wn31 {n b : Nat} (h : n ≤ 4) (hb : b < 1 <<< n) : 1 <<< n - 1 + b < 31 := by
  have := pw16 h
  omega
theorem shr_in {b n p : Nat} (hb : b < 1 <<< n) (hp : p ≤ n) : b >>> (n - p) < 1 <<< p := by
  rw [Nat.one_shiftLeft] at hb ⊢
  rw [Nat.shiftRight_eq_div_pow]
  apply Nat.div_lt_of_lt_mul
  rw [← Nat.pow_add]
  rwa [show n - p + p = n by omega]
theorem msk_in (b n : Nat) : b &&& (1 <<< n - 1) < 1 <<< n := by
  rw [Nat.one_shiftLeft, Nat.and_two_pow_sub_one_eq_mod]
  exact Nat.mod_lt _ (Nat.two_pow_pos n)
abbrev hol (set n b : Nat) : Prop := set >>> (1 <<< n - 1 + b) &&& 1 = 1
def wrd (n b : Nat) : Nat := 1 <<< (1 <<< n - 1 + b)
theorem wrd_lt {n b : Nat} (h : n ≤ 4) (hb : b < 1 <<< n) : wrd n b < 2 ^ 31 := by
  unfold wrd
  rw [Nat.one_shiftLeft]
  exact Nat.pow_lt_pow_right (by decide) (wn31 h hb)
abbrev splP (x y n b p : Nat) : Prop := hol x p (b >>> (n - p)) ∧ hol y (n - p) (b &&& (1 <<< (n - p) - 1))
def splB (x y least n b : Nat) : Bool := (List.range (n + 1)).any (fun p => decide (least ≤ p ∧ splP x y n b p))
theorem splB_t {x y least n b p : Nat} (h1 : least ≤ p) (h2 : p ≤ n) (h : splP x y n b p) : splB x y least n b = true := by
  unfold splB
  rw [List.any_eq_true]
  exact ⟨p, List.mem_range.mpr (by omega), decide_eq_true ⟨h1, h⟩⟩
theorem splB_f {x y least n b : Nat} (h : ∀ p, least ≤ p → p ≤ n → ¬ splP x y n b p) : ¬ splB x y least n b = true := by
  unfold splB
  rw [List.any_eq_true]
  rintro ⟨p, h1, h2⟩
  have h2 := of_decide_eq_true h2
  exact h p h2.1 (by have := List.mem_range.mp h1; omega) h2.2
def proI (x y n s : Nat) : Nat → Nat
  | 0 => s
  | b + 1 => if splB x y 0 n b = true then proI x y n s b ||| wrd n b else proI x y n s b
def proO (x y : Nat) : Nat → Nat
  | 0 => 0
  | n + 1 => proI x y n (proO x y n) (1 <<< n)
def chaI (x n s : Nat) : Nat → Nat
  | 0 => s
  | b + 1 => if splB x (chaI x n s b) 1 n b = true then chaI x n s b ||| wrd n b else chaI x n s b
def chaO (x : Nat) : Nat → Nat
  | 0 => 1
  | n + 1 => chaI x (n + 1) (chaO x n) (1 <<< (n + 1))
theorem chaI_lt {x n s b : Nat} (hn : n ≤ 4) (hb : b ≤ 1 <<< n) (hs : s < 2 ^ 31) : chaI x n s b < 2 ^ 31 := by
  induction b with
  | zero => exact hs
  | succ b ih =>
    have ih := ih (by omega)
    rw [chaI]
    split
    · exact Nat.or_lt_two_pow ih (wrd_lt hn (by omega))
    · exact ih
theorem chaO_lt {x n : Nat} (hn : n ≤ 4) : chaO x n < 2 ^ 31 := by
  induction n with
  | zero => rw [chaO]; decide
  | succ n ih => exact chaI_lt hn (Nat.le_refl _) (ih (by omega))
theorem proI_lt {x y n s b : Nat} (hn : n ≤ 4) (hb : b ≤ 1 <<< n) (hs : s < 2 ^ 31) : proI x y n s b < 2 ^ 31 := by
  induction b with
  | zero => exact hs
  | succ b ih =>
    have ih := ih (by omega)
    rw [proI]
    split
    · exact Nat.or_lt_two_pow ih (wrd_lt hn (by omega))
    · exact ih
theorem proO_lt {x y n : Nat} (hn : n ≤ 5) : proO x y n < 2 ^ 31 := by
  induction n with
  | zero => rw [proO]; decide
  | succ n ih => exact proI_lt (by omega) (Nat.le_refl _) (ih (by omega))
def mirP (b : Nat) : Nat → Nat
  | 0 => 0
  | i + 1 => mirP b i * 2 + (b >>> i &&& 1)
theorem mirP_lt (b n : Nat) : mirP b n < 1 <<< n := by
  rw [Nat.one_shiftLeft]
  induction n with
  | zero => rw [mirP]; decide
  | succ n ih =>
    rw [mirP, Nat.pow_succ]
    have : b >>> n &&& 1 ≤ 1 := Nat.and_le_right
    omega
def mrsI (x n s : Nat) : Nat → Nat
  | 0 => s
  | b + 1 => if hol x n (mirP b n) then mrsI x n s b ||| wrd n b else mrsI x n s b
def mrsO (x : Nat) : Nat → Nat
  | 0 => 0
  | n + 1 => mrsI x n (mrsO x n) (1 <<< n)
theorem mrsI_lt {x n s b : Nat} (hn : n ≤ 4) (hb : b ≤ 1 <<< n) (hs : s < 2 ^ 31) : mrsI x n s b < 2 ^ 31 := by
  induction b with
  | zero => exact hs
  | succ b ih =>
    have ih := ih (by omega)
    rw [mrsI]
    split
    · exact Nat.or_lt_two_pow ih (wrd_lt hn (by omega))
    · exact ih
theorem mrsO_lt {x n : Nat} (hn : n ≤ 5) : mrsO x n < 2 ^ 31 := by
  induction n with
  | zero => rw [mrsO]; decide
  | succ n ih => exact mrsI_lt (by omega) (Nat.le_refl _) (ih (by omega))
def ltsP (ar : Nat → Nat → Nat) : Nat → Nat
  | 0 => 0
  | i + 1 => ltsP ar i + ar 1 i
theorem c_M_holds (l : Launch) (fi : Nat → Nat) (ar : Nat → Nat → Nat) (set n b : Nat) (hset : set < 2 ^ 31) (hn : n ≤ 4) (hb : b < 1 <<< n) : oMetI l 1 y_M_holds b_M_holds 4 (some .boolean) 0 [.int (nI set), .int (nI n), .int (nI b)] fi ar (fun r f a => ((r = 1 ∧ hol set n b) ∨ (r = 0 ∧ ¬ hol set n b)) ∧ f = fi ∧ a = ar) := by
  have h31 := wn31 hn hb
  have hpw := pw16 hn
  have hb1 : set >>> (1 <<< n - 1 + b) &&& 1 < 2 ^ 31 := Nat.lt_of_le_of_lt Nat.and_le_right (by decide)
  refine oMetI_of (c := 1) (by decide) plain_M rfl (Or.inr ⟨rfl, fun r f a h => by rcases h.1 with h | h; exact Or.inr h.1; exact Or.inl h.1⟩) rfl (Nat.le_of_ble_eq_true rfl) (fun h0 ad K hk => ?_)
  have hs := hk.sim
  refine r_iload_n hs d_M_holds_0 rfl rfl ?_
  refine r_iconst hs 1 d_M_holds_1 (by decide) ?_
  refine r_iload_n hs d_M_holds_2 rfl rfl ?_
  refine r_ishl hs (by omega) (shl1 (by omega)) d_M_holds_3 ?_
  refine r_iconst hs 1 d_M_holds_4 (by decide) ?_
  refine r_isub hs hpw.1 d_M_holds_5 ?_
  refine r_iload_n hs d_M_holds_6 rfl rfl ?_
  refine r_iadd hs d_M_holds_7 ?_
  refine r_ishr hs hset (by omega) d_M_holds_8 ?_
  refine r_iconst hs 1 d_M_holds_9 (by decide) ?_
  refine r_iand hs d_M_holds_10 ?_
  refine r_iconst hs 1 d_M_holds_11 (by decide) ?_
  refine r_icmp_ne (tgt := 19) hs hb1 (by decide) d_M_holds_12 (by decide) (fun c_12 => ?_) (fun c_12 => ?_)
  · refine r_iconst hs 0 d_M_holds_19 (by decide) ?_
    exact r_ret hk d_M_holds_20 ⟨_, rfl, Or.inr ⟨rfl, c_12⟩, rfl, rfl⟩
  · refine r_iconst hs 1 d_M_holds_15 (by decide) ?_
    refine r_goto (tgt := 20) hs d_M_holds_16 (by decide) ?_
    exact r_ret hk d_M_holds_20 ⟨_, rfl, Or.inl ⟨rfl, c_12⟩, rfl, rfl⟩
theorem c_M_word (l : Launch) (fi : Nat → Nat) (ar : Nat → Nat → Nat) (n b : Nat) (hn : n ≤ 4) (hb : b < 1 <<< n) : oMetI l 1 y_M_word b_M_word 3 (some .int) 0 [.int (nI n), .int (nI b)] fi ar (fun r f a => r = nI (wrd n b) ∧ f = fi ∧ a = ar) := by
  have h31 := wn31 hn hb
  have hpw := pw16 hn
  refine oMetI_of (c := 1) (by decide) plain_M rfl (Or.inl rfl) rfl (Nat.le_of_ble_eq_true rfl) (fun h0 ad K hk => ?_)
  have hs := hk.sim
  refine r_iconst hs 1 d_M_word_0 (by decide) ?_
  refine r_iconst hs 1 d_M_word_1 (by decide) ?_
  refine r_iload_n hs d_M_word_2 rfl rfl ?_
  refine r_ishl hs (by omega) (shl1 (by omega)) d_M_word_3 ?_
  refine r_iconst hs 1 d_M_word_4 (by decide) ?_
  refine r_isub hs hpw.1 d_M_word_5 ?_
  refine r_iload_n hs d_M_word_6 rfl rfl ?_
  refine r_iadd hs d_M_word_7 ?_
  refine r_ishl hs (by omega) (shl1 (by omega)) d_M_word_8 ?_
  exact r_ret hk d_M_word_9 ⟨_, rfl, rfl, rfl, rfl⟩
theorem c_M_push (l : Launch) (fi : Nat → Nat) (ar : Nat → Nat → Nat) (set n : Nat) (hd : fi 2 < 6) : oMetI l 1 y_M_push b_M_push 3 (some .int) 0 [.int (nI set), .int (nI n)] fi ar (PI (fi 2 + 1, up fi 2 (fi 2 + 1), up2 (up2 ar 0 (fi 2) set) 1 (fi 2) n)) := by
  refine oMetI_of (c := 1) (by decide) plain_M rfl (Or.inl rfl) rfl (Nat.le_of_ble_eq_true rfl) (fun h0 ad K hk => ?_)
  have hs := hk.sim
  refine r_aload_n hs d_M_push_0 rfl rfl ?_
  refine r_geta hk 0 rfl rfl d_M_push_1 ?_
  refine r_aload_n hs d_M_push_4 rfl rfl ?_
  refine r_geti hk 2 rfl rfl d_M_push_5 ?_
  refine r_iload_n hs d_M_push_8 rfl rfl ?_
  refine r_ast hk 6 rfl rfl (by omega) d_M_push_9 ?_
  refine r_aload_n hs d_M_push_10 rfl rfl ?_
  refine r_geta hk 1 rfl rfl d_M_push_11 ?_
  refine r_aload_n hs d_M_push_14 rfl rfl ?_
  refine r_geti hk 2 rfl rfl d_M_push_15 ?_
  refine r_iload_n hs d_M_push_18 rfl rfl ?_
  refine r_ast hk 6 rfl rfl (by omega) d_M_push_19 ?_
  refine r_aload_n hs d_M_push_20 rfl rfl ?_
  refine r_dup hs d_M_push_21 rfl ?_
  refine r_geti hk 2 rfl rfl d_M_push_22 ?_
  refine r_iconst hs 1 d_M_push_25 (by decide) ?_
  refine r_iadd hs d_M_push_26 ?_
  refine r_puti hk 2 (by decide) rfl d_M_push_27 ?_
  refine r_aload_n hs d_M_push_30 rfl rfl ?_
  refine r_geti hk 2 rfl rfl d_M_push_31 ?_
  exact r_ret hk d_M_push_34 ⟨_, rfl, rfl, rfl, rfl⟩
theorem c_M_depth (l : Launch) (fi : Nat → Nat) (ar : Nat → Nat → Nat) : oMetI l 1 y_M_depth b_M_depth 1 (some .int) 0 [] fi ar (PI (fi 2, fi, ar)) := by
  refine oMetI_of (c := 1) (by decide) plain_M rfl (Or.inl rfl) rfl (Nat.le_of_ble_eq_true rfl) (fun h0 ad K hk => ?_)
  have hs := hk.sim
  refine r_aload_n hs d_M_depth_0 rfl rfl ?_
  refine r_geti hk 2 rfl rfl d_M_depth_1 ?_
  exact r_ret hk d_M_depth_4 ⟨_, rfl, rfl, rfl, rfl⟩
theorem c_M_letters (l : Launch) (fi : Nat → Nat) (ar : Nat → Nat → Nat) (hd : fi 2 ≤ 6) : oMetI l 1 y_M_letters b_M_letters 3 (some .int) 0 [] fi ar (PI (ltsP ar (fi 2), fi, ar)) := by
  refine oMetI_of (c := 1) (by decide) plain_M rfl (Or.inl rfl) rfl (Nat.le_of_ble_eq_true rfl) (fun h0 ad K hk => ?_)
  have hs := hk.sim
  have J : ∀ i, i ≤ fi 2 → K 4 [.ref h0, .int (nI (ltsP ar i)), .int (nI i)] [] (fi, ar) := by
    refine loopD (fun i hi ih => ?_)
    refine r_iload_n hs d_M_letters_4 rfl rfl ?_
    refine r_aload_n hs d_M_letters_5 rfl rfl ?_
    refine r_geti hk 2 rfl rfl d_M_letters_6 ?_
    refine r_icmp_ge (tgt := 27) hs (by first | omega | exact hB _ _ | exact hF _) (by first | omega | exact hB _ _ | exact hF _) d_M_letters_9 (by decide) (fun c_9 => ?_) (fun c_9 => ?_)
    · obtain rfl : i = fi 2 := by omega
      refine r_iload_n hs d_M_letters_27 rfl rfl ?_
      exact r_ret hk d_M_letters_28 ⟨_, rfl, rfl, rfl, rfl⟩
    · refine r_iload_n hs d_M_letters_12 rfl rfl ?_
      refine r_aload_n hs d_M_letters_13 rfl rfl ?_
      refine r_geta hk 1 rfl rfl d_M_letters_14 ?_
      refine r_iload_n hs d_M_letters_17 rfl rfl ?_
      refine r_ald hk 6 rfl rfl (by omega) d_M_letters_18 ?_
      refine r_iadd hs d_M_letters_19 ?_
      refine r_istore_n hs d_M_letters_20 rfl (Nat.le_of_ble_eq_true rfl) (Nat.le_of_ble_eq_true rfl) ?_
      refine r_iinc hs d_M_letters_21 rfl (Nat.le_of_ble_eq_true rfl) (Nat.le_of_ble_eq_true rfl) ?_
      refine r_goto (tgt := 4) hs d_M_letters_24 (by decide) ?_
      exact ih c_9
  refine r_iconst hs 0 d_M_letters_0 (by decide) ?_
  refine r_istore_n hs d_M_letters_1 rfl (Nat.le_of_ble_eq_true rfl) (Nat.le_of_ble_eq_true rfl) ?_
  refine r_iconst hs 0 d_M_letters_2 (by decide) ?_
  refine r_istore_n hs d_M_letters_3 rfl (Nat.le_of_ble_eq_true rfl) (Nat.le_of_ble_eq_true rfl) ?_
  exact J 0 (by omega)
def letM (x : Int32) (fi : Nat → Nat) (ar : Nat → Nat → Nat) : Nat × (Nat → Nat) × (Nat → Nat → Nat) :=
  if x < 0 ∨ 2 < x then (4294967295, fi, ar) else if fi 2 = 6 ∨ ltsP ar (fi 2) = 8 then (4294967294, fi, ar) else
  (fi 2 + 1, up fi 2 (fi 2 + 1), up2 (up2 ar 0 (fi 2) (if x.toNatClampNeg = 0 then 2 else if x.toNatClampNeg = 1 then 4 else 6)) 1 (fi 2) 1)
def unitM (fi : Nat → Nat) (ar : Nat → Nat → Nat) : Nat × (Nat → Nat) × (Nat → Nat → Nat) :=
  if fi 2 = 6 then (4294967294, fi, ar) else (fi 2 + 1, up fi 2 (fi 2 + 1), up2 (up2 ar 0 (fi 2) 1) 1 (fi 2) 0)
theorem c_M_letter (l : Launch) (fi : Nat → Nat) (ar : Nat → Nat → Nat) (x : Int32) (hd : fi 2 ≤ 6) (hlt : ltsP ar (fi 2) < 2 ^ 31) : oMetI l 1 y_M_letter b_M_letter 2 (some .int) 1 [.int x] fi ar (PI (letM x fi ar)) := by
  refine oMetI_of (c := 1) (by decide) plain_M rfl (Or.inl rfl) rfl (Nat.le_of_ble_eq_true rfl) (fun h0 ad K hk => ?_)
  have hs := hk.sim
  have J0 : (x < 0 ∨ 2 < x) → K 9 [.ref h0, .int x] [] (fi, ar) := by
    intro hx
    refine r_iconst hs 4294967295 d_M_letter_9 (by decide) ?_
    exact r_ret hk d_M_letter_10 ⟨_, rfl, by rw [letM, if_pos hx]; exact ⟨rfl, rfl, rfl⟩⟩
  refine r_iload_n hs d_M_letter_0 rfl rfl ?_
  refine r_ifR_lt (tgt := 9) hs d_M_letter_1 (by decide) (fun c_1 => ?_) (fun c_1 => ?_)
  · exact J0 (Or.inl c_1)
  · refine r_iload_n hs d_M_letter_4 rfl rfl ?_
    refine r_iconst hs 2 d_M_letter_5 (by decide) ?_
    refine r_icmpR_le (tgt := 11) hs d_M_letter_6 (by decide) (fun c_6 => ?_) (fun c_6 => ?_)
    · have hx : ¬ (x < 0 ∨ 2 < x) := by
        rintro (h | h)
        · exact c_1 h
        · exact absurd c_6 (Int32.not_le.mpr h)
      obtain ⟨j, hj, rfl⟩ := nI_of2 (M := 2) (n := 2) rfl c_1 c_6
      have J1 : (fi 2 = 6 ∨ ltsP ar (fi 2) = 8) → K 29 [.ref h0, .int (nI j)] [] (fi, ar) := by
        intro hf
        refine r_bipush hs 4294967294 d_M_letter_29 (by decide) ?_
        exact r_ret hk d_M_letter_31 ⟨_, rfl, by rw [letM, if_neg hx, if_pos hf]; exact ⟨rfl, rfl, rfl⟩⟩
      refine r_aload_n hs d_M_letter_11 rfl rfl ?_
      refine r_geti hk 2 rfl rfl d_M_letter_12 ?_
      refine r_bipush hs 6 d_M_letter_15 (by decide) ?_
      refine r_icmp_eq (tgt := 29) hs (by first | omega | exact hB _ _ | exact hF _) (by first | omega | exact hB _ _ | exact hF _) d_M_letter_17 (by decide) (fun c_17 => ?_) (fun c_17 => ?_)
      · exact J1 (Or.inl c_17)
      · refine r_aload_n hs d_M_letter_20 rfl rfl ?_
        refine r_calli hk (c_M_letters l fi ar hd) k_M_letters (by decide) (by decide) rfl (Nat.le_of_ble_eq_true rfl) d_M_letter_21 (fun r_21 fi_21 ar_21 p_21 => ?_)
        obtain ⟨h1, h2, h3⟩ := p_21
        rw [h1, h2, h3]
        refine r_bipush hs 8 d_M_letter_24 (by decide) ?_
        refine r_icmp_ne (tgt := 32) hs (by first | omega | exact hB _ _ | exact hF _) (by first | omega | exact hB _ _ | exact hF _) d_M_letter_26 (by decide) (fun c_26 => ?_) (fun c_26 => ?_)
        · have hlm := letM.eq_1 (nI j) fi ar
          rw [if_neg hx, if_neg (by omega), nI_clamp (by omega)] at hlm
          have J2 : ∀ w, w = (if j = 0 then 2 else if j = 1 then 4 else 6) → K 52 [.ref h0, .int (nI j)] [.int (nI w), .ref h0] (fi, ar) := by
            intro w hw
            refine r_iconst hs 1 d_M_letter_52 (by decide) ?_
            refine r_calli hk (c_M_push l fi ar w 1 (by omega)) k_M_push (by decide) (by decide) rfl (Nat.le_of_ble_eq_true rfl) d_M_letter_53 (fun r_53 fi_53 ar_53 p_53 => ?_)
            obtain ⟨h1, h2, h3⟩ := p_53
            rw [h1, h2, h3]
            exact r_ret hk d_M_letter_56 ⟨_, rfl, by rw [hlm, ← hw]; exact ⟨rfl, rfl, rfl⟩⟩
          refine r_aload_n hs d_M_letter_32 rfl rfl ?_
          refine r_iload_n hs d_M_letter_33 rfl rfl ?_
          refine r_if_ne (tgt := 41) hs (by first | omega | exact hB _ _ | exact hF _) d_M_letter_34 (by decide) (fun c_34 => ?_) (fun c_34 => ?_)
          · refine r_iload_n hs d_M_letter_41 rfl rfl ?_
            refine r_iconst hs 1 d_M_letter_42 (by decide) ?_
            refine r_icmp_ne (tgt := 50) hs (by first | omega | exact hB _ _ | exact hF _) (by first | omega | exact hB _ _ | exact hF _) d_M_letter_43 (by decide) (fun c_43 => ?_) (fun c_43 => ?_)
            · refine r_bipush hs 6 d_M_letter_50 (by decide) ?_
              exact J2 6 (by rw [if_neg c_34, if_neg c_43])
            · refine r_iconst hs 4 d_M_letter_46 (by decide) ?_
              refine r_goto (tgt := 52) hs d_M_letter_47 (by decide) ?_
              exact J2 4 (by rw [if_neg c_34, if_pos c_43])
          · refine r_iconst hs 2 d_M_letter_37 (by decide) ?_
            refine r_goto (tgt := 52) hs d_M_letter_38 (by decide) ?_
            exact J2 2 (by rw [if_pos c_34])
        · exact J1 (Or.inr c_26)
    · exact J0 (Or.inr (Int32.not_le.mp c_6))
theorem c_M_unit (l : Launch) (fi : Nat → Nat) (ar : Nat → Nat → Nat) (hd : fi 2 ≤ 6) : oMetI l 1 y_M_unit b_M_unit 1 (some .int) 1 [] fi ar (PI (unitM fi ar)) := by
  refine oMetI_of (c := 1) (by decide) plain_M rfl (Or.inl rfl) rfl (Nat.le_of_ble_eq_true rfl) (fun h0 ad K hk => ?_)
  have hs := hk.sim
  refine r_aload_n hs d_M_unit_0 rfl rfl ?_
  refine r_geti hk 2 rfl rfl d_M_unit_1 ?_
  refine r_bipush hs 6 d_M_unit_4 (by decide) ?_
  refine r_icmp_ne (tgt := 12) hs (by first | omega | exact hB _ _ | exact hF _) (by first | omega | exact hB _ _ | exact hF _) d_M_unit_6 (by decide) (fun c_6 => ?_) (fun c_6 => ?_)
  · refine r_aload_n hs d_M_unit_12 rfl rfl ?_
    refine r_iconst hs 1 d_M_unit_13 (by decide) ?_
    refine r_iconst hs 0 d_M_unit_14 (by decide) ?_
    refine r_calli hk (c_M_push l fi ar 1 0 (by omega)) k_M_push (by decide) (by decide) rfl (Nat.le_of_ble_eq_true rfl) d_M_unit_15 (fun r_15 fi_15 ar_15 p_15 => ?_)
    obtain ⟨h1, h2, h3⟩ := p_15
    rw [h1, h2, h3]
    exact r_ret hk d_M_unit_18 ⟨_, rfl, by rw [unitM, if_neg c_6]; exact ⟨rfl, rfl, rfl⟩⟩
  · refine r_bipush hs 4294967294 d_M_unit_9 (by decide) ?_
    exact r_ret hk d_M_unit_11 ⟨_, rfl, by rw [unitM, if_pos c_6]; exact ⟨rfl, rfl, rfl⟩⟩
theorem c_M_splits (l : Launch) (fi : Nat → Nat) (ar : Nat → Nat → Nat) (x y least n b : Nat) (hx : x < 2 ^ 31) (hy : y < 2 ^ 31) (hle : least ≤ n) (hn : n ≤ 4) (hb : b < 1 <<< n) : oMetI l 1 y_M_splits b_M_splits 8 (some .boolean) 1 [.int (nI x), .int (nI y), .int (nI least), .int (nI n), .int (nI b)] fi ar (fun r f a => ((r = 1 ∧ splB x y least n b = true) ∨ (r = 0 ∧ ¬ splB x y least n b = true)) ∧ f = fi ∧ a = ar) := by
  have hpw := pw16 hn
  refine oMetI_of (c := 1) (by decide) plain_M rfl (Or.inr ⟨rfl, fun r f a h => by rcases h.1 with h | h; exact Or.inr h.1; exact Or.inl h.1⟩) rfl (Nat.le_of_ble_eq_true rfl) (fun h0 ad K hk => ?_)
  have hs := hk.sim
  have J : ∀ p, p ≤ n + 1 → least ≤ p → (∀ q, least ≤ q → q < p → ¬ splP x y n b q) → K 3 [.ref h0, .int (nI x), .int (nI y), .int (nI least), .int (nI n), .int (nI b), .int (nI p)] [] (fi, ar) := by
    refine loopD (fun p hp ih hlp hno => ?_)
    refine r_iload hs d_M_splits_3 rfl ?_
    refine r_iload hs d_M_splits_5 rfl ?_
    refine r_icmp_gt (tgt := 59) hs (by first | omega | exact hB _ _ | exact hF _) (by first | omega | exact hB _ _ | exact hF _) d_M_splits_7 (by decide) (fun c_7 => ?_) (fun c_7 => ?_)
    · refine r_iconst hs 0 d_M_splits_59 (by decide) ?_
      exact r_ret hk d_M_splits_60 ⟨_, rfl, Or.inr ⟨rfl, splB_f (fun q h1 h2 => hno q h1 (by omega))⟩, rfl, rfl⟩
    · have JN : ¬ splP x y n b p → ∀ w, K 53 [.ref h0, .int (nI x), .int (nI y), .int (nI least), .int (nI n), .int (nI b), .int (nI p), w] [] (fi, ar) := by
        intro hnp w
        refine r_iinc hs d_M_splits_53 rfl (Nat.le_of_ble_eq_true rfl) (Nat.le_of_ble_eq_true rfl) ?_
        refine r_goto (tgt := 3) hs d_M_splits_56 (by decide) ?_
        refine r_take hs 7 ?_
        exact ih (by omega) (by omega) (fun q h1 h2 => by
          rcases Nat.lt_or_ge q p with h | h
          · exact hno q h1 h
          · rw [show q = p by omega]; exact hnp)
      refine r_iload hs d_M_splits_10 rfl ?_
      refine r_iload hs d_M_splits_12 rfl ?_
      refine r_isub hs (by omega) d_M_splits_14 ?_
      refine r_istore hs d_M_splits_15 (Nat.le_of_ble_eq_true rfl) (Nat.le_of_ble_eq_true rfl) ?_
      refine r_aload_n hs d_M_splits_17 rfl rfl ?_
      refine r_iload_n hs d_M_splits_18 rfl rfl ?_
      refine r_iload hs d_M_splits_19 rfl ?_
      refine r_iload hs d_M_splits_21 rfl ?_
      refine r_iload hs d_M_splits_23 rfl ?_
      refine r_ishr hs (by first | omega | exact hB _ _ | exact hF _) (by omega) d_M_splits_25 ?_
      refine r_calli hk (c_M_holds l fi ar x p (b >>> (n - p)) hx (by omega) (shr_in hb c_7)) k_M_holds (by decide) (by decide) rfl (Nat.le_of_ble_eq_true rfl) d_M_splits_26 (fun r_26 fi_26 ar_26 p_26 => ?_)
      obtain ⟨h1, h2, h3⟩ := p_26
      rw [h2, h3]
      rcases h1 with ⟨rfl, h1⟩ | ⟨rfl, h1⟩
      · refine r_ifR_eq (tgt := 53) hs d_M_splits_29 (by decide) (fun c_29 => ?_) (fun c_29 => ?_)
        · exact absurd c_29 (by decide)
        · have hpw2 := pw16 (show n - p ≤ 4 by omega)
          refine r_aload_n hs d_M_splits_32 rfl rfl ?_
          refine r_iload_n hs d_M_splits_33 rfl rfl ?_
          refine r_iload hs d_M_splits_34 rfl ?_
          refine r_iload hs d_M_splits_36 rfl ?_
          refine r_iconst hs 1 d_M_splits_38 (by decide) ?_
          refine r_iload hs d_M_splits_39 rfl ?_
          refine r_ishl hs (by omega) (shl1 (by omega)) d_M_splits_41 ?_
          refine r_iconst hs 1 d_M_splits_42 (by decide) ?_
          refine r_isub hs hpw2.1 d_M_splits_43 ?_
          refine r_iand hs d_M_splits_44 ?_
          refine r_calli hk (c_M_holds l fi ar y (n - p) (b &&& (1 <<< (n - p) - 1)) hy (by omega) (msk_in _ _)) k_M_holds (by decide) (by decide) rfl (Nat.le_of_ble_eq_true rfl) d_M_splits_45 (fun r_45 fi_45 ar_45 p_45 => ?_)
          obtain ⟨h4, h5, h6⟩ := p_45
          rw [h5, h6]
          rcases h4 with ⟨rfl, h4⟩ | ⟨rfl, h4⟩
          · refine r_ifR_eq (tgt := 53) hs d_M_splits_48 (by decide) (fun c_48 => ?_) (fun c_48 => ?_)
            · exact absurd c_48 (by decide)
            · refine r_iconst hs 1 d_M_splits_51 (by decide) ?_
              exact r_ret hk d_M_splits_52 ⟨_, rfl, Or.inl ⟨rfl, splB_t hlp c_7 ⟨h1, h4⟩⟩, rfl, rfl⟩
          · refine r_ifR_eq (tgt := 53) hs d_M_splits_48 (by decide) (fun c_48 => ?_) (fun c_48 => ?_)
            · exact JN (fun q => h4 q.2) _
            · exact absurd rfl c_48
      · refine r_ifR_eq (tgt := 53) hs d_M_splits_29 (by decide) (fun c_29 => ?_) (fun c_29 => ?_)
        · exact JN (fun q => h1 q.1) _
        · exact absurd rfl c_29
  refine r_iload_n hs d_M_splits_0 rfl rfl ?_
  refine r_istore hs d_M_splits_1 (Nat.le_of_ble_eq_true rfl) (Nat.le_of_ble_eq_true rfl) ?_
  exact J least (by omega) (Nat.le_refl _) (fun q h1 h2 => by omega)
theorem c_M_products (l : Launch) (fi : Nat → Nat) (ar : Nat → Nat → Nat) (x y : Nat) (hx : x < 2 ^ 31) (hy : y < 2 ^ 31) : oMetI l 1 y_M_products b_M_products 6 (some .int) 2 [.int (nI x), .int (nI y)] fi ar (fun r f a => r = nI (proO x y 5) ∧ f = fi ∧ a = ar) := by
  refine oMetI_of (c := 1) (by decide) plain_M rfl (Or.inl rfl) rfl (Nat.le_of_ble_eq_true rfl) (fun h0 ad K hk => ?_)
  have hs := hk.sim
  have J : ∀ n, n ≤ 5 → K 5 [.ref h0, .int (nI x), .int (nI y), .int (nI (proO x y n)), .int (nI n)] [] (fi, ar) := by
    refine loopD (fun n hn ih => ?_)
    refine r_iload hs d_M_products_5 rfl ?_
    refine r_iconst hs 4 d_M_products_7 (by decide) ?_
    refine r_icmp_gt (tgt := 60) hs (by first | omega | exact hB _ _ | exact hF _) (by first | omega | exact hB _ _ | exact hF _) d_M_products_8 (by decide) (fun c_8 => ?_) (fun c_8 => ?_)
    · obtain rfl : n = 5 := by omega
      refine r_iload_n hs d_M_products_60 rfl rfl ?_
      exact r_ret hk d_M_products_61 ⟨_, rfl, rfl, rfl, rfl⟩
    · have e := ih (by omega)
      have hpw := pw16 c_8
      have J2 : ∀ b, b ≤ 1 <<< n → K 14 [.ref h0, .int (nI x), .int (nI y), .int (nI (proI x y n (proO x y n) b)), .int (nI n), .int (nI b)] [] (fi, ar) := by
        refine loopD (fun b hb ih2 => ?_)
        refine r_iload hs d_M_products_14 rfl ?_
        refine r_iconst hs 1 d_M_products_16 (by decide) ?_
        refine r_iload hs d_M_products_17 rfl ?_
        refine r_ishl hs (by omega) (shl1 (by omega)) d_M_products_19 ?_
        refine r_icmp_ge (tgt := 54) hs (by first | omega | exact hB _ _ | exact hF _) (by first | omega | exact hB _ _ | exact hF _) d_M_products_20 (by decide) (fun c_20 => ?_) (fun c_20 => ?_)
        · obtain rfl : b = 1 <<< n := by omega
          rw [proO] at e
          refine r_iinc hs d_M_products_54 rfl (Nat.le_of_ble_eq_true rfl) (Nat.le_of_ble_eq_true rfl) ?_
          refine r_goto (tgt := 5) hs d_M_products_57 (by decide) ?_
          exact r_take hs 5 e
        · have e2 := ih2 c_20
          rw [proI] at e2
          refine r_aload_n hs d_M_products_23 rfl rfl ?_
          refine r_iload_n hs d_M_products_24 rfl rfl ?_
          refine r_iload_n hs d_M_products_25 rfl rfl ?_
          refine r_iconst hs 0 d_M_products_26 (by decide) ?_
          refine r_iload hs d_M_products_27 rfl ?_
          refine r_iload hs d_M_products_29 rfl ?_
          refine r_calli hk (c_M_splits l fi ar x y 0 n b hx hy (by omega) c_8 c_20) k_M_splits (by decide) (by decide) rfl (Nat.le_of_ble_eq_true rfl) d_M_products_31 (fun r_31 fi_31 ar_31 p_31 => ?_)
          obtain ⟨h1, h2, h3⟩ := p_31
          rw [h2, h3]
          rcases h1 with ⟨rfl, h1⟩ | ⟨rfl, h1⟩
          · rw [if_pos h1] at e2
            refine r_ifR_eq (tgt := 48) hs d_M_products_34 (by decide) (fun c_34 => ?_) (fun c_34 => ?_)
            · exact absurd c_34 (by decide)
            · refine r_iload_n hs d_M_products_37 rfl rfl ?_
              refine r_aload_n hs d_M_products_38 rfl rfl ?_
              refine r_iload hs d_M_products_39 rfl ?_
              refine r_iload hs d_M_products_41 rfl ?_
              refine r_calli hk (c_M_word l fi ar n b c_8 c_20) k_M_word (by decide) (by decide) rfl (Nat.le_of_ble_eq_true rfl) d_M_products_43 (fun r_43 fi_43 ar_43 p_43 => ?_)
              obtain ⟨rfl, h5, h6⟩ := p_43
              rw [h5, h6]
              refine r_ior hs d_M_products_46 ?_
              refine r_istore_n hs d_M_products_47 rfl (Nat.le_of_ble_eq_true rfl) (Nat.le_of_ble_eq_true rfl) ?_
              refine r_iinc hs d_M_products_48 rfl (Nat.le_of_ble_eq_true rfl) (Nat.le_of_ble_eq_true rfl) ?_
              refine r_goto (tgt := 14) hs d_M_products_51 (by decide) ?_
              exact e2
          · rw [if_neg h1] at e2
            refine r_ifR_eq (tgt := 48) hs d_M_products_34 (by decide) (fun c_34 => ?_) (fun c_34 => ?_)
            · refine r_iinc hs d_M_products_48 rfl (Nat.le_of_ble_eq_true rfl) (Nat.le_of_ble_eq_true rfl) ?_
              refine r_goto (tgt := 14) hs d_M_products_51 (by decide) ?_
              exact e2
            · exact absurd rfl c_34
      refine r_iconst hs 0 d_M_products_11 (by decide) ?_
      refine r_istore hs d_M_products_12 (Nat.le_of_ble_eq_true rfl) (Nat.le_of_ble_eq_true rfl) ?_
      exact J2 0 (by omega)
  refine r_iconst hs 0 d_M_products_0 (by decide) ?_
  refine r_istore_n hs d_M_products_1 rfl (Nat.le_of_ble_eq_true rfl) (Nat.le_of_ble_eq_true rfl) ?_
  refine r_iconst hs 0 d_M_products_2 (by decide) ?_
  refine r_istore hs d_M_products_3 (Nat.le_of_ble_eq_true rfl) (Nat.le_of_ble_eq_true rfl) ?_
  exact J 0 (by omega)
theorem c_M_chains (l : Launch) (fi : Nat → Nat) (ar : Nat → Nat → Nat) (x : Nat) (hx : x < 2 ^ 31) : oMetI l 1 y_M_chains b_M_chains 5 (some .int) 2 [.int (nI x)] fi ar (fun r f a => r = nI (chaO x 4) ∧ f = fi ∧ a = ar) := by
  refine oMetI_of (c := 1) (by decide) plain_M rfl (Or.inl rfl) rfl (Nat.le_of_ble_eq_true rfl) (fun h0 ad K hk => ?_)
  have hs := hk.sim
  have J : ∀ n, n ≤ 4 → K 4 [.ref h0, .int (nI x), .int (nI (chaO x n)), .int (nI (n + 1))] [] (fi, ar) := by
    refine loopD (fun n hn ih => ?_)
    refine r_iload_n hs d_M_chains_4 rfl rfl ?_
    refine r_iconst hs 4 d_M_chains_5 (by decide) ?_
    refine r_icmp_gt (tgt := 55) hs (by first | omega | exact hB _ _ | exact hF _) (by first | omega | exact hB _ _ | exact hF _) d_M_chains_6 (by decide) (fun c_6 => ?_) (fun c_6 => ?_)
    · obtain rfl : n = 4 := by omega
      refine r_iload_n hs d_M_chains_55 rfl rfl ?_
      exact r_ret hk d_M_chains_56 ⟨_, rfl, rfl, rfl, rfl⟩
    · have e := ih (by omega)
      have hpw := pw16 (show n + 1 ≤ 4 by omega)
      have J2 : ∀ b, b ≤ 1 <<< (n + 1) → K 12 [.ref h0, .int (nI x), .int (nI (chaI x (n + 1) (chaO x n) b)), .int (nI (n + 1)), .int (nI b)] [] (fi, ar) := by
        refine loopD (fun b hb ih2 => ?_)
        refine r_iload hs d_M_chains_12 rfl ?_
        refine r_iconst hs 1 d_M_chains_14 (by decide) ?_
        refine r_iload_n hs d_M_chains_15 rfl rfl ?_
        refine r_ishl hs (by omega) (shl1 (by omega)) d_M_chains_16 ?_
        refine r_icmp_ge (tgt := 49) hs (by first | omega | exact hB _ _ | exact hF _) (by first | omega | exact hB _ _ | exact hF _) d_M_chains_17 (by decide) (fun c_17 => ?_) (fun c_17 => ?_)
        · obtain rfl : b = 1 <<< (n + 1) := by omega
          rw [chaO] at e
          refine r_iinc hs d_M_chains_49 rfl (Nat.le_of_ble_eq_true rfl) (Nat.le_of_ble_eq_true rfl) ?_
          refine r_goto (tgt := 4) hs d_M_chains_52 (by decide) ?_
          exact r_take hs 4 e
        · have e2 := ih2 c_17
          rw [chaI] at e2
          have hsb : chaI x (n + 1) (chaO x n) b < 2 ^ 31 := chaI_lt (by omega) (by omega) (chaO_lt (by omega))
          refine r_aload_n hs d_M_chains_20 rfl rfl ?_
          refine r_iload_n hs d_M_chains_21 rfl rfl ?_
          refine r_iload_n hs d_M_chains_22 rfl rfl ?_
          refine r_iconst hs 1 d_M_chains_23 (by decide) ?_
          refine r_iload_n hs d_M_chains_24 rfl rfl ?_
          refine r_iload hs d_M_chains_25 rfl ?_
          refine r_calli hk (c_M_splits l fi ar x (chaI x (n + 1) (chaO x n) b) 1 (n + 1) b hx hsb (by omega) c_6 c_17) k_M_splits (by decide) (by decide) rfl (Nat.le_of_ble_eq_true rfl) d_M_chains_27 (fun r_27 fi_27 ar_27 p_27 => ?_)
          obtain ⟨h1, h2, h3⟩ := p_27
          rw [h2, h3]
          rcases h1 with ⟨rfl, h1⟩ | ⟨rfl, h1⟩
          · rw [if_pos h1] at e2
            refine r_ifR_eq (tgt := 43) hs d_M_chains_30 (by decide) (fun c_30 => ?_) (fun c_30 => ?_)
            · exact absurd c_30 (by decide)
            · refine r_iload_n hs d_M_chains_33 rfl rfl ?_
              refine r_aload_n hs d_M_chains_34 rfl rfl ?_
              refine r_iload_n hs d_M_chains_35 rfl rfl ?_
              refine r_iload hs d_M_chains_36 rfl ?_
              refine r_calli hk (c_M_word l fi ar (n + 1) b c_6 c_17) k_M_word (by decide) (by decide) rfl (Nat.le_of_ble_eq_true rfl) d_M_chains_38 (fun r_38 fi_38 ar_38 p_38 => ?_)
              obtain ⟨rfl, h5, h6⟩ := p_38
              rw [h5, h6]
              refine r_ior hs d_M_chains_41 ?_
              refine r_istore_n hs d_M_chains_42 rfl (Nat.le_of_ble_eq_true rfl) (Nat.le_of_ble_eq_true rfl) ?_
              refine r_iinc hs d_M_chains_43 rfl (Nat.le_of_ble_eq_true rfl) (Nat.le_of_ble_eq_true rfl) ?_
              refine r_goto (tgt := 12) hs d_M_chains_46 (by decide) ?_
              exact e2
          · rw [if_neg h1] at e2
            refine r_ifR_eq (tgt := 43) hs d_M_chains_30 (by decide) (fun c_30 => ?_) (fun c_30 => ?_)
            · refine r_iinc hs d_M_chains_43 rfl (Nat.le_of_ble_eq_true rfl) (Nat.le_of_ble_eq_true rfl) ?_
              refine r_goto (tgt := 12) hs d_M_chains_46 (by decide) ?_
              exact e2
            · exact absurd rfl c_30
      refine r_iconst hs 0 d_M_chains_9 (by decide) ?_
      refine r_istore hs d_M_chains_10 (Nat.le_of_ble_eq_true rfl) (Nat.le_of_ble_eq_true rfl) ?_
      exact J2 0 (by omega)
  refine r_iconst hs 1 d_M_chains_0 (by decide) ?_
  refine r_istore_n hs d_M_chains_1 rfl (Nat.le_of_ble_eq_true rfl) (Nat.le_of_ble_eq_true rfl) ?_
  refine r_iconst hs 1 d_M_chains_2 (by decide) ?_
  refine r_istore_n hs d_M_chains_3 rfl (Nat.le_of_ble_eq_true rfl) (Nat.le_of_ble_eq_true rfl) ?_
  exact J 0 (by omega)
theorem c_M_mirrored (l : Launch) (fi : Nat → Nat) (ar : Nat → Nat → Nat) (n b : Nat) (hn : n ≤ 4) (hb : b < 2 ^ 31) : oMetI l 1 y_M_mirrored b_M_mirrored 5 (some .int) 0 [.int (nI n), .int (nI b)] fi ar (fun r f a => r = nI (mirP b n) ∧ f = fi ∧ a = ar) := by
  refine oMetI_of (c := 1) (by decide) plain_M rfl (Or.inl rfl) rfl (Nat.le_of_ble_eq_true rfl) (fun h0 ad K hk => ?_)
  have hs := hk.sim
  have J : ∀ i, i ≤ n → K 5 [.ref h0, .int (nI n), .int (nI b), .int (nI (mirP b i)), .int (nI i)] [] (fi, ar) := by
    refine loopD (fun i hi ih => ?_)
    refine r_iload hs d_M_mirrored_5 rfl ?_
    refine r_iload_n hs d_M_mirrored_7 rfl rfl ?_
    refine r_icmp_ge (tgt := 28) hs (by first | omega | exact hB _ _ | exact hF _) (by first | omega | exact hB _ _ | exact hF _) d_M_mirrored_8 (by decide) (fun c_8 => ?_) (fun c_8 => ?_)
    · obtain rfl : i = n := by omega
      refine r_iload_n hs d_M_mirrored_28 rfl rfl ?_
      exact r_ret hk d_M_mirrored_29 ⟨_, rfl, rfl, rfl, rfl⟩
    · refine r_iload_n hs d_M_mirrored_11 rfl rfl ?_
      refine r_iconst hs 2 d_M_mirrored_12 (by decide) ?_
      refine r_imul hs d_M_mirrored_13 ?_
      refine r_iload_n hs d_M_mirrored_14 rfl rfl ?_
      refine r_iload hs d_M_mirrored_15 rfl ?_
      refine r_ishr hs (by first | omega | exact hB _ _ | exact hF _) (by omega) d_M_mirrored_17 ?_
      refine r_iconst hs 1 d_M_mirrored_18 (by decide) ?_
      refine r_iand hs d_M_mirrored_19 ?_
      refine r_iadd hs d_M_mirrored_20 ?_
      refine r_istore_n hs d_M_mirrored_21 rfl (Nat.le_of_ble_eq_true rfl) (Nat.le_of_ble_eq_true rfl) ?_
      refine r_iinc hs d_M_mirrored_22 rfl (Nat.le_of_ble_eq_true rfl) (Nat.le_of_ble_eq_true rfl) ?_
      refine r_goto (tgt := 5) hs d_M_mirrored_25 (by decide) ?_
      exact ih c_8
  refine r_iconst hs 0 d_M_mirrored_0 (by decide) ?_
  refine r_istore_n hs d_M_mirrored_1 rfl (Nat.le_of_ble_eq_true rfl) (Nat.le_of_ble_eq_true rfl) ?_
  refine r_iconst hs 0 d_M_mirrored_2 (by decide) ?_
  refine r_istore hs d_M_mirrored_3 (Nat.le_of_ble_eq_true rfl) (Nat.le_of_ble_eq_true rfl) ?_
  exact J 0 (by omega)
theorem c_M_mirrors (l : Launch) (fi : Nat → Nat) (ar : Nat → Nat → Nat) (x : Nat) (hx : x < 2 ^ 31) : oMetI l 1 y_M_mirrors b_M_mirrors 6 (some .int) 1 [.int (nI x)] fi ar (fun r f a => r = nI (mrsO x 5) ∧ f = fi ∧ a = ar) := by
  refine oMetI_of (c := 1) (by decide) plain_M rfl (Or.inl rfl) rfl (Nat.le_of_ble_eq_true rfl) (fun h0 ad K hk => ?_)
  have hs := hk.sim
  have J : ∀ n, n ≤ 5 → K 4 [.ref h0, .int (nI x), .int (nI (mrsO x n)), .int (nI n)] [] (fi, ar) := by
    refine loopD (fun n hn ih => ?_)
    refine r_iload_n hs d_M_mirrors_4 rfl rfl ?_
    refine r_iconst hs 4 d_M_mirrors_5 (by decide) ?_
    refine r_icmp_gt (tgt := 62) hs (by first | omega | exact hB _ _ | exact hF _) (by first | omega | exact hB _ _ | exact hF _) d_M_mirrors_6 (by decide) (fun c_6 => ?_) (fun c_6 => ?_)
    · obtain rfl : n = 5 := by omega
      refine r_iload_n hs d_M_mirrors_62 rfl rfl ?_
      exact r_ret hk d_M_mirrors_63 ⟨_, rfl, rfl, rfl, rfl⟩
    · have e := ih (by omega)
      have hpw := pw16 c_6
      have J2 : ∀ b, b ≤ 1 <<< n → K 12 [.ref h0, .int (nI x), .int (nI (mrsI x n (mrsO x n) b)), .int (nI n), .int (nI b)] [] (fi, ar) := by
        refine loopD (fun b hb ih2 => ?_)
        refine r_iload hs d_M_mirrors_12 rfl ?_
        refine r_iconst hs 1 d_M_mirrors_14 (by decide) ?_
        refine r_iload_n hs d_M_mirrors_15 rfl rfl ?_
        refine r_ishl hs (by omega) (shl1 (by omega)) d_M_mirrors_16 ?_
        refine r_icmp_ge (tgt := 56) hs (by first | omega | exact hB _ _ | exact hF _) (by first | omega | exact hB _ _ | exact hF _) d_M_mirrors_17 (by decide) (fun c_17 => ?_) (fun c_17 => ?_)
        · obtain rfl : b = 1 <<< n := by omega
          rw [mrsO] at e
          refine r_iinc hs d_M_mirrors_56 rfl (Nat.le_of_ble_eq_true rfl) (Nat.le_of_ble_eq_true rfl) ?_
          refine r_goto (tgt := 4) hs d_M_mirrors_59 (by decide) ?_
          exact r_take hs 4 e
        · have e2 := ih2 c_17
          rw [mrsI] at e2
          refine r_aload_n hs d_M_mirrors_20 rfl rfl ?_
          refine r_iload_n hs d_M_mirrors_21 rfl rfl ?_
          refine r_iload hs d_M_mirrors_22 rfl ?_
          refine r_calli hk (c_M_mirrored l fi ar n b c_6 (by omega)) k_M_mirrored (by decide) (by decide) rfl (Nat.le_of_ble_eq_true rfl) d_M_mirrors_24 (fun r_24 fi_24 ar_24 p_24 => ?_)
          obtain ⟨rfl, h5, h6⟩ := p_24
          rw [h5, h6]
          refine r_istore hs d_M_mirrors_27 (Nat.le_of_ble_eq_true rfl) (Nat.le_of_ble_eq_true rfl) ?_
          refine r_aload_n hs d_M_mirrors_29 rfl rfl ?_
          refine r_iload_n hs d_M_mirrors_30 rfl rfl ?_
          refine r_iload_n hs d_M_mirrors_31 rfl rfl ?_
          refine r_iload hs d_M_mirrors_32 rfl ?_
          refine r_calli hk (c_M_holds l fi ar x n (mirP b n) hx c_6 (mirP_lt b n)) k_M_holds (by decide) (by decide) rfl (Nat.le_of_ble_eq_true rfl) d_M_mirrors_34 (fun r_34 fi_34 ar_34 p_34 => ?_)
          obtain ⟨h1, h2, h3⟩ := p_34
          rw [h2, h3]
          rcases h1 with ⟨rfl, h1⟩ | ⟨rfl, h1⟩
          · rw [if_pos h1] at e2
            refine r_ifR_eq (tgt := 50) hs d_M_mirrors_37 (by decide) (fun c_37 => ?_) (fun c_37 => ?_)
            · exact absurd c_37 (by decide)
            · refine r_iload_n hs d_M_mirrors_40 rfl rfl ?_
              refine r_aload_n hs d_M_mirrors_41 rfl rfl ?_
              refine r_iload_n hs d_M_mirrors_42 rfl rfl ?_
              refine r_iload hs d_M_mirrors_43 rfl ?_
              refine r_calli hk (c_M_word l fi ar n b c_6 c_17) k_M_word (by decide) (by decide) rfl (Nat.le_of_ble_eq_true rfl) d_M_mirrors_45 (fun r_45 fi_45 ar_45 p_45 => ?_)
              obtain ⟨rfl, h5, h6⟩ := p_45
              rw [h5, h6]
              refine r_ior hs d_M_mirrors_48 ?_
              refine r_istore_n hs d_M_mirrors_49 rfl (Nat.le_of_ble_eq_true rfl) (Nat.le_of_ble_eq_true rfl) ?_
              refine r_iinc hs d_M_mirrors_50 rfl (Nat.le_of_ble_eq_true rfl) (Nat.le_of_ble_eq_true rfl) ?_
              refine r_goto (tgt := 12) hs d_M_mirrors_53 (by decide) ?_
              exact r_take hs 5 e2
          · rw [if_neg h1] at e2
            refine r_ifR_eq (tgt := 50) hs d_M_mirrors_37 (by decide) (fun c_37 => ?_) (fun c_37 => ?_)
            · refine r_iinc hs d_M_mirrors_50 rfl (Nat.le_of_ble_eq_true rfl) (Nat.le_of_ble_eq_true rfl) ?_
              refine r_goto (tgt := 12) hs d_M_mirrors_53 (by decide) ?_
              exact r_take hs 5 e2
            · exact absurd rfl c_37
      refine r_iconst hs 0 d_M_mirrors_9 (by decide) ?_
      refine r_istore hs d_M_mirrors_10 (Nat.le_of_ble_eq_true rfl) (Nat.le_of_ble_eq_true rfl) ?_
      exact J2 0 (by omega)
  refine r_iconst hs 0 d_M_mirrors_0 (by decide) ?_
  refine r_istore_n hs d_M_mirrors_1 rfl (Nat.le_of_ble_eq_true rfl) (Nat.le_of_ble_eq_true rfl) ?_
  refine r_iconst hs 0 d_M_mirrors_2 (by decide) ?_
  refine r_istore_n hs d_M_mirrors_3 rfl (Nat.le_of_ble_eq_true rfl) (Nat.le_of_ble_eq_true rfl) ?_
  exact J 0 (by omega)
end
section
/-! ExprCrosswordModel: the other methods -/
def gridM (fi : Nat → Nat) : Prop := 1 ≤ fi 5 ∧ fi 5 ≤ 3 ∧ 1 ≤ fi 6 ∧ fi 6 ≤ 4
def pairM (s : Nat) (fi : Nat → Nat) (ar : Nat → Nat → Nat) : Nat × (Nat → Nat) × (Nat → Nat → Nat) :=
  (fi 2 - 1, up fi 2 (fi 2 - 1), up2 (up2 ar 0 (fi 2 - 2) s) 1 (fi 2 - 2) (ar 1 (fi 2 - 2) + ar 1 (fi 2 - 1)))
def catM (fi : Nat → Nat) (ar : Nat → Nat → Nat) : Nat × (Nat → Nat) × (Nat → Nat → Nat) :=
  if fi 2 < 2 then (4294967293, fi, ar) else pairM (proO (ar 0 (fi 2 - 2)) (ar 0 (fi 2 - 1)) 5) fi ar
def altM (fi : Nat → Nat) (ar : Nat → Nat → Nat) : Nat × (Nat → Nat) × (Nat → Nat → Nat) :=
  if fi 2 < 2 then (4294967293, fi, ar) else pairM (ar 0 (fi 2 - 2) ||| ar 0 (fi 2 - 1)) fi ar
def starM (fi : Nat → Nat) (ar : Nat → Nat → Nat) : Nat × (Nat → Nat) × (Nat → Nat → Nat) :=
  if fi 2 = 0 then (4294967293, fi, ar) else (fi 2, fi, up2 ar 0 (fi 2 - 1) (chaO (ar 0 (fi 2 - 1)) 4))
def revM (fi : Nat → Nat) (ar : Nat → Nat → Nat) : Nat × (Nat → Nat) × (Nat → Nat → Nat) :=
  if fi 2 = 0 then (4294967293, fi, ar) else (fi 2, fi, up2 ar 0 (fi 2 - 1) (mrsO (ar 0 (fi 2 - 1)) 5))
def setM (x : Int32) (fi : Nat → Nat) (ar : Nat → Nat → Nat) : Nat × (Nat → Nat) × (Nat → Nat → Nat) :=
  if x < 0 ∨ nI (fi 5 + fi 6) ≤ x then (4294967295, fi, ar) else if fi 2 = 0 then (4294967293, fi, ar) else
  (fi 2 - 1, up fi 2 (fi 2 - 1), up2 ar 3 x.toNatClampNeg (ar 0 (fi 2 - 1)))
def freeM (x : Int32) (fi : Nat → Nat) (ar : Nat → Nat → Nat) : Nat × (Nat → Nat) × (Nat → Nat → Nat) :=
  if x < 0 ∨ nI (fi 5 + fi 6) ≤ x then (4294967295, fi, ar) else (0, fi, up2 ar 3 x.toNatClampNeg 2147483647)
def inC (fi : Nat → Nat) (r c : Int32) : Prop := 0 ≤ r ∧ r < nI (fi 5) ∧ 0 ≤ c ∧ c < nI (fi 6)
def pinM (r c v : Int32) (fi : Nat → Nat) (ar : Nat → Nat → Nat) : Nat × (Nat → Nat) × (Nat → Nat → Nat) :=
  if 0 ≤ r ∧ r < nI (fi 5) ∧ 0 ≤ c ∧ c < nI (fi 6) ∧ 0 ≤ v ∧ v ≤ 2 then (ar 4 (r.toNatClampNeg * 4 + c.toNatClampNeg), fi, up2 ar 4 (r.toNatClampNeg * 4 + c.toNatClampNeg) v.toNatClampNeg) else (4294967295, fi, ar)
def pindM (r c : Int32) (fi : Nat → Nat) (ar : Nat → Nat → Nat) : Nat × (Nat → Nat) × (Nat → Nat → Nat) :=
  if 0 ≤ r ∧ r < nI (fi 5) ∧ 0 ≤ c ∧ c < nI (fi 6) then (ar 4 (r.toNatClampNeg * 4 + c.toNatClampNeg), fi, ar) else (4294967295, fi, ar)
def lenM (fi : Nat → Nat) (ln : Nat) : Nat := if ln < fi 5 then fi 6 else fi 5
def celM (fi : Nat → Nat) (num r c : Nat) : Nat := num >>> (fi 5 * fi 6 - 1 - (r * fi 6 + c)) &&& 1
def digM (fi : Nat → Nat) (num ln i : Nat) : Nat := if ln < fi 5 then celM fi num ln i else celM fi num i (ln - fi 5)
def wofP (fi : Nat → Nat) (num ln : Nat) : Nat → Nat
  | 0 => 0
  | i + 1 => wofP fi num ln i * 2 + digM fi num ln i
theorem digM_le (fi : Nat → Nat) (num ln i : Nat) : digM fi num ln i ≤ 1 := by
  unfold digM celM
  split <;> exact Nat.and_le_right
theorem wofP_lt (fi : Nat → Nat) (num ln n : Nat) : wofP fi num ln n < 1 <<< n := by
  rw [Nat.one_shiftLeft]
  induction n with
  | zero => rw [wofP]; decide
  | succ n ih =>
    rw [wofP, Nat.pow_succ]
    have := digM_le fi num ln n
    omega
abbrev pinQ (fi : Nat → Nat) (ar : Nat → Nat → Nat) (num r c : Nat) : Prop := ar 4 (r * 4 + c) = 2 ∨ ar 4 (r * 4 + c) = celM fi num r c
abbrev keepM (fi : Nat → Nat) (ar : Nat → Nat → Nat) (num : Nat) : Prop := ∀ r, r < fi 5 → ∀ c, c < fi 6 → pinQ fi ar num r c
abbrev fitM (fi : Nat → Nat) (ar : Nat → Nat → Nat) (num : Nat) : Prop := keepM fi ar num ∧ ∀ ln, ln < fi 5 + fi 6 → hol (ar 3 ln) (lenM fi ln) (wofP fi num ln (lenM fi ln))
def cntM (fi : Nat → Nat) (ar : Nat → Nat → Nat) : Nat → Nat
  | 0 => 0
  | n + 1 => cntM fi ar n + if fitM fi ar n then 1 else 0
def blwM (fi : Nat → Nat) (ar : Nat → Nat → Nat) (bound : Int32) : Nat → Nat
  | 0 => 0
  | n + 1 => blwM fi ar bound n + if nI n < bound ∧ fitM fi ar n then 1 else 0
theorem cntM_le (fi : Nat → Nat) (ar : Nat → Nat → Nat) (n : Nat) : cntM fi ar n ≤ n := by
  induction n with
  | zero => exact Nat.le_refl 0
  | succ n ih =>
    rw [cntM]
    split <;> omega
def frO (fi : Nat → Nat) (ar : Nat → Nat → Nat) (r c : Nat) : Nat → Nat
  | 0 => 0
  | n + 1 => if fitM fi ar n then (if frO fi ar r c n = 0 then (if celM fi n r c = 1 then 1 else 0) else 1) else frO fi ar r c n
def frZ (fi : Nat → Nat) (ar : Nat → Nat → Nat) (r c : Nat) : Nat → Nat
  | 0 => 0
  | n + 1 => if fitM fi ar n then (if frZ fi ar r c n = 0 then (if celM fi n r c = 1 then 0 else 1) else 1) else frZ fi ar r c n
def frV (z o : Nat) : Nat := if z = 0 ∧ o = 0 then 4294967292 else if z ≠ 0 ∧ o ≠ 0 then 2 else if o ≠ 0 then 1 else 0
def wntM (fi : Nat → Nat) (ar : Nat → Nat → Nat) (ln i : Nat) : Nat := if ln < fi 5 then ar 4 (ln * 4 + i) else ar 4 (i * 4 + ln - fi 5)
abbrev wkpM (fi : Nat → Nat) (ar : Nat → Nat → Nat) (ln n b : Nat) : Prop := ∀ i, i < n → (wntM fi ar ln i = 2 ∨ wntM fi ar ln i = bitv n b i)
def lwM (fi : Nat → Nat) (ar : Nat → Nat → Nat) (ln n : Nat) : Nat → Nat
  | 0 => 0
  | b + 1 => lwM fi ar ln n b + if hol (ar 3 ln) n b ∧ wkpM fi ar ln n b then 1 else 0
theorem c_M_pair (l : Launch) (fi : Nat → Nat) (ar : Nat → Nat → Nat) (s : Nat) (hd2 : 2 ≤ fi 2) (hd : fi 2 ≤ 6) : oMetI l 1 y_M_pair b_M_pair 2 (some .int) 0 [.int (nI s)] fi ar (PI (pairM s fi ar)) := by
  refine oMetI_of (c := 1) (by decide) plain_M rfl (Or.inl rfl) rfl (Nat.le_of_ble_eq_true rfl) (fun h0 ad K hk => ?_)
  have hs := hk.sim
  refine r_aload_n hs d_M_pair_0 rfl rfl ?_
  refine r_geta hk 0 rfl rfl d_M_pair_1 ?_
  refine r_aload_n hs d_M_pair_4 rfl rfl ?_
  refine r_geti hk 2 rfl rfl d_M_pair_5 ?_
  refine r_iconst hs 2 d_M_pair_8 (by decide) ?_
  refine r_isub hs (by omega) d_M_pair_9 ?_
  refine r_iload_n hs d_M_pair_10 rfl rfl ?_
  refine r_ast hk 6 rfl rfl (by omega) d_M_pair_11 ?_
  refine r_aload_n hs d_M_pair_12 rfl rfl ?_
  refine r_geta hk 1 rfl rfl d_M_pair_13 ?_
  refine r_aload_n hs d_M_pair_16 rfl rfl ?_
  refine r_geti hk 2 rfl rfl d_M_pair_17 ?_
  refine r_iconst hs 2 d_M_pair_20 (by decide) ?_
  refine r_isub hs (by omega) d_M_pair_21 ?_
  refine r_aload_n hs d_M_pair_22 rfl rfl ?_
  refine r_geta hk 1 rfl rfl d_M_pair_23 ?_
  refine r_aload_n hs d_M_pair_26 rfl rfl ?_
  refine r_geti hk 2 rfl rfl d_M_pair_27 ?_
  refine r_iconst hs 2 d_M_pair_30 (by decide) ?_
  refine r_isub hs (by omega) d_M_pair_31 ?_
  refine r_ald hk 6 rfl rfl (by omega) d_M_pair_32 ?_
  refine r_aload_n hs d_M_pair_33 rfl rfl ?_
  refine r_geta hk 1 rfl rfl d_M_pair_34 ?_
  refine r_aload_n hs d_M_pair_37 rfl rfl ?_
  refine r_geti hk 2 rfl rfl d_M_pair_38 ?_
  refine r_iconst hs 1 d_M_pair_41 (by decide) ?_
  refine r_isub hs (by omega) d_M_pair_42 ?_
  refine r_ald hk 6 rfl rfl (by omega) d_M_pair_43 ?_
  rw [up2_a (by decide)]
  refine r_iadd hs d_M_pair_44 ?_
  refine r_ast hk 6 rfl rfl (by omega) d_M_pair_45 ?_
  refine r_aload_n hs d_M_pair_46 rfl rfl ?_
  refine r_dup hs d_M_pair_47 rfl ?_
  refine r_geti hk 2 rfl rfl d_M_pair_48 ?_
  refine r_iconst hs 1 d_M_pair_51 (by decide) ?_
  refine r_isub hs (by omega) d_M_pair_52 ?_
  refine r_puti hk 2 (by decide) rfl d_M_pair_53 ?_
  refine r_aload_n hs d_M_pair_56 rfl rfl ?_
  refine r_geti hk 2 rfl rfl d_M_pair_57 ?_
  exact r_ret hk d_M_pair_60 ⟨_, rfl, rfl, rfl, rfl⟩
theorem c_M_cat (l : Launch) (fi : Nat → Nat) (ar : Nat → Nat → Nat) (hd : fi 2 ≤ 6) (hB : ∀ k j, ar k j < 2 ^ 31) : oMetI l 1 y_M_cat b_M_cat 2 (some .int) 3 [] fi ar (PI (catM fi ar)) := by
  refine oMetI_of (c := 1) (by decide) plain_M rfl (Or.inl rfl) rfl (Nat.le_of_ble_eq_true rfl) (fun h0 ad K hk => ?_)
  have hs := hk.sim
  refine r_aload_n hs d_M_cat_0 rfl rfl ?_
  refine r_geti hk 2 rfl rfl d_M_cat_1 ?_
  refine r_iconst hs 2 d_M_cat_4 (by decide) ?_
  refine r_icmp_ge (tgt := 11) hs (by first | omega | exact hB _ _ | exact hF _) (by first | omega | exact hB _ _ | exact hF _) d_M_cat_5 (by decide) (fun c_5 => ?_) (fun c_5 => ?_)
  · refine r_aload_n hs d_M_cat_11 rfl rfl ?_
    refine r_aload_n hs d_M_cat_12 rfl rfl ?_
    refine r_geta hk 0 rfl rfl d_M_cat_13 ?_
    refine r_aload_n hs d_M_cat_16 rfl rfl ?_
    refine r_geti hk 2 rfl rfl d_M_cat_17 ?_
    refine r_iconst hs 2 d_M_cat_20 (by decide) ?_
    refine r_isub hs (by omega) d_M_cat_21 ?_
    refine r_ald hk 6 rfl rfl (by omega) d_M_cat_22 ?_
    refine r_aload_n hs d_M_cat_23 rfl rfl ?_
    refine r_geta hk 0 rfl rfl d_M_cat_24 ?_
    refine r_aload_n hs d_M_cat_27 rfl rfl ?_
    refine r_geti hk 2 rfl rfl d_M_cat_28 ?_
    refine r_iconst hs 1 d_M_cat_31 (by decide) ?_
    refine r_isub hs (by omega) d_M_cat_32 ?_
    refine r_ald hk 6 rfl rfl (by omega) d_M_cat_33 ?_
    refine r_calli hk (c_M_products l fi ar (ar 0 (fi 2 - 2)) (ar 0 (fi 2 - 1)) (hB _ _) (hB _ _)) k_M_products (by decide) (by decide) rfl (Nat.le_of_ble_eq_true rfl) d_M_cat_34 (fun r_34 fi_34 ar_34 p_34 => ?_)
    obtain ⟨rfl, h1, h2⟩ := p_34
    rw [h1, h2]
    refine r_istore_n hs d_M_cat_37 rfl (Nat.le_of_ble_eq_true rfl) (Nat.le_of_ble_eq_true rfl) ?_
    refine r_aload_n hs d_M_cat_38 rfl rfl ?_
    refine r_iload_n hs d_M_cat_39 rfl rfl ?_
    refine r_calli hk (c_M_pair l fi ar (proO (ar 0 (fi 2 - 2)) (ar 0 (fi 2 - 1)) 5) c_5 hd) k_M_pair (by decide) (by decide) rfl (Nat.le_of_ble_eq_true rfl) d_M_cat_40 (fun r_40 fi_40 ar_40 p_40 => ?_)
    obtain ⟨rfl, h1, h2⟩ := p_40
    rw [h1, h2]
    exact r_ret hk d_M_cat_43 ⟨_, rfl, by rw [catM, if_neg (by omega)]; exact ⟨rfl, rfl, rfl⟩⟩
  · refine r_bipush hs 4294967293 d_M_cat_8 (by decide) ?_
    exact r_ret hk d_M_cat_10 ⟨_, rfl, by rw [catM, if_pos c_5]; exact ⟨rfl, rfl, rfl⟩⟩
theorem c_M_alt (l : Launch) (fi : Nat → Nat) (ar : Nat → Nat → Nat) (hd : fi 2 ≤ 6) : oMetI l 1 y_M_alt b_M_alt 1 (some .int) 1 [] fi ar (PI (altM fi ar)) := by
  refine oMetI_of (c := 1) (by decide) plain_M rfl (Or.inl rfl) rfl (Nat.le_of_ble_eq_true rfl) (fun h0 ad K hk => ?_)
  have hs := hk.sim
  refine r_aload_n hs d_M_alt_0 rfl rfl ?_
  refine r_geti hk 2 rfl rfl d_M_alt_1 ?_
  refine r_iconst hs 2 d_M_alt_4 (by decide) ?_
  refine r_icmp_ge (tgt := 11) hs (by first | omega | exact hB _ _ | exact hF _) (by first | omega | exact hB _ _ | exact hF _) d_M_alt_5 (by decide) (fun c_5 => ?_) (fun c_5 => ?_)
  · refine r_aload_n hs d_M_alt_11 rfl rfl ?_
    refine r_aload_n hs d_M_alt_12 rfl rfl ?_
    refine r_geta hk 0 rfl rfl d_M_alt_13 ?_
    refine r_aload_n hs d_M_alt_16 rfl rfl ?_
    refine r_geti hk 2 rfl rfl d_M_alt_17 ?_
    refine r_iconst hs 2 d_M_alt_20 (by decide) ?_
    refine r_isub hs (by omega) d_M_alt_21 ?_
    refine r_ald hk 6 rfl rfl (by omega) d_M_alt_22 ?_
    refine r_aload_n hs d_M_alt_23 rfl rfl ?_
    refine r_geta hk 0 rfl rfl d_M_alt_24 ?_
    refine r_aload_n hs d_M_alt_27 rfl rfl ?_
    refine r_geti hk 2 rfl rfl d_M_alt_28 ?_
    refine r_iconst hs 1 d_M_alt_31 (by decide) ?_
    refine r_isub hs (by omega) d_M_alt_32 ?_
    refine r_ald hk 6 rfl rfl (by omega) d_M_alt_33 ?_
    refine r_ior hs d_M_alt_34 ?_
    refine r_calli hk (c_M_pair l fi ar (ar 0 (fi 2 - 2) ||| ar 0 (fi 2 - 1)) c_5 hd) k_M_pair (by decide) (by decide) rfl (Nat.le_of_ble_eq_true rfl) d_M_alt_35 (fun r_35 fi_35 ar_35 p_35 => ?_)
    obtain ⟨rfl, h1, h2⟩ := p_35
    rw [h1, h2]
    exact r_ret hk d_M_alt_38 ⟨_, rfl, by rw [altM, if_neg (by omega)]; exact ⟨rfl, rfl, rfl⟩⟩
  · refine r_bipush hs 4294967293 d_M_alt_8 (by decide) ?_
    exact r_ret hk d_M_alt_10 ⟨_, rfl, by rw [altM, if_pos c_5]; exact ⟨rfl, rfl, rfl⟩⟩
theorem c_M_star (l : Launch) (fi : Nat → Nat) (ar : Nat → Nat → Nat) (hd : fi 2 ≤ 6) (hB : ∀ k j, ar k j < 2 ^ 31) : oMetI l 1 y_M_star b_M_star 1 (some .int) 3 [] fi ar (PI (starM fi ar)) := by
  refine oMetI_of (c := 1) (by decide) plain_M rfl (Or.inl rfl) rfl (Nat.le_of_ble_eq_true rfl) (fun h0 ad K hk => ?_)
  have hs := hk.sim
  refine r_aload_n hs d_M_star_0 rfl rfl ?_
  refine r_geti hk 2 rfl rfl d_M_star_1 ?_
  refine r_if_ne (tgt := 10) hs (by first | omega | exact hB _ _ | exact hF _) d_M_star_4 (by decide) (fun c_4 => ?_) (fun c_4 => ?_)
  · refine r_aload_n hs d_M_star_10 rfl rfl ?_
    refine r_geta hk 0 rfl rfl d_M_star_11 ?_
    refine r_aload_n hs d_M_star_14 rfl rfl ?_
    refine r_geti hk 2 rfl rfl d_M_star_15 ?_
    refine r_iconst hs 1 d_M_star_18 (by decide) ?_
    refine r_isub hs (by omega) d_M_star_19 ?_
    refine r_aload_n hs d_M_star_20 rfl rfl ?_
    refine r_aload_n hs d_M_star_21 rfl rfl ?_
    refine r_geta hk 0 rfl rfl d_M_star_22 ?_
    refine r_aload_n hs d_M_star_25 rfl rfl ?_
    refine r_geti hk 2 rfl rfl d_M_star_26 ?_
    refine r_iconst hs 1 d_M_star_29 (by decide) ?_
    refine r_isub hs (by omega) d_M_star_30 ?_
    refine r_ald hk 6 rfl rfl (by omega) d_M_star_31 ?_
    refine r_calli hk (c_M_chains l fi ar (ar 0 (fi 2 - 1)) (hB _ _)) k_M_chains (by decide) (by decide) rfl (Nat.le_of_ble_eq_true rfl) d_M_star_32 (fun r_32 fi_32 ar_32 p_32 => ?_)
    obtain ⟨rfl, h1, h2⟩ := p_32
    rw [h1, h2]
    refine r_ast hk 6 rfl rfl (by omega) d_M_star_35 ?_
    refine r_aload_n hs d_M_star_36 rfl rfl ?_
    refine r_geti hk 2 rfl rfl d_M_star_37 ?_
    exact r_ret hk d_M_star_40 ⟨_, rfl, by rw [starM, if_neg c_4]; exact ⟨rfl, rfl, rfl⟩⟩
  · refine r_bipush hs 4294967293 d_M_star_7 (by decide) ?_
    exact r_ret hk d_M_star_9 ⟨_, rfl, by rw [starM, if_pos c_4]; exact ⟨rfl, rfl, rfl⟩⟩
theorem c_M_reverse (l : Launch) (fi : Nat → Nat) (ar : Nat → Nat → Nat) (hd : fi 2 ≤ 6) (hB : ∀ k j, ar k j < 2 ^ 31) : oMetI l 1 y_M_reverse b_M_reverse 1 (some .int) 2 [] fi ar (PI (revM fi ar)) := by
  refine oMetI_of (c := 1) (by decide) plain_M rfl (Or.inl rfl) rfl (Nat.le_of_ble_eq_true rfl) (fun h0 ad K hk => ?_)
  have hs := hk.sim
  refine r_aload_n hs d_M_reverse_0 rfl rfl ?_
  refine r_geti hk 2 rfl rfl d_M_reverse_1 ?_
  refine r_if_ne (tgt := 10) hs (by first | omega | exact hB _ _ | exact hF _) d_M_reverse_4 (by decide) (fun c_4 => ?_) (fun c_4 => ?_)
  · refine r_aload_n hs d_M_reverse_10 rfl rfl ?_
    refine r_geta hk 0 rfl rfl d_M_reverse_11 ?_
    refine r_aload_n hs d_M_reverse_14 rfl rfl ?_
    refine r_geti hk 2 rfl rfl d_M_reverse_15 ?_
    refine r_iconst hs 1 d_M_reverse_18 (by decide) ?_
    refine r_isub hs (by omega) d_M_reverse_19 ?_
    refine r_aload_n hs d_M_reverse_20 rfl rfl ?_
    refine r_aload_n hs d_M_reverse_21 rfl rfl ?_
    refine r_geta hk 0 rfl rfl d_M_reverse_22 ?_
    refine r_aload_n hs d_M_reverse_25 rfl rfl ?_
    refine r_geti hk 2 rfl rfl d_M_reverse_26 ?_
    refine r_iconst hs 1 d_M_reverse_29 (by decide) ?_
    refine r_isub hs (by omega) d_M_reverse_30 ?_
    refine r_ald hk 6 rfl rfl (by omega) d_M_reverse_31 ?_
    refine r_calli hk (c_M_mirrors l fi ar (ar 0 (fi 2 - 1)) (hB _ _)) k_M_mirrors (by decide) (by decide) rfl (Nat.le_of_ble_eq_true rfl) d_M_reverse_32 (fun r_32 fi_32 ar_32 p_32 => ?_)
    obtain ⟨rfl, h1, h2⟩ := p_32
    rw [h1, h2]
    refine r_ast hk 6 rfl rfl (by omega) d_M_reverse_35 ?_
    refine r_aload_n hs d_M_reverse_36 rfl rfl ?_
    refine r_geti hk 2 rfl rfl d_M_reverse_37 ?_
    exact r_ret hk d_M_reverse_40 ⟨_, rfl, by rw [revM, if_neg c_4]; exact ⟨rfl, rfl, rfl⟩⟩
  · refine r_bipush hs 4294967293 d_M_reverse_7 (by decide) ?_
    exact r_ret hk d_M_reverse_9 ⟨_, rfl, by rw [revM, if_pos c_4]; exact ⟨rfl, rfl, rfl⟩⟩
theorem c_M_isLine (l : Launch) (fi : Nat → Nat) (ar : Nat → Nat → Nat) (x : Int32) : oMetI l 1 y_M_isLine b_M_isLine 2 (some .boolean) 0 [.int x] fi ar (fun r f a => ((r = 0 ∧ (x < 0 ∨ nI (fi 5 + fi 6) ≤ x)) ∨ (r = 1 ∧ ¬ (x < 0 ∨ nI (fi 5 + fi 6) ≤ x))) ∧ f = fi ∧ a = ar) := by
  refine oMetI_of (c := 1) (by decide) plain_M rfl (Or.inr ⟨rfl, fun r f a h => by rcases h.1 with h | h; exact Or.inl h.1; exact Or.inr h.1⟩) rfl (Nat.le_of_ble_eq_true rfl) (fun h0 ad K hk => ?_)
  have hs := hk.sim
  have J0 : (x < 0 ∨ nI (fi 5 + fi 6) ≤ x) → K 21 [.ref h0, .int x] [] (fi, ar) := by
    intro hx
    refine r_iconst hs 0 d_M_isLine_21 (by decide) ?_
    exact r_ret hk d_M_isLine_22 ⟨_, rfl, Or.inl ⟨rfl, hx⟩, rfl, rfl⟩
  refine r_iload_n hs d_M_isLine_0 rfl rfl ?_
  refine r_ifR_lt (tgt := 21) hs d_M_isLine_1 (by decide) (fun c_1 => ?_) (fun c_1 => ?_)
  · exact J0 (Or.inl c_1)
  · refine r_iload_n hs d_M_isLine_4 rfl rfl ?_
    refine r_aload_n hs d_M_isLine_5 rfl rfl ?_
    refine r_geti hk 5 rfl rfl d_M_isLine_6 ?_
    refine r_aload_n hs d_M_isLine_9 rfl rfl ?_
    refine r_geti hk 6 rfl rfl d_M_isLine_10 ?_
    refine r_iadd hs d_M_isLine_13 ?_
    refine r_icmpR_ge (tgt := 21) hs d_M_isLine_14 (by decide) (fun c_14 => ?_) (fun c_14 => ?_)
    · exact J0 (Or.inr c_14)
    · refine r_iconst hs 1 d_M_isLine_17 (by decide) ?_
      refine r_goto (tgt := 22) hs d_M_isLine_18 (by decide) ?_
      exact r_ret hk d_M_isLine_22 ⟨_, rfl, Or.inr ⟨rfl, fun q => by rcases q with h | h; exact c_1 h; exact c_14 h⟩, rfl, rfl⟩
theorem c_M_setLine (l : Launch) (fi : Nat → Nat) (ar : Nat → Nat → Nat) (x : Int32) (hg : gridM fi) (hd : fi 2 ≤ 6) : oMetI l 1 y_M_setLine b_M_setLine 2 (some .int) 1 [.int x] fi ar (PI (setM x fi ar)) := by
  obtain ⟨g1, g2, g3, g4⟩ := hg
  refine oMetI_of (c := 1) (by decide) plain_M rfl (Or.inl rfl) rfl (Nat.le_of_ble_eq_true rfl) (fun h0 ad K hk => ?_)
  have hs := hk.sim
  refine r_aload_n hs d_M_setLine_0 rfl rfl ?_
  refine r_iload_n hs d_M_setLine_1 rfl rfl ?_
  refine r_calli hk (c_M_isLine l fi ar x) k_M_isLine (by decide) (by decide) rfl (Nat.le_of_ble_eq_true rfl) d_M_setLine_2 (fun r_2 fi_2 ar_2 p_2 => ?_)
  obtain ⟨h1, h2, h3⟩ := p_2
  rw [h2, h3]
  rcases h1 with ⟨rfl, h1⟩ | ⟨rfl, h1⟩
  · refine r_ifR_ne (tgt := 10) hs d_M_setLine_5 (by decide) (fun c_5 => ?_) (fun c_5 => ?_)
    · exact absurd rfl c_5
    · refine r_iconst hs 4294967295 d_M_setLine_8 (by decide) ?_
      exact r_ret hk d_M_setLine_9 ⟨_, rfl, by rw [setM, if_pos h1]; exact ⟨rfl, rfl, rfl⟩⟩
  · refine r_ifR_ne (tgt := 10) hs d_M_setLine_5 (by decide) (fun c_5 => ?_) (fun c_5 => ?_)
    · rcases pk_ix x (n := fi 5 + fi 6) (by omega) with h | h | ⟨ln, hj, rfl⟩
      · exact absurd (Or.inl h) h1
      · exact absurd (Or.inr h) h1
      refine r_aload_n hs d_M_setLine_10 rfl rfl ?_
      refine r_geti hk 2 rfl rfl d_M_setLine_11 ?_
      refine r_if_ne (tgt := 20) hs (by first | omega | exact hB _ _ | exact hF _) d_M_setLine_14 (by decide) (fun c_14 => ?_) (fun c_14 => ?_)
      · have e : up fi 2 (fi 2 - 1) 2 = fi 2 - 1 := up_s _ _ _
        refine r_aload_n hs d_M_setLine_20 rfl rfl ?_
        refine r_dup hs d_M_setLine_21 rfl ?_
        refine r_geti hk 2 rfl rfl d_M_setLine_22 ?_
        refine r_iconst hs 1 d_M_setLine_25 (by decide) ?_
        refine r_isub hs (by omega) d_M_setLine_26 ?_
        refine r_puti hk 2 (by decide) rfl d_M_setLine_27 ?_
        refine r_aload_n hs d_M_setLine_30 rfl rfl ?_
        refine r_geta hk 3 rfl rfl d_M_setLine_31 ?_
        refine r_iload_n hs d_M_setLine_34 rfl rfl ?_
        refine r_aload_n hs d_M_setLine_35 rfl rfl ?_
        refine r_geta hk 0 rfl rfl d_M_setLine_36 ?_
        refine r_aload_n hs d_M_setLine_39 rfl rfl ?_
        refine r_geti hk 2 rfl rfl d_M_setLine_40 ?_
        rw [e]
        refine r_ald hk 6 rfl rfl (by omega) d_M_setLine_43 ?_
        refine r_ast hk 7 rfl rfl (by omega) d_M_setLine_44 ?_
        refine r_aload_n hs d_M_setLine_45 rfl rfl ?_
        refine r_geti hk 2 rfl rfl d_M_setLine_46 ?_
        rw [e]
        exact r_ret hk d_M_setLine_49 ⟨_, rfl, by rw [setM, if_neg h1, if_neg c_14, nI_clamp (by omega)]; exact ⟨rfl, rfl, rfl⟩⟩
      · refine r_bipush hs 4294967293 d_M_setLine_17 (by decide) ?_
        exact r_ret hk d_M_setLine_19 ⟨_, rfl, by rw [setM, if_neg h1, if_pos c_14]; exact ⟨rfl, rfl, rfl⟩⟩
    · exact absurd c_5 (by decide)
theorem c_M_freeLine (l : Launch) (fi : Nat → Nat) (ar : Nat → Nat → Nat) (x : Int32) (hg : gridM fi) : oMetI l 1 y_M_freeLine b_M_freeLine 2 (some .int) 1 [.int x] fi ar (PI (freeM x fi ar)) := by
  obtain ⟨g1, g2, g3, g4⟩ := hg
  refine oMetI_of (c := 1) (by decide) plain_M rfl (Or.inl rfl) rfl (Nat.le_of_ble_eq_true rfl) (fun h0 ad K hk => ?_)
  have hs := hk.sim
  refine r_aload_n hs d_M_freeLine_0 rfl rfl ?_
  refine r_iload_n hs d_M_freeLine_1 rfl rfl ?_
  refine r_calli hk (c_M_isLine l fi ar x) k_M_isLine (by decide) (by decide) rfl (Nat.le_of_ble_eq_true rfl) d_M_freeLine_2 (fun r_2 fi_2 ar_2 p_2 => ?_)
  obtain ⟨h1, h2, h3⟩ := p_2
  rw [h2, h3]
  rcases h1 with ⟨rfl, h1⟩ | ⟨rfl, h1⟩
  · refine r_ifR_ne (tgt := 10) hs d_M_freeLine_5 (by decide) (fun c_5 => ?_) (fun c_5 => ?_)
    · exact absurd rfl c_5
    · refine r_iconst hs 4294967295 d_M_freeLine_8 (by decide) ?_
      exact r_ret hk d_M_freeLine_9 ⟨_, rfl, by rw [freeM, if_pos h1]; exact ⟨rfl, rfl, rfl⟩⟩
  · refine r_ifR_ne (tgt := 10) hs d_M_freeLine_5 (by decide) (fun c_5 => ?_) (fun c_5 => ?_)
    · rcases pk_ix x (n := fi 5 + fi 6) (by omega) with h | h | ⟨ln, hj, rfl⟩
      · exact absurd (Or.inl h) h1
      · exact absurd (Or.inr h) h1
      refine r_aload_n hs d_M_freeLine_10 rfl rfl ?_
      refine r_geta hk 3 rfl rfl d_M_freeLine_11 ?_
      refine r_iload_n hs d_M_freeLine_14 rfl rfl ?_
      refine r_ldc hk d_M_freeLine_15 ?_
      refine r_ast hk 7 rfl rfl (by omega) d_M_freeLine_17 ?_
      refine r_iconst hs 0 d_M_freeLine_18 (by decide) ?_
      exact r_ret hk d_M_freeLine_19 ⟨_, rfl, by rw [freeM, if_neg h1, nI_clamp (by omega)]; exact ⟨rfl, rfl, rfl⟩⟩
    · exact absurd c_5 (by decide)
theorem c_M_isCell (l : Launch) (fi : Nat → Nat) (ar : Nat → Nat → Nat) (r0 c0 : Int32) : oMetI l 1 y_M_isCell b_M_isCell 3 (some .boolean) 0 [.int r0, .int c0] fi ar (fun r f a => ((r = 1 ∧ inC fi r0 c0) ∨ (r = 0 ∧ ¬ inC fi r0 c0)) ∧ f = fi ∧ a = ar) := by
  refine oMetI_of (c := 1) (by decide) plain_M rfl (Or.inr ⟨rfl, fun r f a h => by rcases h.1 with h | h; exact Or.inr h.1; exact Or.inl h.1⟩) rfl (Nat.le_of_ble_eq_true rfl) (fun h0 ad K hk => ?_)
  have hs := hk.sim
  have J0 : ¬ inC fi r0 c0 → K 28 [.ref h0, .int r0, .int c0] [] (fi, ar) := by
    intro hn
    refine r_iconst hs 0 d_M_isCell_28 (by decide) ?_
    exact r_ret hk d_M_isCell_29 ⟨_, rfl, Or.inr ⟨rfl, hn⟩, rfl, rfl⟩
  refine r_iload_n hs d_M_isCell_0 rfl rfl ?_
  refine r_ifR_lt (tgt := 28) hs d_M_isCell_1 (by decide) (fun c_1 => ?_) (fun c_1 => ?_)
  · exact J0 (fun q => absurd c_1 (Int32.not_lt.mpr q.1))
  · refine r_iload_n hs d_M_isCell_4 rfl rfl ?_
    refine r_aload_n hs d_M_isCell_5 rfl rfl ?_
    refine r_geti hk 5 rfl rfl d_M_isCell_6 ?_
    refine r_icmpR_ge (tgt := 28) hs d_M_isCell_9 (by decide) (fun c_9 => ?_) (fun c_9 => ?_)
    · exact J0 (fun q => absurd q.2.1 (Int32.not_lt.mpr c_9))
    · refine r_iload_n hs d_M_isCell_12 rfl rfl ?_
      refine r_ifR_lt (tgt := 28) hs d_M_isCell_13 (by decide) (fun c_13 => ?_) (fun c_13 => ?_)
      · exact J0 (fun q => absurd c_13 (Int32.not_lt.mpr q.2.2.1))
      · refine r_iload_n hs d_M_isCell_16 rfl rfl ?_
        refine r_aload_n hs d_M_isCell_17 rfl rfl ?_
        refine r_geti hk 6 rfl rfl d_M_isCell_18 ?_
        refine r_icmpR_ge (tgt := 28) hs d_M_isCell_21 (by decide) (fun c_21 => ?_) (fun c_21 => ?_)
        · exact J0 (fun q => absurd q.2.2.2 (Int32.not_lt.mpr c_21))
        · refine r_iconst hs 1 d_M_isCell_24 (by decide) ?_
          refine r_goto (tgt := 29) hs d_M_isCell_25 (by decide) ?_
          exact r_ret hk d_M_isCell_29 ⟨_, rfl, Or.inl ⟨rfl, Int32.not_lt.mp c_1, Int32.not_le.mp c_9, Int32.not_lt.mp c_13, Int32.not_le.mp c_21⟩, rfl, rfl⟩
theorem c_M_pin (l : Launch) (fi : Nat → Nat) (ar : Nat → Nat → Nat) (r c v : Int32) (hg : gridM fi) : oMetI l 1 y_M_pin b_M_pin 5 (some .int) 1 [.int r, .int c, .int v] fi ar (PI (pinM r c v fi ar)) := by
  obtain ⟨g1, g2, g3, g4⟩ := hg
  refine oMetI_of (c := 1) (by decide) plain_M rfl (Or.inl rfl) rfl (Nat.le_of_ble_eq_true rfl) (fun h0 ad K hk => ?_)
  have hs := hk.sim
  have J0 : ¬ (0 ≤ r ∧ r < nI (fi 5) ∧ 0 ≤ c ∧ c < nI (fi 6) ∧ 0 ≤ v ∧ v ≤ 2) → K 18 [.ref h0, .int r, .int c, .int v] [] (fi, ar) := by
    intro hx
    refine r_iconst hs 4294967295 d_M_pin_18 (by decide) ?_
    exact r_ret hk d_M_pin_19 ⟨_, rfl, by rw [pinM, if_neg hx]; exact ⟨rfl, rfl, rfl⟩⟩
  refine r_aload_n hs d_M_pin_0 rfl rfl ?_
  refine r_iload_n hs d_M_pin_1 rfl rfl ?_
  refine r_iload_n hs d_M_pin_2 rfl rfl ?_
  refine r_calli hk (c_M_isCell l fi ar r c) k_M_isCell (by decide) (by decide) rfl (Nat.le_of_ble_eq_true rfl) d_M_pin_3 (fun r_3 fi_3 ar_3 p_3 => ?_)
  obtain ⟨hg, h2, h3⟩ := p_3
  rw [h2, h3]
  unfold inC at hg
  rcases hg with ⟨rfl, hg⟩ | ⟨rfl, hg⟩
  · refine r_ifR_eq (tgt := 18) hs d_M_pin_6 (by decide) (fun c_6 => ?_) (fun c_6 => ?_)
    · exact absurd c_6 (by decide)
    · refine r_iload_n hs d_M_pin_9 rfl rfl ?_
      refine r_ifR_lt (tgt := 18) hs d_M_pin_10 (by decide) (fun c_10 => ?_) (fun c_10 => ?_)
      · exact J0 (fun q => absurd c_10 (Int32.not_lt.mpr q.2.2.2.2.1))
      · refine r_iload_n hs d_M_pin_13 rfl rfl ?_
        refine r_iconst hs 2 d_M_pin_14 (by decide) ?_
        refine r_icmpR_le (tgt := 20) hs d_M_pin_15 (by decide) (fun c_15 => ?_) (fun c_15 => ?_)
        · have hx : 0 ≤ r ∧ r < nI (fi 5) ∧ 0 ≤ c ∧ c < nI (fi 6) ∧ 0 ≤ v ∧ v ≤ 2 := ⟨hg.1, hg.2.1, hg.2.2.1, hg.2.2.2, Int32.not_lt.mp c_10, c_15⟩
          obtain ⟨v0, hv0, rfl⟩ := nI_of2 (M := 2) (n := 2) rfl c_10 c_15
          rcases pk_ix r (n := fi 5) (by omega) with h | h | ⟨r0, hr0, rfl⟩
          · exact absurd h (Int32.not_lt.mpr hg.1)
          · exact absurd hg.2.1 (Int32.not_lt.mpr h)
          rcases pk_ix c (n := fi 6) (by omega) with h | h | ⟨c0, hc0, rfl⟩
          · exact absurd h (Int32.not_lt.mpr hg.2.2.1)
          · exact absurd hg.2.2.2 (Int32.not_lt.mpr h)
          refine r_aload_n hs d_M_pin_20 rfl rfl ?_
          refine r_geta hk 4 rfl rfl d_M_pin_21 ?_
          refine r_iload_n hs d_M_pin_24 rfl rfl ?_
          refine r_iconst hs 4 d_M_pin_25 (by decide) ?_
          refine r_imul hs d_M_pin_26 ?_
          refine r_iload_n hs d_M_pin_27 rfl rfl ?_
          refine r_iadd hs d_M_pin_28 ?_
          refine r_ald hk 12 rfl rfl (by omega) d_M_pin_29 ?_
          refine r_istore hs d_M_pin_30 (Nat.le_of_ble_eq_true rfl) (Nat.le_of_ble_eq_true rfl) ?_
          refine r_aload_n hs d_M_pin_32 rfl rfl ?_
          refine r_geta hk 4 rfl rfl d_M_pin_33 ?_
          refine r_iload_n hs d_M_pin_36 rfl rfl ?_
          refine r_iconst hs 4 d_M_pin_37 (by decide) ?_
          refine r_imul hs d_M_pin_38 ?_
          refine r_iload_n hs d_M_pin_39 rfl rfl ?_
          refine r_iadd hs d_M_pin_40 ?_
          refine r_iload_n hs d_M_pin_41 rfl rfl ?_
          refine r_ast hk 12 rfl rfl (by omega) d_M_pin_42 ?_
          refine r_iload hs d_M_pin_43 rfl ?_
          refine r_ret hk d_M_pin_45 ⟨_, rfl, ?_⟩
          rw [pinM, if_pos hx, nI_clamp (by omega), nI_clamp (by omega), nI_clamp (by omega)]
          exact ⟨rfl, rfl, rfl⟩
        · exact J0 (fun q => absurd q.2.2.2.2.2 c_15)
  · refine r_ifR_eq (tgt := 18) hs d_M_pin_6 (by decide) (fun c_6 => ?_) (fun c_6 => ?_)
    · exact J0 (fun q => hg ⟨q.1, q.2.1, q.2.2.1, q.2.2.2.1⟩)
    · exact absurd rfl c_6
theorem c_M_pinned (l : Launch) (fi : Nat → Nat) (ar : Nat → Nat → Nat) (r c : Int32) (hg : gridM fi) : oMetI l 1 y_M_pinned b_M_pinned 3 (some .int) 1 [.int r, .int c] fi ar (PI (pindM r c fi ar)) := by
  obtain ⟨g1, g2, g3, g4⟩ := hg
  refine oMetI_of (c := 1) (by decide) plain_M rfl (Or.inl rfl) rfl (Nat.le_of_ble_eq_true rfl) (fun h0 ad K hk => ?_)
  have hs := hk.sim
  refine r_aload_n hs d_M_pinned_0 rfl rfl ?_
  refine r_iload_n hs d_M_pinned_1 rfl rfl ?_
  refine r_iload_n hs d_M_pinned_2 rfl rfl ?_
  refine r_calli hk (c_M_isCell l fi ar r c) k_M_isCell (by decide) (by decide) rfl (Nat.le_of_ble_eq_true rfl) d_M_pinned_3 (fun r_3 fi_3 ar_3 p_3 => ?_)
  obtain ⟨hg, h2, h3⟩ := p_3
  rw [h2, h3]
  unfold inC at hg
  rcases hg with ⟨rfl, hg⟩ | ⟨rfl, hg⟩
  · refine r_ifR_ne (tgt := 11) hs d_M_pinned_6 (by decide) (fun c_6 => ?_) (fun c_6 => ?_)
    · rcases pk_ix r (n := fi 5) (by omega) with h | h | ⟨r0, hr0, rfl⟩
      · exact absurd h (Int32.not_lt.mpr hg.1)
      · exact absurd hg.2.1 (Int32.not_lt.mpr h)
      rcases pk_ix c (n := fi 6) (by omega) with h | h | ⟨c0, hc0, rfl⟩
      · exact absurd h (Int32.not_lt.mpr hg.2.2.1)
      · exact absurd hg.2.2.2 (Int32.not_lt.mpr h)
      refine r_aload_n hs d_M_pinned_11 rfl rfl ?_
      refine r_geta hk 4 rfl rfl d_M_pinned_12 ?_
      refine r_iload_n hs d_M_pinned_15 rfl rfl ?_
      refine r_iconst hs 4 d_M_pinned_16 (by decide) ?_
      refine r_imul hs d_M_pinned_17 ?_
      refine r_iload_n hs d_M_pinned_18 rfl rfl ?_
      refine r_iadd hs d_M_pinned_19 ?_
      refine r_ald hk 12 rfl rfl (by omega) d_M_pinned_20 ?_
      refine r_ret hk d_M_pinned_21 ⟨_, rfl, ?_⟩
      rw [pindM, if_pos hg, nI_clamp (by omega), nI_clamp (by omega)]
      exact ⟨rfl, rfl, rfl⟩
    · exact absurd c_6 (by decide)
  · refine r_ifR_ne (tgt := 11) hs d_M_pinned_6 (by decide) (fun c_6 => ?_) (fun c_6 => ?_)
    · exact absurd rfl c_6
    · refine r_iconst hs 4294967295 d_M_pinned_9 (by decide) ?_
      exact r_ret hk d_M_pinned_10 ⟨_, rfl, by rw [pindM, if_neg hg]; exact ⟨rfl, rfl, rfl⟩⟩
theorem c_M_lengthOf (l : Launch) (fi : Nat → Nat) (ar : Nat → Nat → Nat) (ln : Nat) (hln : ln < 2 ^ 31) (hg : gridM fi) : oMetI l 1 y_M_lengthOf b_M_lengthOf 2 (some .int) 0 [.int (nI ln)] fi ar (fun r f a => r = nI (lenM fi ln) ∧ f = fi ∧ a = ar) := by
  obtain ⟨g1, g2, g3, g4⟩ := hg
  refine oMetI_of (c := 1) (by decide) plain_M rfl (Or.inl rfl) rfl (Nat.le_of_ble_eq_true rfl) (fun h0 ad K hk => ?_)
  have hs := hk.sim
  refine r_iload_n hs d_M_lengthOf_0 rfl rfl ?_
  refine r_aload_n hs d_M_lengthOf_1 rfl rfl ?_
  refine r_geti hk 5 rfl rfl d_M_lengthOf_2 ?_
  refine r_icmp_ge (tgt := 15) hs (by first | omega | exact hB _ _ | exact hF _) (by first | omega | exact hB _ _ | exact hF _) d_M_lengthOf_5 (by decide) (fun c_5 => ?_) (fun c_5 => ?_)
  · refine r_aload_n hs d_M_lengthOf_15 rfl rfl ?_
    refine r_geti hk 5 rfl rfl d_M_lengthOf_16 ?_
    exact r_ret hk d_M_lengthOf_19 ⟨_, rfl, by rw [lenM, if_neg (by omega)], rfl, rfl⟩
  · refine r_aload_n hs d_M_lengthOf_8 rfl rfl ?_
    refine r_geti hk 6 rfl rfl d_M_lengthOf_9 ?_
    refine r_goto (tgt := 19) hs d_M_lengthOf_12 (by decide) ?_
    exact r_ret hk d_M_lengthOf_19 ⟨_, rfl, by rw [lenM, if_pos c_5], rfl, rfl⟩
theorem gridM_12 {fi : Nat → Nat} (hg : gridM fi) : 1 ≤ fi 5 * fi 6 ∧ fi 5 * fi 6 ≤ 12 := by
  obtain ⟨g1, g2, g3, g4⟩ := hg
  exact ⟨Nat.mul_le_mul g1 g3, Nat.mul_le_mul g2 g4⟩
theorem gridM_cell {fi : Nat → Nat} {r c : Nat} (hr : r < fi 5) (hc : c < fi 6) : r * fi 6 + c < fi 5 * fi 6 := by
  have : (r + 1) * fi 6 ≤ fi 5 * fi 6 := Nat.mul_le_mul_right _ hr
  rw [Nat.add_mul] at this
  omega
theorem c_M_cellOf (l : Launch) (fi : Nat → Nat) (ar : Nat → Nat → Nat) (num r c : Nat) (hg : gridM fi) (hnum : num < 2 ^ 31) (hr : r < fi 5) (hc : c < fi 6) : oMetI l 1 y_M_cellOf b_M_cellOf 4 (some .int) 0 [.int (nI num), .int (nI r), .int (nI c)] fi ar (fun r0 f a => r0 = nI (celM fi num r c) ∧ f = fi ∧ a = ar) := by
  have h12 := gridM_12 hg
  have hcl := gridM_cell hr hc
  refine oMetI_of (c := 1) (by decide) plain_M rfl (Or.inl rfl) rfl (Nat.le_of_ble_eq_true rfl) (fun h0 ad K hk => ?_)
  have hs := hk.sim
  refine r_iload_n hs d_M_cellOf_0 rfl rfl ?_
  refine r_aload_n hs d_M_cellOf_1 rfl rfl ?_
  refine r_geti hk 5 rfl rfl d_M_cellOf_2 ?_
  refine r_aload_n hs d_M_cellOf_5 rfl rfl ?_
  refine r_geti hk 6 rfl rfl d_M_cellOf_6 ?_
  refine r_imul hs d_M_cellOf_9 ?_
  refine r_iconst hs 1 d_M_cellOf_10 (by decide) ?_
  refine r_isub hs (by omega) d_M_cellOf_11 ?_
  refine r_iload_n hs d_M_cellOf_12 rfl rfl ?_
  refine r_aload_n hs d_M_cellOf_13 rfl rfl ?_
  refine r_geti hk 6 rfl rfl d_M_cellOf_14 ?_
  refine r_imul hs d_M_cellOf_17 ?_
  refine r_iload_n hs d_M_cellOf_18 rfl rfl ?_
  refine r_iadd hs d_M_cellOf_19 ?_
  refine r_isub hs (by omega) d_M_cellOf_20 ?_
  refine r_ishr hs hnum (by omega) d_M_cellOf_21 ?_
  refine r_iconst hs 1 d_M_cellOf_22 (by decide) ?_
  refine r_iand hs d_M_cellOf_23 ?_
  exact r_ret hk d_M_cellOf_24 ⟨_, rfl, rfl, rfl, rfl⟩
theorem c_M_wordOf (l : Launch) (fi : Nat → Nat) (ar : Nat → Nat → Nat) (num ln : Nat) (hg : gridM fi) (hnum : num < 2 ^ 31) (hln : ln < fi 5 + fi 6) : oMetI l 1 y_M_wordOf b_M_wordOf 7 (some .int) 1 [.int (nI num), .int (nI ln)] fi ar (fun r0 f a => r0 = nI (wofP fi num ln (lenM fi ln)) ∧ f = fi ∧ a = ar) := by
  obtain ⟨g1, g2, g3, g4⟩ := id hg
  have hl1 : lenM fi ln ≤ 4 := by unfold lenM; split <;> omega
  refine oMetI_of (c := 1) (by decide) plain_M rfl (Or.inl rfl) rfl (Nat.le_of_ble_eq_true rfl) (fun h0 ad K hk => ?_)
  have hs := hk.sim
  have J : ∀ i, i ≤ lenM fi ln → K 12 [.ref h0, .int (nI num), .int (nI ln), .int (nI (lenM fi ln)), .int (nI (wofP fi num ln i)), .int (nI i)] [] (fi, ar) := by
    refine loopD (fun i hi ih => ?_)
    refine r_iload hs d_M_wordOf_12 rfl ?_
    refine r_iload_n hs d_M_wordOf_14 rfl rfl ?_
    refine r_icmp_ge (tgt := 67) hs (by first | omega | exact hB _ _ | exact hF _) (by first | omega | exact hB _ _ | exact hF _) d_M_wordOf_15 (by decide) (fun c_15 => ?_) (fun c_15 => ?_)
    · obtain rfl : i = lenM fi ln := by omega
      refine r_iload hs d_M_wordOf_67 rfl ?_
      exact r_ret hk d_M_wordOf_69 ⟨_, rfl, rfl, rfl, rfl⟩
    · have e := ih c_15
      rw [wofP] at e
      have J2 : K 50 [.ref h0, .int (nI num), .int (nI ln), .int (nI (lenM fi ln)), .int (nI (wofP fi num ln i)), .int (nI i)] [.int (nI (digM fi num ln i))] (fi, ar) := by
        refine r_istore hs d_M_wordOf_50 (Nat.le_of_ble_eq_true rfl) (Nat.le_of_ble_eq_true rfl) ?_
        refine r_iload hs d_M_wordOf_52 rfl ?_
        refine r_iconst hs 2 d_M_wordOf_54 (by decide) ?_
        refine r_imul hs d_M_wordOf_55 ?_
        refine r_iload hs d_M_wordOf_56 rfl ?_
        refine r_iadd hs d_M_wordOf_58 ?_
        refine r_istore hs d_M_wordOf_59 (Nat.le_of_ble_eq_true rfl) (Nat.le_of_ble_eq_true rfl) ?_
        refine r_iinc hs d_M_wordOf_61 rfl (Nat.le_of_ble_eq_true rfl) (Nat.le_of_ble_eq_true rfl) ?_
        refine r_goto (tgt := 12) hs d_M_wordOf_64 (by decide) ?_
        exact r_take hs 6 e
      rw [digM] at J2
      refine r_iload_n hs d_M_wordOf_18 rfl rfl ?_
      refine r_aload_n hs d_M_wordOf_19 rfl rfl ?_
      refine r_geti hk 5 rfl rfl d_M_wordOf_20 ?_
      refine r_icmp_ge (tgt := 37) hs (by first | omega | exact hB _ _ | exact hF _) (by first | omega | exact hB _ _ | exact hF _) d_M_wordOf_23 (by decide) (fun c_23 => ?_) (fun c_23 => ?_)
      · rw [if_neg (by omega)] at J2
        have hi5 : i < fi 5 := by rw [lenM, if_neg (by omega)] at c_15; exact c_15
        refine r_aload_n hs d_M_wordOf_37 rfl rfl ?_
        refine r_iload_n hs d_M_wordOf_38 rfl rfl ?_
        refine r_iload hs d_M_wordOf_39 rfl ?_
        refine r_iload_n hs d_M_wordOf_41 rfl rfl ?_
        refine r_aload_n hs d_M_wordOf_42 rfl rfl ?_
        refine r_geti hk 5 rfl rfl d_M_wordOf_43 ?_
        refine r_isub hs (by omega) d_M_wordOf_46 ?_
        refine r_calli hk (c_M_cellOf l fi ar num i (ln - fi 5) hg hnum hi5 (by omega)) k_M_cellOf (by decide) (by decide) rfl (Nat.le_of_ble_eq_true rfl) d_M_wordOf_47 (fun r_47 fi_47 ar_47 p_47 => ?_)
        obtain ⟨rfl, h1, h2⟩ := p_47
        rw [h1, h2]
        exact J2
      · rw [if_pos c_23] at J2
        have hi6 : i < fi 6 := by rw [lenM, if_pos c_23] at c_15; exact c_15
        refine r_aload_n hs d_M_wordOf_26 rfl rfl ?_
        refine r_iload_n hs d_M_wordOf_27 rfl rfl ?_
        refine r_iload_n hs d_M_wordOf_28 rfl rfl ?_
        refine r_iload hs d_M_wordOf_29 rfl ?_
        refine r_calli hk (c_M_cellOf l fi ar num ln i hg hnum c_23 hi6) k_M_cellOf (by decide) (by decide) rfl (Nat.le_of_ble_eq_true rfl) d_M_wordOf_31 (fun r_31 fi_31 ar_31 p_31 => ?_)
        obtain ⟨rfl, h1, h2⟩ := p_31
        rw [h1, h2]
        refine r_goto (tgt := 50) hs d_M_wordOf_34 (by decide) ?_
        exact J2
  refine r_aload_n hs d_M_wordOf_0 rfl rfl ?_
  refine r_iload_n hs d_M_wordOf_1 rfl rfl ?_
  refine r_calli hk (c_M_lengthOf l fi ar ln (by omega) hg) k_M_lengthOf (by decide) (by decide) rfl (Nat.le_of_ble_eq_true rfl) d_M_wordOf_2 (fun r_2 fi_2 ar_2 p_2 => ?_)
  obtain ⟨rfl, h1, h2⟩ := p_2
  rw [h1, h2]
  refine r_istore_n hs d_M_wordOf_5 rfl (Nat.le_of_ble_eq_true rfl) (Nat.le_of_ble_eq_true rfl) ?_
  refine r_iconst hs 0 d_M_wordOf_6 (by decide) ?_
  refine r_istore hs d_M_wordOf_7 (Nat.le_of_ble_eq_true rfl) (Nat.le_of_ble_eq_true rfl) ?_
  refine r_iconst hs 0 d_M_wordOf_9 (by decide) ?_
  refine r_istore hs d_M_wordOf_10 (Nat.le_of_ble_eq_true rfl) (Nat.le_of_ble_eq_true rfl) ?_
  exact J 0 (by omega)
theorem c_M_pinsKept (l : Launch) (fi : Nat → Nat) (ar : Nat → Nat → Nat) (num : Nat) (hg : gridM fi) (hnum : num < 2 ^ 31) (hB : ∀ k j, ar k j < 2 ^ 31) : oMetI l 1 y_M_pinsKept b_M_pinsKept 5 (some .boolean) 1 [.int (nI num)] fi ar (fun r f a => ((r = 1 ∧ keepM fi ar num) ∨ (r = 0 ∧ ¬ keepM fi ar num)) ∧ f = fi ∧ a = ar) := by
  obtain ⟨g1, g2, g3, g4⟩ := id hg
  refine oMetI_of (c := 1) (by decide) plain_M rfl (Or.inr ⟨rfl, fun r f a h => by rcases h.1 with h | h; exact Or.inr h.1; exact Or.inl h.1⟩) rfl (Nat.le_of_ble_eq_true rfl) (fun h0 ad K hk => ?_)
  have hs := hk.sim
  have J : ∀ r, r ≤ fi 5 → (∀ r', r' < r → ∀ c, c < fi 6 → pinQ fi ar num r' c) → K 2 [.ref h0, .int (nI num), .int (nI r)] [] (fi, ar) := by
    refine loopD (fun r hr ih hok => ?_)
    refine r_iload_n hs d_M_pinsKept_2 rfl rfl ?_
    refine r_aload_n hs d_M_pinsKept_3 rfl rfl ?_
    refine r_geti hk 5 rfl rfl d_M_pinsKept_4 ?_
    refine r_icmp_ge (tgt := 64) hs (by first | omega | exact hB _ _ | exact hF _) (by first | omega | exact hB _ _ | exact hF _) d_M_pinsKept_7 (by decide) (fun c_7 => ?_) (fun c_7 => ?_)
    · obtain rfl : r = fi 5 := by omega
      refine r_iconst hs 1 d_M_pinsKept_64 (by decide) ?_
      exact r_ret hk d_M_pinsKept_65 ⟨_, rfl, Or.inl ⟨rfl, hok⟩, rfl, rfl⟩
    · have J2 : ∀ c, c ≤ fi 6 → (∀ c', c' < c → pinQ fi ar num r c') → K 12 [.ref h0, .int (nI num), .int (nI r), .int (nI c)] [] (fi, ar) := by
        refine loopD (fun c hc ih2 hok2 => ?_)
        refine r_iload_n hs d_M_pinsKept_12 rfl rfl ?_
        refine r_aload_n hs d_M_pinsKept_13 rfl rfl ?_
        refine r_geti hk 6 rfl rfl d_M_pinsKept_14 ?_
        refine r_icmp_ge (tgt := 58) hs (by first | omega | exact hB _ _ | exact hF _) (by first | omega | exact hB _ _ | exact hF _) d_M_pinsKept_17 (by decide) (fun c_17 => ?_) (fun c_17 => ?_)
        · obtain rfl : c = fi 6 := by omega
          refine r_iinc hs d_M_pinsKept_58 rfl (Nat.le_of_ble_eq_true rfl) (Nat.le_of_ble_eq_true rfl) ?_
          refine r_goto (tgt := 2) hs d_M_pinsKept_61 (by decide) ?_
          exact r_take hs 3 (ih c_7 (fun r' h1 c h2 => by
            rcases Nat.lt_or_ge r' r with h | h
            · exact hok r' h c h2
            · rw [show r' = r by omega]; exact hok2 c h2))
        · have JN : pinQ fi ar num r c → ∀ w, K 52 [.ref h0, .int (nI num), .int (nI r), .int (nI c), w] [] (fi, ar) := by
            intro hq w
            refine r_iinc hs d_M_pinsKept_52 rfl (Nat.le_of_ble_eq_true rfl) (Nat.le_of_ble_eq_true rfl) ?_
            refine r_goto (tgt := 12) hs d_M_pinsKept_55 (by decide) ?_
            exact r_take hs 4 (ih2 c_17 (fun c' h1 => by
              rcases Nat.lt_or_ge c' c with h | h
              · exact hok2 c' h
              · rw [show c' = c by omega]; exact hq))
          refine r_aload_n hs d_M_pinsKept_20 rfl rfl ?_
          refine r_geta hk 4 rfl rfl d_M_pinsKept_21 ?_
          refine r_iload_n hs d_M_pinsKept_24 rfl rfl ?_
          refine r_iconst hs 4 d_M_pinsKept_25 (by decide) ?_
          refine r_imul hs d_M_pinsKept_26 ?_
          refine r_iload_n hs d_M_pinsKept_27 rfl rfl ?_
          refine r_iadd hs d_M_pinsKept_28 ?_
          refine r_ald hk 12 rfl rfl (by omega) d_M_pinsKept_29 ?_
          refine r_istore hs d_M_pinsKept_30 (Nat.le_of_ble_eq_true rfl) (Nat.le_of_ble_eq_true rfl) ?_
          refine r_iload hs d_M_pinsKept_32 rfl ?_
          refine r_iconst hs 2 d_M_pinsKept_34 (by decide) ?_
          refine r_icmp_eq (tgt := 52) hs (by first | omega | exact hB _ _ | exact hF _) (by first | omega | exact hB _ _ | exact hF _) d_M_pinsKept_35 (by decide) (fun c_35 => ?_) (fun c_35 => ?_)
          · exact JN (Or.inl c_35) _
          · refine r_iload hs d_M_pinsKept_38 rfl ?_
            refine r_aload_n hs d_M_pinsKept_40 rfl rfl ?_
            refine r_iload_n hs d_M_pinsKept_41 rfl rfl ?_
            refine r_iload_n hs d_M_pinsKept_42 rfl rfl ?_
            refine r_iload_n hs d_M_pinsKept_43 rfl rfl ?_
            refine r_calli hk (c_M_cellOf l fi ar num r c hg hnum c_7 c_17) k_M_cellOf (by decide) (by decide) rfl (Nat.le_of_ble_eq_true rfl) d_M_pinsKept_44 (fun r_44 fi_44 ar_44 p_44 => ?_)
            obtain ⟨rfl, h1, h2⟩ := p_44
            rw [h1, h2]
            have hcb : celM fi num r c < 2 ^ 31 := Nat.lt_of_le_of_lt Nat.and_le_right (by decide)
            refine r_icmp_eq (tgt := 52) hs (by first | omega | exact hB _ _ | exact hF _) (by first | omega | exact hB _ _ | exact hF _) d_M_pinsKept_47 (by decide) (fun c_47 => ?_) (fun c_47 => ?_)
            · exact JN (Or.inr c_47) _
            · refine r_iconst hs 0 d_M_pinsKept_50 (by decide) ?_
              exact r_ret hk d_M_pinsKept_51 ⟨_, rfl, Or.inr ⟨rfl, fun q => by rcases q r c_7 c c_17 with h | h; exact c_35 h; exact c_47 h⟩, rfl, rfl⟩
      refine r_iconst hs 0 d_M_pinsKept_10 (by decide) ?_
      refine r_istore_n hs d_M_pinsKept_11 rfl (Nat.le_of_ble_eq_true rfl) (Nat.le_of_ble_eq_true rfl) ?_
      exact J2 0 (by omega) (fun c' h => by omega)
  refine r_iconst hs 0 d_M_pinsKept_0 (by decide) ?_
  refine r_istore_n hs d_M_pinsKept_1 rfl (Nat.le_of_ble_eq_true rfl) (Nat.le_of_ble_eq_true rfl) ?_
  exact J 0 (by omega) (fun r' h => by omega)
theorem c_M_fits (l : Launch) (fi : Nat → Nat) (ar : Nat → Nat → Nat) (num : Nat) (hg : gridM fi) (hnum : num < 2 ^ 31) (hB : ∀ k j, ar k j < 2 ^ 31) : oMetI l 1 y_M_fits b_M_fits 5 (some .boolean) 2 [.int (nI num)] fi ar (fun r f a => ((r = 1 ∧ fitM fi ar num) ∨ (r = 0 ∧ ¬ fitM fi ar num)) ∧ f = fi ∧ a = ar) := by
  obtain ⟨g1, g2, g3, g4⟩ := id hg
  refine oMetI_of (c := 1) (by decide) plain_M rfl (Or.inr ⟨rfl, fun r f a h => by rcases h.1 with h | h; exact Or.inr h.1; exact Or.inl h.1⟩) rfl (Nat.le_of_ble_eq_true rfl) (fun h0 ad K hk => ?_)
  have hs := hk.sim
  refine r_aload_n hs d_M_fits_0 rfl rfl ?_
  refine r_iload_n hs d_M_fits_1 rfl rfl ?_
  refine r_calli hk (c_M_pinsKept l fi ar num hg hnum hB) k_M_pinsKept (by decide) (by decide) rfl (Nat.le_of_ble_eq_true rfl) d_M_fits_2 (fun r_2 fi_2 ar_2 p_2 => ?_)
  obtain ⟨h1, h2, h3⟩ := p_2
  rw [h2, h3]
  rcases h1 with ⟨rfl, hkp⟩ | ⟨rfl, hkp⟩
  · refine r_ifR_ne (tgt := 10) hs d_M_fits_5 (by decide) (fun c_5 => ?_) (fun c_5 => ?_)
    · have J : ∀ ln, ln ≤ fi 5 + fi 6 → (∀ q, q < ln → hol (ar 3 q) (lenM fi q) (wofP fi num q (lenM fi q))) → K 12 [.ref h0, .int (nI num), .int (nI ln)] [] (fi, ar) := by
        refine loopD (fun ln hln ih hok => ?_)
        refine r_iload_n hs d_M_fits_12 rfl rfl ?_
        refine r_aload_n hs d_M_fits_13 rfl rfl ?_
        refine r_geti hk 5 rfl rfl d_M_fits_14 ?_
        refine r_aload_n hs d_M_fits_17 rfl rfl ?_
        refine r_geti hk 6 rfl rfl d_M_fits_18 ?_
        refine r_iadd hs d_M_fits_21 ?_
        refine r_icmp_ge (tgt := 63) hs (by first | omega | exact hB _ _ | exact hF _) (by first | omega | exact hB _ _ | exact hF _) d_M_fits_22 (by decide) (fun c_22 => ?_) (fun c_22 => ?_)
        · obtain rfl : ln = fi 5 + fi 6 := by omega
          refine r_iconst hs 1 d_M_fits_63 (by decide) ?_
          exact r_ret hk d_M_fits_64 ⟨_, rfl, Or.inl ⟨rfl, hkp, hok⟩, rfl, rfl⟩
        · refine r_aload_n hs d_M_fits_25 rfl rfl ?_
          refine r_iload_n hs d_M_fits_26 rfl rfl ?_
          refine r_iload_n hs d_M_fits_27 rfl rfl ?_
          refine r_calli hk (c_M_wordOf l fi ar num ln hg hnum c_22) k_M_wordOf (by decide) (by decide) rfl (Nat.le_of_ble_eq_true rfl) d_M_fits_28 (fun r_28 fi_28 ar_28 p_28 => ?_)
          obtain ⟨rfl, h1, h2⟩ := p_28
          rw [h1, h2]
          refine r_istore_n hs d_M_fits_31 rfl (Nat.le_of_ble_eq_true rfl) (Nat.le_of_ble_eq_true rfl) ?_
          refine r_aload_n hs d_M_fits_32 rfl rfl ?_
          refine r_iload_n hs d_M_fits_33 rfl rfl ?_
          refine r_calli hk (c_M_lengthOf l fi ar ln (by omega) hg) k_M_lengthOf (by decide) (by decide) rfl (Nat.le_of_ble_eq_true rfl) d_M_fits_34 (fun r_34 fi_34 ar_34 p_34 => ?_)
          obtain ⟨rfl, h1, h2⟩ := p_34
          rw [h1, h2]
          have hl1 : lenM fi ln ≤ 4 := by unfold lenM; split <;> omega
          refine r_istore hs d_M_fits_37 (Nat.le_of_ble_eq_true rfl) (Nat.le_of_ble_eq_true rfl) ?_
          refine r_aload_n hs d_M_fits_39 rfl rfl ?_
          refine r_aload_n hs d_M_fits_40 rfl rfl ?_
          refine r_geta hk 3 rfl rfl d_M_fits_41 ?_
          refine r_iload_n hs d_M_fits_44 rfl rfl ?_
          refine r_ald hk 7 rfl rfl (by omega) d_M_fits_45 ?_
          refine r_iload hs d_M_fits_46 rfl ?_
          refine r_iload_n hs d_M_fits_48 rfl rfl ?_
          refine r_calli hk (c_M_holds l fi ar (ar 3 ln) (lenM fi ln) (wofP fi num ln (lenM fi ln)) (hB _ _) hl1 (wofP_lt _ _ _ _)) k_M_holds (by decide) (by decide) rfl (Nat.le_of_ble_eq_true rfl) d_M_fits_49 (fun r_49 fi_49 ar_49 p_49 => ?_)
          obtain ⟨h1, h2, h3⟩ := p_49
          rw [h2, h3]
          rcases h1 with ⟨rfl, h1⟩ | ⟨rfl, h1⟩
          · refine r_ifR_ne (tgt := 57) hs d_M_fits_52 (by decide) (fun c_52 => ?_) (fun c_52 => ?_)
            · refine r_iinc hs d_M_fits_57 rfl (Nat.le_of_ble_eq_true rfl) (Nat.le_of_ble_eq_true rfl) ?_
              refine r_goto (tgt := 12) hs d_M_fits_60 (by decide) ?_
              exact r_take hs 3 (ih c_22 (fun q hq => by
                rcases Nat.lt_or_ge q ln with h | h
                · exact hok q h
                · rw [show q = ln by omega]; exact h1))
            · exact absurd c_52 (by decide)
          · refine r_ifR_ne (tgt := 57) hs d_M_fits_52 (by decide) (fun c_52 => ?_) (fun c_52 => ?_)
            · exact absurd rfl c_52
            · refine r_iconst hs 0 d_M_fits_55 (by decide) ?_
              exact r_ret hk d_M_fits_56 ⟨_, rfl, Or.inr ⟨rfl, fun q => h1 (q.2 ln c_22)⟩, rfl, rfl⟩
      refine r_iconst hs 0 d_M_fits_10 (by decide) ?_
      refine r_istore_n hs d_M_fits_11 rfl (Nat.le_of_ble_eq_true rfl) (Nat.le_of_ble_eq_true rfl) ?_
      exact J 0 (by omega) (fun q hq => by omega)
    · exact absurd c_5 (by decide)
  · refine r_ifR_ne (tgt := 10) hs d_M_fits_5 (by decide) (fun c_5 => ?_) (fun c_5 => ?_)
    · exact absurd rfl c_5
    · refine r_iconst hs 0 d_M_fits_8 (by decide) ?_
      exact r_ret hk d_M_fits_9 ⟨_, rfl, Or.inr ⟨rfl, fun q => hkp q.1⟩, rfl, rfl⟩
end
section
/-! ExprCrosswordModel: the questions -/
theorem pw12 {fi : Nat → Nat} (hg : gridM fi) : 1 ≤ 1 <<< (fi 5 * fi 6) ∧ 1 <<< (fi 5 * fi 6) ≤ 4096 := by
  have := gridM_12 hg
  rw [Nat.one_shiftLeft]
  exact ⟨Nat.two_pow_pos _, Nat.pow_le_pow_right (n := 2) (by decide) this.2⟩
theorem c_M_fillings (l : Launch) (fi : Nat → Nat) (ar : Nat → Nat → Nat) (hg : gridM fi) (hB : ∀ k j, ar k j < 2 ^ 31) : oMetI l 1 y_M_fillings b_M_fillings 3 (some .int) 3 [] fi ar (PI (cntM fi ar (1 <<< (fi 5 * fi 6)), fi, ar)) := by
  have hp := pw12 hg
  have h12 := gridM_12 hg
  refine oMetI_of (c := 1) (by decide) plain_M rfl (Or.inl rfl) rfl (Nat.le_of_ble_eq_true rfl) (fun h0 ad K hk => ?_)
  have hs := hk.sim
  have J : ∀ n, n ≤ 1 <<< (fi 5 * fi 6) → K 4 [.ref h0, .int (nI (cntM fi ar n)), .int (nI n)] [] (fi, ar) := by
    refine loopD (fun n hn ih => ?_)
    refine r_iload_n hs d_M_fillings_4 rfl rfl ?_
    refine r_iconst hs 1 d_M_fillings_5 (by decide) ?_
    refine r_aload_n hs d_M_fillings_6 rfl rfl ?_
    refine r_geti hk 5 rfl rfl d_M_fillings_7 ?_
    refine r_aload_n hs d_M_fillings_10 rfl rfl ?_
    refine r_geti hk 6 rfl rfl d_M_fillings_11 ?_
    refine r_imul hs d_M_fillings_14 ?_
    refine r_ishl hs (by omega) (shl1 (by omega)) d_M_fillings_15 ?_
    refine r_icmp_ge (tgt := 36) hs (by first | omega | exact hB _ _ | exact hF _) (by first | omega | exact hB _ _ | exact hF _) d_M_fillings_16 (by decide) (fun c_16 => ?_) (fun c_16 => ?_)
    · obtain rfl : n = 1 <<< (fi 5 * fi 6) := by omega
      refine r_iload_n hs d_M_fillings_36 rfl rfl ?_
      exact r_ret hk d_M_fillings_37 ⟨_, rfl, rfl, rfl, rfl⟩
    · have e := ih c_16
      rw [cntM] at e
      refine r_aload_n hs d_M_fillings_19 rfl rfl ?_
      refine r_iload_n hs d_M_fillings_20 rfl rfl ?_
      refine r_calli hk (c_M_fits l fi ar n hg (by omega) hB) k_M_fits (by decide) (by decide) rfl (Nat.le_of_ble_eq_true rfl) d_M_fillings_21 (fun r_21 fi_21 ar_21 p_21 => ?_)
      obtain ⟨h1, h2, h3⟩ := p_21
      rw [h2, h3]
      rcases h1 with ⟨rfl, h1⟩ | ⟨rfl, h1⟩
      · rw [if_pos h1] at e
        refine r_ifR_eq (tgt := 30) hs d_M_fillings_24 (by decide) (fun c_24 => ?_) (fun c_24 => ?_)
        · exact absurd c_24 (by decide)
        · refine r_iinc hs d_M_fillings_27 rfl (Nat.le_of_ble_eq_true rfl) (Nat.le_of_ble_eq_true rfl) ?_
          refine r_iinc hs d_M_fillings_30 rfl (Nat.le_of_ble_eq_true rfl) (Nat.le_of_ble_eq_true rfl) ?_
          refine r_goto (tgt := 4) hs d_M_fillings_33 (by decide) ?_
          exact e
      · rw [if_neg h1] at e
        refine r_ifR_eq (tgt := 30) hs d_M_fillings_24 (by decide) (fun c_24 => ?_) (fun c_24 => ?_)
        · refine r_iinc hs d_M_fillings_30 rfl (Nat.le_of_ble_eq_true rfl) (Nat.le_of_ble_eq_true rfl) ?_
          refine r_goto (tgt := 4) hs d_M_fillings_33 (by decide) ?_
          exact e
        · exact absurd rfl c_24
  refine r_iconst hs 0 d_M_fillings_0 (by decide) ?_
  refine r_istore_n hs d_M_fillings_1 rfl (Nat.le_of_ble_eq_true rfl) (Nat.le_of_ble_eq_true rfl) ?_
  refine r_iconst hs 0 d_M_fillings_2 (by decide) ?_
  refine r_istore_n hs d_M_fillings_3 rfl (Nat.le_of_ble_eq_true rfl) (Nat.le_of_ble_eq_true rfl) ?_
  exact J 0 (Nat.zero_le _)
theorem c_M_filling (l : Launch) (fi : Nat → Nat) (ar : Nat → Nat → Nat) (x : Int32) (hg : gridM fi) (hB : ∀ k j, ar k j < 2 ^ 31) : oMetI l 1 y_M_filling b_M_filling 4 (some .int) 3 [.int x] fi ar (fun r f a => ((x < 0 ∧ r = nI 4294967295) ∨ (∃ k, k < 2 ^ 31 ∧ x = nI k ∧ ((∃ n, n < 1 <<< (fi 5 * fi 6) ∧ fitM fi ar n ∧ cntM fi ar n = k ∧ r = nI n) ∨ ((∀ n, n < 1 <<< (fi 5 * fi 6) → fitM fi ar n → cntM fi ar n ≠ k) ∧ r = nI 4294967292)))) ∧ f = fi ∧ a = ar) := by
  have hp := pw12 hg
  have h12 := gridM_12 hg
  refine oMetI_of (c := 1) (by decide) plain_M rfl (Or.inl rfl) rfl (Nat.le_of_ble_eq_true rfl) (fun h0 ad K hk => ?_)
  have hs := hk.sim
  refine r_iload_n hs d_M_filling_0 rfl rfl ?_
  refine r_ifR_ge (tgt := 6) hs d_M_filling_1 (by decide) (fun c_1 => ?_) (fun c_1 => ?_)
  · obtain ⟨k, hk31, rfl⟩ := nI_of (Int32.not_lt.mpr c_1)
    have J : ∀ n, n ≤ 1 <<< (fi 5 * fi 6) → (∀ q, q < n → fitM fi ar q → cntM fi ar q ≠ k) → K 10 [.ref h0, .int (nI k), .int (nI (cntM fi ar n)), .int (nI n)] [] (fi, ar) := by
      refine loopD (fun n hn ih hno => ?_)
      refine r_iload_n hs d_M_filling_10 rfl rfl ?_
      refine r_iconst hs 1 d_M_filling_11 (by decide) ?_
      refine r_aload_n hs d_M_filling_12 rfl rfl ?_
      refine r_geti hk 5 rfl rfl d_M_filling_13 ?_
      refine r_aload_n hs d_M_filling_16 rfl rfl ?_
      refine r_geti hk 6 rfl rfl d_M_filling_17 ?_
      refine r_imul hs d_M_filling_20 ?_
      refine r_ishl hs (by omega) (shl1 (by omega)) d_M_filling_21 ?_
      refine r_icmp_ge (tgt := 49) hs (by first | omega | exact hB _ _ | exact hF _) (by first | omega | exact hB _ _ | exact hF _) d_M_filling_22 (by decide) (fun c_22 => ?_) (fun c_22 => ?_)
      · obtain rfl : n = 1 <<< (fi 5 * fi 6) := by omega
        refine r_bipush hs 4294967292 d_M_filling_49 (by decide) ?_
        exact r_ret hk d_M_filling_51 ⟨_, rfl, Or.inr ⟨k, hk31, rfl, Or.inr ⟨hno, rfl⟩⟩, rfl, rfl⟩
      · have e := ih c_22
        rw [cntM] at e
        have hcl := cntM_le fi ar n
        refine r_aload_n hs d_M_filling_25 rfl rfl ?_
        refine r_iload_n hs d_M_filling_26 rfl rfl ?_
        refine r_calli hk (c_M_fits l fi ar n hg (by omega) hB) k_M_fits (by decide) (by decide) rfl (Nat.le_of_ble_eq_true rfl) d_M_filling_27 (fun r_27 fi_27 ar_27 p_27 => ?_)
        obtain ⟨h1, h2, h3⟩ := p_27
        rw [h2, h3]
        rcases h1 with ⟨rfl, h1⟩ | ⟨rfl, h1⟩
        · rw [if_pos h1] at e
          refine r_ifR_eq (tgt := 43) hs d_M_filling_30 (by decide) (fun c_30 => ?_) (fun c_30 => ?_)
          · exact absurd c_30 (by decide)
          · refine r_iload_n hs d_M_filling_33 rfl rfl ?_
            refine r_iload_n hs d_M_filling_34 rfl rfl ?_
            refine r_icmp_ne (tgt := 40) hs (by first | omega | exact hB _ _ | exact hF _) (by first | omega | exact hB _ _ | exact hF _) d_M_filling_35 (by decide) (fun c_35 => ?_) (fun c_35 => ?_)
            · refine r_iinc hs d_M_filling_40 rfl (Nat.le_of_ble_eq_true rfl) (Nat.le_of_ble_eq_true rfl) ?_
              refine r_iinc hs d_M_filling_43 rfl (Nat.le_of_ble_eq_true rfl) (Nat.le_of_ble_eq_true rfl) ?_
              refine r_goto (tgt := 10) hs d_M_filling_46 (by decide) ?_
              exact e (fun q hq hf => by
                rcases Nat.lt_or_ge q n with h | h
                · exact hno q h hf
                · rw [show q = n by omega]; exact c_35)
            · refine r_iload_n hs d_M_filling_38 rfl rfl ?_
              exact r_ret hk d_M_filling_39 ⟨_, rfl, Or.inr ⟨k, hk31, rfl, Or.inl ⟨n, c_22, h1, c_35, rfl⟩⟩, rfl, rfl⟩
        · rw [if_neg h1] at e
          refine r_ifR_eq (tgt := 43) hs d_M_filling_30 (by decide) (fun c_30 => ?_) (fun c_30 => ?_)
          · refine r_iinc hs d_M_filling_43 rfl (Nat.le_of_ble_eq_true rfl) (Nat.le_of_ble_eq_true rfl) ?_
            refine r_goto (tgt := 10) hs d_M_filling_46 (by decide) ?_
            exact e (fun q hq hf => by
              rcases Nat.lt_or_ge q n with h | h
              · exact hno q h hf
              · rw [show q = n by omega] at hf; exact absurd hf h1)
          · exact absurd rfl c_30
    refine r_iconst hs 0 d_M_filling_6 (by decide) ?_
    refine r_istore_n hs d_M_filling_7 rfl (Nat.le_of_ble_eq_true rfl) (Nat.le_of_ble_eq_true rfl) ?_
    refine r_iconst hs 0 d_M_filling_8 (by decide) ?_
    refine r_istore_n hs d_M_filling_9 rfl (Nat.le_of_ble_eq_true rfl) (Nat.le_of_ble_eq_true rfl) ?_
    exact J 0 (Nat.zero_le _) (fun q hq => absurd hq (Nat.not_lt_zero q))
  · refine r_iconst hs 4294967295 d_M_filling_4 (by decide) ?_
    exact r_ret hk d_M_filling_5 ⟨_, rfl, Or.inl ⟨Int32.not_le.mp c_1, rfl⟩, rfl, rfl⟩
theorem c_M_below (l : Launch) (fi : Nat → Nat) (ar : Nat → Nat → Nat) (x : Int32) (hg : gridM fi) (hB : ∀ k j, ar k j < 2 ^ 31) : oMetI l 1 y_M_below b_M_below 4 (some .int) 3 [.int x] fi ar (PI (blwM fi ar x (1 <<< (fi 5 * fi 6)), fi, ar)) := by
  have hp := pw12 hg
  have h12 := gridM_12 hg
  refine oMetI_of (c := 1) (by decide) plain_M rfl (Or.inl rfl) rfl (Nat.le_of_ble_eq_true rfl) (fun h0 ad K hk => ?_)
  have hs := hk.sim
  have J : ∀ n, n ≤ 1 <<< (fi 5 * fi 6) → K 4 [.ref h0, .int x, .int (nI (blwM fi ar x n)), .int (nI n)] [] (fi, ar) := by
    refine loopD (fun n hn ih => ?_)
    refine r_iload_n hs d_M_below_4 rfl rfl ?_
    refine r_iconst hs 1 d_M_below_5 (by decide) ?_
    refine r_aload_n hs d_M_below_6 rfl rfl ?_
    refine r_geti hk 5 rfl rfl d_M_below_7 ?_
    refine r_aload_n hs d_M_below_10 rfl rfl ?_
    refine r_geti hk 6 rfl rfl d_M_below_11 ?_
    refine r_imul hs d_M_below_14 ?_
    refine r_ishl hs (by omega) (shl1 (by omega)) d_M_below_15 ?_
    refine r_icmp_ge (tgt := 41) hs (by first | omega | exact hB _ _ | exact hF _) (by first | omega | exact hB _ _ | exact hF _) d_M_below_16 (by decide) (fun c_16 => ?_) (fun c_16 => ?_)
    · obtain rfl : n = 1 <<< (fi 5 * fi 6) := by omega
      refine r_iload_n hs d_M_below_41 rfl rfl ?_
      exact r_ret hk d_M_below_42 ⟨_, rfl, rfl, rfl, rfl⟩
    · have e := ih c_16
      rw [blwM] at e
      have JN : ¬ (nI n < x ∧ fitM fi ar n) → K 35 [.ref h0, .int x, .int (nI (blwM fi ar x n)), .int (nI n)] [] (fi, ar) := by
        intro hq
        rw [if_neg hq] at e
        refine r_iinc hs d_M_below_35 rfl (Nat.le_of_ble_eq_true rfl) (Nat.le_of_ble_eq_true rfl) ?_
        refine r_goto (tgt := 4) hs d_M_below_38 (by decide) ?_
        exact e
      refine r_iload_n hs d_M_below_19 rfl rfl ?_
      refine r_iload_n hs d_M_below_20 rfl rfl ?_
      refine r_icmpR_ge (tgt := 35) hs d_M_below_21 (by decide) (fun c_21 => ?_) (fun c_21 => ?_)
      · exact JN (fun q => absurd q.1 (Int32.not_lt.mpr c_21))
      · refine r_aload_n hs d_M_below_24 rfl rfl ?_
        refine r_iload_n hs d_M_below_25 rfl rfl ?_
        refine r_calli hk (c_M_fits l fi ar n hg (by omega) hB) k_M_fits (by decide) (by decide) rfl (Nat.le_of_ble_eq_true rfl) d_M_below_26 (fun r_26 fi_26 ar_26 p_26 => ?_)
        obtain ⟨h1, h2, h3⟩ := p_26
        rw [h2, h3]
        rcases h1 with ⟨rfl, h1⟩ | ⟨rfl, h1⟩
        · rw [if_pos ⟨Int32.not_le.mp c_21, h1⟩] at e
          refine r_ifR_eq (tgt := 35) hs d_M_below_29 (by decide) (fun c_29 => ?_) (fun c_29 => ?_)
          · exact absurd c_29 (by decide)
          · refine r_iinc hs d_M_below_32 rfl (Nat.le_of_ble_eq_true rfl) (Nat.le_of_ble_eq_true rfl) ?_
            refine r_iinc hs d_M_below_35 rfl (Nat.le_of_ble_eq_true rfl) (Nat.le_of_ble_eq_true rfl) ?_
            refine r_goto (tgt := 4) hs d_M_below_38 (by decide) ?_
            exact e
        · refine r_ifR_eq (tgt := 35) hs d_M_below_29 (by decide) (fun c_29 => ?_) (fun c_29 => ?_)
          · exact JN (fun q => h1 q.2)
          · exact absurd rfl c_29
  refine r_iconst hs 0 d_M_below_0 (by decide) ?_
  refine r_istore_n hs d_M_below_1 rfl (Nat.le_of_ble_eq_true rfl) (Nat.le_of_ble_eq_true rfl) ?_
  refine r_iconst hs 0 d_M_below_2 (by decide) ?_
  refine r_istore_n hs d_M_below_3 rfl (Nat.le_of_ble_eq_true rfl) (Nat.le_of_ble_eq_true rfl) ?_
  exact J 0 (Nat.zero_le _)
theorem frO_lt (fi : Nat → Nat) (ar : Nat → Nat → Nat) (r c n : Nat) : frO fi ar r c n < 2 := by
  induction n with
  | zero => rw [frO]; decide
  | succ n ih =>
    rw [frO]
    split
    · split
      · split <;> decide
      · decide
    · exact ih
theorem frZ_lt (fi : Nat → Nat) (ar : Nat → Nat → Nat) (r c n : Nat) : frZ fi ar r c n < 2 := by
  induction n with
  | zero => rw [frZ]; decide
  | succ n ih =>
    rw [frZ]
    split
    · split
      · split <;> decide
      · decide
    · exact ih
theorem c_M_forced (l : Launch) (fi : Nat → Nat) (ar : Nat → Nat → Nat) (r0 c0 : Int32) (hg : gridM fi) (hB : ∀ k j, ar k j < 2 ^ 31) : oMetI l 1 y_M_forced b_M_forced 7 (some .int) 3 [.int r0, .int c0] fi ar (fun r f a => ((¬ inC fi r0 c0 ∧ r = nI 4294967295) ∨ (∃ r1 c1, r1 < fi 5 ∧ c1 < fi 6 ∧ r0 = nI r1 ∧ c0 = nI c1 ∧ r = nI (frV (frZ fi ar r1 c1 (1 <<< (fi 5 * fi 6))) (frO fi ar r1 c1 (1 <<< (fi 5 * fi 6)))))) ∧ f = fi ∧ a = ar) := by
  have hp := pw12 hg
  have h12 := gridM_12 hg
  obtain ⟨g1, g2, g3, g4⟩ := id hg
  refine oMetI_of (c := 1) (by decide) plain_M rfl (Or.inl rfl) rfl (Nat.le_of_ble_eq_true rfl) (fun h0 ad K hk => ?_)
  have hs := hk.sim
  refine r_aload_n hs d_M_forced_0 rfl rfl ?_
  refine r_iload_n hs d_M_forced_1 rfl rfl ?_
  refine r_iload_n hs d_M_forced_2 rfl rfl ?_
  refine r_calli hk (c_M_isCell l fi ar r0 c0) k_M_isCell (by decide) (by decide) rfl (Nat.le_of_ble_eq_true rfl) d_M_forced_3 (fun r_3 fi_3 ar_3 p_3 => ?_)
  obtain ⟨hi, h2, h3⟩ := p_3
  rw [h2, h3]
  unfold inC at hi
  rcases hi with ⟨rfl, hi⟩ | ⟨rfl, hi⟩
  · refine r_ifR_ne (tgt := 11) hs d_M_forced_6 (by decide) (fun c_6 => ?_) (fun c_6 => ?_)
    · rcases pk_ix r0 (n := fi 5) (by omega) with h | h | ⟨r, hr, rfl⟩
      · exact absurd h (Int32.not_lt.mpr hi.1)
      · exact absurd hi.2.1 (Int32.not_lt.mpr h)
      rcases pk_ix c0 (n := fi 6) (by omega) with h | h | ⟨c, hc, rfl⟩
      · exact absurd h (Int32.not_lt.mpr hi.2.2.1)
      · exact absurd hi.2.2.2 (Int32.not_lt.mpr h)
      have J : ∀ n, n ≤ 1 <<< (fi 5 * fi 6) → K 19 [.ref h0, .int (nI r), .int (nI c), .int (nI (frZ fi ar r c n)), .int (nI (frO fi ar r c n)), .int (nI n)] [] (fi, ar) := by
        refine loopD (fun n hn ih => ?_)
        have hzb := frZ_lt fi ar r c n
        have hob := frO_lt fi ar r c n
        refine r_iload hs d_M_forced_19 rfl ?_
        refine r_iconst hs 1 d_M_forced_21 (by decide) ?_
        refine r_aload_n hs d_M_forced_22 rfl rfl ?_
        refine r_geti hk 5 rfl rfl d_M_forced_23 ?_
        refine r_aload_n hs d_M_forced_26 rfl rfl ?_
        refine r_geti hk 6 rfl rfl d_M_forced_27 ?_
        refine r_imul hs d_M_forced_30 ?_
        refine r_ishl hs (by omega) (shl1 (by omega)) d_M_forced_31 ?_
        refine r_icmp_ge (tgt := 101) hs (by first | omega | exact hB _ _ | exact hF _) (by first | omega | exact hB _ _ | exact hF _) d_M_forced_32 (by decide) (fun c_32 => ?_) (fun c_32 => ?_)
        · obtain rfl : n = 1 <<< (fi 5 * fi 6) := by omega
          generalize hz0 : frZ fi ar r c (1 <<< (fi 5 * fi 6)) = z at hzb ⊢
          generalize ho0 : frO fi ar r c (1 <<< (fi 5 * fi 6)) = o at hob ⊢
          have R : ∀ (pc : Nat) (lv : List Value) (w : Nat), decode b_M_forced pc = .ok (.ireturn, 1) → w = frV z o → K pc lv [.int (nI w)] (fi, ar) := fun pc lv w h1 h2 => r_ret hk h1 ⟨_, rfl, Or.inr ⟨r, c, hr, hc, rfl, rfl, by rw [h2, hz0, ho0]⟩, rfl, rfl⟩
          have J126 : ¬ (z ≠ 0 ∧ o ≠ 0) → ¬ (z = 0 ∧ o = 0) → K 126 [.ref h0, .int (nI r), .int (nI c), .int (nI z), .int (nI o), .int (nI (1 <<< (fi 5 * fi 6)))] [] (fi, ar) := by
            intro h1 h2
            refine r_iload hs d_M_forced_126 rfl ?_
            refine r_if_eq (tgt := 135) hs (by first | omega | exact hB _ _ | exact hF _) d_M_forced_128 (by decide) (fun c_128 => ?_) (fun c_128 => ?_)
            · refine r_iconst hs 0 d_M_forced_135 (by decide) ?_
              exact R _ _ 0 d_M_forced_136 (by rw [frV, if_neg h2, if_neg h1, if_neg (by omega)])
            · refine r_iconst hs 1 d_M_forced_131 (by decide) ?_
              refine r_goto (tgt := 136) hs d_M_forced_132 (by decide) ?_
              exact R _ _ 1 d_M_forced_136 (by rw [frV, if_neg h2, if_neg h1, if_pos c_128])
          have J113 : ¬ (z = 0 ∧ o = 0) → K 113 [.ref h0, .int (nI r), .int (nI c), .int (nI z), .int (nI o), .int (nI (1 <<< (fi 5 * fi 6)))] [] (fi, ar) := by
            intro h2
            refine r_iload_n hs d_M_forced_113 rfl rfl ?_
            refine r_if_eq (tgt := 126) hs (by first | omega | exact hB _ _ | exact hF _) d_M_forced_114 (by decide) (fun c_114 => ?_) (fun c_114 => ?_)
            · exact J126 (by omega) h2
            · refine r_iload hs d_M_forced_117 rfl ?_
              refine r_if_eq (tgt := 126) hs (by first | omega | exact hB _ _ | exact hF _) d_M_forced_119 (by decide) (fun c_119 => ?_) (fun c_119 => ?_)
              · exact J126 (by omega) h2
              · refine r_iconst hs 2 d_M_forced_122 (by decide) ?_
                refine r_goto (tgt := 136) hs d_M_forced_123 (by decide) ?_
                exact R _ _ 2 d_M_forced_136 (by rw [frV, if_neg h2, if_pos ⟨c_114, c_119⟩])
          refine r_iload_n hs d_M_forced_101 rfl rfl ?_
          refine r_if_ne (tgt := 113) hs (by first | omega | exact hB _ _ | exact hF _) d_M_forced_102 (by decide) (fun c_102 => ?_) (fun c_102 => ?_)
          · exact J113 (by omega)
          · refine r_iload hs d_M_forced_105 rfl ?_
            refine r_if_ne (tgt := 113) hs (by first | omega | exact hB _ _ | exact hF _) d_M_forced_107 (by decide) (fun c_107 => ?_) (fun c_107 => ?_)
            · exact J113 (by omega)
            · refine r_bipush hs 4294967292 d_M_forced_110 (by decide) ?_
              exact R _ _ 4294967292 d_M_forced_112 (by rw [frV, if_pos ⟨c_102, c_107⟩])
        · have e := ih c_32
          rw [frZ, frO] at e
          refine r_aload_n hs d_M_forced_35 rfl rfl ?_
          refine r_iload hs d_M_forced_36 rfl ?_
          refine r_calli hk (c_M_fits l fi ar n hg (by omega) hB) k_M_fits (by decide) (by decide) rfl (Nat.le_of_ble_eq_true rfl) d_M_forced_38 (fun r_38 fi_38 ar_38 p_38 => ?_)
          obtain ⟨h1, h2, h3⟩ := p_38
          rw [h2, h3]
          rcases h1 with ⟨rfl, h1⟩ | ⟨rfl, h1⟩
          · rw [if_pos h1, if_pos h1] at e
            refine r_ifR_eq (tgt := 95) hs d_M_forced_41 (by decide) (fun c_41 => ?_) (fun c_41 => ?_)
            · exact absurd c_41 (by decide)
            · refine r_aload_n hs d_M_forced_44 rfl rfl ?_
              refine r_iload hs d_M_forced_45 rfl ?_
              refine r_iload_n hs d_M_forced_47 rfl rfl ?_
              refine r_iload_n hs d_M_forced_48 rfl rfl ?_
              refine r_calli hk (c_M_cellOf l fi ar n r c hg (by omega) hr hc) k_M_cellOf (by decide) (by decide) rfl (Nat.le_of_ble_eq_true rfl) d_M_forced_49 (fun r_49 fi_49 ar_49 p_49 => ?_)
              obtain ⟨rfl, h5, h6⟩ := p_49
              rw [h5, h6]
              have hcb : celM fi n r c < 2 ^ 31 := Nat.lt_of_le_of_lt Nat.and_le_right (by decide)
              generalize frZ fi ar r c n = z at *
              generalize frO fi ar r c n = o at *
              generalize celM fi n r c = cl at *
              have J95 : ∀ z' o', z' = (if z = 0 then (if cl = 1 then 0 else 1) else 1) → o' = (if o = 0 then (if cl = 1 then 1 else 0) else 1) → ∀ w, K 95 [.ref h0, .int (nI r), .int (nI c), .int (nI z'), .int (nI o'), .int (nI n), w] [] (fi, ar) := by
                intro z' o' hz' ho' w
                rw [← hz', ← ho'] at e
                refine r_iinc hs d_M_forced_95 rfl (Nat.le_of_ble_eq_true rfl) (Nat.le_of_ble_eq_true rfl) ?_
                refine r_goto (tgt := 19) hs d_M_forced_98 (by decide) ?_
                exact r_take hs 6 e
              have J61 : ∀ s, s = (if cl = 1 then 1 else 0) → K 61 [.ref h0, .int (nI r), .int (nI c), .int (nI z), .int (nI o), .int (nI n)] [.int (nI s)] (fi, ar) := by
                intro s hs1
                have hsb : s < 2 ^ 31 := by rw [hs1]; split <;> decide
                have J78 : ∀ o', o' = (if o = 0 then (if cl = 1 then 1 else 0) else 1) → K 78 [.ref h0, .int (nI r), .int (nI c), .int (nI z), .int (nI o), .int (nI n), .int (nI s)] [.int (nI o')] (fi, ar) := by
                  intro o' ho'
                  refine r_istore hs d_M_forced_78 (Nat.le_of_ble_eq_true rfl) (Nat.le_of_ble_eq_true rfl) ?_
                  refine r_iload_n hs d_M_forced_80 rfl rfl ?_
                  refine r_if_ne (tgt := 89) hs (by first | omega | exact hB _ _ | exact hF _) d_M_forced_81 (by decide) (fun c_81 => ?_) (fun c_81 => ?_)
                  · refine r_iconst hs 1 d_M_forced_89 (by decide) ?_
                    refine r_goto (tgt := 94) hs d_M_forced_90 (by decide) ?_
                    refine r_istore_n hs d_M_forced_94 rfl (Nat.le_of_ble_eq_true rfl) (Nat.le_of_ble_eq_true rfl) ?_
                    exact J95 1 o' (by rw [if_neg c_81]) ho' _
                  · refine r_iload hs d_M_forced_84 rfl ?_
                    refine r_if_ne (tgt := 93) hs (by first | omega | exact hB _ _ | exact hF _) d_M_forced_86 (by decide) (fun c_86 => ?_) (fun c_86 => ?_)
                    · refine r_iconst hs 0 d_M_forced_93 (by decide) ?_
                      refine r_istore_n hs d_M_forced_94 rfl (Nat.le_of_ble_eq_true rfl) (Nat.le_of_ble_eq_true rfl) ?_
                      refine J95 0 o' ?_ ho' _
                      rw [if_pos c_81, if_pos]
                      rw [hs1] at c_86
                      rcases Nat.decEq cl 1 with h | h
                      · rw [if_neg h] at c_86; exact absurd rfl c_86
                      · exact h
                    · refine r_iconst hs 1 d_M_forced_89 (by decide) ?_
                      refine r_goto (tgt := 94) hs d_M_forced_90 (by decide) ?_
                      refine r_istore_n hs d_M_forced_94 rfl (Nat.le_of_ble_eq_true rfl) (Nat.le_of_ble_eq_true rfl) ?_
                      refine J95 1 o' ?_ ho' _
                      rw [if_pos c_81, if_neg]
                      intro h
                      rw [hs1, if_pos h] at c_86
                      exact absurd c_86 (by decide)
                refine r_istore hs d_M_forced_61 (Nat.le_of_ble_eq_true rfl) (Nat.le_of_ble_eq_true rfl) ?_
                refine r_iload hs d_M_forced_63 rfl ?_
                refine r_if_ne (tgt := 73) hs (by first | omega | exact hB _ _ | exact hF _) d_M_forced_65 (by decide) (fun c_65 => ?_) (fun c_65 => ?_)
                · refine r_iconst hs 1 d_M_forced_73 (by decide) ?_
                  refine r_goto (tgt := 78) hs d_M_forced_74 (by decide) ?_
                  exact J78 1 (by rw [if_neg c_65])
                · refine r_iload hs d_M_forced_68 rfl ?_
                  refine r_if_eq (tgt := 77) hs (by first | omega | exact hB _ _ | exact hF _) d_M_forced_70 (by decide) (fun c_70 => ?_) (fun c_70 => ?_)
                  · refine r_iconst hs 0 d_M_forced_77 (by decide) ?_
                    refine J78 0 ?_
                    rw [if_pos c_65, ← hs1, c_70]
                  · refine r_iconst hs 1 d_M_forced_73 (by decide) ?_
                    refine r_goto (tgt := 78) hs d_M_forced_74 (by decide) ?_
                    refine J78 1 ?_
                    rw [if_pos c_65, if_pos]
                    rw [hs1] at c_70
                    rcases Nat.decEq cl 1 with h | h
                    · rw [if_neg h] at c_70; exact absurd rfl c_70
                    · exact h
              refine r_iconst hs 1 d_M_forced_52 (by decide) ?_
              refine r_icmp_ne (tgt := 60) hs (by first | omega | exact hB _ _ | exact hF _) (by first | omega | exact hB _ _ | exact hF _) d_M_forced_53 (by decide) (fun c_53 => ?_) (fun c_53 => ?_)
              · refine r_iconst hs 0 d_M_forced_60 (by decide) ?_
                exact J61 0 (by rw [if_neg c_53])
              · refine r_iconst hs 1 d_M_forced_56 (by decide) ?_
                refine r_goto (tgt := 61) hs d_M_forced_57 (by decide) ?_
                exact J61 1 (by rw [if_pos c_53])
          · rw [if_neg h1, if_neg h1] at e
            refine r_ifR_eq (tgt := 95) hs d_M_forced_41 (by decide) (fun c_41 => ?_) (fun c_41 => ?_)
            · refine r_iinc hs d_M_forced_95 rfl (Nat.le_of_ble_eq_true rfl) (Nat.le_of_ble_eq_true rfl) ?_
              refine r_goto (tgt := 19) hs d_M_forced_98 (by decide) ?_
              exact e
            · exact absurd rfl c_41
      refine r_iconst hs 0 d_M_forced_11 (by decide) ?_
      refine r_istore_n hs d_M_forced_12 rfl (Nat.le_of_ble_eq_true rfl) (Nat.le_of_ble_eq_true rfl) ?_
      refine r_iconst hs 0 d_M_forced_13 (by decide) ?_
      refine r_istore hs d_M_forced_14 (Nat.le_of_ble_eq_true rfl) (Nat.le_of_ble_eq_true rfl) ?_
      refine r_iconst hs 0 d_M_forced_16 (by decide) ?_
      refine r_istore hs d_M_forced_17 (Nat.le_of_ble_eq_true rfl) (Nat.le_of_ble_eq_true rfl) ?_
      exact J 0 (Nat.zero_le _)
    · exact absurd c_6 (by decide)
  · refine r_ifR_ne (tgt := 11) hs d_M_forced_6 (by decide) (fun c_6 => ?_) (fun c_6 => ?_)
    · exact absurd rfl c_6
    · refine r_iconst hs 4294967295 d_M_forced_9 (by decide) ?_
      exact r_ret hk d_M_forced_10 ⟨_, rfl, Or.inl ⟨hi, rfl⟩, rfl, rfl⟩
theorem c_M_wordKeepsPins (l : Launch) (fi : Nat → Nat) (ar : Nat → Nat → Nat) (ln b : Nat) (hg : gridM fi) (hln : ln < fi 5 + fi 6) (hb : b < 2 ^ 31) (hB : ∀ k j, ar k j < 2 ^ 31) : oMetI l 1 y_M_wordKeepsPins b_M_wordKeepsPins 6 (some .boolean) 0 [.int (nI ln), .int (nI (lenM fi ln)), .int (nI b)] fi ar (fun r f a => ((r = 1 ∧ wkpM fi ar ln (lenM fi ln) b) ∨ (r = 0 ∧ ¬ wkpM fi ar ln (lenM fi ln) b)) ∧ f = fi ∧ a = ar) := by
  obtain ⟨g1, g2, g3, g4⟩ := id hg
  have hl1 : lenM fi ln ≤ 4 := by unfold lenM; split <;> omega
  refine oMetI_of (c := 1) (by decide) plain_M rfl (Or.inr ⟨rfl, fun r f a h => by rcases h.1 with h | h; exact Or.inr h.1; exact Or.inl h.1⟩) rfl (Nat.le_of_ble_eq_true rfl) (fun h0 ad K hk => ?_)
  have hs := hk.sim
  have J : ∀ i, i ≤ lenM fi ln → (∀ q, q < i → (wntM fi ar ln q = 2 ∨ wntM fi ar ln q = bitv (lenM fi ln) b q)) → K 3 [.ref h0, .int (nI ln), .int (nI (lenM fi ln)), .int (nI b), .int (nI i)] [] (fi, ar) := by
    refine loopD (fun i hi ih hok => ?_)
    refine r_iload hs d_M_wordKeepsPins_3 rfl ?_
    refine r_iload_n hs d_M_wordKeepsPins_5 rfl rfl ?_
    refine r_icmp_ge (tgt := 78) hs (by first | omega | exact hB _ _ | exact hF _) (by first | omega | exact hB _ _ | exact hF _) d_M_wordKeepsPins_6 (by decide) (fun c_6 => ?_) (fun c_6 => ?_)
    · obtain rfl : i = lenM fi ln := by omega
      refine r_iconst hs 1 d_M_wordKeepsPins_78 (by decide) ?_
      exact r_ret hk d_M_wordKeepsPins_79 ⟨_, rfl, Or.inl ⟨rfl, hok⟩, rfl, rfl⟩
    · have JN : (wntM fi ar ln i = 2 ∨ wntM fi ar ln i = bitv (lenM fi ln) b i) → ∀ w, K 72 [.ref h0, .int (nI ln), .int (nI (lenM fi ln)), .int (nI b), .int (nI i), w] [] (fi, ar) := by
        intro hq w
        refine r_iinc hs d_M_wordKeepsPins_72 rfl (Nat.le_of_ble_eq_true rfl) (Nat.le_of_ble_eq_true rfl) ?_
        refine r_goto (tgt := 3) hs d_M_wordKeepsPins_75 (by decide) ?_
        exact r_take hs 5 (ih c_6 (fun q h1 => by
          rcases Nat.lt_or_ge q i with h | h
          · exact hok q h
          · rw [show q = i by omega]; exact hq))
      have hwb : wntM fi ar ln i < 2 ^ 31 := by unfold wntM; split <;> exact hB _ _
      have hvb : bitv (lenM fi ln) b i < 2 ^ 31 := Nat.lt_of_le_of_lt Nat.and_le_right (by decide)
      have J47 : K 47 [.ref h0, .int (nI ln), .int (nI (lenM fi ln)), .int (nI b), .int (nI i)] [.int (nI (wntM fi ar ln i))] (fi, ar) := by
        refine r_istore hs d_M_wordKeepsPins_47 (Nat.le_of_ble_eq_true rfl) (Nat.le_of_ble_eq_true rfl) ?_
        refine r_iload hs d_M_wordKeepsPins_49 rfl ?_
        refine r_iconst hs 2 d_M_wordKeepsPins_51 (by decide) ?_
        refine r_icmp_eq (tgt := 72) hs (by first | omega | exact hB _ _ | exact hF _) (by first | omega | exact hB _ _ | exact hF _) d_M_wordKeepsPins_52 (by decide) (fun c_52 => ?_) (fun c_52 => ?_)
        · exact JN (Or.inl c_52) _
        · refine r_iload hs d_M_wordKeepsPins_55 rfl ?_
          refine r_iload_n hs d_M_wordKeepsPins_57 rfl rfl ?_
          refine r_iload_n hs d_M_wordKeepsPins_58 rfl rfl ?_
          refine r_iconst hs 1 d_M_wordKeepsPins_59 (by decide) ?_
          refine r_isub hs (by omega) d_M_wordKeepsPins_60 ?_
          refine r_iload hs d_M_wordKeepsPins_61 rfl ?_
          refine r_isub hs (by omega) d_M_wordKeepsPins_63 ?_
          refine r_ishr hs (by first | omega | exact hB _ _ | exact hF _) (by omega) d_M_wordKeepsPins_64 ?_
          refine r_iconst hs 1 d_M_wordKeepsPins_65 (by decide) ?_
          refine r_iand hs d_M_wordKeepsPins_66 ?_
          rw [show b >>> (lenM fi ln - 1 - i) &&& 1 = bitv (lenM fi ln) b i from rfl]
          refine r_icmp_eq (tgt := 72) hs (by first | omega | exact hB _ _ | exact hF _) (by first | omega | exact hB _ _ | exact hF _) d_M_wordKeepsPins_67 (by decide) (fun c_67 => ?_) (fun c_67 => ?_)
          · exact JN (Or.inr c_67) _
          · refine r_iconst hs 0 d_M_wordKeepsPins_70 (by decide) ?_
            exact r_ret hk d_M_wordKeepsPins_71 ⟨_, rfl, Or.inr ⟨rfl, fun q => by rcases q i c_6 with h | h; exact c_52 h; exact c_67 h⟩, rfl, rfl⟩
      rw [wntM] at J47
      refine r_iload_n hs d_M_wordKeepsPins_9 rfl rfl ?_
      refine r_aload_n hs d_M_wordKeepsPins_10 rfl rfl ?_
      refine r_geti hk 5 rfl rfl d_M_wordKeepsPins_11 ?_
      refine r_icmp_ge (tgt := 31) hs (by first | omega | exact hB _ _ | exact hF _) (by first | omega | exact hB _ _ | exact hF _) d_M_wordKeepsPins_14 (by decide) (fun c_14 => ?_) (fun c_14 => ?_)
      · rw [if_neg (by omega)] at J47
        have hi5 : i < fi 5 := by rw [lenM, if_neg (by omega)] at c_6; exact c_6
        refine r_aload_n hs d_M_wordKeepsPins_31 rfl rfl ?_
        refine r_geta hk 4 rfl rfl d_M_wordKeepsPins_32 ?_
        refine r_iload hs d_M_wordKeepsPins_35 rfl ?_
        refine r_iconst hs 4 d_M_wordKeepsPins_37 (by decide) ?_
        refine r_imul hs d_M_wordKeepsPins_38 ?_
        refine r_iload_n hs d_M_wordKeepsPins_39 rfl rfl ?_
        refine r_iadd hs d_M_wordKeepsPins_40 ?_
        refine r_aload_n hs d_M_wordKeepsPins_41 rfl rfl ?_
        refine r_geti hk 5 rfl rfl d_M_wordKeepsPins_42 ?_
        refine r_isub hs (by omega) d_M_wordKeepsPins_45 ?_
        refine r_ald hk 12 rfl rfl (by omega) d_M_wordKeepsPins_46 ?_
        exact J47
      · rw [if_pos c_14] at J47
        have hi6 : i < fi 6 := by rw [lenM, if_pos c_14] at c_6; exact c_6
        refine r_aload_n hs d_M_wordKeepsPins_17 rfl rfl ?_
        refine r_geta hk 4 rfl rfl d_M_wordKeepsPins_18 ?_
        refine r_iload_n hs d_M_wordKeepsPins_21 rfl rfl ?_
        refine r_iconst hs 4 d_M_wordKeepsPins_22 (by decide) ?_
        refine r_imul hs d_M_wordKeepsPins_23 ?_
        refine r_iload hs d_M_wordKeepsPins_24 rfl ?_
        refine r_iadd hs d_M_wordKeepsPins_26 ?_
        refine r_ald hk 12 rfl rfl (by omega) d_M_wordKeepsPins_27 ?_
        refine r_goto (tgt := 47) hs d_M_wordKeepsPins_28 (by decide) ?_
        exact J47
  refine r_iconst hs 0 d_M_wordKeepsPins_0 (by decide) ?_
  refine r_istore hs d_M_wordKeepsPins_1 (Nat.le_of_ble_eq_true rfl) (Nat.le_of_ble_eq_true rfl) ?_
  exact J 0 (by omega) (fun q hq => by omega)
def lwdM (x : Int32) (fi : Nat → Nat) (ar : Nat → Nat → Nat) : Nat × (Nat → Nat) × (Nat → Nat → Nat) :=
  if x < 0 ∨ nI (fi 5 + fi 6) ≤ x then (4294967295, fi, ar) else (lwM fi ar x.toNatClampNeg (lenM fi x.toNatClampNeg) (1 <<< lenM fi x.toNatClampNeg), fi, ar)
theorem c_M_lineWords (l : Launch) (fi : Nat → Nat) (ar : Nat → Nat → Nat) (x : Int32) (hg : gridM fi) (hB : ∀ k j, ar k j < 2 ^ 31) : oMetI l 1 y_M_lineWords b_M_lineWords 5 (some .int) 1 [.int x] fi ar (PI (lwdM x fi ar)) := by
  obtain ⟨g1, g2, g3, g4⟩ := id hg
  refine oMetI_of (c := 1) (by decide) plain_M rfl (Or.inl rfl) rfl (Nat.le_of_ble_eq_true rfl) (fun h0 ad K hk => ?_)
  have hs := hk.sim
  refine r_aload_n hs d_M_lineWords_0 rfl rfl ?_
  refine r_iload_n hs d_M_lineWords_1 rfl rfl ?_
  refine r_calli hk (c_M_isLine l fi ar x) k_M_isLine (by decide) (by decide) rfl (Nat.le_of_ble_eq_true rfl) d_M_lineWords_2 (fun r_2 fi_2 ar_2 p_2 => ?_)
  obtain ⟨h1, h2, h3⟩ := p_2
  rw [h2, h3]
  rcases h1 with ⟨rfl, h1⟩ | ⟨rfl, h1⟩
  · refine r_ifR_ne (tgt := 10) hs d_M_lineWords_5 (by decide) (fun c_5 => ?_) (fun c_5 => ?_)
    · exact absurd rfl c_5
    · refine r_iconst hs 4294967295 d_M_lineWords_8 (by decide) ?_
      exact r_ret hk d_M_lineWords_9 ⟨_, rfl, by rw [lwdM, if_pos h1]; exact ⟨rfl, rfl, rfl⟩⟩
  · refine r_ifR_ne (tgt := 10) hs d_M_lineWords_5 (by decide) (fun c_5 => ?_) (fun c_5 => ?_)
    · rcases pk_ix x (n := fi 5 + fi 6) (by omega) with h | h | ⟨ln, hj, rfl⟩
      · exact absurd (Or.inl h) h1
      · exact absurd (Or.inr h) h1
      have hl1 : lenM fi ln ≤ 4 := by unfold lenM; split <;> omega
      have hpw := pw16 hl1
      have hlm : lwdM (nI ln) fi ar = (lwM fi ar ln (lenM fi ln) (1 <<< lenM fi ln), fi, ar) := by rw [lwdM, if_neg h1, nI_clamp (by omega)]
      have J : ∀ b, b ≤ 1 <<< lenM fi ln → K 21 [.ref h0, .int (nI ln), .int (nI (lenM fi ln)), .int (nI (lwM fi ar ln (lenM fi ln) b)), .int (nI b)] [] (fi, ar) := by
        refine loopD (fun b hb ih => ?_)
        refine r_iload hs d_M_lineWords_21 rfl ?_
        refine r_iconst hs 1 d_M_lineWords_23 (by decide) ?_
        refine r_iload_n hs d_M_lineWords_24 rfl rfl ?_
        refine r_ishl hs (by omega) (shl1 (by omega)) d_M_lineWords_25 ?_
        refine r_icmp_ge (tgt := 65) hs (by first | omega | exact hB _ _ | exact hF _) (by first | omega | exact hB _ _ | exact hF _) d_M_lineWords_26 (by decide) (fun c_26 => ?_) (fun c_26 => ?_)
        · obtain rfl : b = 1 <<< lenM fi ln := by omega
          refine r_iload_n hs d_M_lineWords_65 rfl rfl ?_
          exact r_ret hk d_M_lineWords_66 ⟨_, rfl, by rw [hlm]; exact ⟨rfl, rfl, rfl⟩⟩
        · have e := ih c_26
          rw [lwM] at e
          have JN : ¬ (hol (ar 3 ln) (lenM fi ln) b ∧ wkpM fi ar ln (lenM fi ln) b) → K 59 [.ref h0, .int (nI ln), .int (nI (lenM fi ln)), .int (nI (lwM fi ar ln (lenM fi ln) b)), .int (nI b)] [] (fi, ar) := by
            intro hq
            rw [if_neg hq] at e
            refine r_iinc hs d_M_lineWords_59 rfl (Nat.le_of_ble_eq_true rfl) (Nat.le_of_ble_eq_true rfl) ?_
            refine r_goto (tgt := 21) hs d_M_lineWords_62 (by decide) ?_
            exact e
          refine r_aload_n hs d_M_lineWords_29 rfl rfl ?_
          refine r_aload_n hs d_M_lineWords_30 rfl rfl ?_
          refine r_geta hk 3 rfl rfl d_M_lineWords_31 ?_
          refine r_iload_n hs d_M_lineWords_34 rfl rfl ?_
          refine r_ald hk 7 rfl rfl (by omega) d_M_lineWords_35 ?_
          refine r_iload_n hs d_M_lineWords_36 rfl rfl ?_
          refine r_iload hs d_M_lineWords_37 rfl ?_
          refine r_calli hk (c_M_holds l fi ar (ar 3 ln) (lenM fi ln) b (hB _ _) hl1 c_26) k_M_holds (by decide) (by decide) rfl (Nat.le_of_ble_eq_true rfl) d_M_lineWords_39 (fun r_39 fi_39 ar_39 p_39 => ?_)
          obtain ⟨h4, h5, h6⟩ := p_39
          rw [h5, h6]
          rcases h4 with ⟨rfl, h4⟩ | ⟨rfl, h4⟩
          · refine r_ifR_eq (tgt := 59) hs d_M_lineWords_42 (by decide) (fun c_42 => ?_) (fun c_42 => ?_)
            · exact absurd c_42 (by decide)
            · refine r_aload_n hs d_M_lineWords_45 rfl rfl ?_
              refine r_iload_n hs d_M_lineWords_46 rfl rfl ?_
              refine r_iload_n hs d_M_lineWords_47 rfl rfl ?_
              refine r_iload hs d_M_lineWords_48 rfl ?_
              refine r_calli hk (c_M_wordKeepsPins l fi ar ln b hg hj (by omega) hB) k_M_wordKeepsPins (by decide) (by decide) rfl (Nat.le_of_ble_eq_true rfl) d_M_lineWords_50 (fun r_50 fi_50 ar_50 p_50 => ?_)
              obtain ⟨h7, h8, h9⟩ := p_50
              rw [h8, h9]
              rcases h7 with ⟨rfl, h7⟩ | ⟨rfl, h7⟩
              · rw [if_pos ⟨h4, h7⟩] at e
                refine r_ifR_eq (tgt := 59) hs d_M_lineWords_53 (by decide) (fun c_53 => ?_) (fun c_53 => ?_)
                · exact absurd c_53 (by decide)
                · refine r_iinc hs d_M_lineWords_56 rfl (Nat.le_of_ble_eq_true rfl) (Nat.le_of_ble_eq_true rfl) ?_
                  refine r_iinc hs d_M_lineWords_59 rfl (Nat.le_of_ble_eq_true rfl) (Nat.le_of_ble_eq_true rfl) ?_
                  refine r_goto (tgt := 21) hs d_M_lineWords_62 (by decide) ?_
                  exact e
              · refine r_ifR_eq (tgt := 59) hs d_M_lineWords_53 (by decide) (fun c_53 => ?_) (fun c_53 => ?_)
                · exact JN (fun q => h7 q.2)
                · exact absurd rfl c_53
          · refine r_ifR_eq (tgt := 59) hs d_M_lineWords_42 (by decide) (fun c_42 => ?_) (fun c_42 => ?_)
            · exact JN (fun q => h4 q.1)
            · exact absurd rfl c_42
      refine r_aload_n hs d_M_lineWords_10 rfl rfl ?_
      refine r_iload_n hs d_M_lineWords_11 rfl rfl ?_
      refine r_calli hk (c_M_lengthOf l fi ar ln (by omega) hg) k_M_lengthOf (by decide) (by decide) rfl (Nat.le_of_ble_eq_true rfl) d_M_lineWords_12 (fun r_12 fi_12 ar_12 p_12 => ?_)
      obtain ⟨rfl, h5, h6⟩ := p_12
      rw [h5, h6]
      refine r_istore_n hs d_M_lineWords_15 rfl (Nat.le_of_ble_eq_true rfl) (Nat.le_of_ble_eq_true rfl) ?_
      refine r_iconst hs 0 d_M_lineWords_16 (by decide) ?_
      refine r_istore_n hs d_M_lineWords_17 rfl (Nat.le_of_ble_eq_true rfl) (Nat.le_of_ble_eq_true rfl) ?_
      refine r_iconst hs 0 d_M_lineWords_18 (by decide) ?_
      refine r_istore hs d_M_lineWords_19 (Nat.le_of_ble_eq_true rfl) (Nat.le_of_ble_eq_true rfl) ?_
      exact J 0 (Nat.zero_le _)
    · exact absurd c_5 (by decide)
end
section
/-! THE CONSTRUCTORS. pw j: the world when j arrays are made. -/
def pV (c j : Nat) (ad : Nat → Nat) (k : Nat) : Value := if ((oA c).take j).contains k then .ref (ad k) else if (oA c).contains k then .null else .int (nI 0)
def pF (c j : Nat) (ad : Nat → Nat) : List Value := (List.range (oQ c).2.2).map (pV c j ad)
def pw (cI cZ : ClassId) (c h0 j : Nat) (ad : Nat → Nat) : va_W := (h0, .inr (c, pF c j ad)) :: ((oA c).take j).map (oE cI cZ c ad (fun _ _ => 0))
theorem pw_full {cI cZ : ClassId} {c h0 : Nat} {ad : Nat → Nat} : pw cI cZ c h0 (oA c).length ad = ow cI cZ c h0 ad (fun _ => 0) (fun _ _ => 0) := by
  have e : pF c (oA c).length ad = oF c ad (fun _ => 0) := by
    unfold pF oF
    apply List.map_congr_left
    intro k _
    unfold pV oV
    rw [List.take_length]
    by_cases h : k ∈ oA c <;> simp [h]
  unfold pw ow
  rw [List.take_length, e]
theorem take_nin {L : List Nat} {j k : Nat} (hn : va_nd L = true) (hj : L[j]? = some k) : k ∉ L.take j := by
  intro h
  obtain ⟨i, hi⟩ := List.getElem?_of_mem h
  rw [List.getElem?_take] at hi
  split at hi
  · next hlt =>
    have := va_nd_inj L hn i j k hi hj
    omega
  · cases hi
theorem take_succ' {L : List Nat} {j k : Nat} (hj : L[j]? = some k) : L.take (j + 1) = L.take j ++ [k] := by
  rw [List.take_succ, hj]
  rfl
theorem pF_set {c j k q : Nat} {ad : Nat → Nat} (hc : c < 2) (hj : (oA c)[j]? = some k) (hk : k < (oQ c).2.2) : (pF c j ad).set k (.ref q) = pF c (j + 1) (up ad k q) := by
  unfold pF
  have e : Value.ref q = pV c (j + 1) (up ad k q) k := by
    unfold pV
    rw [take_succ' hj, if_pos (by simp), up_s]
  rw [e]
  refine map_set (List.getElem?_range hk) (oR_nd hc) (fun k' hk' => ?_)
  unfold pV
  rw [take_succ' hj, up_n hk']
  congr 1
  simp [hk']
theorem pw_step {cI cZ : ClassId} {c h0 j k q : Nat} {ad : Nat → Nat} (hc : c < 2) (hj : (oA c)[j]? = some k) (hk : k < (oQ c).2.2) : (pw cI cZ c h0 j ad ++ ([(q, .inl (oC cI cZ c k, oL c k, .inl (fun _ => 0)))] : va_W)).set 0 (h0, .inr (c, (pF c j ad).set k (.ref q))) = pw cI cZ c h0 (j + 1) (up ad k q) := by
  unfold pw
  rw [List.cons_append, List.set_cons_zero, pF_set hc hj hk, take_succ' hj, List.map_append]
  congr 2
  · apply List.map_congr_left
    intro k' hk'
    have hne : k' ≠ k := by
      rintro rfl
      exact take_nin (oA_nd hc) hj hk'
    unfold oE
    rw [up_n hne]
  · unfold oE
    rw [List.map_cons, List.map_nil, up_s]
    rfl
def smL (c j : Nat) : Nat := (((oA c).take j).map (oL c)).sum
theorem smL_s {c j k : Nat} (hj : (oA c)[j]? = some k) : smL c (j + 1) = smL c j + oL c k := by
  unfold smL
  rw [take_succ' hj, List.map_append, List.sum_append]
  simp
/-- the code of a constructor's j-th array -/
def ctD (b : ByteArray) (c : Nat) : Prop := ∀ j, j < (oA c).length → ∀ k, (oA c)[j]? = some k →
  decode b (4 + 8 * j) = .ok (.aload_n 0, 1) ∧ decode b (4 + 8 * j + 1) = .ok (.bipush (oL c k), 2) ∧
  decode b (4 + 8 * j + 1 + 2) = .ok (.newarray (if oZ c k then .boolean else .int), 2) ∧ decode b (4 + 8 * j + 1 + 2 + 2) = .ok (.putfield (oI c k), 3)
theorem oA_ok {c : Nat} (h : c < 2) : ∀ k ∈ oA c, k < (oQ c).2.2 ∧ parseFieldDescriptor ((oQ c).2.1 k).2.2.1 = some (.array (if oZ c k then .boolean else .int)) ∧ ((oQ c).2.1 k).2.2.2 = true ∧ ((oQ c).2.1 k).1 = (oQ c).1 ∧ oL c k ≤ 56 ∧ (Int8.ofInt (oL c k)).toInt32 = nI (oL c k) := by
  rcases o2 h with rfl | rfl <;> decide +kernel
section CT
variable {p : Program} {l : Launch} {e : Env} {R : Room} {s : State} {m : MethodId} {args : Array Value} {below : List Frame} {meth : Method} {cd : Code} {Q : State → Prop} {A : Nat → Prop} {H0 : Heap} {D : va_G} {cI cZ : ClassId} {b : ByteArray} {nL c h0 mc ms : Nat} {lv : List Value}
theorem ct_loop (hc : c < 2) (S : CallFix p m cd b nL s args lw_g (oQ c).1) (hin : meth.name = "<init>") (hK : va_K D classes (oT cI cZ) s) (hA : ∀ q, H0.size ≤ q → A q) (hT : ctD b c) (hmc : (oA c).length ≤ R.cells) (hms : smL c (oA c).length ≤ R.slots)
    (hki : ∀ (ad : Nat → Nat) (H : Heap) (locs : List Loc) (ls : Array Slot), va_P D classes (pw cI cZ c h0 (oA c).length ad) H → va_D A (pw cI cZ c h0 (oA c).length ad) → va_S A H0 H locs → lh ls nL (.ref h0 :: lv) → W p l e R s m args below meth cd H locs (oA c).length (smL c (oA c).length) Q (F0 m (4 + 8 * (oA c).length) ls [])) :
    ∀ (n j : Nat), j + n = (oA c).length → ∀ (ad : Nat → Nat) (H : Heap) (locs : List Loc) (ls : Array Slot), va_P D classes (pw cI cZ c h0 j ad) H → va_D A (pw cI cZ c h0 j ad) → va_S A H0 H locs → lh ls nL (.ref h0 :: lv) → W p l e R s m args below meth cd H locs j (smL c j) Q (F0 m (4 + 8 * j) ls []) := by
  obtain ⟨hx, hb, hml, hown, hts⟩ := id S
  intro n
  induction n with
  | zero =>
    intro j hj ad H locs ls hP hD hS hl
    obtain rfl : j = (oA c).length := by omega
    exact hki ad H locs ls hP hD hS hl
  | succ n ih =>
    intro j hj ad H locs ls hP hD hS hl
    obtain ⟨k, hjk⟩ : ∃ k, (oA c)[j]? = some k := ⟨_, List.getElem?_eq_getElem (by omega)⟩
    obtain ⟨d1, d2, d3, d4⟩ := hT j (by omega) k hjk
    obtain ⟨k1, k2, k3, k4, k5, k6⟩ := oA_ok hc k (List.mem_of_getElem? hjk)
    have hsl : smL c (j + 1) ≤ smL c (oA c).length := by
      have hmono : ∀ i, smL c ((oA c).length - i) ≤ smL c (oA c).length := by
        intro i
        induction i with
        | zero => exact Nat.le_refl _
        | succ i ih2 =>
          by_cases hi : i < (oA c).length
          · obtain ⟨k', hk'⟩ : ∃ k', (oA c)[(oA c).length - (i + 1)]? = some k' := ⟨_, List.getElem?_eq_getElem (by omega)⟩
            have := smL_s hk'
            rw [show (oA c).length - (i + 1) + 1 = (oA c).length - i by omega] at this
            omega
          · rw [show (oA c).length - (i + 1) = (oA c).length - i by omega]
            exact ih2
      have := hmono ((oA c).length - (j + 1))
      rwa [show (oA c).length - ((oA c).length - (j + 1)) = j + 1 by omega] at this
    have hs1 := smL_s hjk
    refine lv_aload_n hx hb d1 rfl (hl.2.2.1 0 _ rfl) ?_
    refine lv_bipush hx hb d2 k6 ?_
    have hKk : ∀ (cA : ClassId), va_RA s cA (if oZ c k then .boolean else .int) → cA = oC cI cZ c k := by
      intro cA h
      unfold oC
      by_cases hz : oZ c k = true
      · rw [if_pos hz] at h ⊢
        have h2 := (hK.2 1 (cZ, .boolean) rfl).2
        exact Option.some.inj (h.symm.trans h2)
      · rw [if_neg hz] at h ⊢
        have h2 := (hK.2 0 (cI, .int) rfl).2
        exact Option.some.inj (h.symm.trans h2)
    refine va_newa (atype := if oZ c k then .boolean else .int) (ty := if oZ c k then .boolean else .int) (N' := oL c k) (a0 := (oL c k, .inl (fun _ => 0))) hx hb ?_ ?_ hK hP hD hS hA ?_ (nI_pos (by omega)) (nI_clamp (by omega)) ?_ (by omega) (by omega) d3 (fun q cA H hK1 hP hD hS => ?_)
    · split
      · exact hts _ (by decide +kernel)
      · exact hts _ (by decide +kernel)
    · split <;> rfl
    · intro cA
      split <;> rfl
    · split
      · exact Nat.le_trans (Nat.mul_le_mul k5 (show componentBytes .boolean ≤ 8 by decide)) (by decide)
      · exact Nat.le_trans (Nat.mul_le_mul k5 (show componentBytes .int ≤ 8 by decide)) (by decide)
    · obtain rfl := hKk cA (hK1.2 2 (cA, _) rfl).2
      refine va_putF (C := (oQ c).1) (T := (oQ c).2.1) (N := (oQ c).2.2) (ty := .array (if oZ c k then .boolean else .int)) (v := .ref q) hx hb hts (oQ_in hc) (o_t c) (oQ_t hc) (oQ_n hc) hown hK hP hD hS 0 rfl (oQ_at hc) k k1 (hts _ (oQ_lf hc k k1)) (fun _ h9 => by rw [oQ_own hc k k1] at h9; exact h9) k3 hin k4 k2 rfl rfl (by simp [pF]; exact k1) d4 (fun H locs hP hD hS => ?_)
      rw [pw_step hc hjk k1] at hP hD
      rw [← hs1]
      exact ih (j + 1) (by omega) (up ad k q) H locs ls hP hD hS hl
end CT
/-- the contract of a constructor: the object at h0 is as 'new' leaves it; its arrays come; behind it the world is fi, ar with post -/
def oNew (l : Launch) (c : Nat) (y : MethodName) (b : ByteArray) (nL d : Nat) (As : List Value) (post : (Nat → Nat) → (Nat → Nat → Nat) → Prop) : Prop :=
  ∀ (D : va_G) (cI cZ : ClassId) (h0 sz : Nat), Met l y (.code y b nL none :: lw_g) ({ frames := d, cells := (oA c).length, slots := smL c (oA c).length, locals := 28 * d }) (va_Pc (.ref h0 :: As) (fun U => U.heap.size = sz ∧ va_P D classes [(h0, .inr (c, pF c 0 (fun _ => 0)))] U.heap ∧ va_K D classes (oT cI cZ) U ∧ va_D (fun _ => True) [(h0, .inr (c, pF c 0 (fun _ => 0)))])) (va_Qv (fun (u : (Nat → Nat) × St) => post u.2.1 u.2.2) (fun (u : (Nat → Nat) × St) (t : State) => va_P D classes (ow cI cZ c h0 u.1 u.2.1 u.2.2) t.heap ∧ va_K D classes (oT cI cZ) t ∧ va_D (va_A [(h0, .inr (c, pF c 0 (fun _ => 0)))] sz) (ow cI cZ c h0 u.1 u.2.1 u.2.2)) (va_A [(h0, .inr (c, pF c 0 (fun _ => 0)))] sz)) (oA c).length (smL c (oA c).length) (va_A [(h0, .inr (c, pF c 0 (fun _ => 0)))] sz)
theorem oNew_of {l : Launch} {c : Nat} {y : MethodName} {b : ByteArray} {nL d : Nat} {As : List Value} {post : (Nat → Nat) → (Nat → Nat → Nat) → Prop} (hc : c < 2) (hy : plainName y.cls = true) (hcl : y.cls = (oQ c).1) (hyn : y.name = "<init>") (hAs : As.all (fun v => v.category == 1) = true) (hL : As.length + 1 ≤ nL) (hd1 : 1 ≤ d)
    (hD0 : decode b 0 = .ok (.aload_n 0, 1)) (hD1 : decode b 1 = .ok (.invokespecial 1, 3)) (hT : ctD b c) (hlk : Cond.methodLink (oQ c).1 1 objectInit ∈ lw_g)
    (body : ∀ (h0 : Nat) (ad : Nat → Nat) (K : Nat → List Value → List Value → St → Prop), Ok l c b nL d h0 ad true (fun o f a => o = none ∧ post f a) K → K (4 + 8 * (oA c).length) (.ref h0 :: As) [] ((fun _ => 0), (fun _ _ => 0))) : oNew l c y b nL d As post := by
  intro D cI cZ h0 sz
  refine Met.ofW (cc := b) (maxL := nL) (ret := none) hy rfl ?_
  intro p e s m args below meth cd s₁ B hml hv
  obtain ⟨rfl, hsz, hP, hK, hD0'⟩ := hv
  have hx := B.exec
  have hb := B.bytes
  have hr := B.returns
  have hts := atoms_spec (ws := .code y b nL none :: lw_g) B.pre
  have hown : s.vm.findClass y.cls = some m.cls := findClass_of_methodNamed B.named
  have hin : meth.name = "<init>" := by rw [(name_of_methodNamed B.named B.method).1]; exact hyn
  have hlocks := B.notSynchronized
  subst hsz
  have hD := hD0'.self (sz := s.heap.size)
  generalize hAe : va_A [(h0, .inr (c, pF c 0 (fun _ => 0)))] s.heap.size = A at hD ⊢
  have hA : ∀ q : Nat, s.heap.size ≤ q → A q := fun q h => by rw [← hAe]; exact Or.inr h
  have hS : va_S A s.heap s.heap [] := va_S.rf
  have hca : ∀ v ∈ (.ref h0 :: As : List Value), v.category = 1 := by
    intro v hv
    rcases List.mem_cons.mp hv with rfl | hv
    · rfl
    · simpa using List.all_eq_true.mp hAs v hv
  have hl := lh_entry (vs := .ref h0 :: As) (n := nL) hca (by simpa using hL)
  rw [lg_entry_eq]
  generalize (lg_sl (.ref h0 :: As) ++ List.replicate (nL - (lg_sl (.ref h0 :: As)).length) Slot.unset).toArray = ls at hl ⊢
  have hg : ∀ w ∈ lw_g, w.before (Value.ref h0 :: As).toArray s = true := fun w hw => hts w (List.mem_cons_of_mem _ hw)
  refine lv_aload_n hx hb hD0 rfl (hl.2.2.1 0 _ rfl) ?_
  refine W.objInit hx hb (by rw [← hcl]; exact hown) (hg _ hlk) (hg (.instanceMethod objectInit) (by decide +kernel)) (hg (.code objectInit ⟨#[0xb1]⟩ 1 none) (by decide +kernel)) rfl (by rw [hml]; exact hl.1) rfl hD1 hd1 ?_ ?_
  · show 2 * (F0 m 1 ls [Value.ref h0]).monitorRoom + 0 + 12 ≤ 28 * d
    have : (F0 m 1 ls [Value.ref h0]).monitorRoom = 0 := rfl
    omega
  refine W.eq (g2 := F0 m 4 ls []) rfl ?_
  have hpw0 : ∀ ad : Nat → Nat, pw cI cZ c h0 0 ad = [(h0, .inr (c, pF c 0 (fun _ => 0)))] := by
    intro ad
    unfold pw pF
    simp
    intro a _
    unfold pV
    simp
  refine ct_loop (lv := As) hc ⟨hx, hb, hml, by rw [← hcl]; exact hown, hg⟩ hin hK hA hT (Nat.le_refl _) (Nat.le_refl _) ?_ (oA c).length 0 (by omega) (fun _ => 0) s.heap [] ls (by rw [hpw0]; exact hP) (by rw [hpw0]; exact hD) hS hl
  intro ad H locs ls hP hD hS hl
  rw [pw_full] at hP hD
  refine body h0 ad _ ⟨⟨p, e, _, s, m, _, below, meth, cd, A, s.heap, _, _, _, D, cI, cZ, hc, ⟨hx, hb, hml, by rw [← hcl]; exact hown, hg⟩, hK, hA, Nat.le_refl d, Nat.le_refl (28 * d), Nat.le_refl _, Nat.le_refl _, (fun _ => hin), rfl⟩, ?_, ?_⟩ H locs ls ⟨hP, hD, hS⟩ hl
  · rintro pc lv r u hd ⟨hr', hp⟩
    cases hr'
  · rintro pc lv u hd ⟨hr', hp⟩ H locs ls ⟨hP, hD, hS⟩ hl
    exact W.vret hx hb hr (fun t ht hW => ⟨⟨(ad, u), rfl, hp, by rw [ht]; exact hP, va_K.moved hW.alike hK, hD⟩, hS.F ht⟩) hS.2.2 hd
theorem ctD_X : ctD b_X_init 0 := by
  unfold ctD
  intro j hj k hk
  have h : ∀ j, j < 21 → decode b_X_init (4 + 8 * j) = .ok (.aload_n 0, 1) ∧ decode b_X_init (4 + 8 * j + 1) = .ok (.bipush (oL 0 ((oA 0).getD j 0)), 2) ∧ decode b_X_init (4 + 8 * j + 1 + 2) = .ok (.newarray (if oZ 0 ((oA 0).getD j 0) then .boolean else .int), 2) ∧ decode b_X_init (4 + 8 * j + 1 + 2 + 2) = .ok (.putfield (oI 0 ((oA 0).getD j 0)), 3) := by decide +kernel
  have e : (oA 0).getD j 0 = k := by simp [List.getD, hk]
  have := h j hj
  rwa [e] at this
theorem ctD_M : ctD b_M_init 1 := by
  unfold ctD
  intro j hj k hk
  have h : ∀ j, j < 4 → decode b_M_init (4 + 8 * j) = .ok (.aload_n 0, 1) ∧ decode b_M_init (4 + 8 * j + 1) = .ok (.bipush (oL 1 ((oA 1).getD j 0)), 2) ∧ decode b_M_init (4 + 8 * j + 1 + 2) = .ok (.newarray (if oZ 1 ((oA 1).getD j 0) then .boolean else .int), 2) ∧ decode b_M_init (4 + 8 * j + 1 + 2 + 2) = .ok (.putfield (oI 1 ((oA 1).getD j 0)), 3) := by decide +kernel
  have e : (oA 1).getD j 0 = k := by simp [List.getD, hk]
  have := h j hj
  rwa [e] at this
end
section
/-! the two constructors -/
def clp (x : Int32) (m : Nat) : Nat := if x < nI 1 then 1 else if nI m < x then m else x.toNatClampNeg
theorem up_id {f : Nat → Nat} {k v : Nat} (h : f k = v) : up f k v = f := by
  funext j
  unfold up
  split
  · next e => rw [e, h]
  · rfl
def fX0 (R C : Nat) : Nat → Nat := up (up (up (up (fun _ => 0) 0 R) 1 C) 2 (R + C)) 3 (R * C)
def gP (C : Nat) : Nat → Nat → Nat → Nat
  | 0 => fun _ _ => 0
  | n + 1 => up2 (up2 (up2 (gP C n) 4 n (n / C)) 5 n (n % C)) 6 n 2
def iP (C N : Nat) : Nat → Nat → Nat → Nat
  | 0 => gP C N
  | i + 1 => awA (iP C N i) i
def aX0 (R C : Nat) : Nat → Nat → Nat := iP C (R * C) (R + C)
theorem dm_of {i j C : Nat} (h : j < C) : (i * C + j) / C = i ∧ (i * C + j) % C = j := by
  constructor
  · rw [Nat.add_comm, Nat.add_mul_div_right _ _ (by omega), Nat.div_eq_of_lt h, Nat.zero_add]
  · rw [Nat.add_comm, Nat.add_mul_mod_self_right, Nat.mod_eq_of_lt h]
theorem c_X_init (l : Launch) (x y : Int32) : oNew l 0 y_X_init b_X_init 8 1 [.int x, .int y] (fun f a => f = fX0 (clp x 3) (clp y 4) ∧ a = aX0 (clp x 3) (clp y 4)) := by
  refine oNew_of (by decide) plain_X rfl rfl rfl (Nat.le_of_ble_eq_true rfl) (by decide) d_X_init_0 d_X_init_1 ctD_X (by decide +kernel) (fun h0 ad K hk => ?_)
  have hs := hk.sim
  show K 172 [.ref h0, .int x, .int y] [] _
  generalize hR : clp x 3 = R at hk
  generalize hC : clp y 4 = C at hk
  have J4 : 1 ≤ R → R ≤ 3 → 1 ≤ C → C ≤ 4 → K 209 [.ref h0, .int x, .int y, .int (nI R), .int (nI C)] [] ((fun _ => 0), (fun _ _ => 0)) := by
    intro hR1 hR3 hC1 hC4
    have hRC : R * C ≤ 12 := Nat.mul_le_mul hR3 hC4
    have L3 : ∀ i, i ≤ R + C → K 302 [.ref h0, .int x, .int y, .int (nI R), .int (nI C), .int (nI (R * C)), .int (nI i)] [] (fX0 R C, iP C (R * C) i) := by
      refine loopD (fun i hi ih => ?_)
      refine r_iload hs d_X_init_302 rfl ?_
      refine r_iload_n hs d_X_init_304 rfl rfl ?_
      refine r_iload hs d_X_init_305 rfl ?_
      refine r_iadd hs d_X_init_307 ?_
      refine r_icmp_ge (tgt := 323) hs (by first | omega | exact hB _ _ | exact hF _) (by first | omega | exact hB _ _ | exact hF _) d_X_init_308 (by decide) (fun c_308 => ?_) (fun c_308 => ?_)
      · obtain rfl : i = R + C := by omega
        exact r_vret hk d_X_init_323 ⟨rfl, rfl, rfl⟩
      · have e := ih c_308
        rw [iP] at e
        refine r_aload_n hs d_X_init_311 rfl rfl ?_
        refine r_iload hs d_X_init_312 rfl ?_
        refine r_callv hk (c_X_anyWord l (fX0 R C) (iP C (R * C) i) i (by omega)) k_X_anyWord (by decide) (by decide) rfl (Nat.le_of_ble_eq_true rfl) d_X_init_314 (fun fi_314 ar_314 p_314 => ?_)
        obtain ⟨h1, h2⟩ := p_314
        rw [h1, h2, up_id (show fX0 R C 23 = 0 from rfl)]
        refine r_iinc hs d_X_init_317 rfl (Nat.le_of_ble_eq_true rfl) (Nat.le_of_ble_eq_true rfl) ?_
        refine r_goto (tgt := 302) hs d_X_init_320 (by decide) ?_
        exact e
    have L1 : ∀ i, i ≤ R → ∀ w, K 242 ([.ref h0, .int x, .int y, .int (nI R), .int (nI C), .int (nI (i * C)), .int (nI i)] ++ w) [] (fX0 R C, gP C (i * C)) := by
      refine loopD (fun i hi ih w => ?_)
      refine r_take hs 7 ?_
      refine r_iload hs d_X_init_242 rfl ?_
      refine r_iload_n hs d_X_init_244 rfl rfl ?_
      refine r_icmp_ge (tgt := 299) hs (by first | omega | exact hB _ _ | exact hF _) (by first | omega | exact hB _ _ | exact hF _) d_X_init_245 (by decide) (fun c_245 => ?_) (fun c_245 => ?_)
      · obtain rfl : i = R := by omega
        refine r_iconst hs 0 d_X_init_299 (by decide) ?_
        refine r_istore hs d_X_init_300 (Nat.le_of_ble_eq_true rfl) (Nat.le_of_ble_eq_true rfl) ?_
        exact L3 0 (by omega)
      · have L2 : ∀ j, j ≤ C → K 251 [.ref h0, .int x, .int y, .int (nI R), .int (nI C), .int (nI (i * C + j)), .int (nI i), .int (nI j)] [] (fX0 R C, gP C (i * C + j)) := by
          refine loopD (fun j hj ih2 => ?_)
          refine r_iload hs d_X_init_251 rfl ?_
          refine r_iload hs d_X_init_253 rfl ?_
          refine r_icmp_ge (tgt := 293) hs (by first | omega | exact hB _ _ | exact hF _) (by first | omega | exact hB _ _ | exact hF _) d_X_init_255 (by decide) (fun c_255 => ?_) (fun c_255 => ?_)
          · obtain rfl : j = C := by omega
            have e := ih c_245 [.int (nI j)]
            rw [Nat.add_mul, Nat.one_mul] at e
            refine r_iinc hs d_X_init_293 rfl (Nat.le_of_ble_eq_true rfl) (Nat.le_of_ble_eq_true rfl) ?_
            refine r_goto (tgt := 242) hs d_X_init_296 (by decide) ?_
            exact e
          · have e := ih2 c_255
            rw [show i * C + (j + 1) = i * C + j + 1 from rfl, gP, (dm_of c_255).1, (dm_of c_255).2] at e
            have hlt : i * C + j < 12 := by
              have : (i + 1) * C ≤ R * C := Nat.mul_le_mul_right _ c_245
              rw [Nat.add_mul] at this
              omega
            refine r_aload_n hs d_X_init_258 rfl rfl ?_
            refine r_geta hk 4 rfl rfl d_X_init_259 ?_
            refine r_iload hs d_X_init_262 rfl ?_
            refine r_iload hs d_X_init_264 rfl ?_
            refine r_ast hk 12 rfl rfl (by omega) d_X_init_266 ?_
            refine r_aload_n hs d_X_init_267 rfl rfl ?_
            refine r_geta hk 5 rfl rfl d_X_init_268 ?_
            refine r_iload hs d_X_init_271 rfl ?_
            refine r_iload hs d_X_init_273 rfl ?_
            refine r_ast hk 12 rfl rfl (by omega) d_X_init_275 ?_
            refine r_aload_n hs d_X_init_276 rfl rfl ?_
            refine r_geta hk 6 rfl rfl d_X_init_277 ?_
            refine r_iload hs d_X_init_280 rfl ?_
            refine r_iconst hs 2 d_X_init_282 (by decide) ?_
            refine r_ast hk 12 rfl rfl (by omega) d_X_init_283 ?_
            refine r_iinc hs d_X_init_284 rfl (Nat.le_of_ble_eq_true rfl) (Nat.le_of_ble_eq_true rfl) ?_
            refine r_iinc hs d_X_init_287 rfl (Nat.le_of_ble_eq_true rfl) (Nat.le_of_ble_eq_true rfl) ?_
            refine r_goto (tgt := 251) hs d_X_init_290 (by decide) ?_
            exact e
        refine r_iconst hs 0 d_X_init_248 (by decide) ?_
        refine r_istore hs d_X_init_249 (Nat.le_of_ble_eq_true rfl) (Nat.le_of_ble_eq_true rfl) ?_
        exact L2 0 (by omega)
    refine r_aload_n hs d_X_init_209 rfl rfl ?_
    refine r_iload_n hs d_X_init_210 rfl rfl ?_
    refine r_putF hk 0 (by decide) rfl d_X_init_211 ?_
    refine r_aload_n hs d_X_init_214 rfl rfl ?_
    refine r_iload hs d_X_init_215 rfl ?_
    refine r_putF hk 1 (by decide) rfl d_X_init_217 ?_
    refine r_aload_n hs d_X_init_220 rfl rfl ?_
    refine r_iload_n hs d_X_init_221 rfl rfl ?_
    refine r_iload hs d_X_init_222 rfl ?_
    refine r_iadd hs d_X_init_224 ?_
    refine r_putF hk 2 (by decide) rfl d_X_init_225 ?_
    refine r_aload_n hs d_X_init_228 rfl rfl ?_
    refine r_iload_n hs d_X_init_229 rfl rfl ?_
    refine r_iload hs d_X_init_230 rfl ?_
    refine r_imul hs d_X_init_232 ?_
    refine r_putF hk 3 (by decide) rfl d_X_init_233 ?_
    refine r_iconst hs 0 d_X_init_236 (by decide) ?_
    refine r_istore hs d_X_init_237 (Nat.le_of_ble_eq_true rfl) (Nat.le_of_ble_eq_true rfl) ?_
    refine r_iconst hs 0 d_X_init_239 (by decide) ?_
    refine r_istore hs d_X_init_240 (Nat.le_of_ble_eq_true rfl) (Nat.le_of_ble_eq_true rfl) ?_
    have e := L1 0 (by omega) []
    rw [Nat.zero_mul] at e
    exact e
  have J3 : 1 ≤ R → R ≤ 3 → K 188 [.ref h0, .int x, .int y, .int (nI R)] [] ((fun _ => 0), (fun _ _ => 0)) := by
    intro hR1 hR3
    have J200 : nI 1 ≤ y → K 200 [.ref h0, .int x, .int y, .int (nI R), .int y] [] ((fun _ => 0), (fun _ _ => 0)) := by
      intro hy
      have hy0 : ¬ y < nI 1 := Int32.not_lt.mpr hy
      refine r_iload hs d_X_init_200 rfl ?_
      refine r_iconst hs 4 d_X_init_202 (by decide) ?_
      refine r_icmpR_le (tgt := 209) hs d_X_init_203 (by decide) (fun c_203 => ?_) (fun c_203 => ?_)
      · have hyn : ¬ y < 0 := fun h => hy0 (Int32.lt_of_lt_of_le h (by decide))
        obtain ⟨j, hj, rfl⟩ := nI_of2 (M := 4) (n := 4) rfl hyn c_203
        rw [clp, if_neg hy0, if_neg (Int32.not_lt.mpr c_203), nI_clamp (by omega)] at hC
        subst hC
        have h1 : 1 ≤ j := (nI_leI (by decide) (by omega)).mp hy
        exact J4 hR1 hR3 h1 hj
      · rw [clp, if_neg hy0, if_pos (Int32.not_le.mp c_203)] at hC
        subst hC
        refine r_iconst hs 4 d_X_init_206 (by decide) ?_
        refine r_istore hs d_X_init_207 (Nat.le_of_ble_eq_true rfl) (Nat.le_of_ble_eq_true rfl) ?_
        exact J4 hR1 hR3 (by decide) (by decide)
    refine r_iload_n hs d_X_init_188 rfl rfl ?_
    refine r_istore hs d_X_init_189 (Nat.le_of_ble_eq_true rfl) (Nat.le_of_ble_eq_true rfl) ?_
    refine r_iload hs d_X_init_191 rfl ?_
    refine r_iconst hs 1 d_X_init_193 (by decide) ?_
    refine r_icmpR_ge (tgt := 200) hs d_X_init_194 (by decide) (fun c_194 => ?_) (fun c_194 => ?_)
    · exact J200 c_194
    · rw [clp, if_pos (Int32.not_le.mp c_194)] at hC
      subst hC
      refine r_iconst hs 1 d_X_init_197 (by decide) ?_
      refine r_istore hs d_X_init_198 (Nat.le_of_ble_eq_true rfl) (Nat.le_of_ble_eq_true rfl) ?_
      refine r_iload hs d_X_init_200 rfl ?_
      refine r_iconst hs 4 d_X_init_202 (by decide) ?_
      refine r_icmp_le (tgt := 209) hs (by first | omega | exact hB _ _ | exact hF _) (by first | omega | exact hB _ _ | exact hF _) d_X_init_203 (by decide) (fun c_203 => ?_) (fun c_203 => ?_)
      · exact J4 hR1 hR3 (by decide) (by decide)
      · exact absurd c_203 (by decide)
  have J181 : nI 1 ≤ x → K 181 [.ref h0, .int x, .int y, .int x] [] ((fun _ => 0), (fun _ _ => 0)) := by
    intro hx
    have hx0 : ¬ x < nI 1 := Int32.not_lt.mpr hx
    refine r_iload_n hs d_X_init_181 rfl rfl ?_
    refine r_iconst hs 3 d_X_init_182 (by decide) ?_
    refine r_icmpR_le (tgt := 188) hs d_X_init_183 (by decide) (fun c_183 => ?_) (fun c_183 => ?_)
    · have hxn : ¬ x < 0 := fun h => hx0 (Int32.lt_of_lt_of_le h (by decide))
      obtain ⟨j, hj, rfl⟩ := nI_of2 (M := 3) (n := 3) rfl hxn c_183
      rw [clp, if_neg hx0, if_neg (Int32.not_lt.mpr c_183), nI_clamp (by omega)] at hR
      subst hR
      have h1 : 1 ≤ j := (nI_leI (by decide) (by omega)).mp hx
      exact J3 h1 hj
    · rw [clp, if_neg hx0, if_pos (Int32.not_le.mp c_183)] at hR
      subst hR
      refine r_iconst hs 3 d_X_init_186 (by decide) ?_
      refine r_istore_n hs d_X_init_187 rfl (Nat.le_of_ble_eq_true rfl) (Nat.le_of_ble_eq_true rfl) ?_
      exact J3 (by decide) (by decide)
  refine r_iload_n hs d_X_init_172 rfl rfl ?_
  refine r_istore_n hs d_X_init_173 rfl (Nat.le_of_ble_eq_true rfl) (Nat.le_of_ble_eq_true rfl) ?_
  refine r_iload_n hs d_X_init_174 rfl rfl ?_
  refine r_iconst hs 1 d_X_init_175 (by decide) ?_
  refine r_icmpR_ge (tgt := 181) hs d_X_init_176 (by decide) (fun c_176 => ?_) (fun c_176 => ?_)
  · exact J181 c_176
  · rw [clp, if_pos (Int32.not_le.mp c_176)] at hR
    subst hR
    refine r_iconst hs 1 d_X_init_179 (by decide) ?_
    refine r_istore_n hs d_X_init_180 rfl (Nat.le_of_ble_eq_true rfl) (Nat.le_of_ble_eq_true rfl) ?_
    refine r_iload_n hs d_X_init_181 rfl rfl ?_
    refine r_iconst hs 3 d_X_init_182 (by decide) ?_
    refine r_icmp_le (tgt := 188) hs (by first | omega | exact hB _ _ | exact hF _) (by first | omega | exact hB _ _ | exact hF _) d_X_init_183 (by decide) (fun c_183 => ?_) (fun c_183 => ?_)
    · exact J3 (by decide) (by decide)
    · exact absurd c_183 (by decide)
def fM0 (R C : Nat) : Nat → Nat := up (up (fun _ => 0) 5 R) 6 C
def lP : Nat → Nat → Nat → Nat
  | 0 => fun _ _ => 0
  | i + 1 => up2 (lP i) 3 i 2147483647
def qP : Nat → Nat → Nat → Nat
  | 0 => lP 7
  | i + 1 => up2 (qP i) 4 i 2
theorem c_M_init (l : Launch) (x y : Int32) : oNew l 1 y_M_init b_M_init 4 1 [.int x, .int y] (fun f a => f = fM0 (clp x 3) (clp y 4) ∧ a = qP 12) := by
  refine oNew_of (by decide) plain_M rfl rfl rfl (Nat.le_of_ble_eq_true rfl) (by decide) d_M_init_0 d_M_init_1 ctD_M (by decide +kernel) (fun h0 ad K hk => ?_)
  have hs := hk.sim
  show K 36 [.ref h0, .int x, .int y] [] _
  generalize hR : clp x 3 = R at hk
  generalize hC : clp y 4 = C at hk
  have J79 : K 79 [.ref h0, .int x, .int y] [.int (nI C), .ref h0] (up (fun _ => 0) 5 R, (fun _ _ => 0)) := by
    have L2 : ∀ i, i ≤ 12 → K 106 [.ref h0, .int x, .int y, .int (nI i)] [] (fM0 R C, qP i) := by
      refine loopD (fun i hi ih => ?_)
      refine r_iload_n hs d_M_init_106 rfl rfl ?_
      refine r_bipush hs 12 d_M_init_107 (by decide) ?_
      refine r_icmp_ge (tgt := 125) hs (by first | omega | exact hB _ _ | exact hF _) (by first | omega | exact hB _ _ | exact hF _) d_M_init_109 (by decide) (fun c_109 => ?_) (fun c_109 => ?_)
      · obtain rfl : i = 12 := by omega
        exact r_vret hk d_M_init_125 ⟨rfl, rfl, rfl⟩
      · have e := ih c_109
        rw [qP] at e
        refine r_aload_n hs d_M_init_112 rfl rfl ?_
        refine r_geta hk 4 rfl rfl d_M_init_113 ?_
        refine r_iload_n hs d_M_init_116 rfl rfl ?_
        refine r_iconst hs 2 d_M_init_117 (by decide) ?_
        refine r_ast hk 12 rfl rfl (by omega) d_M_init_118 ?_
        refine r_iinc hs d_M_init_119 rfl (Nat.le_of_ble_eq_true rfl) (Nat.le_of_ble_eq_true rfl) ?_
        refine r_goto (tgt := 106) hs d_M_init_122 (by decide) ?_
        exact e
    have L1 : ∀ i, i ≤ 7 → K 84 [.ref h0, .int x, .int y, .int (nI i)] [] (fM0 R C, lP i) := by
      refine loopD (fun i hi ih => ?_)
      refine r_iload_n hs d_M_init_84 rfl rfl ?_
      refine r_bipush hs 7 d_M_init_85 (by decide) ?_
      refine r_icmp_ge (tgt := 104) hs (by first | omega | exact hB _ _ | exact hF _) (by first | omega | exact hB _ _ | exact hF _) d_M_init_87 (by decide) (fun c_87 => ?_) (fun c_87 => ?_)
      · obtain rfl : i = 7 := by omega
        refine r_iconst hs 0 d_M_init_104 (by decide) ?_
        refine r_istore_n hs d_M_init_105 rfl (Nat.le_of_ble_eq_true rfl) (Nat.le_of_ble_eq_true rfl) ?_
        exact L2 0 (by decide)
      · have e := ih c_87
        rw [lP] at e
        refine r_aload_n hs d_M_init_90 rfl rfl ?_
        refine r_geta hk 3 rfl rfl d_M_init_91 ?_
        refine r_iload_n hs d_M_init_94 rfl rfl ?_
        refine r_ldc hk d_M_init_95 ?_
        refine r_ast hk 7 rfl rfl (by omega) d_M_init_97 ?_
        refine r_iinc hs d_M_init_98 rfl (Nat.le_of_ble_eq_true rfl) (Nat.le_of_ble_eq_true rfl) ?_
        refine r_goto (tgt := 84) hs d_M_init_101 (by decide) ?_
        exact e
    refine r_puti hk 6 (by decide) rfl d_M_init_79 ?_
    refine r_iconst hs 0 d_M_init_82 (by decide) ?_
    refine r_istore_n hs d_M_init_83 rfl (Nat.le_of_ble_eq_true rfl) (Nat.le_of_ble_eq_true rfl) ?_
    exact L1 0 (by decide)
  have J56 : K 56 [.ref h0, .int x, .int y] [.int (nI R), .ref h0] ((fun _ => 0), (fun _ _ => 0)) := by
    refine r_puti hk 5 (by decide) rfl d_M_init_56 ?_
    refine r_aload_n hs d_M_init_59 rfl rfl ?_
    refine r_iload_n hs d_M_init_60 rfl rfl ?_
    refine r_iconst hs 1 d_M_init_61 (by decide) ?_
    refine r_icmpR_ge (tgt := 69) hs d_M_init_62 (by decide) (fun c_62 => ?_) (fun c_62 => ?_)
    · have hy0 : ¬ y < nI 1 := Int32.not_lt.mpr c_62
      refine r_iload_n hs d_M_init_69 rfl rfl ?_
      refine r_iconst hs 4 d_M_init_70 (by decide) ?_
      refine r_icmpR_le (tgt := 78) hs d_M_init_71 (by decide) (fun c_71 => ?_) (fun c_71 => ?_)
      · have hyn : ¬ y < 0 := fun h => hy0 (Int32.lt_of_lt_of_le h (by decide))
        obtain ⟨j, hj, rfl⟩ := nI_of2 (M := 4) (n := 4) rfl hyn c_71
        rw [clp, if_neg hy0, if_neg (Int32.not_lt.mpr c_71), nI_clamp (by omega)] at hC
        subst hC
        refine r_iload_n hs d_M_init_78 rfl rfl ?_
        exact J79
      · rw [clp, if_neg hy0, if_pos (Int32.not_le.mp c_71)] at hC
        subst hC
        refine r_iconst hs 4 d_M_init_74 (by decide) ?_
        refine r_goto (tgt := 79) hs d_M_init_75 (by decide) ?_
        exact J79
    · rw [clp, if_pos (Int32.not_le.mp c_62)] at hC
      subst hC
      refine r_iconst hs 1 d_M_init_65 (by decide) ?_
      refine r_goto (tgt := 79) hs d_M_init_66 (by decide) ?_
      exact J79
  refine r_aload_n hs d_M_init_36 rfl rfl ?_
  refine r_iload_n hs d_M_init_37 rfl rfl ?_
  refine r_iconst hs 1 d_M_init_38 (by decide) ?_
  refine r_icmpR_ge (tgt := 46) hs d_M_init_39 (by decide) (fun c_39 => ?_) (fun c_39 => ?_)
  · have hx0 : ¬ x < nI 1 := Int32.not_lt.mpr c_39
    refine r_iload_n hs d_M_init_46 rfl rfl ?_
    refine r_iconst hs 3 d_M_init_47 (by decide) ?_
    refine r_icmpR_le (tgt := 55) hs d_M_init_48 (by decide) (fun c_48 => ?_) (fun c_48 => ?_)
    · have hxn : ¬ x < 0 := fun h => hx0 (Int32.lt_of_lt_of_le h (by decide))
      obtain ⟨j, hj, rfl⟩ := nI_of2 (M := 3) (n := 3) rfl hxn c_48
      rw [clp, if_neg hx0, if_neg (Int32.not_lt.mpr c_48), nI_clamp (by omega)] at hR
      subst hR
      refine r_iload_n hs d_M_init_55 rfl rfl ?_
      exact J56
    · rw [clp, if_neg hx0, if_pos (Int32.not_le.mp c_48)] at hR
      subst hR
      refine r_iconst hs 3 d_M_init_51 (by decide) ?_
      refine r_goto (tgt := 56) hs d_M_init_52 (by decide) ?_
      exact J56
  · rw [clp, if_pos (Int32.not_le.mp c_39)] at hR
    subst hR
    refine r_iconst hs 1 d_M_init_42 (by decide) ?_
    refine r_goto (tgt := 56) hs d_M_init_43 (by decide) ?_
    exact J56
end
section
/-! THE CLAIM OUT OF ONE WALK OF THE LAW'S BODY. Your part is whole_start (and what it stands on); all else here is the same for every law, but numbers. -/
def R_law : String := "ExprCrosswordLaw"
def lw_P (b : Addr) (xs : List Int32) (args : Array Value) (s : State) : Prop := args = #[.ref b] ∧ s.IntsAt b xs ∧ xs.length ≤ 2050 ∧ (Jvm.Cond.and given_1 narrow_1).before args s = true
def lw_Q (_ : Array Value) (s : State) (o : Outcome) (t : State) : Prop := o = .returned (some (.int 1)) ∧ Framed s o t [] 27 328
def lw_Z (below : List Frame) (a : Array Value) (s : State) : State → Prop := fun t => ∃ o, t.status = .running ∧ Ended t below o ∧ lw_Q a s o t
/-- the law's own end, with 1 on the stack, nothing written that was there before, its room as the claim has it -/
theorem lw_ret {p : Program} {l : Launch} {e : Env} {s : State} {m : MethodId} {below : List Frame} {meth : Method} {c : Code} {b : Nat} (hx : p.tables.exec = Jvm.exec) (hb : c.code = code) (hr : meth.sig.returnType = ret) (hlocks : meth.locks = false) {pc : Nat} {H : Heap} {ls : Array Slot} (hdg : decode code pc = .ok (.ireturn, 1)) : W p l e room_1 s m #[Value.ref b] below meth c H [] 27 328 (lw_Z below #[Value.ref b] s) (F0 m pc ls [.int 1]) := by
  intro T hT X
  obtain ⟨fs, hret, hrun, hended, hW, hframe⟩ := X.leave (v := some (.int 1)) (hlocks := hlocks) (fun h => by rw [hr] at h; cases h)
  have hmeth' : T.vm.method? m = some meth := X.method'
  refine ⟨T.setFrames fs, ?_, .returned (some (.int 1)), hrun, hended, rfl, ⟨_, rfl⟩, hW, hframe⟩
  jvm_step X.here [X.here.top, hx, hb, hdg, hmeth', hr, ret, narrow_b1]
  (try refine ⟨rfl, ?_⟩); (try refine ⟨rfl, ?_⟩)
  first | (intro acts; rw [hret _ acts rfl rfl rfl]) | rw [hret _ _ rfl rfl rfl]
  exact Steps.refl _
/-- what holds at the law's entry: the machine, the code, the tables' words (any of lw_tbl by 'hts w (by decide +kernel)'), the script of L ints xs at the cell b, what the Statement gives of the start (any of its parts by flat_of_before) -/
def lw_At (p : Program) (s : State) (m : MethodId) (meth : Method) (c : Code) (b L : Nat) (xs : Nat → Int32) : Prop :=
  p.tables.exec = Jvm.exec ∧ c.code = code ∧ meth.sig.returnType = ret ∧ c.maxLocals = 4 ∧ s.vm.findClass R_law = some m.cls ∧ (∀ w ∈ lw_tbl, w.before #[Value.ref b] s = true) ∧ va_X b L xs s s.heap ∧ b < s.heap.size ∧ meth.locks = false ∧ (Jvm.Cond.and given_1 narrow_1).before #[Value.ref b] s = true
/-! THE LAW'S FRAME: both objects' worlds beside each other, and the script; calls by the frame rule -/
theorem wl_split {D : va_G} {cl : List vw_C} {A : Nat → Prop} {w1 w2 : va_W} {H : Heap} (hP : va_P D cl (w1 ++ w2) H) (hD : va_D A (w1 ++ w2)) : va_P D cl w1 H ∧ va_P D cl w2 H ∧ va_D A w1 ∧ va_D A w2 ∧ ∀ (i j : Nat) (p q : Nat × va_E), w1[i]? = some p → w2[j]? = some q → p.1 ≠ q.1 := by
  have e1 : ∀ (k : Nat) (q : Nat × va_E), w1[k]? = some q → (w1 ++ w2)[k]? = some q := fun k q h => by
    rw [List.getElem?_append_left (List.getElem?_eq_some_iff.mp h).1]
    exact h
  have e2 : ∀ (k : Nat) (q : Nat × va_E), w2[k]? = some q → (w1 ++ w2)[w1.length + k]? = some q := fun k q h => by
    rw [List.getElem?_append_right (by omega), show w1.length + k - w1.length = k by omega]
    exact h
  refine ⟨fun k q h => hP k q (e1 k q h), fun k q h => hP _ q (e2 k q h), ⟨fun i j p q h1 h2 h3 => hD.1 i j p q (e1 _ _ h1) (e1 _ _ h2) h3, fun k q h => hD.2 k q (e1 _ _ h)⟩, ⟨fun i j p q h1 h2 h3 => by have := hD.1 _ _ p q (e2 _ _ h1) (e2 _ _ h2) h3; omega, fun k q h => hD.2 _ q (e2 _ _ h)⟩, fun i j p q h1 h2 h3 => ?_⟩
  have := hD.1 _ _ p q (e1 _ _ h1) (e2 _ _ h2) h3
  have := (List.getElem?_eq_some_iff.mp h1).1
  omega
/-- behind a call that had w1 and left w1': w2 is as it was -/
theorem wl_join {D : va_G} {cl : List vw_C} {A : Nat → Prop} {w1 w2 w1' : va_W} {H H1 : Heap} (hP2 : va_P D cl w2 H) (hD2 : va_D A w2) (hx : ∀ (i j : Nat) (p q : Nat × va_E), w1[i]? = some p → w2[j]? = some q → p.1 ≠ q.1) (hk : ∀ q : Nat, q < H.size → ¬ va_A w1 H.size q → H1[q]? = H[q]?) (hP1 : va_P D cl w1' H1) (hD1 : va_D (va_A w1 H.size) w1') (hF : ∀ q, va_A w1 H.size q → A q) : va_P D cl w2 H1 ∧ va_D A w1' ∧ ∀ (i j : Nat) (p q : Nat × va_E), w1'[i]? = some p → w2[j]? = some q → p.1 ≠ q.1 := by
  have hn : ∀ (k : Nat) (q : Nat × va_E), w2[k]? = some q → ¬ va_A w1 H.size q.1 := by
    rintro k q h (⟨i, e, hi⟩ | hz)
    · exact hx i k _ q hi h rfl
    · have := (hP2 k q h).lt
      omega
  refine ⟨hP2.kept (fun k q h => hk q.1 (hP2 k q h).lt (hn k q h)), hD1.weaken (fun _ _ _ h => hF _ h), fun i j p q h1 h2 h3 => ?_⟩
  have := hD1.2 i p h1
  rw [h3] at this
  exact hn j q h2 this
def lww (cI cZ : ClassId) (hX hM : Nat) (adX adM : Nat → Nat) (u : St × St) : va_W := ow cI cZ 0 hX adX u.1.1 u.1.2 ++ ow cI cZ 1 hM adM u.2.1 u.2.2
def OkL (l : Launch) (b0 L : Nat) (xs : Nat → Int32) (hX hM : Nat) (adX adM : Nat → Nat) (K : Nat → List Value → List Value → St × St → Prop) : Prop :=
  ∃ (p : Program) (e : Env) (s : State) (m : MethodId) (below : List Frame) (meth : Method) (cd : Code) (D : va_G) (cI cZ : ClassId),
    CallFix p m cd code 4 s #[Value.ref b0] lw_g "ExprCrosswordLaw" ∧ va_K D classes (oT cI cZ) s ∧ va_X b0 L xs s s.heap ∧ b0 < s.heap.size ∧ L < 2 ^ 31 ∧ meth.sig.returnType = ret ∧ meth.locks = false ∧
    K = fun pc lv st u => ∀ (H : Heap) (locs : List Loc) (ls : Array Slot), (va_P D classes (lww cI cZ hX hM adX adM u) H ∧ va_D (fun q : Nat => s.heap.size ≤ q) (lww cI cZ hX hM adX adM u) ∧ va_S (fun q : Nat => s.heap.size ≤ q) s.heap H locs) → lh ls 4 lv → W p l e room_1 s m #[Value.ref b0] below meth cd H locs 27 328 (lw_Z below #[Value.ref b0] s) (F0 m pc ls st)
section LW
variable {l : Launch} {b0 L hX hM : Nat} {xs : Nat → Int32} {adX adM : Nat → Nat} {K : Nat → List Value → List Value → St × St → Prop} {pc : Nat} {lv st : List Value} {u : St × St}
theorem OkL.sim (h : OkL l b0 L xs hX hM adX adM K) : Sim code 4 K := by
  obtain ⟨p, e, s, m, below, meth, cd, D, cI, cZ, ⟨hx, hb, hml, hown, hts⟩, hK, hXs, hbl, hL, hr, hlk, rfl⟩ := h
  exact ⟨_, p, l, e, room_1, s, m, _, below, meth, cd, 27, 328, _, hx, hb, rfl⟩
theorem r_sld (h : OkL l b0 L xs hX hM adX adM K) {i : Nat} (hi : i < L) (hd : decode code pc = .ok (.iaload, 1)) (k : K (pc + 1) lv (.int (xs i) :: st) u) : K pc lv (.int (nI i) :: .ref b0 :: st) u := by
  obtain ⟨p, e, s, m, below, meth, cd, D, cI, cZ, ⟨hx, hb, hml, hown, hts⟩, hK, hXs, hbl, hL, hr, hlk, rfl⟩ := h
  intro H locs ls hW hl
  refine va_sld hx hb hXs hbl (Nat.not_le.mpr hbl) hW.2.2 (vp_in_nI hi hL) hd ?_
  rw [nI_clamp (by omega)]
  exact k H locs ls hW hl
theorem r_slen (h : OkL l b0 L xs hX hM adX adM K) (hd : decode code pc = .ok (.arraylength, 1)) (k : K (pc + 1) lv (.int (nI L) :: st) u) : K pc lv (.ref b0 :: st) u := by
  obtain ⟨p, e, s, m, below, meth, cd, D, cI, cZ, ⟨hx, hb, hml, hown, hts⟩, hK, hXs, hbl, hL, hr, hlk, rfl⟩ := h
  intro H locs ls hW hl
  exact va_slen hx hb hXs hbl (Nat.not_le.mpr hbl) hW.2.2 hd (k H locs ls hW hl)
theorem r_lret (h : OkL l b0 L xs hX hM adX adM K) (hd : decode code pc = .ok (.ireturn, 1)) : K pc lv [.int (nI 1)] u := by
  obtain ⟨p, e, s, m, below, meth, cd, D, cI, cZ, ⟨hx, hb, hml, hown, hts⟩, hK, hXs, hbl, hL, hr, hlk, rfl⟩ := h
  intro H locs ls hW hl
  refine va_forget (fun q hq => hW.2.2.2.2 q hq) ?_
  exact lw_ret hx hb hr hlk hd
theorem r_lsw (h : OkL l b0 L xs hX hM adX adM K) {dflt lo hi off : Int} {offs : Array Int} {len j tgt : Nat} (hd : decode code pc = .ok (.tableswitch dflt lo hi offs, len)) (h1 : ¬ (nI j).toInt < lo ∧ ¬ hi < (nI j).toInt) (ho : offs[((nI j).toInt - lo).toNat]? = some off) (ht : (pc : Int) + off = (tgt : Int)) (k : K tgt lv st u) : K pc lv (.int (nI j) :: st) u := by
  obtain ⟨p, e, s, m, below, meth, cd, D, cI, cZ, ⟨hx, hb, hml, hown, hts⟩, hK, hXs, hbl, hL, hr, hlk, rfl⟩ := h
  intro H locs ls hW hl
  exact lv_tableIn hx hb hd h1.1 h1.2 ho ht (k H locs ls hW hl)
theorem r_lswO (h : OkL l b0 L xs hX hM adX adM K) {dflt lo : Int} {hi : Nat} {offs : Array Int} {len j tgt : Nat} (hd : decode code pc = .ok (.tableswitch dflt lo hi offs, len)) (h1 : j < 2 ^ 31) (h2 : hi < j) (ht : (pc : Int) + dflt = (tgt : Int)) (k : K tgt lv st u) : K pc lv (.int (nI j) :: st) u := by
  obtain ⟨p, e, s, m, below, meth, cd, D, cI, cZ, ⟨hx, hb, hml, hown, hts⟩, hK, hXs, hbl, hL, hr, hlk, rfl⟩ := h
  intro H locs ls hW hl
  exact lv_tableOut hx hb hd (Or.inr (by rw [nI_toInt h1]; omega)) ht (k H locs ls hW hl)
theorem r_lX (h : OkL l b0 L xs hX hM adX adM K) {y : MethodName} {b' : ByteArray} {nL' d' idx : Nat} {ret' : Option FieldType} {As stk : List Value} {fi : Nat → Nat} {ar : Nat → Nat → Nat} {w : St} {post : Int32 → (Nat → Nat) → (Nat → Nat → Nat) → Prop} (hMt : oMetI l 0 y b' nL' ret' d' As fi ar post) (hC : calOk "ExprCrosswordLaw" "ExprCrossword" idx y b' nL' ret' As.length) (hdd : d' ≤ 6) (hn : nL' ≤ 9) (hs : stk = As.reverse ++ .ref hX :: st) (hcat : (st.map fun v => v.category).sum ≤ 8) (hd : decode code pc = .ok (.invokevirtual idx, 3)) (kk : ∀ (r : Int32) (fi' : Nat → Nat) (ar' : Nat → Nat → Nat), post r fi' ar' → K (pc + 3) lv (.int r :: st) ((fi', ar'), w)) : K pc lv stk ((fi, ar), w) := by
  obtain ⟨p, e, s, m, below, meth, cd, D, cI, cZ, ⟨hx, hb, hml, hown, hts⟩, hK, hXs, hbl, hL, hr, hlk, rfl⟩ := h
  subst hs
  intro H locs ls hW hl
  obtain ⟨hP, hD, hS⟩ := hW
  obtain ⟨hP1, hP2, hD1, hD2, hdj⟩ := wl_split hP hD
  have hFc : ∀ q, va_A (ow cI cZ 0 hX adX fi ar) H.size q → s.heap.size ≤ q := by
    rintro q (⟨k, e, hk⟩ | hz)
    · exact hD1.2 k _ hk
    · exact Nat.le_trans hS.1 hz
  refine va_calli (va_runV (As := As) (rest := st) ⟨hx, hb, hml, hown, hts⟩ (hMt D cI cZ hX adX H.size) (cwV As.length hts hC.1 rfl rfl rfl hC.2 ⟨by show d' + 1 ≤ 7; omega, by show 8 + (nL' + 11) + 28 * d' ≤ 248; omega⟩) ⟨fun a U g mk q => by obtain ⟨q0, q1, qP, qK, qD⟩ := q; exact ⟨q0, q1, qP, va_K.moved (u := U) (U := U.calling g mk a) (Vm.Alike.refl U.vm) qK, qD⟩, va_recv hK hP1 (ci := 0) (q0 := 0) (oQ_at (by decide)) rfl, fun U hU hW => ⟨rfl, by rw [hU], by rw [hU]; exact hP1, va_K.moved hW.alike hK, hD1.weaken (fun _ _ _ _ => trivial)⟩⟩ rfl rfl hl.1 rfl (lv_room hcat) hd ⟨Nat.le_refl 27, Nat.le_refl 328⟩) hS (fun q _ h => hFc q h) hFc (fun r u t H1 locs ht hvm hw hB hz1 hk1 hS => ?_)
  obtain ⟨hP1', hK1, hD1'⟩ := hB
  rw [ht] at hP1'
  obtain ⟨j1, j2, j3⟩ := wl_join hP2 hD2 hdj hk1 hP1' hD1' hFc
  exact kk r u.1 u.2 hw H1 locs ls ⟨hP1'.app j1, j2.app hD2 j3, hS⟩ hl
theorem r_lM (h : OkL l b0 L xs hX hM adX adM K) {y : MethodName} {b' : ByteArray} {nL' d' idx : Nat} {ret' : Option FieldType} {As stk : List Value} {fi : Nat → Nat} {ar : Nat → Nat → Nat} {w : St} {post : Int32 → (Nat → Nat) → (Nat → Nat → Nat) → Prop} (hMt : oMetI l 1 y b' nL' ret' d' As fi ar post) (hC : calOk "ExprCrosswordLaw" "ExprCrosswordModel" idx y b' nL' ret' As.length) (hdd : d' ≤ 6) (hn : nL' ≤ 9) (hs : stk = As.reverse ++ .ref hM :: st) (hcat : (st.map fun v => v.category).sum ≤ 8) (hd : decode code pc = .ok (.invokevirtual idx, 3)) (kk : ∀ (r : Int32) (fi' : Nat → Nat) (ar' : Nat → Nat → Nat), post r fi' ar' → K (pc + 3) lv (.int r :: st) (w, (fi', ar'))) : K pc lv stk (w, (fi, ar)) := by
  obtain ⟨p, e, s, m, below, meth, cd, D, cI, cZ, ⟨hx, hb, hml, hown, hts⟩, hK, hXs, hbl, hL, hr, hlk, rfl⟩ := h
  subst hs
  intro H locs ls hW hl
  obtain ⟨hP, hD, hS⟩ := hW
  obtain ⟨hP2, hP1, hD2, hD1, hdj⟩ := wl_split hP hD
  have hFc : ∀ q, va_A (ow cI cZ 1 hM adM fi ar) H.size q → s.heap.size ≤ q := by
    rintro q (⟨k, e, hk⟩ | hz)
    · exact hD1.2 k _ hk
    · exact Nat.le_trans hS.1 hz
  refine va_calli (va_runV (As := As) (rest := st) ⟨hx, hb, hml, hown, hts⟩ (hMt D cI cZ hM adM H.size) (cwV As.length hts hC.1 rfl rfl rfl hC.2 ⟨by show d' + 1 ≤ 7; omega, by show 8 + (nL' + 11) + 28 * d' ≤ 248; omega⟩) ⟨fun a U g mk q => by obtain ⟨q0, q1, qP, qK, qD⟩ := q; exact ⟨q0, q1, qP, va_K.moved (u := U) (U := U.calling g mk a) (Vm.Alike.refl U.vm) qK, qD⟩, va_recv hK hP1 (ci := 1) (q0 := 0) (oQ_at (by decide)) rfl, fun U hU hW => ⟨rfl, by rw [hU], by rw [hU]; exact hP1, va_K.moved hW.alike hK, hD1.weaken (fun _ _ _ _ => trivial)⟩⟩ rfl rfl hl.1 rfl (lv_room hcat) hd ⟨Nat.le_refl 27, Nat.le_refl 328⟩) hS (fun q _ h => hFc q h) hFc (fun r u t H1 locs ht hvm hw hB hz1 hk1 hS => ?_)
  obtain ⟨hP1', hK1, hD1'⟩ := hB
  rw [ht] at hP1'
  obtain ⟨j1, j2, j3⟩ := wl_join hP2 hD2 (fun i j p q h1 h2 h3 => hdj j i q p h2 h1 h3.symm) hk1 hP1' hD1' hFc
  exact kk r u.1 u.2 hw H1 locs ls ⟨j1.app hP1', hD2.app j2 (fun i j p q h1 h2 h3 => j3 j i q p h2 h1 h3.symm), hS⟩ hl
end LW
theorem lw_gt {L i : Nat} (h : L < i + 4) (h1 : L < 2 ^ 30) (h2 : i < 2 ^ 30) : nI L - nI 4 < nI i := by
  rw [Int32.lt_iff_toInt_lt, pk_sub_toInt h1 (by decide), nI_toInt (by omega)]
  omega
/-- the two calls of one name: with Rel before, equal answers and Rel behind -/
def Agree (l : Launch) (Rel : St → St → Prop) (yX : MethodName) (bX : ByteArray) (nX : Nat) (yM : MethodName) (bM : ByteArray) (nM : Nat) (As : List Value) : Prop :=
  ∀ (fi : Nat → Nat) (ar : Nat → Nat → Nat) (fj : Nat → Nat) (br : Nat → Nat → Nat), Rel (fi, ar) (fj, br) → ∃ (dx dm : Nat) (PX PM : Int32 → (Nat → Nat) → (Nat → Nat → Nat) → Prop), dx ≤ 6 ∧ dm ≤ 6 ∧ oMetI l 0 yX bX nX (some .int) dx As fi ar PX ∧ oMetI l 1 yM bM nM (some .int) dm As fj br PM ∧
    ∀ r f a r' f' a', PX r f a → PM r' f' a' → r = r' ∧ Rel (f, a) (f', a')
end
section
/-! THE LAW'S LOOP, over a relation Rel between the two objects that every pair of calls keeps, with equal answers -/
def AgreeAll (l : Launch) (Rel : St → St → Prop) : Prop :=
  (∀ (x1 : Int32), Agree l Rel y_X_letter b_X_letter 3 y_M_letter b_M_letter 2 [.int x1]) ∧
  (Agree l Rel y_X_unit b_X_unit 1 y_M_unit b_M_unit 1 []) ∧
  (Agree l Rel y_X_cat b_X_cat 3 y_M_cat b_M_cat 2 []) ∧
  (Agree l Rel y_X_alt b_X_alt 3 y_M_alt b_M_alt 1 []) ∧
  (Agree l Rel y_X_star b_X_star 2 y_M_star b_M_star 1 []) ∧
  (Agree l Rel y_X_reverse b_X_reverse 3 y_M_reverse b_M_reverse 1 []) ∧
  (∀ (x1 : Int32), Agree l Rel y_X_setLine b_X_setLine 6 y_M_setLine b_M_setLine 2 [.int x1]) ∧
  (Agree l Rel y_X_depth b_X_depth 1 y_M_depth b_M_depth 1 []) ∧
  (Agree l Rel y_X_letters b_X_letters 1 y_M_letters b_M_letters 3 []) ∧
  (∀ (x1 : Int32), Agree l Rel y_X_freeLine b_X_freeLine 2 y_M_freeLine b_M_freeLine 2 [.int x1]) ∧
  (∀ (x1 x2 x3 : Int32), Agree l Rel y_X_pin b_X_pin 6 y_M_pin b_M_pin 5 [.int x1, .int x2, .int x3]) ∧
  (∀ (x1 x2 : Int32), Agree l Rel y_X_pinned b_X_pinned 3 y_M_pinned b_M_pinned 3 [.int x1, .int x2]) ∧
  (Agree l Rel y_X_fillings b_X_fillings 1 y_M_fillings b_M_fillings 3 []) ∧
  (∀ (x1 : Int32), Agree l Rel y_X_filling b_X_filling 2 y_M_filling b_M_filling 4 [.int x1]) ∧
  (∀ (x1 : Int32), Agree l Rel y_X_below b_X_below 2 y_M_below b_M_below 4 [.int x1]) ∧
  (∀ (x1 x2 : Int32), Agree l Rel y_X_forced b_X_forced 4 y_M_forced b_M_forced 7 [.int x1, .int x2]) ∧
  (∀ (x1 : Int32), Agree l Rel y_X_lineWords b_X_lineWords 5 y_M_lineWords b_M_lineWords 5 [.int x1])
theorem law_loop {l : Launch} {b L hX hM : Nat} {xs : Nat → Int32} {adX adM : Nat → Nat} {K : Nat → List Value → List Value → St × St → Prop} (hk : OkL l b L xs hX hM adX adM K) (hL : L ≤ 2050) {Rel : St → St → Prop} (hA : AgreeAll l Rel) : ∀ (n i : Nat) (u w : St), L + 4 ≤ i + n → i ≤ L + 8 → Rel u w → K 38 [.ref b, .ref hX, .ref hM, .int (nI i)] [] (u, w) := by
  have hs := hk.sim
  obtain ⟨A0, A1, A2, A3, A4, A5, A6, A7, A8, A9, A10, A11, A12, A13, A14, A15, A16⟩ := hA
  intro n
  induction n with
  | zero =>
    intro i u w h1 h2 hR
    refine r_iload_n hs d_L_law_38 rfl rfl ?_
    refine r_aload_n hs d_L_law_39 rfl rfl ?_
    refine r_slen hk d_L_law_40 ?_
    refine r_iconst hs 4 d_L_law_41 (by decide) ?_
    refine r_isubR hs d_L_law_42 ?_
    refine r_icmpR_gt (tgt := 493) hs d_L_law_43 (by decide) (fun c_43 => ?_) (fun c_43 => ?_)
    · refine r_iconst hs 1 d_L_law_493 (by decide) ?_
      exact r_lret hk d_L_law_494
    · exact absurd (lw_gt (by omega) (by omega) (by omega)) c_43
  | succ n ih =>
    intro i u w h1 h2 hR
    refine r_iload_n hs d_L_law_38 rfl rfl ?_
    refine r_aload_n hs d_L_law_39 rfl rfl ?_
    refine r_slen hk d_L_law_40 ?_
    refine r_iconst hs 4 d_L_law_41 (by decide) ?_
    refine r_isubR hs d_L_law_42 ?_
    refine r_icmpR_gt (tgt := 493) hs d_L_law_43 (by decide) (fun c_43 => ?_) (fun c_43 => ?_)
    · refine r_iconst hs 1 d_L_law_493 (by decide) ?_
      exact r_lret hk d_L_law_494
    · have hi : i + 4 ≤ L := Nat.le_of_not_lt (fun q => c_43 (lw_gt q (by omega) (by omega)))
      have E : ∀ u' w', Rel u' w' → K 487 [.ref b, .ref hX, .ref hM, .int (nI i)] [] (u', w') := by
        intro u' w' hR'
        refine r_iincV hs d_L_law_487 rfl (nI_add i 4) (Nat.le_of_ble_eq_true rfl) (Nat.le_of_ble_eq_true rfl) ?_
        refine r_goto (tgt := 38) hs d_L_law_490 (by decide) ?_
        exact ih (i + 4) u' w' (by omega) (by omega) hR'
      refine r_aload_n hs d_L_law_46 rfl rfl ?_
      refine r_iload_n hs d_L_law_47 rfl rfl ?_
      refine r_sld hk (by omega) d_L_law_48 ?_
      refine r_bipush hs 31 d_L_law_49 (by decide) ?_
      refine r_iandR hs d_L_law_51 ?_
      obtain ⟨j, hj, ej⟩ := pk_andE (xs i) (m := nI 31) 5 (by decide)
      rw [ej]
      obtain ⟨fi, ar⟩ := u
      obtain ⟨fj, br⟩ := w
      rcases Nat.lt_or_ge j 17 with hj17 | hj17
      · have hc : j = 0 ∨ j = 1 ∨ j = 2 ∨ j = 3 ∨ j = 4 ∨ j = 5 ∨ j = 6 ∨ j = 7 ∨ j = 8 ∨ j = 9 ∨ j = 10 ∨ j = 11 ∨ j = 12 ∨ j = 13 ∨ j = 14 ∨ j = 15 ∨ j = 16 := by omega
        rcases hc with rfl | rfl | rfl | rfl | rfl | rfl | rfl | rfl | rfl | rfl | rfl | rfl | rfl | rfl | rfl | rfl | rfl
        · refine r_lsw hk (tgt := 136) (j := 0) d_L_law_52 (by decide) rfl (by decide) ?_
          obtain ⟨dx, dm, PX, PM, hx1, hm1, cX, cM, hag⟩ := A0 (xs (i + 1)) fi ar fj br hR
          refine r_aload_n hs d_L_law_136 rfl rfl ?_
          refine r_aload_n hs d_L_law_137 rfl rfl ?_
          refine r_iload_n hs d_L_law_138 rfl rfl ?_
          refine r_iconst hs 1 d_L_law_139 (by decide) ?_
          refine r_iadd hs d_L_law_140 ?_
          refine r_sld hk (by omega) d_L_law_141 ?_
          refine r_lX hk cX kL_X_letter hx1 (by decide) rfl (Nat.le_of_ble_eq_true rfl) d_L_law_142 (fun r f a hp => ?_)
          refine r_aload_n hs d_L_law_145 rfl rfl ?_
          refine r_aload_n hs d_L_law_146 rfl rfl ?_
          refine r_iload_n hs d_L_law_147 rfl rfl ?_
          refine r_iconst hs 1 d_L_law_148 (by decide) ?_
          refine r_iadd hs d_L_law_149 ?_
          refine r_sld hk (by omega) d_L_law_150 ?_
          refine r_lM hk cM kL_M_letter hm1 (by decide) rfl (Nat.le_of_ble_eq_true rfl) d_L_law_151 (fun r2 f2 a2 hp2 => ?_)
          obtain ⟨h1, h2⟩ := hag _ _ _ _ _ _ hp hp2
          refine r_icmpR_eq (tgt := 487) hs d_L_law_154 (by decide) (fun c_154 => ?_) (fun c_154 => ?_)
          · exact E _ _ h2
          · exact absurd h1 c_154
        · refine r_lsw hk (tgt := 159) (j := 1) d_L_law_52 (by decide) rfl (by decide) ?_
          obtain ⟨dx, dm, PX, PM, hx1, hm1, cX, cM, hag⟩ := A1  fi ar fj br hR
          refine r_aload_n hs d_L_law_159 rfl rfl ?_
          refine r_lX hk cX kL_X_unit hx1 (by decide) rfl (Nat.le_of_ble_eq_true rfl) d_L_law_160 (fun r f a hp => ?_)
          refine r_aload_n hs d_L_law_163 rfl rfl ?_
          refine r_lM hk cM kL_M_unit hm1 (by decide) rfl (Nat.le_of_ble_eq_true rfl) d_L_law_164 (fun r2 f2 a2 hp2 => ?_)
          obtain ⟨h1, h2⟩ := hag _ _ _ _ _ _ hp hp2
          refine r_icmpR_eq (tgt := 487) hs d_L_law_167 (by decide) (fun c_167 => ?_) (fun c_167 => ?_)
          · exact E _ _ h2
          · exact absurd h1 c_167
        · refine r_lsw hk (tgt := 172) (j := 2) d_L_law_52 (by decide) rfl (by decide) ?_
          obtain ⟨dx, dm, PX, PM, hx1, hm1, cX, cM, hag⟩ := A2  fi ar fj br hR
          refine r_aload_n hs d_L_law_172 rfl rfl ?_
          refine r_lX hk cX kL_X_cat hx1 (by decide) rfl (Nat.le_of_ble_eq_true rfl) d_L_law_173 (fun r f a hp => ?_)
          refine r_aload_n hs d_L_law_176 rfl rfl ?_
          refine r_lM hk cM kL_M_cat hm1 (by decide) rfl (Nat.le_of_ble_eq_true rfl) d_L_law_177 (fun r2 f2 a2 hp2 => ?_)
          obtain ⟨h1, h2⟩ := hag _ _ _ _ _ _ hp hp2
          refine r_icmpR_eq (tgt := 487) hs d_L_law_180 (by decide) (fun c_180 => ?_) (fun c_180 => ?_)
          · exact E _ _ h2
          · exact absurd h1 c_180
        · refine r_lsw hk (tgt := 185) (j := 3) d_L_law_52 (by decide) rfl (by decide) ?_
          obtain ⟨dx, dm, PX, PM, hx1, hm1, cX, cM, hag⟩ := A3  fi ar fj br hR
          refine r_aload_n hs d_L_law_185 rfl rfl ?_
          refine r_lX hk cX kL_X_alt hx1 (by decide) rfl (Nat.le_of_ble_eq_true rfl) d_L_law_186 (fun r f a hp => ?_)
          refine r_aload_n hs d_L_law_189 rfl rfl ?_
          refine r_lM hk cM kL_M_alt hm1 (by decide) rfl (Nat.le_of_ble_eq_true rfl) d_L_law_190 (fun r2 f2 a2 hp2 => ?_)
          obtain ⟨h1, h2⟩ := hag _ _ _ _ _ _ hp hp2
          refine r_icmpR_eq (tgt := 487) hs d_L_law_193 (by decide) (fun c_193 => ?_) (fun c_193 => ?_)
          · exact E _ _ h2
          · exact absurd h1 c_193
        · refine r_lsw hk (tgt := 198) (j := 4) d_L_law_52 (by decide) rfl (by decide) ?_
          obtain ⟨dx, dm, PX, PM, hx1, hm1, cX, cM, hag⟩ := A4  fi ar fj br hR
          refine r_aload_n hs d_L_law_198 rfl rfl ?_
          refine r_lX hk cX kL_X_star hx1 (by decide) rfl (Nat.le_of_ble_eq_true rfl) d_L_law_199 (fun r f a hp => ?_)
          refine r_aload_n hs d_L_law_202 rfl rfl ?_
          refine r_lM hk cM kL_M_star hm1 (by decide) rfl (Nat.le_of_ble_eq_true rfl) d_L_law_203 (fun r2 f2 a2 hp2 => ?_)
          obtain ⟨h1, h2⟩ := hag _ _ _ _ _ _ hp hp2
          refine r_icmpR_eq (tgt := 487) hs d_L_law_206 (by decide) (fun c_206 => ?_) (fun c_206 => ?_)
          · exact E _ _ h2
          · exact absurd h1 c_206
        · refine r_lsw hk (tgt := 211) (j := 5) d_L_law_52 (by decide) rfl (by decide) ?_
          obtain ⟨dx, dm, PX, PM, hx1, hm1, cX, cM, hag⟩ := A5  fi ar fj br hR
          refine r_aload_n hs d_L_law_211 rfl rfl ?_
          refine r_lX hk cX kL_X_reverse hx1 (by decide) rfl (Nat.le_of_ble_eq_true rfl) d_L_law_212 (fun r f a hp => ?_)
          refine r_aload_n hs d_L_law_215 rfl rfl ?_
          refine r_lM hk cM kL_M_reverse hm1 (by decide) rfl (Nat.le_of_ble_eq_true rfl) d_L_law_216 (fun r2 f2 a2 hp2 => ?_)
          obtain ⟨h1, h2⟩ := hag _ _ _ _ _ _ hp hp2
          refine r_icmpR_eq (tgt := 487) hs d_L_law_219 (by decide) (fun c_219 => ?_) (fun c_219 => ?_)
          · exact E _ _ h2
          · exact absurd h1 c_219
        · refine r_lsw hk (tgt := 224) (j := 6) d_L_law_52 (by decide) rfl (by decide) ?_
          obtain ⟨dx, dm, PX, PM, hx1, hm1, cX, cM, hag⟩ := A6 (xs (i + 1)) fi ar fj br hR
          refine r_aload_n hs d_L_law_224 rfl rfl ?_
          refine r_aload_n hs d_L_law_225 rfl rfl ?_
          refine r_iload_n hs d_L_law_226 rfl rfl ?_
          refine r_iconst hs 1 d_L_law_227 (by decide) ?_
          refine r_iadd hs d_L_law_228 ?_
          refine r_sld hk (by omega) d_L_law_229 ?_
          refine r_lX hk cX kL_X_setLine hx1 (by decide) rfl (Nat.le_of_ble_eq_true rfl) d_L_law_230 (fun r f a hp => ?_)
          refine r_aload_n hs d_L_law_233 rfl rfl ?_
          refine r_aload_n hs d_L_law_234 rfl rfl ?_
          refine r_iload_n hs d_L_law_235 rfl rfl ?_
          refine r_iconst hs 1 d_L_law_236 (by decide) ?_
          refine r_iadd hs d_L_law_237 ?_
          refine r_sld hk (by omega) d_L_law_238 ?_
          refine r_lM hk cM kL_M_setLine hm1 (by decide) rfl (Nat.le_of_ble_eq_true rfl) d_L_law_239 (fun r2 f2 a2 hp2 => ?_)
          obtain ⟨h1, h2⟩ := hag _ _ _ _ _ _ hp hp2
          refine r_icmpR_eq (tgt := 487) hs d_L_law_242 (by decide) (fun c_242 => ?_) (fun c_242 => ?_)
          · exact E _ _ h2
          · exact absurd h1 c_242
        · refine r_lsw hk (tgt := 247) (j := 7) d_L_law_52 (by decide) rfl (by decide) ?_
          obtain ⟨dx, dm, PX, PM, hx1, hm1, cX, cM, hag⟩ := A7  fi ar fj br hR
          refine r_aload_n hs d_L_law_247 rfl rfl ?_
          refine r_lX hk cX kL_X_depth hx1 (by decide) rfl (Nat.le_of_ble_eq_true rfl) d_L_law_248 (fun r f a hp => ?_)
          refine r_aload_n hs d_L_law_251 rfl rfl ?_
          refine r_lM hk cM kL_M_depth hm1 (by decide) rfl (Nat.le_of_ble_eq_true rfl) d_L_law_252 (fun r2 f2 a2 hp2 => ?_)
          obtain ⟨h1, h2⟩ := hag _ _ _ _ _ _ hp hp2
          refine r_icmpR_eq (tgt := 487) hs d_L_law_255 (by decide) (fun c_255 => ?_) (fun c_255 => ?_)
          · exact E _ _ h2
          · exact absurd h1 c_255
        · refine r_lsw hk (tgt := 260) (j := 8) d_L_law_52 (by decide) rfl (by decide) ?_
          obtain ⟨dx, dm, PX, PM, hx1, hm1, cX, cM, hag⟩ := A8  fi ar fj br hR
          refine r_aload_n hs d_L_law_260 rfl rfl ?_
          refine r_lX hk cX kL_X_letters hx1 (by decide) rfl (Nat.le_of_ble_eq_true rfl) d_L_law_261 (fun r f a hp => ?_)
          refine r_aload_n hs d_L_law_264 rfl rfl ?_
          refine r_lM hk cM kL_M_letters hm1 (by decide) rfl (Nat.le_of_ble_eq_true rfl) d_L_law_265 (fun r2 f2 a2 hp2 => ?_)
          obtain ⟨h1, h2⟩ := hag _ _ _ _ _ _ hp hp2
          refine r_icmpR_eq (tgt := 487) hs d_L_law_268 (by decide) (fun c_268 => ?_) (fun c_268 => ?_)
          · exact E _ _ h2
          · exact absurd h1 c_268
        · refine r_lsw hk (tgt := 273) (j := 9) d_L_law_52 (by decide) rfl (by decide) ?_
          obtain ⟨dx, dm, PX, PM, hx1, hm1, cX, cM, hag⟩ := A9 (xs (i + 1)) fi ar fj br hR
          refine r_aload_n hs d_L_law_273 rfl rfl ?_
          refine r_aload_n hs d_L_law_274 rfl rfl ?_
          refine r_iload_n hs d_L_law_275 rfl rfl ?_
          refine r_iconst hs 1 d_L_law_276 (by decide) ?_
          refine r_iadd hs d_L_law_277 ?_
          refine r_sld hk (by omega) d_L_law_278 ?_
          refine r_lX hk cX kL_X_freeLine hx1 (by decide) rfl (Nat.le_of_ble_eq_true rfl) d_L_law_279 (fun r f a hp => ?_)
          refine r_aload_n hs d_L_law_282 rfl rfl ?_
          refine r_aload_n hs d_L_law_283 rfl rfl ?_
          refine r_iload_n hs d_L_law_284 rfl rfl ?_
          refine r_iconst hs 1 d_L_law_285 (by decide) ?_
          refine r_iadd hs d_L_law_286 ?_
          refine r_sld hk (by omega) d_L_law_287 ?_
          refine r_lM hk cM kL_M_freeLine hm1 (by decide) rfl (Nat.le_of_ble_eq_true rfl) d_L_law_288 (fun r2 f2 a2 hp2 => ?_)
          obtain ⟨h1, h2⟩ := hag _ _ _ _ _ _ hp hp2
          refine r_icmpR_eq (tgt := 487) hs d_L_law_291 (by decide) (fun c_291 => ?_) (fun c_291 => ?_)
          · exact E _ _ h2
          · exact absurd h1 c_291
        · refine r_lsw hk (tgt := 296) (j := 10) d_L_law_52 (by decide) rfl (by decide) ?_
          obtain ⟨dx, dm, PX, PM, hx1, hm1, cX, cM, hag⟩ := A10 (xs (i + 1)) (xs (i + 2)) (xs (i + 3)) fi ar fj br hR
          refine r_aload_n hs d_L_law_296 rfl rfl ?_
          refine r_aload_n hs d_L_law_297 rfl rfl ?_
          refine r_iload_n hs d_L_law_298 rfl rfl ?_
          refine r_iconst hs 1 d_L_law_299 (by decide) ?_
          refine r_iadd hs d_L_law_300 ?_
          refine r_sld hk (by omega) d_L_law_301 ?_
          refine r_aload_n hs d_L_law_302 rfl rfl ?_
          refine r_iload_n hs d_L_law_303 rfl rfl ?_
          refine r_iconst hs 2 d_L_law_304 (by decide) ?_
          refine r_iadd hs d_L_law_305 ?_
          refine r_sld hk (by omega) d_L_law_306 ?_
          refine r_aload_n hs d_L_law_307 rfl rfl ?_
          refine r_iload_n hs d_L_law_308 rfl rfl ?_
          refine r_iconst hs 3 d_L_law_309 (by decide) ?_
          refine r_iadd hs d_L_law_310 ?_
          refine r_sld hk (by omega) d_L_law_311 ?_
          refine r_lX hk cX kL_X_pin hx1 (by decide) rfl (Nat.le_of_ble_eq_true rfl) d_L_law_312 (fun r f a hp => ?_)
          refine r_aload_n hs d_L_law_315 rfl rfl ?_
          refine r_aload_n hs d_L_law_316 rfl rfl ?_
          refine r_iload_n hs d_L_law_317 rfl rfl ?_
          refine r_iconst hs 1 d_L_law_318 (by decide) ?_
          refine r_iadd hs d_L_law_319 ?_
          refine r_sld hk (by omega) d_L_law_320 ?_
          refine r_aload_n hs d_L_law_321 rfl rfl ?_
          refine r_iload_n hs d_L_law_322 rfl rfl ?_
          refine r_iconst hs 2 d_L_law_323 (by decide) ?_
          refine r_iadd hs d_L_law_324 ?_
          refine r_sld hk (by omega) d_L_law_325 ?_
          refine r_aload_n hs d_L_law_326 rfl rfl ?_
          refine r_iload_n hs d_L_law_327 rfl rfl ?_
          refine r_iconst hs 3 d_L_law_328 (by decide) ?_
          refine r_iadd hs d_L_law_329 ?_
          refine r_sld hk (by omega) d_L_law_330 ?_
          refine r_lM hk cM kL_M_pin hm1 (by decide) rfl (Nat.le_of_ble_eq_true rfl) d_L_law_331 (fun r2 f2 a2 hp2 => ?_)
          obtain ⟨h1, h2⟩ := hag _ _ _ _ _ _ hp hp2
          refine r_icmpR_eq (tgt := 487) hs d_L_law_334 (by decide) (fun c_334 => ?_) (fun c_334 => ?_)
          · exact E _ _ h2
          · exact absurd h1 c_334
        · refine r_lsw hk (tgt := 339) (j := 11) d_L_law_52 (by decide) rfl (by decide) ?_
          obtain ⟨dx, dm, PX, PM, hx1, hm1, cX, cM, hag⟩ := A11 (xs (i + 1)) (xs (i + 2)) fi ar fj br hR
          refine r_aload_n hs d_L_law_339 rfl rfl ?_
          refine r_aload_n hs d_L_law_340 rfl rfl ?_
          refine r_iload_n hs d_L_law_341 rfl rfl ?_
          refine r_iconst hs 1 d_L_law_342 (by decide) ?_
          refine r_iadd hs d_L_law_343 ?_
          refine r_sld hk (by omega) d_L_law_344 ?_
          refine r_aload_n hs d_L_law_345 rfl rfl ?_
          refine r_iload_n hs d_L_law_346 rfl rfl ?_
          refine r_iconst hs 2 d_L_law_347 (by decide) ?_
          refine r_iadd hs d_L_law_348 ?_
          refine r_sld hk (by omega) d_L_law_349 ?_
          refine r_lX hk cX kL_X_pinned hx1 (by decide) rfl (Nat.le_of_ble_eq_true rfl) d_L_law_350 (fun r f a hp => ?_)
          refine r_aload_n hs d_L_law_353 rfl rfl ?_
          refine r_aload_n hs d_L_law_354 rfl rfl ?_
          refine r_iload_n hs d_L_law_355 rfl rfl ?_
          refine r_iconst hs 1 d_L_law_356 (by decide) ?_
          refine r_iadd hs d_L_law_357 ?_
          refine r_sld hk (by omega) d_L_law_358 ?_
          refine r_aload_n hs d_L_law_359 rfl rfl ?_
          refine r_iload_n hs d_L_law_360 rfl rfl ?_
          refine r_iconst hs 2 d_L_law_361 (by decide) ?_
          refine r_iadd hs d_L_law_362 ?_
          refine r_sld hk (by omega) d_L_law_363 ?_
          refine r_lM hk cM kL_M_pinned hm1 (by decide) rfl (Nat.le_of_ble_eq_true rfl) d_L_law_364 (fun r2 f2 a2 hp2 => ?_)
          obtain ⟨h1, h2⟩ := hag _ _ _ _ _ _ hp hp2
          refine r_icmpR_eq (tgt := 487) hs d_L_law_367 (by decide) (fun c_367 => ?_) (fun c_367 => ?_)
          · exact E _ _ h2
          · exact absurd h1 c_367
        · refine r_lsw hk (tgt := 372) (j := 12) d_L_law_52 (by decide) rfl (by decide) ?_
          obtain ⟨dx, dm, PX, PM, hx1, hm1, cX, cM, hag⟩ := A12  fi ar fj br hR
          refine r_aload_n hs d_L_law_372 rfl rfl ?_
          refine r_lX hk cX kL_X_fillings hx1 (by decide) rfl (Nat.le_of_ble_eq_true rfl) d_L_law_373 (fun r f a hp => ?_)
          refine r_aload_n hs d_L_law_376 rfl rfl ?_
          refine r_lM hk cM kL_M_fillings hm1 (by decide) rfl (Nat.le_of_ble_eq_true rfl) d_L_law_377 (fun r2 f2 a2 hp2 => ?_)
          obtain ⟨h1, h2⟩ := hag _ _ _ _ _ _ hp hp2
          refine r_icmpR_eq (tgt := 487) hs d_L_law_380 (by decide) (fun c_380 => ?_) (fun c_380 => ?_)
          · exact E _ _ h2
          · exact absurd h1 c_380
        · refine r_lsw hk (tgt := 385) (j := 13) d_L_law_52 (by decide) rfl (by decide) ?_
          obtain ⟨dx, dm, PX, PM, hx1, hm1, cX, cM, hag⟩ := A13 (xs (i + 1)) fi ar fj br hR
          refine r_aload_n hs d_L_law_385 rfl rfl ?_
          refine r_aload_n hs d_L_law_386 rfl rfl ?_
          refine r_iload_n hs d_L_law_387 rfl rfl ?_
          refine r_iconst hs 1 d_L_law_388 (by decide) ?_
          refine r_iadd hs d_L_law_389 ?_
          refine r_sld hk (by omega) d_L_law_390 ?_
          refine r_lX hk cX kL_X_filling hx1 (by decide) rfl (Nat.le_of_ble_eq_true rfl) d_L_law_391 (fun r f a hp => ?_)
          refine r_aload_n hs d_L_law_394 rfl rfl ?_
          refine r_aload_n hs d_L_law_395 rfl rfl ?_
          refine r_iload_n hs d_L_law_396 rfl rfl ?_
          refine r_iconst hs 1 d_L_law_397 (by decide) ?_
          refine r_iadd hs d_L_law_398 ?_
          refine r_sld hk (by omega) d_L_law_399 ?_
          refine r_lM hk cM kL_M_filling hm1 (by decide) rfl (Nat.le_of_ble_eq_true rfl) d_L_law_400 (fun r2 f2 a2 hp2 => ?_)
          obtain ⟨h1, h2⟩ := hag _ _ _ _ _ _ hp hp2
          refine r_icmpR_eq (tgt := 487) hs d_L_law_403 (by decide) (fun c_403 => ?_) (fun c_403 => ?_)
          · exact E _ _ h2
          · exact absurd h1 c_403
        · refine r_lsw hk (tgt := 408) (j := 14) d_L_law_52 (by decide) rfl (by decide) ?_
          obtain ⟨dx, dm, PX, PM, hx1, hm1, cX, cM, hag⟩ := A14 (xs (i + 1)) fi ar fj br hR
          refine r_aload_n hs d_L_law_408 rfl rfl ?_
          refine r_aload_n hs d_L_law_409 rfl rfl ?_
          refine r_iload_n hs d_L_law_410 rfl rfl ?_
          refine r_iconst hs 1 d_L_law_411 (by decide) ?_
          refine r_iadd hs d_L_law_412 ?_
          refine r_sld hk (by omega) d_L_law_413 ?_
          refine r_lX hk cX kL_X_below hx1 (by decide) rfl (Nat.le_of_ble_eq_true rfl) d_L_law_414 (fun r f a hp => ?_)
          refine r_aload_n hs d_L_law_417 rfl rfl ?_
          refine r_aload_n hs d_L_law_418 rfl rfl ?_
          refine r_iload_n hs d_L_law_419 rfl rfl ?_
          refine r_iconst hs 1 d_L_law_420 (by decide) ?_
          refine r_iadd hs d_L_law_421 ?_
          refine r_sld hk (by omega) d_L_law_422 ?_
          refine r_lM hk cM kL_M_below hm1 (by decide) rfl (Nat.le_of_ble_eq_true rfl) d_L_law_423 (fun r2 f2 a2 hp2 => ?_)
          obtain ⟨h1, h2⟩ := hag _ _ _ _ _ _ hp hp2
          refine r_icmpR_eq (tgt := 487) hs d_L_law_426 (by decide) (fun c_426 => ?_) (fun c_426 => ?_)
          · exact E _ _ h2
          · exact absurd h1 c_426
        · refine r_lsw hk (tgt := 431) (j := 15) d_L_law_52 (by decide) rfl (by decide) ?_
          obtain ⟨dx, dm, PX, PM, hx1, hm1, cX, cM, hag⟩ := A15 (xs (i + 1)) (xs (i + 2)) fi ar fj br hR
          refine r_aload_n hs d_L_law_431 rfl rfl ?_
          refine r_aload_n hs d_L_law_432 rfl rfl ?_
          refine r_iload_n hs d_L_law_433 rfl rfl ?_
          refine r_iconst hs 1 d_L_law_434 (by decide) ?_
          refine r_iadd hs d_L_law_435 ?_
          refine r_sld hk (by omega) d_L_law_436 ?_
          refine r_aload_n hs d_L_law_437 rfl rfl ?_
          refine r_iload_n hs d_L_law_438 rfl rfl ?_
          refine r_iconst hs 2 d_L_law_439 (by decide) ?_
          refine r_iadd hs d_L_law_440 ?_
          refine r_sld hk (by omega) d_L_law_441 ?_
          refine r_lX hk cX kL_X_forced hx1 (by decide) rfl (Nat.le_of_ble_eq_true rfl) d_L_law_442 (fun r f a hp => ?_)
          refine r_aload_n hs d_L_law_445 rfl rfl ?_
          refine r_aload_n hs d_L_law_446 rfl rfl ?_
          refine r_iload_n hs d_L_law_447 rfl rfl ?_
          refine r_iconst hs 1 d_L_law_448 (by decide) ?_
          refine r_iadd hs d_L_law_449 ?_
          refine r_sld hk (by omega) d_L_law_450 ?_
          refine r_aload_n hs d_L_law_451 rfl rfl ?_
          refine r_iload_n hs d_L_law_452 rfl rfl ?_
          refine r_iconst hs 2 d_L_law_453 (by decide) ?_
          refine r_iadd hs d_L_law_454 ?_
          refine r_sld hk (by omega) d_L_law_455 ?_
          refine r_lM hk cM kL_M_forced hm1 (by decide) rfl (Nat.le_of_ble_eq_true rfl) d_L_law_456 (fun r2 f2 a2 hp2 => ?_)
          obtain ⟨h1, h2⟩ := hag _ _ _ _ _ _ hp hp2
          refine r_icmpR_eq (tgt := 487) hs d_L_law_459 (by decide) (fun c_459 => ?_) (fun c_459 => ?_)
          · exact E _ _ h2
          · exact absurd h1 c_459
        · refine r_lsw hk (tgt := 464) (j := 16) d_L_law_52 (by decide) rfl (by decide) ?_
          obtain ⟨dx, dm, PX, PM, hx1, hm1, cX, cM, hag⟩ := A16 (xs (i + 1)) fi ar fj br hR
          refine r_aload_n hs d_L_law_464 rfl rfl ?_
          refine r_aload_n hs d_L_law_465 rfl rfl ?_
          refine r_iload_n hs d_L_law_466 rfl rfl ?_
          refine r_iconst hs 1 d_L_law_467 (by decide) ?_
          refine r_iadd hs d_L_law_468 ?_
          refine r_sld hk (by omega) d_L_law_469 ?_
          refine r_lX hk cX kL_X_lineWords hx1 (by decide) rfl (Nat.le_of_ble_eq_true rfl) d_L_law_470 (fun r f a hp => ?_)
          refine r_aload_n hs d_L_law_473 rfl rfl ?_
          refine r_aload_n hs d_L_law_474 rfl rfl ?_
          refine r_iload_n hs d_L_law_475 rfl rfl ?_
          refine r_iconst hs 1 d_L_law_476 (by decide) ?_
          refine r_iadd hs d_L_law_477 ?_
          refine r_sld hk (by omega) d_L_law_478 ?_
          refine r_lM hk cM kL_M_lineWords hm1 (by decide) rfl (Nat.le_of_ble_eq_true rfl) d_L_law_479 (fun r2 f2 a2 hp2 => ?_)
          obtain ⟨h1, h2⟩ := hag _ _ _ _ _ _ hp hp2
          refine r_icmpR_eq (tgt := 487) hs d_L_law_482 (by decide) (fun c_482 => ?_) (fun c_482 => ?_)
          · exact E _ _ h2
          · exact absurd h1 c_482
      · refine r_lswO hk (hi := 16) (tgt := 487) d_L_law_52 (by omega) (by omega) (by decide) ?_
        exact E _ _ hR
end
section
/-! THE LAW FROM ITS ENTRY, over a relation Rel that holds at the start and that every pair of calls keeps -/
theorem g_cell : GoodIn lw_g (wsS "ExprCrosswordLaw" 9 y_L_cell (.code y_L_cell b_L_cell 2 (some .int) :: lw_g)) := by
  intro w hw
  refine lw_goodw ?_
  unfold wsS at hw
  rcases List.mem_append.mp hw with h | h
  · simp only [List.mem_cons, List.not_mem_nil, or_false] at h
    rcases h with rfl | rfl | rfl
    · exact lw_in ml_L_L_cell rfl
    · decide +kernel
    · exact lw_in mn_L rfl
  · rcases List.mem_cons.mp h with rfl | h
    · exact lw_in mc_L_cell rfl
    · exact h
def scv (L : Nat) (xs : Nat → Int32) (k : Nat) : Int32 := if k < L then xs k else 0
theorem c_L_cell (l : Launch) (b L : Nat) (xs : Nat → Int32) (k : Nat) (hL : L < 2 ^ 31) (hk : k < 2 ^ 31) : Met l y_L_cell (.code y_L_cell b_L_cell 2 (some .int) :: lw_g) ({ frames := 0, cells := 0, slots := 0, locals := 0 }) (va_Pc [.ref b, .int (nI k)] (fun U => va_X b L xs U U.heap ∧ b < U.heap.size)) (va_Qi (fun (r : Int32) (_ : Unit) => r = scv L xs k) (fun _ _ => True) (fun _ => False)) 0 0 (fun _ => False) := by
  refine Met.ofW (cc := b_L_cell) (maxL := 2) (ret := some .int) (by decide +kernel) rfl ?_
  intro p e s m args below meth cd s₁ B hml hv
  obtain ⟨rfl, hX, hbl⟩ := hv
  have hx := B.exec
  have hb := B.bytes
  have hr := B.returns
  have hlocks := B.notSynchronized
  have hS : va_S (fun _ => False) s.heap s.heap [] := va_S.rf
  have hl := lh_entry (vs := [.ref b, .int (nI k)]) (n := 2) (by simp [Value.category]) (Nat.le_of_ble_eq_true rfl)
  rw [lg_entry_eq]
  generalize (lg_sl [.ref b, .int (nI k)] ++ List.replicate (2 - (lg_sl [.ref b, .int (nI k)]).length) Slot.unset).toArray = ls at hl ⊢
  refine lv_iload_n hx hb d_L_cell_0 rfl (hl.2.2.1 1 _ rfl) ?_
  refine lv_aload_n hx hb d_L_cell_1 rfl (hl.2.2.1 0 _ rfl) ?_
  refine va_slen hx hb hX hbl (fun h => h) hS d_L_cell_2 ?_
  refine lv_icmp_ge (tgt := 12) hx hb d_L_cell_3 (by decide) (fun c => ?_) (fun c => ?_)
  · have h1 : L ≤ k := (nI_leI hL hk).mp c
    refine lv_iconst (v := 0) hx hb d_L_cell_12 (by decide) ?_
    exact W.iret (v := 0) hx hb hr (fun t ht hW => ⟨⟨0, (), rfl, by rw [scv, if_neg (by omega)], trivial⟩, hS.F ht⟩) hS.2.2 d_L_cell_13
  · have h1 : k < L := Nat.lt_of_not_le (fun q => c ((nI_leI hL hk).mpr q))
    refine lv_aload_n hx hb d_L_cell_6 rfl (hl.2.2.1 0 _ rfl) ?_
    refine lv_iload_n hx hb d_L_cell_7 rfl (hl.2.2.1 1 _ rfl) ?_
    refine va_sld hx hb hX hbl (fun h => h) hS (vp_in_nI h1 hL) d_L_cell_8 ?_
    rw [nI_clamp hk]
    refine lv_goto (tgt := 13) hx hb d_L_cell_9 (by decide) ?_
    exact W.iret (v := xs k) hx hb hr (fun t ht hW => ⟨⟨xs k, (), rfl, by rw [scv, if_pos h1], trivial⟩, hS.F ht⟩) hS.2.2 d_L_cell_13
section LS
variable {p : Program} {l : Launch} {e : Env} {s : State} {m : MethodId} {below : List Frame} {meth : Method} {cd : Code} {Q : State → Prop} {D : va_G} {b L : Nat} {xs : Nat → Int32}
theorem lw_cell (S : CallFix p m cd code 4 s #[Value.ref b] lw_g "ExprCrosswordLaw") (hX : va_X b L xs s s.heap) (hbl : b < s.heap.size) (hL : L < 2 ^ 31) {H : Heap} {locs : List Loc} {ws : va_W} {ls : Array Slot} {pc k cells slots : Nat} {rest : List Value} (hP : va_P D classes ws H) (hS : va_S (fun q : Nat => s.heap.size ≤ q) s.heap H locs) (hsz : ls.size = 4) (hk : k < 2 ^ 31) (hcat : (rest.map fun v => v.category).sum ≤ 8) (hd : decode code pc = .ok (.invokestatic 9, 3)) (hc1 : cells ≤ 27) (hc2 : slots ≤ 328)
    (kk : ∀ (H1 : Heap) (locs1 : List Loc), va_P D classes ws H1 → va_S (fun q : Nat => s.heap.size ≤ q) s.heap H1 locs1 → W p l e room_1 s m #[Value.ref b] below meth cd H1 locs1 cells slots Q (F0 m (pc + 3) ls (.int (scv L xs k) :: rest))) : W p l e room_1 s m #[Value.ref b] below meth cd H locs cells slots Q (F0 m pc ls (.int (nI k) :: .ref b :: rest)) := by
  obtain ⟨hx, hb, hml, hown, hts⟩ := id S
  refine va_calli (va_runS (As := [.ref b, .int (nI k)]) (rest := rest) S (c_L_cell l b L xs k hL hk) (cwS 2 hts g_cell rfl rfl rfl (by decide +kernel) ⟨Nat.le_of_ble_eq_true rfl, Nat.le_of_ble_eq_true rfl⟩) ⟨fun a U g mk q => by obtain ⟨q0, q1, q2⟩ := q; exact ⟨q0, va_X.moved (u := U) (U := U.calling g mk a) (Vm.Alike.refl U.vm) q1, q2⟩, fun U hU hW => ⟨rfl, by rw [hU]; exact (hX.kept (hS.2.1 b hbl (Nat.not_le.mpr hbl))).moved hW.alike, by rw [hU]; exact Nat.lt_of_lt_of_le hbl hS.1⟩⟩ rfl rfl hsz rfl (lv_room hcat) hd ⟨hc1, hc2⟩) hS (fun q _ h => h.elim) (fun q h => h.elim) (fun r u t H1 locs ht hvm hw hB hz1 hk1 hS => ?_)
  subst hw
  exact kk H1 locs (hP.kept (fun k q h => hk1 q.1 (hP k q h).lt (fun h => h))) hS
end LS
theorem g_init {c : Nat} {y : MethodName} {b : ByteArray} {nL i : Nat} (h : lw_tbl[i]? = some (.code y b nL none)) : GoodIn lw_g (.code y b nL none :: lw_g) := by
  intro w hw
  rcases List.mem_cons.mp hw with rfl | h'
  · exact lw_goodw (lw_in h rfl)
  · exact lw_goodw h'
theorem arr_known {s : State} {args : Array Value} {ty : FieldType} (hty : ty = .int ∨ ty = .boolean) (h : (Cond.arrayClass ty).before args s = true) : ∃ cA : ClassId, ArrOfT s cA ty ∧ va_RA s cA ty := by
  obtain ⟨cA, kA, comp, hf, hk, hkind⟩ := Cond.arrayClass_spec h
  refine ⟨cA, fun n z => ⟨fun k h => (by cases h), kA, hk, comp, hkind⟩, ?_⟩
  rcases hty with rfl | rfl <;> exact hf
theorem pF_def0 : ∀ j, j < 32 → defaultValue (t_X j) = vp_V (pF 0 0 (fun _ => 0)) j := by decide +kernel
theorem pF_def1 : ∀ j, j < 7 → defaultValue (t_M j) = vp_V (pF 1 0 (fun _ => 0)) j := by decide +kernel
set_option maxHeartbeats 4000000 in
/-- THE LAW, from its entry -/
theorem whole_of {p : Program} {e : Env} {s : State} {m : MethodId} {below : List Frame} {meth : Method} {c : Code} (l : Launch) {b L : Nat} {xs : Nat → Int32} (hL : L ≤ 2050) (C0 : lw_At p s m meth c b L xs) (Rel : St → St → Prop) (hAg : AgreeAll l Rel) (hR0 : ∀ R C, 1 ≤ R → R ≤ 3 → 1 ≤ C → C ≤ 4 → Rel (fX0 R C, aX0 R C) (fM0 R C, qP 12)) : W p l e room_1 s m #[Value.ref b] below meth c s.heap [] 0 0 (lw_Z below #[Value.ref b] s) (entryFrame m ([Value.ref b] : List Value).toArray 4) := by
  obtain ⟨hx, hb, hr, hml, hown, hts0, hX, hbl, hlocks, hgv⟩ := id C0
  have hts : ∀ w ∈ lw_g, w.before #[Value.ref b] s = true := fun w hw => hts0 w (List.mem_filter.mp hw).1
  have S : CallFix p m c code 4 s #[Value.ref b] lw_g "ExprCrosswordLaw" := ⟨hx, hb, hml, hown, hts⟩
  have hA : ∀ q : Nat, s.heap.size ≤ q → (fun q : Nat => s.heap.size ≤ q) q := fun _ h => h
  obtain ⟨c0, iS0, hKn0⟩ := u_known (C := R_X) (T := F_X) (N := 32) (n := 32) hts i_X (hts (.instantiable "ExprCrossword" 32) (by decide +kernel))
  obtain ⟨c1, iS1, hKn1⟩ := u_known (C := R_M) (T := F_M) (N := 7) (n := 7) hts i_M (hts (.instantiable "ExprCrosswordModel" 7) (by decide +kernel))
  obtain ⟨cI, hI1, hI2⟩ := arr_known (Or.inl rfl) (hts (.arrayClass .int) (by decide +kernel))
  obtain ⟨cZ, hZ1, hZ2⟩ := arr_known (Or.inr rfl) (hts (.arrayClass .boolean) (by decide +kernel))
  obtain ⟨dC, dI, hKc⟩ : ∃ (dC : Nat → ClassId) (dI : Nat → Nat → Nat), ∀ (k : Nat) (q : vw_C), classes[k]? = some q → u_Kn s q.1 q.2.1 q.2.2 (dC k) (dI k) := by
    refine ⟨fun k => if k = 0 then c0 else c1, fun k => if k = 0 then iS0 else iS1, ?_⟩
    intro k q hq
    match k, hq with
    | 0, hq => cases hq; exact hKn0
    | 1, hq => cases hq; exact hKn1
    | k + 2, hq => simp [classes] at hq
  have hK : va_K (dC, dI) classes (oT cI cZ) s := ⟨hKc, fun k q h => by
    match k, h with
    | 0, h => cases h; exact ⟨hI1, hI2⟩
    | 1, h => cases h; exact ⟨hZ1, hZ2⟩
    | k + 2, h => simp [oT] at h⟩
  have hS : va_S (fun q : Nat => s.heap.size ≤ q) s.heap s.heap [] := va_S.rf
  have hP : va_P (dC, dI) classes [] s.heap := fun k q h => by simp at h
  have hD : va_D (fun q : Nat => s.heap.size ≤ q) [] := ⟨fun i j p q h => by simp at h, fun k q h => by simp at h⟩
  have hl := lh_entry (vs := [.ref b]) (n := 4) (by simp [Value.category]) (Nat.le_of_ble_eq_true rfl)
  rw [lg_entry_eq]
  generalize (lg_sl [.ref b] ++ List.replicate (4 - (lg_sl [.ref b]).length) Slot.unset).toArray = ls at hl ⊢
  -- new ExprCrossword
  refine va_new (ci := 0) (fs := pF 0 0 (fun _ => 0)) (C := R_X) (T := F_X) (N := 32) hx hb hts i_X t_X t_X_ok hown (hts (.classLink "ExprCrosswordLaw" 7 "ExprCrossword") (by decide +kernel)) (hts (.instantiable "ExprCrossword" 32) (by decide +kernel)) (hts (.initialized "ExprCrossword") (by decide +kernel)) hK hP hD hS hA rfl pF_def0 (by decide) (by decide) d_L_law_0 (fun qX H hP hD hS => ?_)
  have hP : va_P (dC, dI) classes [(qX, .inr (0, pF 0 0 (fun _ => 0)))] H := hP
  have hD : va_D (fun q : Nat => s.heap.size ≤ q) [(qX, .inr (0, pF 0 0 (fun _ => 0)))] := hD
  refine W.widen (k := 1) (n := 32) (by decide) (by decide) ?_
  refine lv_dup hx hb d_L_law_3 rfl ?_
  refine lv_aload_n hx hb d_L_law_4 rfl (hl.2.2.1 0 _ rfl) ?_
  refine lv_iconst (v := nI 0) hx hb d_L_law_5 (by decide) ?_
  refine lw_cell S hX hbl (by omega) hP hS hl.1 (by decide) (Nat.le_of_ble_eq_true rfl) d_L_law_6 (by decide) (by decide) (fun H locs hP hS => ?_)
  refine lv_aload_n hx hb d_L_law_9 rfl (hl.2.2.1 0 _ rfl) ?_
  refine lv_iconst (v := nI 1) hx hb d_L_law_10 (by decide) ?_
  refine lw_cell S hX hbl (by omega) hP hS hl.1 (by decide) (Nat.le_of_ble_eq_true rfl) d_L_law_11 (by decide) (by decide) (fun H locs hP hS => ?_)
  have hFc : ∀ q, va_A [(qX, .inr (0, pF 0 0 (fun _ => 0)))] H.size q → s.heap.size ≤ q := by
    rintro q (⟨k, e, hk⟩ | hz)
    · exact hD.2 k _ hk
    · exact Nat.le_trans hS.1 hz
  refine va_callv (va_runI (As := [.int (scv L xs 0), .int (scv L xs 1)]) (rest := [.ref qX]) S (c_X_init l (scv L xs 0) (scv L xs 1) (dC, dI) cI cZ qX H.size) (cwI 2 hts (g_init (c := 0) mc_X_init) rfl rfl rfl (hts (.initialized "ExprCrossword") (by decide +kernel)) (hts _ (lw_in ml_L_X_init rfl)) (hts _ (lw_in mi_X_init rfl)) rfl (by decide +kernel) ⟨Nat.le_of_ble_eq_true rfl, Nat.le_of_ble_eq_true rfl⟩) ⟨fun a U g mk q => by obtain ⟨q0, q1, qP, qK, qD⟩ := q; exact ⟨q0, q1, qP, va_K.moved (u := U) (U := U.calling g mk a) (Vm.Alike.refl U.vm) qK, qD⟩, fun U hU hW => ⟨rfl, by rw [hU], by rw [hU]; exact hP, va_K.moved hW.alike hK, hD.weaken (fun _ _ _ _ => trivial)⟩⟩ rfl rfl hl.1 rfl (lv_room (Nat.le_of_ble_eq_true rfl)) d_L_law_14 ⟨by decide, by decide⟩) hS (fun q _ h => hFc q h) hFc (fun u t H1 locs ht hvm hw hB hz1 hk1 hS => ?_)
  obtain ⟨adX, fX, aX⟩ := u
  obtain ⟨rfl, rfl⟩ := hw
  obtain ⟨hP1, hK1, hD1⟩ := hB
  rw [ht] at hP1
  have hD1 := hD1.weaken (fun _ _ _ h => hFc _ h)
  clear hP hD
  have hP : va_P (dC, dI) classes (ow cI cZ 0 qX adX (fX0 (clp (scv L xs 0) 3) (clp (scv L xs 1) 4)) (aX0 (clp (scv L xs 0) 3) (clp (scv L xs 1) 4))) H1 := hP1
  have hD : va_D (fun q : Nat => s.heap.size ≤ q) (ow cI cZ 0 qX adX (fX0 (clp (scv L xs 0) 3) (clp (scv L xs 1) 4)) (aX0 (clp (scv L xs 0) 3) (clp (scv L xs 1) 4))) := hD1
  refine W.widen (k := 22) (n := 290) (by decide +kernel) (by decide +kernel) ?_
  refine lv_astore_n hx hb d_L_law_17 rfl (lh_has hl) (by decide) rfl (fun ls h' => ?_)
  replace hl := lh_store hl (Nat.le_of_ble_eq_true rfl) rfl h'
  -- new ExprCrosswordModel
  refine va_new (ci := 1) (fs := pF 1 0 (fun _ => 0)) (C := R_M) (T := F_M) (N := 7) hx hb hts i_M t_M t_M_ok hown (hts (.classLink "ExprCrosswordLaw" 18 "ExprCrosswordModel") (by decide +kernel)) (hts (.instantiable "ExprCrosswordModel" 7) (by decide +kernel)) (hts (.initialized "ExprCrosswordModel") (by decide +kernel)) hK hP hD hS hA rfl pF_def1 (by decide) (by decide) d_L_law_18 (fun qM H hP hD hS => ?_)
  refine W.widen (k := 23) (n := 297) (by decide) (by decide) ?_
  refine lv_dup hx hb d_L_law_21 rfl ?_
  refine lv_aload_n hx hb d_L_law_22 rfl (hl.2.2.1 0 _ rfl) ?_
  refine lv_iconst (v := nI 0) hx hb d_L_law_23 (by decide) ?_
  refine lw_cell S hX hbl (by omega) hP hS hl.1 (by decide) (Nat.le_of_ble_eq_true rfl) d_L_law_24 (by decide) (by decide) (fun H locs hP hS => ?_)
  refine lv_aload_n hx hb d_L_law_27 rfl (hl.2.2.1 0 _ rfl) ?_
  refine lv_iconst (v := nI 1) hx hb d_L_law_28 (by decide) ?_
  refine lw_cell S hX hbl (by omega) hP hS hl.1 (by decide) (Nat.le_of_ble_eq_true rfl) d_L_law_29 (by decide) (by decide) (fun H locs hP hS => ?_)
  obtain ⟨hPx, hPm, hDx, hDm, hdj⟩ := wl_split hP hD
  have hFc : ∀ q, va_A [(qM, .inr (1, pF 1 0 (fun _ => 0)))] H.size q → s.heap.size ≤ q := by
    rintro q (⟨k, e, hk⟩ | hz)
    · exact hDm.2 k _ hk
    · exact Nat.le_trans hS.1 hz
  refine va_callv (va_runI (As := [.int (scv L xs 0), .int (scv L xs 1)]) (rest := [.ref qM]) S (c_M_init l (scv L xs 0) (scv L xs 1) (dC, dI) cI cZ qM H.size) (cwI 2 hts (g_init (c := 1) mc_M_init) rfl rfl rfl (hts (.initialized "ExprCrosswordModel") (by decide +kernel)) (hts _ (lw_in ml_L_M_init rfl)) (hts _ (lw_in mi_M_init rfl)) rfl (by decide +kernel) ⟨Nat.le_of_ble_eq_true rfl, Nat.le_of_ble_eq_true rfl⟩) ⟨fun a U g mk q => by obtain ⟨q0, q1, qP, qK, qD⟩ := q; exact ⟨q0, q1, qP, va_K.moved (u := U) (U := U.calling g mk a) (Vm.Alike.refl U.vm) qK, qD⟩, fun U hU hW => ⟨rfl, by rw [hU], by rw [hU]; exact hPm, va_K.moved hW.alike hK, hDm.weaken (fun _ _ _ _ => trivial)⟩⟩ rfl rfl hl.1 rfl (lv_room (Nat.le_of_ble_eq_true rfl)) d_L_law_32 ⟨by decide +kernel, by decide +kernel⟩) hS (fun q _ h => hFc q h) hFc (fun u t H1 locs ht hvm hw hB hz1 hk1 hS => ?_)
  obtain ⟨adM, fM, aM⟩ := u
  obtain ⟨rfl, rfl⟩ := hw
  obtain ⟨hP1, hK1, hD1⟩ := hB
  rw [ht] at hP1
  obtain ⟨j1, j2, j3⟩ := wl_join hPx hDx (fun i j p q h1 h2 h3 => hdj j i q p h2 h1 h3.symm) hk1 hP1 hD1 hFc
  refine W.widen (k := 27) (n := 328) (by decide +kernel) (by decide +kernel) ?_
  refine lv_astore_n hx hb d_L_law_35 rfl (lh_has hl) (by decide) rfl (fun ls h' => ?_)
  replace hl := lh_store hl (Nat.le_of_ble_eq_true rfl) rfl h'
  refine lv_iconst (v := nI 2) hx hb d_L_law_36 (by decide) ?_
  refine lv_istore_n hx hb d_L_law_37 rfl (lh_has hl) (by decide) rfl (fun ls h' => ?_)
  replace hl := lh_store hl (Nat.le_of_ble_eq_true rfl) rfl h'
  have hcl : ∀ (x : Int32) (n : Nat), 1 ≤ n → n ≤ 4 → 1 ≤ clp x n ∧ clp x n ≤ n := by
    intro x n h1 h4
    unfold clp
    split
    · exact ⟨Nat.le_refl 1, h1⟩
    · next hx1 =>
      split
      · exact ⟨h1, Nat.le_refl n⟩
      · next hx2 =>
        have hn0 : ¬ x < 0 := fun h => hx1 (Int32.lt_of_lt_of_le h (by decide))
        obtain ⟨j, hj, rfl⟩ := nI_of hn0
        rw [nI_clamp hj]
        have a1 : 1 ≤ j := (nI_leI (by decide) hj).mp (Int32.not_lt.mp hx1)
        have a2 : j ≤ n := (nI_leI hj (by omega)).mp (Int32.not_lt.mp hx2)
        exact ⟨a1, a2⟩
  obtain ⟨r1, r2⟩ := hcl (scv L xs 0) 3 (by decide) (by decide)
  obtain ⟨r3, r4⟩ := hcl (scv L xs 1) 4 (by decide) (by decide)
  have hko : OkL l b L xs qX qM adX adM _ := ⟨p, e, s, m, below, meth, c, (dC, dI), cI, cZ, S, hK, hX, hbl, by omega, hr, hlocks, rfl⟩
  exact law_loop hko hL hAg (L + 4) 2 _ _ (by omega) (by omega) (hR0 _ _ r1 r2 r3 r4) H1 locs ls ⟨j1.app hP1, hDx.app j2 (fun i j p q h1 h2 h3 => j3 j i q p h2 h1 h3.symm), hS⟩ hl
end
section
/-! PURE: sets of words as numbers (the reference's products, chains, mirrors) -/
theorem bit_iff (x p : Nat) : x >>> p &&& 1 = 1 ↔ x.testBit p = true := by
  rw [Nat.and_one_is_mod, Nat.shiftRight_eq_div_pow, Nat.testBit_eq_decide_div_mod_eq, decide_eq_true_iff]
theorem bit_val (x p : Nat) : x >>> p &&& 1 = if x.testBit p then 1 else 0 := by
  have h1 : x >>> p &&& 1 ≤ 1 := Nat.and_le_right
  by_cases h : x.testBit p = true
  · rw [if_pos h]
    exact (bit_iff x p).mpr h
  · rw [if_neg h]
    have h2 : ¬ (x >>> p &&& 1 = 1) := fun q => h ((bit_iff x p).mp q)
    omega
def wn (n b : Nat) : Nat := 1 <<< n - 1 + b
theorem hol_iff {s n b : Nat} : hol s n b ↔ s.testBit (wn n b) = true := bit_iff _ _
theorem wrd_bit {n b k : Nat} : (wrd n b).testBit k = true ↔ k = wn n b := by
  unfold wrd wn
  rw [Nat.one_shiftLeft (1 <<< n - 1 + b), Nat.testBit_two_pow, decide_eq_true_iff]
  exact eq_comm
theorem wn_inj {n b n' b' : Nat} (hb : b < 1 <<< n) (hb' : b' < 1 <<< n') (h : wn n b = wn n' b') : n = n' ∧ b = b' := by
  unfold wn at h
  rw [Nat.one_shiftLeft] at hb hb' h
  rw [Nat.one_shiftLeft] at h
  have p1 := Nat.two_pow_pos n
  have p2 := Nat.two_pow_pos n'
  have key : ∀ a c : Nat, a < c → 2 ^ a * 2 ≤ 2 ^ c := fun a c h => by
    rw [← Nat.pow_succ]
    exact Nat.pow_le_pow_right (by decide) h
  rcases Nat.lt_trichotomy n n' with h1 | h1 | h1
  · have := key _ _ h1
    omega
  · subst h1
    exact ⟨rfl, by omega⟩
  · have := key _ _ h1
    omega
theorem splB_iff {x y least n b : Nat} : splB x y least n b = true ↔ ∃ p, least ≤ p ∧ p ≤ n ∧ splP x y n b p := by
  constructor
  · intro h
    unfold splB at h
    rw [List.any_eq_true] at h
    obtain ⟨p, h1, h2⟩ := h
    have h2 := of_decide_eq_true h2
    exact ⟨p, h2.1, by have := List.mem_range.mp h1; omega, h2.2⟩
  · rintro ⟨p, h1, h2, h3⟩
    exact splB_t h1 h2 h3
theorem proI_bit {x y n s : Nat} (B k : Nat) : (proI x y n s B).testBit k = true ↔ s.testBit k = true ∨ ∃ b, b < B ∧ splB x y 0 n b = true ∧ k = wn n b := by
  induction B with
  | zero =>
    rw [proI]
    constructor
    · exact Or.inl
    · rintro (h | ⟨b, h, -⟩)
      · exact h
      · omega
  | succ B ih =>
    rw [proI]
    split
    · next hc =>
      rw [Nat.testBit_or, Bool.or_eq_true, ih, wrd_bit]
      constructor
      · rintro ((h | ⟨b, h1, h2⟩) | h)
        · exact Or.inl h
        · exact Or.inr ⟨b, by omega, h2⟩
        · exact Or.inr ⟨B, by omega, hc, h⟩
      · rintro (h | ⟨b, h1, h2, h3⟩)
        · exact Or.inl (Or.inl h)
        · by_cases hb : b = B
          · subst hb; exact Or.inr h3
          · exact Or.inl (Or.inr ⟨b, by omega, h2, h3⟩)
    · next hc =>
      rw [ih]
      constructor
      · rintro (h | ⟨b, h1, h2⟩)
        · exact Or.inl h
        · exact Or.inr ⟨b, by omega, h2⟩
      · rintro (h | ⟨b, h1, h2, h3⟩)
        · exact Or.inl h
        · by_cases hb : b = B
          · subst hb; exact absurd h2 hc
          · exact Or.inr ⟨b, by omega, h2, h3⟩
theorem proO_bit {x y : Nat} (N k : Nat) : (proO x y N).testBit k = true ↔ ∃ n, n < N ∧ ∃ b, b < 1 <<< n ∧ splB x y 0 n b = true ∧ k = wn n b := by
  induction N with
  | zero =>
    rw [proO]
    simp
  | succ N ih =>
    rw [proO, proI_bit, ih]
    constructor
    · rintro (⟨n, h1, h2⟩ | h)
      · exact ⟨n, by omega, h2⟩
      · exact ⟨N, by omega, h⟩
    · rintro ⟨n, h1, h2⟩
      by_cases hn : n = N
      · subst hn; exact Or.inr h2
      · exact Or.inl ⟨n, by omega, h2⟩
theorem hol_pro {x y n b : Nat} (hn : n ≤ 4) (hb : b < 1 <<< n) : hol (proO x y 5) n b ↔ ∃ p, p ≤ n ∧ splP x y n b p := by
  rw [hol_iff, proO_bit]
  constructor
  · rintro ⟨n', h1, b', h2, h3, h4⟩
    obtain ⟨rfl, rfl⟩ := wn_inj hb h2 h4
    obtain ⟨p, -, h5, h6⟩ := splB_iff.mp h3
    exact ⟨p, h5, h6⟩
  · rintro ⟨p, h1, h2⟩
    exact ⟨n, by omega, b, hb, splB_t (Nat.zero_le _) h1 h2, rfl⟩
theorem mrsI_bit {x n s : Nat} (B k : Nat) : (mrsI x n s B).testBit k = true ↔ s.testBit k = true ∨ ∃ b, b < B ∧ hol x n (mirP b n) ∧ k = wn n b := by
  induction B with
  | zero =>
    rw [mrsI]
    constructor
    · exact Or.inl
    · rintro (h | ⟨b, h, -⟩)
      · exact h
      · omega
  | succ B ih =>
    rw [mrsI]
    split
    · next hc =>
      rw [Nat.testBit_or, Bool.or_eq_true, ih, wrd_bit]
      constructor
      · rintro ((h | ⟨b, h1, h2⟩) | h)
        · exact Or.inl h
        · exact Or.inr ⟨b, by omega, h2⟩
        · exact Or.inr ⟨B, by omega, hc, h⟩
      · rintro (h | ⟨b, h1, h2, h3⟩)
        · exact Or.inl (Or.inl h)
        · by_cases hb : b = B
          · subst hb; exact Or.inr h3
          · exact Or.inl (Or.inr ⟨b, by omega, h2, h3⟩)
    · next hc =>
      rw [ih]
      constructor
      · rintro (h | ⟨b, h1, h2⟩)
        · exact Or.inl h
        · exact Or.inr ⟨b, by omega, h2⟩
      · rintro (h | ⟨b, h1, h2, h3⟩)
        · exact Or.inl h
        · by_cases hb : b = B
          · subst hb; exact absurd h2 hc
          · exact Or.inr ⟨b, by omega, h2, h3⟩
theorem mrsO_bit {x : Nat} (N k : Nat) : (mrsO x N).testBit k = true ↔ ∃ n, n < N ∧ ∃ b, b < 1 <<< n ∧ hol x n (mirP b n) ∧ k = wn n b := by
  induction N with
  | zero =>
    rw [mrsO]
    simp
  | succ N ih =>
    rw [mrsO, mrsI_bit, ih]
    constructor
    · rintro (⟨n, h1, h2⟩ | h)
      · exact ⟨n, by omega, h2⟩
      · exact ⟨N, by omega, h⟩
    · rintro ⟨n, h1, h2⟩
      by_cases hn : n = N
      · subst hn; exact Or.inr h2
      · exact Or.inl ⟨n, by omega, h2⟩
theorem hol_mrs {x n b : Nat} (hn : n ≤ 4) (hb : b < 1 <<< n) : hol (mrsO x 5) n b ↔ hol x n (mirP b n) := by
  rw [hol_iff, mrsO_bit]
  constructor
  · rintro ⟨n', h1, b', h2, h3, h4⟩
    obtain ⟨rfl, rfl⟩ := wn_inj hb h2 h4
    exact h3
  · intro h
    exact ⟨n, by omega, b, hb, h, rfl⟩
/-- the chains are any language A of words that is: the empty word, and a word of x with a letter at least, and a chain behind it -/
theorem chaO_bit {x : Nat} (A : Nat → Nat → Prop) (h0 : A 0 0) (hS : ∀ n b, 1 ≤ n → n ≤ 4 → b < 1 <<< n → (A n b ↔ ∃ p, 1 ≤ p ∧ p ≤ n ∧ hol x p (b >>> (n - p)) ∧ A (n - p) (b &&& (1 <<< (n - p) - 1)))) : ∀ N, N ≤ 4 → ∀ k, (chaO x N).testBit k = true ↔ ∃ n, n ≤ N ∧ ∃ b, b < 1 <<< n ∧ A n b ∧ k = wn n b := by
  intro N
  induction N with
  | zero =>
    intro _ k
    rw [chaO, show (1 : Nat) = 2 ^ 0 from rfl, Nat.testBit_two_pow, decide_eq_true_iff]
    constructor
    · rintro rfl
      exact ⟨0, Nat.le_refl 0, 0, by decide, h0, rfl⟩
    · rintro ⟨n, h1, b, h2, h3, h4⟩
      obtain rfl : n = 0 := by omega
      have hb : b = 0 := by
        have : (1 : Nat) <<< 0 = 1 := rfl
        omega
      subst hb
      exact h4.symm
  | succ N ih =>
    intro hN
    have ih := ih (by omega)
    have key : ∀ B, B ≤ 1 <<< (N + 1) → ∀ k, (chaI x (N + 1) (chaO x N) B).testBit k = true ↔ (chaO x N).testBit k = true ∨ ∃ b, b < B ∧ A (N + 1) b ∧ k = wn (N + 1) b := by
      intro B
      induction B with
      | zero =>
        intro _ k
        rw [chaI]
        constructor
        · exact Or.inl
        · rintro (h | ⟨b, h, -⟩)
          · exact h
          · omega
      | succ B ihB =>
        intro hB k
        have ihB := ihB (by omega)
        have hlow : ∀ m c, m ≤ N → c < 1 <<< m → (hol (chaI x (N + 1) (chaO x N) B) m c ↔ A m c) := by
          intro m c hm hc
          rw [hol_iff, ihB, ih]
          constructor
          · rintro (⟨n, h1, b, h2, h3, h4⟩ | ⟨b, h1, h2, h3⟩)
            · obtain ⟨rfl, rfl⟩ := wn_inj hc h2 h4
              exact h3
            · have := (wn_inj hc (show b < 1 <<< (N + 1) by omega) h3).1
              omega
          · intro h
            exact Or.inl ⟨m, hm, c, hc, h, rfl⟩
        have hcond : splB x (chaI x (N + 1) (chaO x N) B) 1 (N + 1) B = true ↔ A (N + 1) B := by
          rw [splB_iff, hS (N + 1) B (by omega) hN (by omega)]
          constructor
          · rintro ⟨p, h1, h2, h3, h4⟩
            exact ⟨p, h1, h2, h3, (hlow _ _ (by omega) (msk_in _ _)).mp h4⟩
          · rintro ⟨p, h1, h2, h3, h4⟩
            exact ⟨p, h1, h2, h3, (hlow _ _ (by omega) (msk_in _ _)).mpr h4⟩
        rw [chaI]
        split
        · next hc =>
          rw [Nat.testBit_or, Bool.or_eq_true, ihB, wrd_bit]
          constructor
          · rintro ((h | ⟨b, h1, h2⟩) | h)
            · exact Or.inl h
            · exact Or.inr ⟨b, by omega, h2⟩
            · exact Or.inr ⟨B, by omega, hcond.mp hc, h⟩
          · rintro (h | ⟨b, h1, h2, h3⟩)
            · exact Or.inl (Or.inl h)
            · by_cases hb : b = B
              · subst hb; exact Or.inr h3
              · exact Or.inl (Or.inr ⟨b, by omega, h2, h3⟩)
        · next hc =>
          rw [ihB]
          constructor
          · rintro (h | ⟨b, h1, h2⟩)
            · exact Or.inl h
            · exact Or.inr ⟨b, by omega, h2⟩
          · rintro (h | ⟨b, h1, h2, h3⟩)
            · exact Or.inl h
            · by_cases hb : b = B
              · subst hb; exact absurd (hcond.mpr h2) hc
              · exact Or.inr ⟨b, by omega, h2, h3⟩
    intro k
    rw [chaO, key _ (Nat.le_refl _), ih]
    constructor
    · rintro (⟨n, h1, h2⟩ | h)
      · exact ⟨n, by omega, h2⟩
      · exact ⟨N + 1, by omega, h⟩
    · rintro ⟨n, h1, h2⟩
      by_cases hn : n = N + 1
      · subst hn; exact Or.inr h2
      · exact Or.inl ⟨n, by omega, h2⟩
theorem hol_cha {x : Nat} (A : Nat → Nat → Prop) (h0 : A 0 0) (hS : ∀ n b, 1 ≤ n → n ≤ 4 → b < 1 <<< n → (A n b ↔ ∃ p, 1 ≤ p ∧ p ≤ n ∧ hol x p (b >>> (n - p)) ∧ A (n - p) (b &&& (1 <<< (n - p) - 1)))) {n b : Nat} (hn : n ≤ 4) (hb : b < 1 <<< n) : hol (chaO x 4) n b ↔ A n b := by
  rw [hol_iff, chaO_bit A h0 hS 4 (by omega)]
  constructor
  · rintro ⟨n', h1, b', h2, h3, h4⟩
    obtain ⟨rfl, rfl⟩ := wn_inj hb h2 h4
    exact h3
  · intro h
    exact ⟨n, hn, b, hb, h, rfl⟩
/-- the letter of the word b with m letters behind it -/
def lt (b m : Nat) : Nat := b >>> m &&& 1
theorem lt_le (b m : Nat) : lt b m ≤ 1 := Nat.and_le_right
theorem lt_shr (b r m : Nat) : lt (b >>> r) m = lt b (r + m) := by
  unfold lt
  rw [← Nat.shiftRight_add]
theorem lt_msk {b r m : Nat} (h : m < r) : lt (b &&& (1 <<< r - 1)) m = lt b m := by
  unfold lt
  rw [Nat.one_shiftLeft, bit_val, bit_val, Nat.testBit_and, Nat.testBit_two_pow_sub_one]
  simp [h]
theorem mirP_lt1 (b : Nat) : ∀ n i, i < n → lt (mirP b n) (n - 1 - i) = lt b i := by
  intro n
  induction n with
  | zero => intro i h; omega
  | succ n ih =>
    intro i hi
    have e : b >>> n &&& 1 = lt b n := rfl
    have hle := lt_le b n
    rw [mirP, e]
    by_cases h : i = n
    · subst h
      unfold lt at hle ⊢
      rw [show i + 1 - 1 - i = 0 by omega, Nat.shiftRight_zero, Nat.and_one_is_mod]
      omega
    · have := ih i (by omega)
      rw [← this, show n + 1 - 1 - i = (n - 1 - i) + 1 by omega]
      unfold lt
      rw [Nat.shiftRight_succ_inside]
      congr 2
      unfold lt at hle
      omega
end
section
/-! PURE: machines of places. fin G Kv L w n p: from the place p (8: no letter read yet) the n letters w (n-1), .., w 0 lead to an end -/
def fin (G : Nat → Nat → Prop) (Kv : Nat → Nat → Prop) (L : Nat → Prop) (w : Nat → Nat) : Nat → Nat → Prop
  | 0, p => L p
  | n + 1, p => ∃ q, q < 8 ∧ G p q ∧ Kv (w n) q ∧ fin G Kv L w n q
theorem fin_w {G Kv : Nat → Nat → Prop} {L : Nat → Prop} {w w' : Nat → Nat} : ∀ (n : Nat), (∀ m, m < n → w m = w' m) → ∀ p, fin G Kv L w n p ↔ fin G Kv L w' n p := by
  intro n
  induction n with
  | zero => intro _ p; exact Iff.rfl
  | succ n ih =>
    intro h p
    have ih := ih (fun m hm => h m (by omega))
    simp only [fin]
    rw [h n (by omega)]
    constructor
    · rintro ⟨q, h1, h2, h3, h4⟩
      exact ⟨q, h1, h2, h3, (ih q).mp h4⟩
    · rintro ⟨q, h1, h2, h3, h4⟩
      exact ⟨q, h1, h2, h3, (ih q).mpr h4⟩
theorem fin_sub {G G' Kv Kv' : Nat → Nat → Prop} {L L' : Nat → Prop} {w : Nat → Nat} {S : Nat → Prop} (hG : ∀ p q, S p → q < 8 → (G p q ↔ G' p q)) (hcl : ∀ p q, S p → q < 8 → G p q → S q) (hK : ∀ v q, S q → q < 8 → (Kv v q ↔ Kv' v q)) (hL : ∀ p, S p → (L p ↔ L' p)) : ∀ n p, S p → (fin G Kv L w n p ↔ fin G' Kv' L' w n p) := by
  intro n
  induction n with
  | zero => intro p hp; exact hL p hp
  | succ n ih =>
    intro p hp
    simp only [fin]
    constructor
    · rintro ⟨q, h1, h2, h3, h4⟩
      have hq := hcl p q hp h1 h2
      exact ⟨q, h1, (hG p q hp h1).mp h2, (hK _ q hq h1).mp h3, (ih q hq).mp h4⟩
    · rintro ⟨q, h1, h2, h3, h4⟩
      have h2' := (hG p q hp h1).mpr h2
      have hq := hcl p q hp h1 h2'
      exact ⟨q, h1, h2', (hK _ q hq h1).mpr h3, (ih q hq).mpr h4⟩
theorem fin_cat {Gx Gy G' Kv : Nat → Nat → Prop} {Lx Ly L' : Nat → Prop} {w : Nat → Nat} {X Y : Nat → Prop} (hx : ∀ p q, (X p ∨ p = 8) → q < 8 → Gx p q → X q) (hy : ∀ p q, (Y p ∨ p = 8) → q < 8 → Gy p q → Y q)
    (h1 : ∀ p q, (X p ∨ p = 8) → q < 8 → (G' p q ↔ Gx p q ∨ (Lx p ∧ Gy 8 q))) (h2 : ∀ p, (X p ∨ p = 8) → (L' p ↔ Lx p ∧ Ly 8)) (h3 : ∀ p q, Y p → q < 8 → (G' p q ↔ Gy p q)) (h4 : ∀ p, Y p → (L' p ↔ Ly p)) :
    ∀ n p, (X p ∨ p = 8) → (fin G' Kv L' w n p ↔ ∃ r, r ≤ n ∧ fin Gx Kv Lx (fun m => w (r + m)) (n - r) p ∧ fin Gy Kv Ly w r 8) := by
  have hY : ∀ n p, Y p → (fin G' Kv L' w n p ↔ fin Gy Kv Ly w n p) := fin_sub (S := Y) h3 (fun p q hp hq hg => hy p q (Or.inl hp) hq ((h3 p q hp hq).mp hg)) (fun _ _ _ _ => Iff.rfl) h4
  intro n
  induction n with
  | zero =>
    intro p hp
    simp only [fin]
    rw [h2 p hp]
    constructor
    · rintro ⟨a, b⟩
      exact ⟨0, Nat.le_refl 0, a, b⟩
    · rintro ⟨r, hr, a, b⟩
      obtain rfl : r = 0 := by omega
      exact ⟨a, b⟩
  | succ n ih =>
    intro p hp
    constructor
    · rintro ⟨q, hq, hg, hk, hf⟩
      rcases (h1 p q hp hq).mp hg with hg | ⟨hl, hg⟩
      · have hqX := hx p q hp hq hg
        obtain ⟨r, hr, a, b⟩ := (ih q (Or.inl hqX)).mp hf
        refine ⟨r, by omega, ?_, b⟩
        rw [show n + 1 - r = (n - r) + 1 by omega]
        refine ⟨q, hq, hg, ?_, a⟩
        show Kv (w (r + (n - r))) q
        rw [show r + (n - r) = n by omega]
        exact hk
      · have hqY := hy 8 q (Or.inr rfl) hq hg
        refine ⟨n + 1, Nat.le_refl _, ?_, ⟨q, hq, hg, hk, (hY n q hqY).mp hf⟩⟩
        rw [Nat.sub_self]
        exact hl
    · rintro ⟨r, hr, a, b⟩
      by_cases hrn : r = n + 1
      · subst hrn
        rw [Nat.sub_self] at a
        obtain ⟨q, hq, hg, hk, hf⟩ := b
        have hqY := hy 8 q (Or.inr rfl) hq hg
        exact ⟨q, hq, (h1 p q hp hq).mpr (Or.inr ⟨a, hg⟩), hk, (hY n q hqY).mpr hf⟩
      · rw [show n + 1 - r = (n - r) + 1 by omega] at a
        obtain ⟨q, hq, hg, hk, hf⟩ := a
        have hqX := hx p q hp hq hg
        have hk : Kv (w (r + (n - r))) q := hk
        rw [show r + (n - r) = n by omega] at hk
        exact ⟨q, hq, (h1 p q hp hq).mpr (Or.inl hg), hk, (ih q (Or.inl hqX)).mpr ⟨r, by omega, hf, b⟩⟩
theorem fin_alt {Gx Gy G' Kv : Nat → Nat → Prop} {Lx Ly L' : Nat → Prop} {w : Nat → Nat} {X Y : Nat → Prop} (hx : ∀ p q, (X p ∨ p = 8) → q < 8 → Gx p q → X q) (hy : ∀ p q, (Y p ∨ p = 8) → q < 8 → Gy p q → Y q)
    (h1 : ∀ q, q < 8 → (G' 8 q ↔ Gx 8 q ∨ Gy 8 q)) (h2 : L' 8 ↔ Lx 8 ∨ Ly 8) (h3 : ∀ p q, X p → q < 8 → (G' p q ↔ Gx p q)) (h4 : ∀ p, X p → (L' p ↔ Lx p)) (h5 : ∀ p q, Y p → q < 8 → (G' p q ↔ Gy p q)) (h6 : ∀ p, Y p → (L' p ↔ Ly p)) :
    ∀ n, (fin G' Kv L' w n 8 ↔ fin Gx Kv Lx w n 8 ∨ fin Gy Kv Ly w n 8) := by
  have hX : ∀ n p, X p → (fin G' Kv L' w n p ↔ fin Gx Kv Lx w n p) := fin_sub (S := X) h3 (fun p q hp hq hg => hx p q (Or.inl hp) hq ((h3 p q hp hq).mp hg)) (fun _ _ _ _ => Iff.rfl) h4
  have hY : ∀ n p, Y p → (fin G' Kv L' w n p ↔ fin Gy Kv Ly w n p) := fin_sub (S := Y) h5 (fun p q hp hq hg => hy p q (Or.inl hp) hq ((h5 p q hp hq).mp hg)) (fun _ _ _ _ => Iff.rfl) h6
  intro n
  cases n with
  | zero => exact h2
  | succ n =>
    constructor
    · rintro ⟨q, hq, hg, hk, hf⟩
      rcases (h1 q hq).mp hg with hg | hg
      · exact Or.inl ⟨q, hq, hg, hk, (hX n q (hx 8 q (Or.inr rfl) hq hg)).mp hf⟩
      · exact Or.inr ⟨q, hq, hg, hk, (hY n q (hy 8 q (Or.inr rfl) hq hg)).mp hf⟩
    · rintro (⟨q, hq, hg, hk, hf⟩ | ⟨q, hq, hg, hk, hf⟩)
      · exact ⟨q, hq, (h1 q hq).mpr (Or.inl hg), hk, (hX n q (hx 8 q (Or.inr rfl) hq hg)).mpr hf⟩
      · exact ⟨q, hq, (h1 q hq).mpr (Or.inr hg), hk, (hY n q (hy 8 q (Or.inr rfl) hq hg)).mpr hf⟩
theorem fin_star {G G' Kv : Nat → Nat → Prop} {L L' : Nat → Prop} {w : Nat → Nat} {X : Nat → Prop} (hx : ∀ p q, (X p ∨ p = 8) → q < 8 → G p q → X q)
    (h1 : ∀ p q, X p → q < 8 → (G' p q ↔ G p q ∨ (L p ∧ G 8 q))) (h1' : ∀ q, q < 8 → (G' 8 q ↔ G 8 q)) (h2 : ∀ p, X p → (L' p ↔ L p)) (h2' : L' 8) :
    ∀ n, fin G' Kv L' w (n + 1) 8 ↔ ∃ r, r ≤ n ∧ fin G Kv L (fun m => w (r + m)) (n + 1 - r) 8 ∧ fin G' Kv L' w r 8 := by
  have key : ∀ n p, X p → (fin G' Kv L' w n p ↔ ∃ r, r ≤ n ∧ fin G Kv L (fun m => w (r + m)) (n - r) p ∧ fin G' Kv L' w r 8) := by
    intro n
    induction n with
    | zero =>
      intro p hp
      constructor
      · intro h
        exact ⟨0, Nat.le_refl 0, (h2 p hp).mp h, h2'⟩
      · rintro ⟨r, hr, a, b⟩
        obtain rfl : r = 0 := by omega
        exact (h2 p hp).mpr a
    | succ n ih =>
      intro p hp
      constructor
      · rintro ⟨q, hq, hg, hk, hf⟩
        rcases (h1 p q hp hq).mp hg with hg | ⟨hl, hg⟩
        · obtain ⟨r, hr, a, b⟩ := (ih q (hx p q (Or.inl hp) hq hg)).mp hf
          refine ⟨r, by omega, ?_, b⟩
          rw [show n + 1 - r = (n - r) + 1 by omega]
          refine ⟨q, hq, hg, ?_, a⟩
          show Kv (w (r + (n - r))) q
          rw [show r + (n - r) = n by omega]
          exact hk
        · refine ⟨n + 1, Nat.le_refl _, ?_, ⟨q, hq, (h1' q hq).mpr hg, hk, hf⟩⟩
          rw [Nat.sub_self]
          exact hl
      · rintro ⟨r, hr, a, b⟩
        by_cases hrn : r = n + 1
        · subst hrn
          rw [Nat.sub_self] at a
          obtain ⟨q, hq, hg, hk, hf⟩ := b
          exact ⟨q, hq, (h1 p q hp hq).mpr (Or.inr ⟨a, (h1' q hq).mp hg⟩), hk, hf⟩
        · rw [show n + 1 - r = (n - r) + 1 by omega] at a
          obtain ⟨q, hq, hg, hk, hf⟩ := a
          have hk : Kv (w (r + (n - r))) q := hk
          rw [show r + (n - r) = n by omega] at hk
          exact ⟨q, hq, (h1 p q hp hq).mpr (Or.inl hg), hk, (ih q (hx p q (Or.inl hp) hq hg)).mpr ⟨r, by omega, hf, b⟩⟩
  intro n
  constructor
  · rintro ⟨q, hq, hg, hk, hf⟩
    have hg := (h1' q hq).mp hg
    obtain ⟨r, hr, a, b⟩ := (key n q (hx 8 q (Or.inr rfl) hq hg)).mp hf
    refine ⟨r, hr, ?_, b⟩
    rw [show n + 1 - r = (n - r) + 1 by omega]
    refine ⟨q, hq, hg, ?_, a⟩
    show Kv (w (r + (n - r))) q
    rw [show r + (n - r) = n by omega]
    exact hk
  · rintro ⟨r, hr, a, b⟩
    rw [show n + 1 - r = (n - r) + 1 by omega] at a
    obtain ⟨q, hq, hg, hk, hf⟩ := a
    have hk : Kv (w (r + (n - r))) q := hk
    rw [show r + (n - r) = n by omega] at hk
    exact ⟨q, hq, (h1' q hq).mpr hg, hk, (key n q (hx 8 q (Or.inr rfl) hq hg)).mpr ⟨r, hr, hf, b⟩⟩
theorem fin_path {G Kv : Nat → Nat → Prop} {L : Nat → Prop} {w : Nat → Nat} : ∀ n p, fin G Kv L w n p ↔ ∃ s : Nat → Nat, s 0 = p ∧ (∀ t, t < n → s (t + 1) < 8 ∧ G (s t) (s (t + 1)) ∧ Kv (w (n - 1 - t)) (s (t + 1))) ∧ L (s n) := by
  intro n
  induction n with
  | zero =>
    intro p
    constructor
    · intro h
      exact ⟨fun _ => p, rfl, fun t ht => by omega, h⟩
    · rintro ⟨s, h1, -, h3⟩
      rw [h1] at h3
      exact h3
  | succ n ih =>
    intro p
    constructor
    · rintro ⟨q, hq, hg, hk, hf⟩
      obtain ⟨s, s0, s1, s2⟩ := (ih q).mp hf
      refine ⟨fun t => if t = 0 then p else s (t - 1), rfl, fun t ht => ?_, ?_⟩
      · cases t with
        | zero =>
          refine ⟨?_, ?_, ?_⟩
          · show s 0 < 8
            rw [s0]; exact hq
          · show G p (s 0)
            rw [s0]; exact hg
          · show Kv (w n) (s 0)
            rw [s0]; exact hk
        | succ t =>
          obtain ⟨a, b, c⟩ := s1 t (by omega)
          refine ⟨a, b, ?_⟩
          show Kv (w (n + 1 - 1 - (t + 1))) (s (t + 1))
          rw [show n + 1 - 1 - (t + 1) = n - 1 - t by omega]
          exact c
      · exact s2
    · rintro ⟨s, s0, s1, s2⟩
      obtain ⟨a, b, c⟩ := s1 0 (by omega)
      refine ⟨s 1, a, by rw [s0] at b; exact b, c, (ih (s 1)).mpr ⟨fun t => s (t + 1), rfl, fun t ht => ?_, s2⟩⟩
      obtain ⟨a, b, c⟩ := s1 (t + 1) (by omega)
      refine ⟨a, b, ?_⟩
      rw [show n - 1 - t = n + 1 - 1 - (t + 1) by omega]
      exact c
theorem fin_rev1 {G G' Kv : Nat → Nat → Prop} {L L' : Nat → Prop} {w w' : Nat → Nat} {X : Nat → Prop} (hx : ∀ p q, (X p ∨ p = 8) → q < 8 → G p q → X q)
    (h1 : ∀ p q, X p → X q → G p q → G' q p) (h2 : ∀ q, X q → L q → G' 8 q) (h3 : ∀ q, X q → G 8 q → L' q) (h4 : L 8 → L' 8) {n : Nat} (hw : ∀ m, m < n → w' m = w (n - 1 - m)) (h : fin G Kv L w' n 8) : fin G' Kv L' w n 8 := by
  obtain ⟨s, s0, s1, s2⟩ := (fin_path n 8).mp h
  rw [fin_path]
  cases n with
  | zero =>
    rw [s0] at s2
    exact ⟨fun _ => 8, rfl, fun t ht => by omega, h4 s2⟩
  | succ n =>
    have hX : ∀ t, t < n + 1 → X (s (t + 1)) := by
      intro t
      induction t with
      | zero =>
        intro ht
        obtain ⟨a, b, c⟩ := s1 0 ht
        exact hx _ _ (Or.inr s0) a b
      | succ t ih =>
        intro ht
        obtain ⟨a, b, c⟩ := s1 (t + 1) ht
        exact hx _ _ (Or.inl (ih (by omega))) a b
    refine ⟨fun t => if t = 0 then 8 else s (n + 1 + 1 - t), rfl, fun t ht => ?_, ?_⟩
    · obtain ⟨a, b, c⟩ := s1 (n - t) (by omega)
      have e : n + 1 + 1 - (t + 1) = n - t + 1 := by omega
      refine ⟨?_, ?_, ?_⟩
      · show s (n + 1 + 1 - (t + 1)) < 8
        rw [e]; exact a
      · show G' (if t = 0 then 8 else s (n + 1 + 1 - t)) (s (n + 1 + 1 - (t + 1)))
        rw [e]
        by_cases h0 : t = 0
        · subst h0
          exact h2 _ (hX n (by omega)) s2
        · rw [if_neg h0]
          obtain ⟨a', b', c'⟩ := s1 (n - t + 1) (by omega)
          rw [show n + 1 + 1 - t = n - t + 1 + 1 by omega]
          exact h1 _ _ (hX _ (by omega)) (hX _ (by omega)) b'
      · show Kv (w (n + 1 - 1 - t)) (s (n + 1 + 1 - (t + 1)))
        rw [e]
        rw [hw _ (by omega)] at c
        rw [show n + 1 - 1 - t = n + 1 - 1 - (n + 1 - 1 - (n - t)) by omega]
        exact c
    · show L' (s (n + 1 + 1 - (n + 1)))
      rw [show n + 1 + 1 - (n + 1) = 0 + 1 by omega]
      obtain ⟨a, b, c⟩ := s1 0 (by omega)
      rw [s0] at b
      exact h3 _ (hX 0 (by omega)) b
theorem fin_rev {G G' Kv : Nat → Nat → Prop} {L L' : Nat → Prop} {w : Nat → Nat} {X : Nat → Prop} (hx : ∀ p q, (X p ∨ p = 8) → q < 8 → G p q → X q) (hx' : ∀ p q, (X p ∨ p = 8) → q < 8 → G' p q → X q)
    (h1 : ∀ p q, X p → X q → (G p q ↔ G' q p)) (h2 : ∀ q, X q → (L q ↔ G' 8 q)) (h3 : ∀ q, X q → (G 8 q ↔ L' q)) (h4 : L 8 ↔ L' 8) {n : Nat} : fin G' Kv L' w n 8 ↔ fin G Kv L (fun m => w (n - 1 - m)) n 8 := by
  constructor
  · intro h
    exact fin_rev1 (w' := w) hx' (fun p q hp hq hg => (h1 q p hq hp).mpr hg) (fun q hq hl => (h3 q hq).mpr hl) (fun q hq hg => (h2 q hq).mpr hg) h4.mpr (fun m hm => by
      show w m = w (n - 1 - (n - 1 - m))
      rw [show n - 1 - (n - 1 - m) = m by omega]) h
  · intro h
    exact fin_rev1 (w' := fun m => w (n - 1 - m)) hx (fun p q hp hq hg => (h1 p q hp hq).mp hg) (fun q hq hl => (h2 q hq).mp hl) (fun q hq hg => (h3 q hq).mp hg) h4.mp (fun m hm => rfl) h
/-- reached: from the start the letters w 0, .., w (t-1) lead to p -/
def rea (G Kv : Nat → Nat → Prop) (w : Nat → Nat) : Nat → Nat → Prop
  | 0, p => p = 8
  | t + 1, p => p < 8 ∧ (∃ q, rea G Kv w t q ∧ G q p) ∧ Kv (w t) p
theorem rea_w {G Kv : Nat → Nat → Prop} {w w' : Nat → Nat} : ∀ (t : Nat), (∀ m, m < t → w m = w' m) → ∀ p, rea G Kv w t p ↔ rea G Kv w' t p := by
  intro n
  induction n with
  | zero => intro _ p; exact Iff.rfl
  | succ n ih =>
    intro h p
    have ih := ih (fun m hm => h m (by omega))
    simp only [rea]
    rw [h n (by omega)]
    constructor
    · rintro ⟨h1, ⟨q, h2, h3⟩, h4⟩
      exact ⟨h1, ⟨q, (ih q).mp h2, h3⟩, h4⟩
    · rintro ⟨h1, ⟨q, h2, h3⟩, h4⟩
      exact ⟨h1, ⟨q, (ih q).mpr h2, h3⟩, h4⟩
theorem acc_split {G Kv : Nat → Nat → Prop} {L : Nat → Prop} {w : Nat → Nat} {n : Nat} : ∀ t, t ≤ n → (fin G Kv L w n 8 ↔ ∃ p, rea G Kv (fun i => w (n - 1 - i)) t p ∧ fin G Kv L w (n - t) p) := by
  intro t
  induction t with
  | zero =>
    intro _
    constructor
    · intro h
      exact ⟨8, rfl, h⟩
    · rintro ⟨p, h1, h2⟩
      have h1 : p = 8 := h1
      subst h1
      exact h2
  | succ t ih =>
    intro ht
    rw [ih (by omega)]
    constructor
    · rintro ⟨p, h1, h2⟩
      rw [show n - t = (n - (t + 1)) + 1 by omega] at h2
      obtain ⟨q, hq, hg, hk, hf⟩ := h2
      refine ⟨q, ⟨hq, ⟨p, h1, hg⟩, ?_⟩, hf⟩
      show Kv (w (n - 1 - t)) q
      rw [show n - 1 - t = n - (t + 1) by omega]
      exact hk
    · rintro ⟨q, ⟨hq, ⟨p, h1, hg⟩, hk⟩, hf⟩
      refine ⟨p, h1, ?_⟩
      rw [show n - t = (n - (t + 1)) + 1 by omega]
      refine ⟨q, hq, hg, ?_, hf⟩
      rw [show n - (t + 1) = n - 1 - t by omega]
      exact hk
end
section
/-! PURE: the lines' machines, bit by bit -/
def GL (ar : Nat → Nat → Nat) (ln p q : Nat) : Prop := (if p = 8 then ar 16 ln else ar 21 (ln * 8 + p)).testBit q = true
def KL (ar : Nat → Nat → Nat) (ln v q : Nat) : Prop := (ltr ar ln v).testBit q = true
def LL (ar : Nat → Nat → Nat) (ln p : Nat) : Prop := (ar 17 ln).testBit p = true
theorem b256 (p : Nat) : (256 : Nat).testBit p = true ↔ p = 8 := by
  rw [show (256 : Nat) = 2 ^ 8 from rfl, Nat.testBit_two_pow, decide_eq_true_iff]
  exact eq_comm
theorem and_ne0 (x y : Nat) : x &&& y ≠ 0 ↔ ∃ q, x.testBit q = true ∧ y.testBit q = true := by
  constructor
  · intro h
    obtain ⟨q, hq⟩ := Nat.exists_testBit_of_ne_zero h
    rw [Nat.testBit_and, Bool.and_eq_true] at hq
    exact ⟨q, hq⟩
  · rintro ⟨q, h1, h2⟩ h
    have : (x &&& y).testBit q = true := by rw [Nat.testBit_and, h1, h2]; rfl
    rw [h, Nat.zero_testBit] at this
    cases this
theorem and256 (s : Nat) : s &&& 256 = 0 ↔ ¬ s.testBit 8 = true := by
  constructor
  · intro h h8
    exact (and_ne0 s 256).mpr ⟨8, h8, (b256 8).mpr rfl⟩ h
  · intro h
    rcases Nat.eq_zero_or_pos (s &&& 256) with h0 | h0
    · exact h0
    · obtain ⟨q, h1, h2⟩ := (and_ne0 s 256).mp (by omega)
      rw [b256] at h2
      subst h2
      exact absurd h1 h
theorem bit_lt {x p : Nat} (n : Nat) (hx : x < 2 ^ n) (h : x.testBit p = true) : p < n := by
  apply Nat.lt_of_not_le
  intro hp
  rw [Nat.testBit_lt_two_pow (Nat.lt_of_lt_of_le hx (Nat.pow_le_pow_right (by decide) hp))] at h
  cases h
theorem rch_bit {ar : Nat → Nat → Nat} {ln s : Nat} (P q : Nat) : (rch ar ln s P).testBit q = true ↔ (s.testBit 8 = true ∧ (ar 16 ln).testBit q = true) ∨ ∃ p, p < P ∧ s.testBit p = true ∧ (ar 21 (ln * 8 + p)).testBit q = true := by
  induction P with
  | zero =>
    rw [rch]
    split
    · next h =>
      rw [and256] at h
      rw [Nat.zero_testBit]
      constructor
      · intro h; cases h
      · rintro (⟨h1, -⟩ | ⟨p, h1, -⟩)
        · exact absurd h1 h
        · omega
    · next h =>
      rw [and256] at h
      have h : s.testBit 8 = true := by simpa using h
      constructor
      · intro h1; exact Or.inl ⟨h, h1⟩
      · rintro (⟨-, h1⟩ | ⟨p, h1, -⟩)
        · exact h1
        · omega
  | succ P ih =>
    rw [rch]
    split
    · next h =>
      rw [bit_iff] at h
      rw [Nat.testBit_or, Bool.or_eq_true, ih]
      constructor
      · rintro ((h1 | ⟨p, h1, h2⟩) | h1)
        · exact Or.inl h1
        · exact Or.inr ⟨p, by omega, h2⟩
        · exact Or.inr ⟨P, by omega, h, h1⟩
      · rintro (h1 | ⟨p, h1, h2, h3⟩)
        · exact Or.inl (Or.inl h1)
        · by_cases hp : p = P
          · subst hp; exact Or.inr h3
          · exact Or.inl (Or.inr ⟨p, by omega, h2, h3⟩)
    · next h =>
      rw [bit_iff] at h
      rw [ih]
      constructor
      · rintro (h1 | ⟨p, h1, h2⟩)
        · exact Or.inl h1
        · exact Or.inr ⟨p, by omega, h2⟩
      · rintro (h1 | ⟨p, h1, h2, h3⟩)
        · exact Or.inl h1
        · by_cases hp : p = P
          · subst hp; exact absurd h2 h
          · exact Or.inr ⟨p, by omega, h2, h3⟩
theorem stp_bit {ar : Nat → Nat → Nat} {ln s v : Nat} (q : Nat) : (stp ar ln s v).testBit q = true ↔ (∃ p, p ≤ 8 ∧ s.testBit p = true ∧ GL ar ln p q) ∧ KL ar ln v q := by
  unfold stp KL
  rw [Nat.testBit_and, Bool.and_eq_true, rch_bit]
  constructor
  · rintro ⟨h1 | ⟨p, h1, h2, h3⟩, h4⟩
    · exact ⟨⟨8, Nat.le_refl 8, h1.1, by unfold GL; rw [if_pos rfl]; exact h1.2⟩, h4⟩
    · exact ⟨⟨p, by omega, h2, by unfold GL; rw [if_neg (by omega)]; exact h3⟩, h4⟩
  · rintro ⟨⟨p, h1, h2, h3⟩, h4⟩
    refine ⟨?_, h4⟩
    unfold GL at h3
    by_cases hp : p = 8
    · subst hp
      rw [if_pos rfl] at h3
      exact Or.inl ⟨h2, h3⟩
    · rw [if_neg hp] at h3
      exact Or.inr ⟨p, by omega, h2, h3⟩
theorem bfr_bit {ar : Nat → Nat → Nat} {ln g : Nat} (P p : Nat) (hP : P ≤ 8) : (bfr ar ln g P).testBit p = true ↔ (p = 8 ∧ ar 16 ln &&& g ≠ 0) ∨ (p < P ∧ ar 21 (ln * 8 + p) &&& g ≠ 0) := by
  induction P with
  | zero =>
    rw [bfr]
    split
    · next h =>
      rw [Nat.zero_testBit]
      constructor
      · intro h; cases h
      · rintro (⟨-, h1⟩ | ⟨h1, -⟩)
        · exact absurd h h1
        · omega
    · next h =>
      rw [b256]
      constructor
      · intro h1; exact Or.inl ⟨h1, h⟩
      · rintro (⟨h1, -⟩ | ⟨h1, -⟩)
        · exact h1
        · omega
  | succ P ih =>
    have ih := ih (by omega)
    rw [bfr]
    split
    · next h =>
      rw [ih]
      constructor
      · rintro (h1 | ⟨h1, h2⟩)
        · exact Or.inl h1
        · exact Or.inr ⟨by omega, h2⟩
      · rintro (h1 | ⟨h1, h2⟩)
        · exact Or.inl h1
        · by_cases hp : p = P
          · subst hp; exact absurd h h2
          · exact Or.inr ⟨by omega, h2⟩
    · next h =>
      rw [Nat.testBit_or, Bool.or_eq_true, ih, Nat.one_shiftLeft, Nat.testBit_two_pow, decide_eq_true_iff]
      constructor
      · rintro ((h1 | ⟨h1, h2⟩) | h1)
        · exact Or.inl h1
        · exact Or.inr ⟨by omega, h2⟩
        · subst h1; exact Or.inr ⟨by omega, h⟩
      · rintro (h1 | ⟨h1, h2⟩)
        · exact Or.inl (Or.inl h1)
        · by_cases hp : p = P
          · exact Or.inr hp.symm
          · exact Or.inl (Or.inr ⟨by omega, h2⟩)
theorem bef_bit {ar : Nat → Nat → Nat} {ln s v p : Nat} (hp : p ≤ 8) : (bef ar ln s v).testBit p = true ↔ ∃ q, GL ar ln p q ∧ s.testBit q = true ∧ KL ar ln v q := by
  unfold bef
  rw [bfr_bit 8 p (Nat.le_refl 8)]
  unfold GL KL
  by_cases h8 : p = 8
  · subst h8
    rw [if_pos rfl]
    constructor
    · rintro (⟨-, h⟩ | ⟨h, -⟩)
      · obtain ⟨q, h1, h2⟩ := (and_ne0 _ _).mp h
        rw [Nat.testBit_and, Bool.and_eq_true] at h2
        exact ⟨q, h1, h2⟩
      · omega
    · rintro ⟨q, h1, h2, h3⟩
      exact Or.inl ⟨rfl, (and_ne0 _ _).mpr ⟨q, h1, by rw [Nat.testBit_and, h2, h3]; rfl⟩⟩
  · rw [if_neg h8]
    constructor
    · rintro (⟨h, -⟩ | ⟨-, h⟩)
      · exact absurd h h8
      · obtain ⟨q, h1, h2⟩ := (and_ne0 _ _).mp h
        rw [Nat.testBit_and, Bool.and_eq_true] at h2
        exact ⟨q, h1, h2⟩
    · rintro ⟨q, h1, h2, h3⟩
      exact Or.inr ⟨by omega, (and_ne0 _ _).mpr ⟨q, h1, by rw [Nat.testBit_and, h2, h3]; rfl⟩⟩
/-- a pin allows the letter v -/
def alw (pin v : Nat) : Prop := (v = 0 ∧ pin ≠ 1) ∨ (v = 1 ∧ pin ≠ 0)
theorem alw_iff {pin v : Nat} (hp : pin ≤ 2) (hv : v ≤ 1) : alw pin v ↔ (pin = 2 ∨ pin = v) := by
  unfold alw
  omega
theorem bk2_bit {ar : Nat → Nat → Nat} {ln s pin p : Nat} : (bk2 ar ln s pin).testBit p = true ↔ ∃ v, alw pin v ∧ (bef ar ln s v).testBit p = true := by
  unfold bk2 bk1 alw
  by_cases h0 : pin = 0
  · rw [if_pos h0, if_neg (by omega)]
    constructor
    · intro h; exact ⟨0, by omega, h⟩
    · rintro ⟨v, h1, h2⟩
      obtain rfl : v = 0 := by omega
      exact h2
  · rw [if_neg h0, Nat.testBit_or, Bool.or_eq_true]
    constructor
    · rintro (h | h)
      · by_cases h1 : pin = 1
        · rw [if_pos h1, Nat.zero_testBit] at h; cases h
        · rw [if_neg h1] at h
          exact ⟨0, by omega, h⟩
      · exact ⟨1, by omega, h⟩
    · rintro ⟨v, h1, h2⟩
      by_cases hv : v = 0
      · subst hv
        rw [if_neg (by omega)]
        exact Or.inl h2
      · obtain rfl : v = 1 := by omega
        exact Or.inr h2
theorem bkv_of {fi : Nat → Nat} {ar : Nat → Nat → Nat} {ln : Nat} {w : Nat → Nat} : ∀ m p, p ≤ 8 → (∀ i, i < m → alw (ar 6 (celX fi ln (lenX fi ln - 1 - i))) (w i)) → fin (GL ar ln) (KL ar ln) (LL ar ln) w m p → (bkv fi ar ln m).testBit p = true := by
  intro m
  induction m with
  | zero =>
    intro p _ _ h
    rw [bkv, bk0]
    have h : (ar 17 ln).testBit p = true := h
    split
    · exact h
    · rw [Nat.testBit_or, h]; rfl
  | succ m ih =>
    rintro p hp hw ⟨q, hq, hg, hk, hf⟩
    have := ih q (by omega) (fun i hi => hw i (by omega)) hf
    rw [bkv, bk2_bit]
    exact ⟨w m, hw m (by omega), (bef_bit hp).mpr ⟨q, hg, this, hk⟩⟩
theorem bkv_0 {fi : Nat → Nat} {ar : Nat → Nat → Nat} {ln p : Nat} (hp : p < 8) (h : (bkv fi ar ln 0).testBit p = true) : LL ar ln p := by
  rw [bkv, bk0] at h
  unfold LL
  split at h
  · exact h
  · rw [Nat.testBit_or, Bool.or_eq_true, b256] at h
    rcases h with h | h
    · exact h
    · omega
theorem rea_le {G Kv : Nat → Nat → Prop} {w : Nat → Nat} {t p : Nat} (h : rea G Kv w t p) : p ≤ 8 := by
  cases t with
  | zero => exact Nat.le_of_eq h
  | succ t => exact Nat.le_of_lt h.1
/-- one letter more: what is reached and can still end well -/
theorem reach_step {fi : Nat → Nat} {ar : Nat → Nat → Nat} {ln t m s0 v : Nat} {w : Nat → Nat} (hlen : t + 1 + m = lenX fi ln) (hz : ∀ v, ltr ar ln v < 256) (hv : w t = v) (hpin : alw (ar 6 (celX fi ln t)) v) (hs : ∀ q, s0.testBit q = true ↔ rea (GL ar ln) (KL ar ln) w t q ∧ (t = 0 ∨ (bkv fi ar ln (m + 1)).testBit q = true)) : ∀ p, (stp ar ln s0 v &&& bkv fi ar ln m).testBit p = true ↔ rea (GL ar ln) (KL ar ln) w (t + 1) p ∧ (bkv fi ar ln m).testBit p = true := by
  intro p
  rw [Nat.testBit_and, Bool.and_eq_true, stp_bit]
  constructor
  · rintro ⟨⟨⟨q, h1, h2, h3⟩, h4⟩, h5⟩
    refine ⟨⟨bit_lt 8 (hz v) h4, ⟨q, ((hs q).mp h2).1, h3⟩, ?_⟩, h5⟩
    rw [hv]; exact h4
  · rintro ⟨⟨h1, ⟨q, h2, h3⟩, h4⟩, h5⟩
    rw [hv] at h4
    refine ⟨⟨⟨q, rea_le h2, (hs q).mpr ⟨h2, Or.inr ?_⟩, h3⟩, h4⟩, h5⟩
    rw [bkv, bk2_bit]
    refine ⟨v, ?_, (bef_bit (rea_le h2)).mpr ⟨p, h3, h5, h4⟩⟩
    rw [show lenX fi ln - 1 - m = t by omega]
    exact hpin
theorem start_set (ar : Nat → Nat → Nat) (fi : Nat → Nat) (ln m : Nat) (w : Nat → Nat) : ∀ q, (256 : Nat).testBit q = true ↔ rea (GL ar ln) (KL ar ln) w 0 q ∧ ((0 : Nat) = 0 ∨ (bkv fi ar ln (m + 1)).testBit q = true) := by
  intro q
  rw [b256]
  constructor
  · intro h; exact ⟨h, Or.inl rfl⟩
  · rintro ⟨h, -⟩; exact h
-- what prepare leaves in 'back'
def BackOk (fi : Nat → Nat) (ar : Nat → Nat → Nat) : Prop := ∀ ln, ln < fi 2 → ∀ m, m ≤ lenX fi ln → ar 22 (ln * 5 + (lenX fi ln - m)) = bkv fi ar ln m
theorem bkv_lik {fi : Nat → Nat} {a b : Nat → Nat → Nat} (h : lik a b) (ln m : Nat) : bkv fi a ln m = bkv fi b ln m := by
  induction m with
  | zero => rw [bkv, bkv, bk0, bk0, h 17 (by decide), h 18 (by decide)]
  | succ m ih => rw [bkv, bkv, ih, bk2, bk2, bk1, bk1, h 6 (by decide), bef_lik h, bef_lik h]
theorem bkv_fi {fi fj : Nat → Nat} {a : Nat → Nat → Nat} (h0 : fi 0 = fj 0) (h1 : fi 1 = fj 1) (ln m : Nat) : bkv fi a ln m = bkv fj a ln m := by
  have e1 : ∀ l, lenX fi l = lenX fj l := fun l => by unfold lenX; rw [h0, h1]
  have e2 : ∀ l t, celX fi l t = celX fj l t := fun l t => by unfold celX; rw [h0, h1]
  induction m with
  | zero => rw [bkv, bkv]
  | succ m ih => rw [bkv, bkv, ih, e1, e2]
theorem BackOk_fi {fi fj : Nat → Nat} {a : Nat → Nat → Nat} (h0 : fj 0 = fi 0) (h1 : fj 1 = fi 1) (h2 : fj 2 = fi 2) (h : BackOk fi a) : BackOk fj a := by
  have e1 : ∀ l, lenX fj l = lenX fi l := fun l => by unfold lenX; rw [h0, h1]
  intro ln hln m hm
  rw [e1] at hm ⊢
  rw [h ln (by omega) m hm, bkv_fi h0 h1]
theorem plP_at {fi : Nat → Nat} {ar : Nat → Nat → Nat} {ln : Nat} (hl : 1 ≤ lenX fi ln) : ∀ M, M ≤ lenX fi ln → ∀ m, m ≤ M → plP fi ar ln M 22 (ln * 5 + (lenX fi ln - m)) = bkv fi ar ln m := by
  intro M
  induction M with
  | zero =>
    intro _ m hm
    obtain rfl : m = 0 := by omega
    rw [plP, Nat.sub_zero, up2_s]
  | succ M ih =>
    intro hM m hm
    rw [plP, up2_k]
    by_cases h : m = M + 1
    · subst h
      rw [if_pos (by omega)]
    · rw [if_neg (by omega)]
      exact ih (by omega) m (by omega)
theorem plP_off {fi : Nat → Nat} {ar : Nat → Nat → Nat} {ln j : Nat} (hj : j < ln * 5 ∨ ln * 5 + lenX fi ln < j) : ∀ M, M ≤ lenX fi ln → plP fi ar ln M 22 j = ar 22 j := by
  intro M
  induction M with
  | zero =>
    intro _
    rw [plP, up2_k, if_neg (by omega)]
  | succ M ih =>
    intro hM
    rw [plP, up2_k, if_neg (by omega)]
    exact ih (by omega)
theorem prP_back {fi : Nat → Nat} {ar : Nat → Nat → Nat} (hg : gridF fi) : ∀ N ln, ln < N → ∀ m, m ≤ lenX fi ln → prP fi ar N 22 (ln * 5 + (lenX fi ln - m)) = bkv fi ar ln m := by
  intro N
  induction N with
  | zero => intro ln h; omega
  | succ N ih =>
    intro ln hln m hm
    have h1 := lenX_in hg ln
    have h2 := lenX_in hg N
    rw [prP]
    by_cases h : ln = N
    · subst h
      rw [plP_at h1.1 _ (Nat.le_refl _) m hm]
      exact bkv_lik (fun k hk => prP_n (by omega)) _ _
    · rw [plP_off (Or.inl (by omega)) _ (Nat.le_refl _)]
      exact ih ln (by omega) m hm
theorem prpA_lik (fi : Nat → Nat) (ar : Nat → Nat → Nat) : lik (prpA fi ar) ar := by
  intro k hk
  unfold prpA
  split
  · exact prP_n (by omega)
  · rfl
theorem prpA_n {fi : Nat → Nat} {ar : Nat → Nat → Nat} {k : Nat} (h : k ≠ 22) : prpA fi ar k = ar k := by
  unfold prpA
  split
  · exact prP_n h
  · rfl
theorem prpA_back {fi : Nat → Nat} {ar : Nat → Nat → Nat} (hg : gridF fi) (hb : fi 23 ≠ 0 → BackOk fi ar) : BackOk fi (prpA fi ar) := by
  intro ln hln m hm
  rw [bkv_lik (prpA_lik fi ar)]
  unfold prpA
  split
  · exact prP_back hg _ ln hln m hm
  · next h => exact hb h ln hln m hm
end
section
/-! PURE: the relation between the two objects -/
def GE (ar : Nat → Nat → Nat) (i p q : Nat) : Prop := (if p = 8 then ar 10 i else ar 14 p).testBit q = true
def KE (ar : Nat → Nat → Nat) (v q : Nat) : Prop := if v = 0 then ar 13 q ≠ 1 else ar 13 q ≠ 0
def LE' (ar : Nat → Nat → Nat) (i p : Nat) : Prop := if p = 8 then ar 12 i ≠ 0 else (ar 11 i).testBit p = true
/-- the expression i owns the places from lo to hi, and its words of at most 4 letters are the set S -/
def ExOk (ar : Nat → Nat → Nat) (i lo hi S : Nat) : Prop :=
  (∀ q, (ar 10 i).testBit q = true → lo ≤ q ∧ q < hi) ∧ (∀ q, (ar 11 i).testBit q = true → lo ≤ q ∧ q < hi) ∧ (∀ p q, lo ≤ p → p < hi → (ar 14 p).testBit q = true → lo ≤ q ∧ q < hi) ∧
  (∀ n b, n ≤ 4 → b < 1 <<< n → (hol S n b ↔ fin (GE ar i) (KE ar) (LE' ar i) (lt b) n 8))
def LnOk (ar : Nat → Nat → Nat) (ln S : Nat) : Prop := ar 19 ln < 256 ∧ ar 20 ln < 256 ∧ ∀ n b, 1 ≤ n → n ≤ 4 → b < 1 <<< n → (hol S n b ↔ fin (GL ar ln) (KL ar ln) (LL ar ln) (lt b) n 8)
def RG (fi : Nat → Nat) (ar : Nat → Nat → Nat) (fj : Nat → Nat) (br : Nat → Nat → Nat) : Prop :=
  gridF fi ∧ fj 5 = fi 0 ∧ fj 6 = fi 1 ∧ (∀ k j, ar k j < 2 ^ 31) ∧ (∀ k j, br k j < 2 ^ 31) ∧ fi 23 < 2 ∧ (∀ n, n < fi 3 → ar 4 n = n / fi 1 ∧ ar 5 n = n % fi 1) ∧
  (∀ r c, r < fi 0 → c < fi 1 → ar 6 (r * fi 1 + c) = br 4 (r * 4 + c) ∧ ar 6 (r * fi 1 + c) ≤ 2)
def RE (fi : Nat → Nat) (ar : Nat → Nat → Nat) (fj : Nat → Nat) (br : Nat → Nat → Nat) : Prop :=
  fi 7 = fj 2 ∧ fi 7 ≤ 6 ∧ fi 8 = ltsP br (fi 7) ∧ fi 8 ≤ 8 ∧ (∀ j, ar 12 j < 2) ∧ (∀ i, i < fi 7 → ar 9 i = ltsP br i ∧ ExOk ar i (ltsP br i) (ltsP br (i + 1)) (br 0 i))
def RL (fi : Nat → Nat) (ar br : Nat → Nat → Nat) : Prop := (∀ ln, ln < fi 2 → LnOk ar ln (br 3 ln)) ∧ (fi 23 ≠ 0 → BackOk fi ar)
def Rel (u w : St) : Prop := RG u.1 u.2 w.1 w.2 ∧ RE u.1 u.2 w.1 w.2 ∧ RL u.1 u.2 w.2
-- general rows
theorem hB_up {a : Nat → Nat → Nat} {k0 i v : Nat} (h : ∀ k j, a k j < 2 ^ 31) (hv : v < 2 ^ 31) : ∀ k j, up2 a k0 i v k j < 2 ^ 31 := by
  intro k j
  unfold up2
  split
  · exact hv
  · exact h k j
theorem ltsP_mono {br : Nat → Nat → Nat} {i j : Nat} (h : i ≤ j) : ltsP br i ≤ ltsP br j := by
  induction j with
  | zero => rw [show i = 0 by omega]; exact Nat.le_refl _
  | succ j ih =>
    by_cases hij : i = j + 1
    · rw [hij]; exact Nat.le_refl _
    · have := ih (by omega)
      rw [ltsP]
      omega
theorem ltsP_congr {b b' : Nat → Nat → Nat} {i : Nat} (h : ∀ j, j < i → b' 1 j = b 1 j) : ltsP b' i = ltsP b i := by
  induction i with
  | zero => rw [ltsP, ltsP]
  | succ i ih => rw [ltsP, ltsP, ih (fun j hj => h j (by omega)), h i (by omega)]
def lik6 (a b : Nat → Nat → Nat) : Prop := ∀ k, (k = 6 ∨ (16 ≤ k ∧ k ≤ 22)) → a k = b k
theorem ltr_lik6 {a b : Nat → Nat → Nat} (h : lik6 a b) (ln v : Nat) : ltr a ln v = ltr b ln v := by
  rw [ltr, ltr, h 19 (by decide), h 20 (by decide)]
theorem bfr_lik6 {a b : Nat → Nat → Nat} (h : lik6 a b) (ln g p : Nat) : bfr a ln g p = bfr b ln g p := by
  induction p with
  | zero => rw [bfr, bfr, h 16 (by decide)]
  | succ p ih => rw [bfr, bfr, h 21 (by decide), ih]
theorem bkv_lik6 {fi : Nat → Nat} {a b : Nat → Nat → Nat} (h : lik6 a b) (ln m : Nat) : bkv fi a ln m = bkv fi b ln m := by
  have e : ∀ s v, bef a ln s v = bef b ln s v := fun s v => by rw [bef, bef, ltr_lik6 h, bfr_lik6 h]
  induction m with
  | zero => rw [bkv, bkv, bk0, bk0, h 17 (by decide), h 18 (by decide)]
  | succ m ih => rw [bkv, bkv, ih, bk2, bk2, bk1, bk1, h 6 (by decide), e, e]
theorem GL_eq {a b : Nat → Nat → Nat} {ln : Nat} (h16 : a 16 ln = b 16 ln) (h21 : ∀ p, p < 8 → a 21 (ln * 8 + p) = b 21 (ln * 8 + p)) {p q : Nat} (hp : p ≤ 8) : GL a ln p q ↔ GL b ln p q := by
  unfold GL
  by_cases h : p = 8
  · rw [if_pos h, if_pos h, h16]
  · rw [if_neg h, if_neg h, h21 p (by omega)]
theorem LnOk_congr {a b : Nat → Nat → Nat} {ln S : Nat} (h16 : a 16 ln = b 16 ln) (h17 : a 17 ln = b 17 ln) (h19 : a 19 ln = b 19 ln) (h20 : a 20 ln = b 20 ln) (h21 : ∀ p, p < 8 → a 21 (ln * 8 + p) = b 21 (ln * 8 + p)) (h : LnOk b ln S) : LnOk a ln S := by
  obtain ⟨h1, h2, h3⟩ := h
  refine ⟨by rw [h19]; exact h1, by rw [h20]; exact h2, fun n w hn1 hn4 hw => ?_⟩
  rw [h3 n w hn1 hn4 hw]
  refine (fin_sub (S := fun p => p ≤ 8) (fun p q hp hq => GL_eq h16 h21 hp) (fun p q hp hq _ => Nat.le_of_lt hq) (fun v q hq hq8 => ?_) (fun p hp => ?_) n 8 (Nat.le_refl 8)).symm
  · unfold KL ltr
    rw [h19, h20]
  · unfold LL
    rw [h17]
theorem RL_congr {fi fi' : Nat → Nat} {ar a br b' : Nat → Nat → Nat} (h0 : fi' 0 = fi 0) (h1 : fi' 1 = fi 1) (h2 : fi' 2 = fi 2) (h23 : fi' 23 = fi 23) (ha : lik6 a ar) (hb : b' 3 = br 3) (h : RL fi ar br) : RL fi' a b' := by
  refine ⟨fun ln hln => ?_, fun hr => ?_⟩
  · rw [hb]
    exact LnOk_congr (by rw [ha 16 (by decide)]) (by rw [ha 17 (by decide)]) (by rw [ha 19 (by decide)]) (by rw [ha 20 (by decide)]) (fun p _ => by rw [ha 21 (by decide)]) (h.1 ln (by omega))
  · have hb := h.2 (by rw [← h23]; exact hr)
    refine BackOk_fi h0 h1 h2 (fun ln hln m hm => ?_)
    rw [ha 22 (by decide), bkv_lik6 ha]
    exact hb ln hln m hm
theorem ExOk_congr {a ar : Nat → Nat → Nat} {i lo hi S : Nat} (hhi : hi ≤ 8) (h10 : a 10 i = ar 10 i) (h11 : a 11 i = ar 11 i) (h12 : a 12 i = ar 12 i) (h13 : ∀ p, lo ≤ p → p < hi → a 13 p = ar 13 p ∧ a 14 p = ar 14 p) (h : ExOk ar i lo hi S) : ExOk a i lo hi S := by
  obtain ⟨e1, e2, e3, e4⟩ := h
  refine ⟨by rw [h10]; exact e1, by rw [h11]; exact e2, fun p q hp hq hb => e3 p q hp hq (by rw [← (h13 p hp hq).2]; exact hb), fun n b hn hb => ?_⟩
  rw [e4 n b hn hb]
  refine (fin_sub (S := fun p => (lo ≤ p ∧ p < hi) ∨ p = 8) (fun p q hp hq => ?_) (fun p q hp hq hg => ?_) (fun v q hq hq8 => ?_) (fun p hp => ?_) n 8 (Or.inr rfl)).symm
  · unfold GE
    rcases hp with hp | hp
    · rw [if_neg (by omega), if_neg (by omega), (h13 p hp.1 hp.2).2]
    · rw [if_pos hp, if_pos hp, h10]
  · unfold GE at hg
    rcases hp with hp | hp
    · rw [if_neg (by omega), (h13 p hp.1 hp.2).2] at hg
      exact Or.inl (e3 p q hp.1 hp.2 hg)
    · rw [if_pos hp, h10] at hg
      exact Or.inl (e1 q hg)
  · unfold KE
    rcases hq with hq | hq
    · rw [(h13 q hq.1 hq.2).1]
    · omega
  · unfold LE'
    rcases hp with hp | hp
    · rw [if_neg (by omega), if_neg (by omega), h11]
    · rw [if_pos hp, if_pos hp, h12]
theorem RE_mk {fi fj fi' fj' : Nat → Nat} {ar br a b' : Nat → Nat → Nat} (hE : RE fi ar fj br) (h : Nat) (hb : h ≤ fi 7) (h7 : fi' 7 = h + 1) (hj : fj' 2 = h + 1) (h6 : h + 1 ≤ 6) (hp : fi' 8 = ltsP b' (h + 1)) (hp8 : fi' 8 ≤ 8) (h12 : ∀ j, a 12 j < 2) (hl : ∀ i, i < h → b' 1 i = br 1 i) (h0 : ∀ i, i < h → b' 0 i = br 0 i)
    (h9 : ∀ i, i < h → a 9 i = ar 9 i) (h10 : ∀ i, i < h → a 10 i = ar 10 i ∧ a 11 i = ar 11 i ∧ a 12 i = ar 12 i) (h13 : ∀ p, p < ltsP br h → a 13 p = ar 13 p ∧ a 14 p = ar 14 p) (t9 : a 9 h = ltsP br h) (top : ExOk a h (ltsP br h) (ltsP b' (h + 1)) (b' 0 h)) : RE fi' a fj' b' := by
  obtain ⟨e1, e2, e3, e4, e5, e6⟩ := hE
  refine ⟨by rw [h7, hj], by omega, by rw [h7]; exact hp, hp8, h12, fun i hi => ?_⟩
  rw [h7] at hi
  by_cases hih : i = h
  · subst hih
    rw [ltsP_congr hl]
    exact ⟨t9, top⟩
  · have hlt : i < h := by omega
    rw [ltsP_congr (fun j hj => hl j (by omega)), ltsP_congr (i := i + 1) (fun j hj => hl j (by omega)), h0 i hlt, h9 i hlt]
    obtain ⟨q1, q2⟩ := e6 i (by omega)
    refine ⟨q1, ?_⟩
    obtain ⟨a1, a2, a3⟩ := h10 i hlt
    have hm := ltsP_mono (br := br) (show i + 1 ≤ h by omega)
    have hm2 := ltsP_mono (br := br) hb
    exact ExOk_congr (by omega) a1 a2 a3 (fun p _ hp => h13 p (by omega)) q2
-- words of small sets
theorem hol_2 : ∀ n, n ≤ 4 → ∀ b, b < 1 <<< n → (hol 2 n b ↔ n = 1 ∧ b = 0) := by decide +kernel
theorem hol_4 : ∀ n, n ≤ 4 → ∀ b, b < 1 <<< n → (hol 4 n b ↔ n = 1 ∧ b = 1) := by decide +kernel
theorem hol_6 : ∀ n, n ≤ 4 → ∀ b, b < 1 <<< n → (hol 6 n b ↔ n = 1) := by decide +kernel
theorem hol_1 : ∀ n, n ≤ 4 → ∀ b, b < 1 <<< n → (hol 1 n b ↔ n = 0) := by decide +kernel
theorem hol_all : ∀ n, n ≤ 4 → ∀ b, b < 1 <<< n → hol 2147483647 n b := by decide +kernel
theorem hol_0 (n b : Nat) : ¬ hol 0 n b := by
  rw [hol_iff, Nat.zero_testBit]
  intro h; cases h
theorem shl_bit (P q : Nat) : (1 <<< P).testBit q = true ↔ q = P := by
  rw [Nat.one_shiftLeft, Nat.testBit_two_pow, decide_eq_true_iff]
  exact eq_comm
theorem shl_31 {P : Nat} (h : P < 31) : 1 <<< P < 2 ^ 31 := by
  rw [Nat.one_shiftLeft]
  exact Nat.pow_lt_pow_right (by decide) h
/-- a letter's machine -/
theorem ex_letter {a : Nat → Nat → Nat} {h P c : Nat} (hP : P < 8) (hc : c ≤ 2) (h10 : a 10 h = 1 <<< P) (h11 : a 11 h = 1 <<< P) (h12 : a 12 h = 0) (h13 : a 13 P = c) (h14 : a 14 P = 0) : ExOk a h P (P + 1) (if c = 0 then 2 else if c = 1 then 4 else 6) := by
  refine ⟨fun q hq => ?_, fun q hq => ?_, fun p q h1 h2 hq => ?_, fun n b hn hb => ?_⟩
  · rw [h10, shl_bit] at hq
    omega
  · rw [h11, shl_bit] at hq
    omega
  · obtain rfl : p = P := by omega
    rw [h14, Nat.zero_testBit] at hq
    cases hq
  · have key : fin (GE a h) (KE a) (LE' a h) (lt b) n 8 ↔ n = 1 ∧ KE a (lt b 0) P := by
      match n with
      | 0 =>
        constructor
        · intro hf
          have hf : LE' a h 8 := hf
          unfold LE' at hf
          rw [if_pos rfl] at hf
          exact absurd h12 hf
        · rintro ⟨h1, -⟩
          omega
      | 1 =>
        constructor
        · rintro ⟨q, hq, hg, hk, hf⟩
          unfold GE at hg
          rw [if_pos rfl, h10, shl_bit] at hg
          subst hg
          exact ⟨rfl, hk⟩
        · rintro ⟨-, hk⟩
          refine ⟨P, hP, ?_, hk, ?_⟩
          · unfold GE
            rw [if_pos rfl, h10, shl_bit]
          · show LE' a h P
            unfold LE'
            rw [if_neg (by omega), h11, shl_bit]
      | n + 2 =>
        constructor
        · rintro ⟨q, hq, hg, hk, q2, hq2, hg2, -⟩
          unfold GE at hg hg2
          rw [if_pos rfl, h10, shl_bit] at hg
          subst hg
          rw [if_neg (by omega), h14, Nat.zero_testBit] at hg2
          cases hg2
        · rintro ⟨h1, -⟩
          omega
    rw [key]
    unfold KE
    rw [h13]
    have hl : n = 1 → lt b 0 = b := by
      rintro rfl
      have : b < 2 := hb
      unfold lt
      rw [Nat.shiftRight_zero, Nat.and_one_is_mod]
      omega
    rcases (show c = 0 ∨ c = 1 ∨ c = 2 by omega) with rfl | rfl | rfl
    · rw [if_pos rfl, hol_2 n hn b hb]
      constructor
      · rintro ⟨h1, h2⟩
        rw [hl h1, if_pos h2]
        exact ⟨h1, by decide⟩
      · rintro ⟨h1, h2⟩
        rw [hl h1] at h2
        refine ⟨h1, ?_⟩
        by_cases h3 : b = 0
        · exact h3
        · rw [if_neg h3] at h2
          exact absurd rfl h2
    · rw [if_neg (by decide), if_pos rfl, hol_4 n hn b hb]
      constructor
      · rintro ⟨h1, h2⟩
        rw [hl h1, if_neg (by omega)]
        exact ⟨h1, by decide⟩
      · rintro ⟨h1, h2⟩
        rw [hl h1] at h2
        refine ⟨h1, ?_⟩
        by_cases h3 : b = 0
        · rw [if_pos h3] at h2
          exact absurd rfl h2
        · subst h1
          have : b < 2 := hb
          omega
    · rw [if_neg (by decide), if_neg (by decide), hol_6 n hn b hb]
      constructor
      · intro h1
        refine ⟨h1, ?_⟩
        split <;> decide
      · exact fun h => h.1
theorem ex_unit {a : Nat → Nat → Nat} {h P : Nat} (h10 : a 10 h = 0) (h11 : a 11 h = 0) (h12 : a 12 h = 1) : ExOk a h P P 1 := by
  refine ⟨fun q hq => ?_, fun q hq => ?_, fun p q h1 h2 hq => ?_, fun n b hn hb => ?_⟩
  · rw [h10, Nat.zero_testBit] at hq
    cases hq
  · rw [h11, Nat.zero_testBit] at hq
    cases hq
  · omega
  · rw [hol_1 n hn b hb]
    cases n with
    | zero =>
      constructor
      · intro _
        show LE' a h 8
        unfold LE'
        rw [if_pos rfl, h12]
        decide
      · intro _; rfl
    | succ n =>
      constructor
      · intro h; omega
      · rintro ⟨q, hq, hg, -⟩
        unfold GE at hg
        rw [if_pos rfl, h10, Nat.zero_testBit] at hg
        cases hg
end
section
/-! PURE: the machines that the methods make have the words that the reference makes -/
theorem ex_cat {ar a : Nat → Nat → Nat} {x y lo mid hi Sx Sy : Nat} (hhi : hi ≤ 8) (hlm : lo ≤ mid) (hmh : mid ≤ hi) (hx : ExOk ar x lo mid Sx) (hy : ExOk ar y mid hi Sy)
    (h10 : ∀ q, (a 10 x).testBit q = true ↔ (ar 10 x).testBit q = true ∨ (ar 12 x ≠ 0 ∧ (ar 10 y).testBit q = true)) (h11 : ∀ q, (a 11 x).testBit q = true ↔ (ar 11 y).testBit q = true ∨ (ar 12 y ≠ 0 ∧ (ar 11 x).testBit q = true)) (h12 : a 12 x ≠ 0 ↔ ar 12 x ≠ 0 ∧ ar 12 y ≠ 0) (h13 : ∀ p, a 13 p = ar 13 p)
    (h14 : ∀ p q, p < 8 → ((a 14 p).testBit q = true ↔ (ar 14 p).testBit q = true ∨ ((ar 11 x).testBit p = true ∧ (ar 10 y).testBit q = true))) : ExOk a x lo hi (proO Sx Sy 5) := by
  obtain ⟨x1, x2, x3, x4⟩ := hx
  obtain ⟨y1, y2, y3, y4⟩ := hy
  have hKE : KE a = KE ar := by
    funext v q
    unfold KE
    rw [h13]
  refine ⟨fun q hq => ?_, fun q hq => ?_, fun p q h1 h2 hq => ?_, fun n b hn hb => ?_⟩
  · rcases (h10 q).mp hq with h | ⟨-, h⟩
    · have := x1 q h; omega
    · have := y1 q h; omega
  · rcases (h11 q).mp hq with h | ⟨-, h⟩
    · have := y2 q h; omega
    · have := x2 q h; omega
  · rcases (h14 p q (by omega)).mp hq with h | ⟨-, h⟩
    · rcases Nat.lt_or_ge p mid with hp | hp
      · have := x3 p q h1 hp h; omega
      · have := y3 p q hp h2 h; omega
    · have := y1 q h; omega
  · rw [hol_pro hn hb, hKE]
    have hc := fin_cat (Gx := GE ar x) (Gy := GE ar y) (G' := GE a x) (Kv := KE ar) (Lx := LE' ar x) (Ly := LE' ar y) (L' := LE' a x) (w := lt b) (X := fun p => lo ≤ p ∧ p < mid) (Y := fun p => mid ≤ p ∧ p < hi) ?_ ?_ ?_ ?_ ?_ ?_ n 8 (Or.inr rfl)
    · rw [hc]
      constructor
      · rintro ⟨p, hp, s1, s2⟩
        refine ⟨n - p, by omega, ?_, ?_⟩
        · rw [show n - (n - p) = p by omega]
          have := (x4 p _ (by omega) (shr_in hb hp)).mp s1
          exact (fin_w p (fun m _ => lt_shr b (n - p) m) 8).mp this
        · have := (y4 (n - p) _ (by omega) (msk_in _ _)).mp s2
          exact (fin_w (n - p) (fun m hm => lt_msk hm) 8).mp this
      · rintro ⟨r, hr, s1, s2⟩
        refine ⟨n - r, by omega, ?_, ?_⟩
        · refine (x4 (n - r) _ (by omega) (shr_in hb (by omega))).mpr ?_
          rw [show n - (n - r) = r by omega]
          exact (fin_w (n - r) (fun m _ => (lt_shr b r m)) 8).mpr s1
        · rw [show n - (n - r) = r by omega]
          refine (y4 r _ (by omega) (msk_in _ _)).mpr ?_
          exact (fin_w r (fun m hm => lt_msk hm) 8).mpr s2
    · intro p q hp hq hg
      unfold GE at hg
      rcases hp with hp | hp
      · rw [if_neg (by omega)] at hg
        exact x3 p q hp.1 hp.2 hg
      · rw [if_pos hp] at hg
        exact x1 q hg
    · intro p q hp hq hg
      unfold GE at hg
      rcases hp with hp | hp
      · rw [if_neg (by omega)] at hg
        exact y3 p q hp.1 hp.2 hg
      · rw [if_pos hp] at hg
        exact y1 q hg
    · intro p q hp hq
      unfold GE LE'
      rcases hp with hp | hp
      · rw [if_neg (by omega), if_neg (by omega), if_neg (by omega), if_pos rfl]
        exact h14 p q (by omega)
      · rw [if_pos hp, if_pos hp, if_pos hp, if_pos rfl]
        exact h10 q
    · intro p hp
      unfold LE'
      rcases hp with hp | hp
      · rw [if_neg (by omega), if_neg (by omega), if_pos rfl, h11]
        constructor
        · rintro (h | ⟨h1, h2⟩)
          · have := y2 p h; omega
          · exact ⟨h2, h1⟩
        · rintro ⟨h1, h2⟩
          exact Or.inr ⟨h2, h1⟩
      · rw [if_pos hp, if_pos hp, if_pos rfl]
        exact h12
    · intro p q hp hq
      unfold GE
      rw [if_neg (by omega), if_neg (by omega), h14 p q (by omega)]
      constructor
      · rintro (h | ⟨h1, h2⟩)
        · exact h
        · have := x2 p h1; omega
      · exact Or.inl
    · intro p hp
      unfold LE'
      rw [if_neg (by omega), if_neg (by omega), h11]
      constructor
      · rintro (h | ⟨h1, h2⟩)
        · exact h
        · have := x2 p h2; omega
      · exact Or.inl
theorem ex_alt {ar a : Nat → Nat → Nat} {x y lo mid hi Sx Sy : Nat} (hhi : hi ≤ 8) (hlm : lo ≤ mid) (hmh : mid ≤ hi) (hx : ExOk ar x lo mid Sx) (hy : ExOk ar y mid hi Sy)
    (h10 : a 10 x = ar 10 x ||| ar 10 y) (h11 : a 11 x = ar 11 x ||| ar 11 y) (h12 : a 12 x ≠ 0 ↔ ar 12 x ≠ 0 ∨ ar 12 y ≠ 0) (h13 : ∀ p, a 13 p = ar 13 p) (h14 : ∀ p, a 14 p = ar 14 p) : ExOk a x lo hi (Sx ||| Sy) := by
  obtain ⟨x1, x2, x3, x4⟩ := hx
  obtain ⟨y1, y2, y3, y4⟩ := hy
  have hKE : KE a = KE ar := by
    funext v q
    unfold KE
    rw [h13]
  refine ⟨fun q hq => ?_, fun q hq => ?_, fun p q h1 h2 hq => ?_, fun n b hn hb => ?_⟩
  · rw [h10, Nat.testBit_or, Bool.or_eq_true] at hq
    rcases hq with h | h
    · have := x1 q h; omega
    · have := y1 q h; omega
  · rw [h11, Nat.testBit_or, Bool.or_eq_true] at hq
    rcases hq with h | h
    · have := x2 q h; omega
    · have := y2 q h; omega
  · rw [h14] at hq
    rcases Nat.lt_or_ge p mid with hp | hp
    · have := x3 p q h1 hp hq; omega
    · have := y3 p q hp h2 hq; omega
  · rw [hol_iff, Nat.testBit_or, Bool.or_eq_true, ← hol_iff, ← hol_iff, x4 n b hn hb, y4 n b hn hb, hKE]
    refine (fin_alt (X := fun p => lo ≤ p ∧ p < mid) (Y := fun p => mid ≤ p ∧ p < hi) ?_ ?_ ?_ ?_ ?_ ?_ ?_ ?_ n).symm
    · intro p q hp hq hg
      unfold GE at hg
      rcases hp with hp | hp
      · rw [if_neg (by omega)] at hg
        exact x3 p q hp.1 hp.2 hg
      · rw [if_pos hp] at hg
        exact x1 q hg
    · intro p q hp hq hg
      unfold GE at hg
      rcases hp with hp | hp
      · rw [if_neg (by omega)] at hg
        exact y3 p q hp.1 hp.2 hg
      · rw [if_pos hp] at hg
        exact y1 q hg
    · intro q hq
      unfold GE
      rw [if_pos rfl, if_pos rfl, if_pos rfl, h10, Nat.testBit_or, Bool.or_eq_true]
    · unfold LE'
      rw [if_pos rfl, if_pos rfl, if_pos rfl]
      exact h12
    · intro p q hp hq
      unfold GE
      rw [if_neg (by omega), if_neg (by omega), h14]
    · intro p hp
      unfold LE'
      rw [if_neg (by omega), if_neg (by omega), h11, Nat.testBit_or, Bool.or_eq_true]
      constructor
      · rintro (h | h)
        · exact h
        · have := y2 p h; omega
      · exact Or.inl
    · intro p q hp hq
      unfold GE
      rw [if_neg (by omega), if_neg (by omega), h14]
    · intro p hp
      unfold LE'
      rw [if_neg (by omega), if_neg (by omega), h11, Nat.testBit_or, Bool.or_eq_true]
      constructor
      · rintro (h | h)
        · have := x2 p h; omega
        · exact h
      · exact Or.inr
theorem ex_star {ar a : Nat → Nat → Nat} {x lo hi Sx : Nat} (hhi : hi ≤ 8) (hx : ExOk ar x lo hi Sx) (h10 : a 10 x = ar 10 x) (h11 : a 11 x = ar 11 x) (h12 : a 12 x ≠ 0) (h13 : ∀ p, a 13 p = ar 13 p)
    (h14 : ∀ p q, p < 8 → ((a 14 p).testBit q = true ↔ (ar 14 p).testBit q = true ∨ ((ar 11 x).testBit p = true ∧ (ar 10 x).testBit q = true))) : ExOk a x lo hi (chaO Sx 4) := by
  obtain ⟨x1, x2, x3, x4⟩ := hx
  have hKE : KE a = KE ar := by
    funext v q
    unfold KE
    rw [h13]
  have hL8 : LE' a x 8 := by
    unfold LE'
    rw [if_pos rfl]
    exact h12
  refine ⟨fun q hq => x1 q (by rw [← h10]; exact hq), fun q hq => x2 q (by rw [← h11]; exact hq), fun p q h1 h2 hq => ?_, fun n b hn hb => ?_⟩
  · rcases (h14 p q (by omega)).mp hq with h | ⟨-, h⟩
    · exact x3 p q h1 h2 h
    · exact x1 q h
  · refine hol_cha (fun n b => fin (GE a x) (KE a) (LE' a x) (lt b) n 8) hL8 ?_ hn hb
    intro n b hn1 hn4 hb
    obtain ⟨n, rfl⟩ : ∃ k, n = k + 1 := ⟨n - 1, by omega⟩
    have hs := fin_star (G := GE ar x) (G' := GE a x) (Kv := KE a) (L := LE' ar x) (L' := LE' a x) (w := lt b) (X := fun p => lo ≤ p ∧ p < hi) ?_ ?_ ?_ ?_ hL8 n
    · show fin (GE a x) (KE a) (LE' a x) (lt b) (n + 1) 8 ↔ _
      rw [hs]
      constructor
      · rintro ⟨r, hr, s1, s2⟩
        refine ⟨n + 1 - r, by omega, by omega, ?_, ?_⟩
        · rw [show n + 1 - (n + 1 - r) = r by omega]
          have h5 := shr_in hb (show n + 1 - r ≤ n + 1 by omega)
          rw [show n + 1 - (n + 1 - r) = r by omega] at h5
          refine (x4 (n + 1 - r) _ (by omega) h5).mpr ?_
          rw [hKE] at s1
          exact (fin_w (n + 1 - r) (fun m _ => (lt_shr b r m)) 8).mpr s1
        · rw [show n + 1 - (n + 1 - r) = r by omega]
          exact (fin_w r (fun m hm => lt_msk hm) 8).mpr s2
      · rintro ⟨p, hp1, hp2, s1, s2⟩
        refine ⟨n + 1 - p, by omega, ?_, ?_⟩
        · rw [show n + 1 - (n + 1 - p) = p by omega, hKE]
          have := (x4 p _ (by omega) (shr_in hb hp2)).mp s1
          exact (fin_w p (fun m _ => lt_shr b (n + 1 - p) m) 8).mp this
        · exact (fin_w (n + 1 - p) (fun m hm => lt_msk hm) 8).mp s2
    · intro p q hp hq hg
      unfold GE at hg
      rcases hp with hp | hp
      · rw [if_neg (by omega)] at hg
        exact x3 p q hp.1 hp.2 hg
      · rw [if_pos hp] at hg
        exact x1 q hg
    · intro p q hp hq
      unfold GE LE'
      rw [if_neg (by omega), if_neg (by omega), if_neg (by omega), if_pos rfl]
      exact h14 p q (by omega)
    · intro q hq
      unfold GE
      rw [if_pos rfl, if_pos rfl, h10]
    · intro p hp
      unfold LE'
      rw [if_neg (by omega), if_neg (by omega), h11]
theorem ex_rev {ar a : Nat → Nat → Nat} {x lo hi Sx : Nat} (hhi : hi ≤ 8) (hx : ExOk ar x lo hi Sx) (h10 : a 10 x = ar 11 x) (h11 : a 11 x = ar 10 x) (h12 : a 12 x = ar 12 x) (h13 : ∀ p, a 13 p = ar 13 p)
    (h14 : ∀ p, lo ≤ p → p < hi → ∀ q, ((a 14 p).testBit q = true ↔ lo ≤ q ∧ q < hi ∧ (ar 14 q).testBit p = true)) : ExOk a x lo hi (mrsO Sx 5) := by
  obtain ⟨x1, x2, x3, x4⟩ := hx
  have hKE : KE a = KE ar := by
    funext v q
    unfold KE
    rw [h13]
  refine ⟨fun q hq => x2 q (by rw [← h10]; exact hq), fun q hq => x1 q (by rw [← h11]; exact hq), fun p q h1 h2 hq => ?_, fun n b hn hb => ?_⟩
  · have := (h14 p h1 h2 q).mp hq
    omega
  · rw [hol_mrs hn hb, x4 n (mirP b n) hn (mirP_lt b n), hKE]
    have hr := fin_rev (G := GE ar x) (G' := GE a x) (Kv := KE ar) (L := LE' ar x) (L' := LE' a x) (w := lt b) (X := fun p => lo ≤ p ∧ p < hi) (n := n) ?_ ?_ ?_ ?_ ?_ ?_
    · rw [hr]
      refine fin_w n (fun m hm => ?_) 8
      have := mirP_lt1 b n (n - 1 - m) (by omega)
      rw [show n - 1 - (n - 1 - m) = m by omega] at this
      exact this
    · intro p q hp hq hg
      unfold GE at hg
      rcases hp with hp | hp
      · rw [if_neg (by omega)] at hg
        exact x3 p q hp.1 hp.2 hg
      · rw [if_pos hp] at hg
        exact x1 q hg
    · intro p q hp hq hg
      unfold GE at hg
      rcases hp with hp | hp
      · rw [if_neg (by omega)] at hg
        have := (h14 p hp.1 hp.2 q).mp hg
        exact ⟨this.1, this.2.1⟩
      · rw [if_pos hp, h10] at hg
        exact x2 q hg
    · intro p q hp hq
      unfold GE
      rw [if_neg (by omega), if_neg (by omega), h14 q hq.1 hq.2 p]
      constructor
      · intro h; exact ⟨hp.1, hp.2, h⟩
      · exact fun h => h.2.2
    · intro q hq
      unfold GE LE'
      rw [if_neg (by omega), if_pos rfl, h10]
    · intro q hq
      unfold GE LE'
      rw [if_pos rfl, if_neg (by omega), h11]
    · unfold LE'
      rw [if_pos rfl, if_pos rfl, h12]
theorem ln_set {ar a : Nat → Nat → Nat} {x lo hi S ln : Nat} (hhi : hi ≤ 8) (hx : ExOk ar x lo hi S) (h16 : a 16 ln = ar 10 x >>> lo) (h17 : a 17 ln = ar 11 x >>> lo) (h19 : ∀ q, (a 19 ln).testBit q = true ↔ lo + q < hi ∧ ar 13 (lo + q) ≠ 1) (h20 : ∀ q, (a 20 ln).testBit q = true ↔ lo + q < hi ∧ ar 13 (lo + q) ≠ 0)
    (h21 : ∀ p, lo + p < hi → a 21 (ln * 8 + p) = ar 14 (lo + p) >>> lo) (h19' : a 19 ln < 256) (h20' : a 20 ln < 256) : LnOk a ln S := by
  obtain ⟨x1, x2, x3, x4⟩ := hx
  have hK : ∀ v q, KL a ln v q ↔ lo + q < hi ∧ KE ar v (lo + q) := by
    intro v q
    unfold KL ltr KE
    by_cases hv : v = 0
    · rw [if_pos hv, if_pos hv]; exact h19 q
    · rw [if_neg hv, if_neg hv]; exact h20 q
  have key : ∀ w : Nat → Nat, ∀ n p, lo + p < hi → (fin (GL a ln) (KL a ln) (LL a ln) w n p ↔ fin (GE ar x) (KE ar) (LE' ar x) w n (lo + p)) := by
    intro w n
    induction n with
    | zero =>
      intro p hp
      show LL a ln p ↔ LE' ar x (lo + p)
      unfold LL LE'
      rw [if_neg (by omega), h17, Nat.testBit_shiftRight]
    | succ n ih =>
      intro p hp
      constructor
      · rintro ⟨q, hq, hg, hk, hf⟩
        obtain ⟨k1, k2⟩ := (hK _ _).mp hk
        unfold GL at hg
        rw [if_neg (by omega), h21 p hp, Nat.testBit_shiftRight] at hg
        refine ⟨lo + q, by omega, ?_, k2, (ih q k1).mp hf⟩
        unfold GE
        rw [if_neg (by omega)]
        exact hg
      · rintro ⟨q, hq, hg, hk, hf⟩
        unfold GE at hg
        rw [if_neg (by omega)] at hg
        obtain ⟨q1, q2⟩ := x3 (lo + p) q (by omega) hp hg
        obtain ⟨q, rfl⟩ : ∃ k, q = lo + k := ⟨q - lo, by omega⟩
        refine ⟨q, by omega, ?_, (hK _ _).mpr ⟨q2, hk⟩, (ih q q2).mpr hf⟩
        unfold GL
        rw [if_neg (by omega), h21 p hp, Nat.testBit_shiftRight]
        exact hg
  refine ⟨h19', h20', fun n b hn1 hn4 hb => ?_⟩
  rw [x4 n b hn4 hb]
  obtain ⟨n, rfl⟩ : ∃ k, n = k + 1 := ⟨n - 1, by omega⟩
  constructor
  · rintro ⟨q, hq, hg, hk, hf⟩
    unfold GE at hg
    rw [if_pos rfl] at hg
    obtain ⟨q1, q2⟩ := x1 q hg
    obtain ⟨q, rfl⟩ : ∃ k, q = lo + k := ⟨q - lo, by omega⟩
    refine ⟨q, by omega, ?_, (hK _ _).mpr ⟨q2, hk⟩, (key _ n q q2).mpr hf⟩
    unfold GL
    rw [if_pos rfl, h16, Nat.testBit_shiftRight]
    exact hg
  · rintro ⟨q, hq, hg, hk, hf⟩
    obtain ⟨k1, k2⟩ := (hK _ _).mp hk
    unfold GL at hg
    rw [if_pos rfl, h16, Nat.testBit_shiftRight] at hg
    refine ⟨lo + q, by omega, ?_, k2, (key _ n q k1).mp hf⟩
    unfold GE
    rw [if_pos rfl]
    exact hg
theorem ln_any {a : Nat → Nat → Nat} {ln : Nat} (h16 : a 16 ln = 1) (h17 : a 17 ln = 1) (h19 : a 19 ln = 1) (h20 : a 20 ln = 1) (h21 : a 21 (ln * 8) = 1) : LnOk a ln 2147483647 := by
  have hK : ∀ v, KL a ln v 0 := by
    intro v
    unfold KL ltr
    split
    · rw [h19]; decide
    · rw [h20]; decide
  have key : ∀ w : Nat → Nat, ∀ n, fin (GL a ln) (KL a ln) (LL a ln) w n 0 := by
    intro w n
    induction n with
    | zero =>
      show LL a ln 0
      unfold LL
      rw [h17]; decide
    | succ n ih =>
      refine ⟨0, by decide, ?_, hK _, ih⟩
      unfold GL
      rw [if_neg (by decide), Nat.add_zero, h21]
      decide
  refine ⟨by rw [h19]; decide, by rw [h20]; decide, fun n b hn1 hn4 hb => ?_⟩
  constructor
  · intro _
    obtain ⟨n, rfl⟩ : ∃ k, n = k + 1 := ⟨n - 1, by omega⟩
    refine ⟨0, by decide, ?_, hK _, key _ n⟩
    unfold GL
    rw [if_pos rfl, h16]
    decide
  · intro _
    exact hol_all n hn4 b hb
end
section
/-! PURE: the methods that make expressions keep the relation, with equal answers -/
theorem linkP_at (ar : Nat → Nat → Nat) (fr to : Nat) : ∀ P p, linkP ar fr to P 14 p = if p < P ∧ fr.testBit p = true then ar 14 p ||| to else ar 14 p := by
  intro P
  induction P with
  | zero =>
    intro p
    rw [linkP, if_neg (by omega)]
  | succ P ih =>
    intro p
    rw [linkP]
    by_cases h : fr >>> P &&& 1 = 1
    · rw [if_pos h, up2_k]
      rw [bit_iff] at h
      by_cases hp : p = P
      · subst hp
        rw [if_pos rfl, ih, if_neg (by omega), if_pos ⟨by omega, h⟩]
      · rw [if_neg hp, ih]
        have : (p < P ∧ fr.testBit p = true) ↔ (p < P + 1 ∧ fr.testBit p = true) := by
          constructor
          · rintro ⟨h1, h2⟩; exact ⟨by omega, h2⟩
          · rintro ⟨h1, h2⟩; exact ⟨by omega, h2⟩
        by_cases hq : p < P ∧ fr.testBit p = true
        · rw [if_pos hq, if_pos (this.mp hq)]
        · rw [if_neg hq, if_neg (fun z => hq (this.mpr z))]
    · rw [if_neg h, ih]
      rw [bit_iff] at h
      have : (p < P ∧ fr.testBit p = true) ↔ (p < P + 1 ∧ fr.testBit p = true) := by
        constructor
        · rintro ⟨h1, h2⟩; exact ⟨by omega, h2⟩
        · rintro ⟨h1, h2⟩
          by_cases hp : p = P
          · subst hp; exact absurd h2 h
          · exact ⟨by omega, h2⟩
      by_cases hq : p < P ∧ fr.testBit p = true
      · rw [if_pos hq, if_pos (this.mp hq)]
      · rw [if_neg hq, if_neg (fun z => hq (this.mpr z))]
theorem linkP_bit {ar : Nat → Nat → Nat} {fr to p q : Nat} (hp : p < 8) : (linkP ar fr to 8 14 p).testBit q = true ↔ (ar 14 p).testBit q = true ∨ (fr.testBit p = true ∧ to.testBit q = true) := by
  rw [linkP_at]
  by_cases h : fr.testBit p = true
  · rw [if_pos ⟨hp, h⟩, Nat.testBit_or, Bool.or_eq_true]
    constructor
    · rintro (h1 | h1)
      · exact Or.inl h1
      · exact Or.inr ⟨h, h1⟩
    · rintro (h1 | ⟨-, h1⟩)
      · exact Or.inl h1
      · exact Or.inr h1
  · rw [if_neg (fun z => h z.2)]
    constructor
    · exact Or.inl
    · rintro (h1 | ⟨h1, -⟩)
      · exact h1
      · exact absurd h1 h
theorem linkP_B {ar : Nat → Nat → Nat} {fr to P : Nat} (h : ∀ k j, ar k j < 2 ^ 31) (ht : to < 2 ^ 31) : ∀ k j, linkP ar fr to P k j < 2 ^ 31 := by
  intro k j
  by_cases hk : k = 14
  · subst hk
    rw [linkP_at]
    split
    · exact Nat.or_lt_two_pow (h _ _) ht
    · exact h _ _
  · rw [linkP_n hk]; exact h _ _
theorem RG_mk {fi fj fi' fj' : Nat → Nat} {ar br a b' : Nat → Nat → Nat} (h : RG fi ar fj br) (h0 : fi' 0 = fi 0) (h1 : fi' 1 = fi 1) (h2 : fi' 2 = fi 2) (h3 : fi' 3 = fi 3) (h23 : fi' 23 < 2) (h5 : fj' 5 = fj 5) (h6 : fj' 6 = fj 6) (ha : ∀ k j, a k j < 2 ^ 31) (hb : ∀ k j, b' k j < 2 ^ 31) (a4 : a 4 = ar 4) (a5 : a 5 = ar 5) (a6 : a 6 = ar 6) (b4 : b' 4 = br 4) : RG fi' a fj' b' := by
  obtain ⟨g1, g2, g3, g4, g5, g6, g7, g8⟩ := h
  refine ⟨?_, by rw [h5, h0]; exact g2, by rw [h6, h1]; exact g3, ha, hb, h23, ?_, ?_⟩
  · unfold gridF at g1 ⊢
    rw [h0, h1, h2, h3]; exact g1
  · rw [h3, h1, a4, a5]; exact g7
  · rw [h0, h1, a6, b4]; exact g8
theorem agree_PI {l : Launch} {yX yM : MethodName} {bX bM : ByteArray} {nX nM dx dm : Nat} {As : List Value} {fi fj : Nat → Nat} {ar br : Nat → Nat → Nat} {qX qM : Nat × (Nat → Nat) × (Nat → Nat → Nat)} (hdx : dx ≤ 6) (hdm : dm ≤ 6) (hX : oMetI l 0 yX bX nX (some .int) dx As fi ar (PI qX)) (hM : oMetI l 1 yM bM nM (some .int) dm As fj br (PI qM)) (h1 : qX.1 = qM.1) (h2 : Rel qX.2 qM.2) :
    ∃ (dx dm : Nat) (PX PM : Int32 → (Nat → Nat) → (Nat → Nat → Nat) → Prop), dx ≤ 6 ∧ dm ≤ 6 ∧ oMetI l 0 yX bX nX (some .int) dx As fi ar PX ∧ oMetI l 1 yM bM nM (some .int) dm As fj br PM ∧ ∀ r f a r' f' a', PX r f a → PM r' f' a' → r = r' ∧ Rel (f, a) (f', a') := by
  refine ⟨dx, dm, _, _, hdx, hdm, hX, hM, ?_⟩
  rintro r f a r' f' a' ⟨rfl, rfl, rfl⟩ ⟨rfl, rfl, rfl⟩
  exact ⟨by rw [h1], h2⟩
theorem ag_letter {fi fj : Nat → Nat} {ar br : Nat → Nat → Nat} (x : Int32) (h : Rel (fi, ar) (fj, br)) : (letX x fi ar).1 = (letM x fj br).1 ∧ Rel (letX x fi ar).2 (letM x fj br).2 := by
  obtain ⟨hG, hE, hL⟩ := id h
  obtain ⟨g1, g2, g3, g4, g5, g6, g7, g8⟩ := id hG
  obtain ⟨e1, e2, e3, e4, e5, e6⟩ := id hE
  dsimp only at *
  rw [letX, letM]
  by_cases hx : x < 0 ∨ 2 < x
  · rw [if_pos hx, if_pos hx]
    exact ⟨rfl, h⟩
  · rw [if_neg hx, if_neg hx]
    by_cases hf : fi 7 = 6 ∨ fi 8 = 8
    · rw [if_pos hf, if_pos (by rw [← e1, ← e3]; exact hf)]
      exact ⟨rfl, h⟩
    · rw [if_neg hf, if_neg (by rw [← e1, ← e3]; exact hf)]
      refine ⟨by rw [e1], ?_⟩
      have hx0 : ¬ x < 0 := fun q => hx (Or.inl q)
      have hx2 : x ≤ 2 := Int32.not_lt.mp (fun q => hx (Or.inr q))
      obtain ⟨c, hc, rfl⟩ := nI_of2 (M := 2) (n := 2) rfl hx0 hx2
      rw [nI_clamp (by omega)]
      have hP8 : fi 8 < 8 := by omega
      have hsh := shl_31 (show fi 8 < 31 by omega)
      have hSc : (if c = 0 then 2 else if c = 1 then 4 else 6) < 2 ^ 31 := by split; decide; split <;> decide
      generalize hS : (if c = 0 then 2 else if c = 1 then 4 else 6) = S at hSc ⊢
      have el : ltsP (up2 (up2 br 0 (fj 2) S) 1 (fj 2) 1) (fj 2) = ltsP br (fj 2) := ltsP_congr (fun j hj => by rw [up2_k, if_neg (by omega), up2_a (by decide)])
      refine ⟨RG_mk hG rfl rfl rfl rfl g6 rfl rfl ?_ (hB_up (hB_up g5 hSc) (by decide)) rfl rfl rfl rfl, ?_, RL_congr (fi := fi) (ar := ar) (br := br) rfl rfl rfl rfl ?_ ?_ hL⟩
      · exact hB_up (hB_up (hB_up (hB_up (hB_up (hB_up g4 (by omega)) hsh) hsh) (by decide)) (by omega)) (by decide)
      · refine RE_mk hE (fi 7) (Nat.le_refl _) rfl (by rw [← e1]; rfl) (by omega) ?_ ?_ ?_ ?_ ?_ ?_ ?_ ?_ ?_ ?_
        · show fi 8 + 1 = ltsP (up2 (up2 br 0 (fj 2) S) 1 (fj 2) 1) (fi 7 + 1)
          rw [ltsP, e1, el, up2_k, if_pos rfl, e3, e1]
        · show fi 8 + 1 ≤ 8
          omega
        · intro j
          dsimp only
          rw [up2_a (by decide), up2_a (by decide), pushA, up2_k]
          split
          · decide
          · rw [up2_a (by decide), up2_a (by decide), up2_a (by decide)]
            exact e5 j
        · intro i hi
          dsimp only
          rw [up2_k, if_neg (by omega), up2_a (by decide)]
        · intro i hi
          dsimp only
          rw [up2_a (by decide), up2_k, if_neg (by omega)]
        · intro i hi
          dsimp only
          rw [up2_a (by decide), up2_a (by decide), pushA, up2_a (by decide), up2_a (by decide), up2_a (by decide), up2_k, if_neg (by omega)]
        · intro i hi
          dsimp only
          refine ⟨?_, ?_, ?_⟩
          · rw [up2_a (by decide), up2_a (by decide), pushA, up2_a (by decide), up2_a (by decide), up2_k, if_neg (by omega), up2_a (by decide)]
          · rw [up2_a (by decide), up2_a (by decide), pushA, up2_a (by decide), up2_k, if_neg (by omega), up2_a (by decide), up2_a (by decide)]
          · rw [up2_a (by decide), up2_a (by decide), pushA, up2_k, if_neg (by omega), up2_a (by decide), up2_a (by decide), up2_a (by decide)]
        · intro p hp
          rw [← e3] at hp
          dsimp only
          refine ⟨?_, ?_⟩
          · rw [up2_a (by decide), up2_k, if_neg (by omega), pushA, up2_a (by decide), up2_a (by decide), up2_a (by decide), up2_a (by decide)]
          · rw [up2_k, if_neg (by omega), up2_a (by decide), pushA, up2_a (by decide), up2_a (by decide), up2_a (by decide), up2_a (by decide)]
        · dsimp only
          rw [up2_a (by decide), up2_a (by decide), pushA, up2_a (by decide), up2_a (by decide), up2_a (by decide), up2_s]
          exact e3
        · dsimp only
          rw [show ltsP (up2 (up2 br 0 (fj 2) S) 1 (fj 2) 1) (fi 7 + 1) = fi 8 + 1 by rw [ltsP, e1, el, up2_k, if_pos rfl, e3, e1], ← e3, e1, up2_a (by decide), up2_s, ← hS]
          refine ex_letter hP8 hc ?_ ?_ ?_ ?_ ?_
          · rw [up2_a (by decide), up2_a (by decide), pushA, up2_a (by decide), up2_a (by decide), e1, up2_s]
          · rw [up2_a (by decide), up2_a (by decide), pushA, up2_a (by decide), e1, up2_s]
          · rw [up2_a (by decide), up2_a (by decide), pushA, e1, up2_s]
          · rw [up2_a (by decide), up2_s]
          · rw [up2_s]
      · intro k hk
        dsimp only
        rw [up2_a (by omega), up2_a (by omega), pushA, up2_a (by omega), up2_a (by omega), up2_a (by omega), up2_a (by omega)]
      · dsimp only
        rw [up2_a (by decide), up2_a (by decide)]
theorem ag_unit {fi fj : Nat → Nat} {ar br : Nat → Nat → Nat} (h : Rel (fi, ar) (fj, br)) : (unitX fi ar).1 = (unitM fj br).1 ∧ Rel (unitX fi ar).2 (unitM fj br).2 := by
  obtain ⟨hG, hE, hL⟩ := id h
  obtain ⟨g1, g2, g3, g4, g5, g6, g7, g8⟩ := id hG
  obtain ⟨e1, e2, e3, e4, e5, e6⟩ := id hE
  dsimp only at *
  rw [unitX, unitM]
  by_cases hf : fi 7 = 6
  · rw [if_pos hf, if_pos (by rw [← e1]; exact hf)]
    exact ⟨rfl, h⟩
  · rw [if_neg hf, if_neg (by rw [← e1]; exact hf)]
    refine ⟨by rw [e1], ?_⟩
    have el : ltsP (up2 (up2 br 0 (fj 2) 1) 1 (fj 2) 0) (fj 2) = ltsP br (fj 2) := ltsP_congr (fun j hj => by rw [up2_k, if_neg (by omega), up2_a (by decide)])
    refine ⟨RG_mk hG rfl rfl rfl rfl g6 rfl rfl ?_ (hB_up (hB_up g5 (by decide)) (by decide)) rfl rfl rfl rfl, ?_, RL_congr (fi := fi) (ar := ar) (br := br) rfl rfl rfl rfl ?_ ?_ hL⟩
    · exact hB_up (hB_up (hB_up (hB_up g4 (by omega)) (by decide)) (by decide)) (by decide)
    · refine RE_mk hE (fi 7) (Nat.le_refl _) rfl (by rw [← e1]; rfl) (by omega) ?_ ?_ ?_ ?_ ?_ ?_ ?_ ?_ ?_ ?_
      · show fi 8 = ltsP (up2 (up2 br 0 (fj 2) 1) 1 (fj 2) 0) (fi 7 + 1)
        rw [ltsP, e1, el, up2_k, if_pos rfl, e3, e1, Nat.add_zero]
      · exact e4
      · intro j
        dsimp only
        rw [pushA, up2_k]
        split
        · decide
        · rw [up2_a (by decide), up2_a (by decide), up2_a (by decide)]
          exact e5 j
      · intro i hi
        dsimp only
        rw [up2_k, if_neg (by omega), up2_a (by decide)]
      · intro i hi
        dsimp only
        rw [up2_a (by decide), up2_k, if_neg (by omega)]
      · intro i hi
        dsimp only
        rw [pushA, up2_a (by decide), up2_a (by decide), up2_a (by decide), up2_k, if_neg (by omega)]
      · intro i hi
        dsimp only
        refine ⟨?_, ?_, ?_⟩
        · rw [pushA, up2_a (by decide), up2_a (by decide), up2_k, if_neg (by omega), up2_a (by decide)]
        · rw [pushA, up2_a (by decide), up2_k, if_neg (by omega), up2_a (by decide), up2_a (by decide)]
        · rw [pushA, up2_k, if_neg (by omega), up2_a (by decide), up2_a (by decide), up2_a (by decide)]
      · intro p hp
        dsimp only
        rw [pushA]
        refine ⟨?_, ?_⟩
        · rw [up2_a (by decide), up2_a (by decide), up2_a (by decide), up2_a (by decide)]
        · rw [up2_a (by decide), up2_a (by decide), up2_a (by decide), up2_a (by decide)]
      · dsimp only
        rw [pushA, up2_a (by decide), up2_a (by decide), up2_a (by decide), up2_s]
        exact e3
      · dsimp only
        rw [show ltsP (up2 (up2 br 0 (fj 2) 1) 1 (fj 2) 0) (fi 7 + 1) = ltsP br (fi 7) by rw [ltsP, e1, el, up2_k, if_pos rfl, Nat.add_zero], e1, up2_a (by decide), up2_s]
        refine ex_unit ?_ ?_ ?_
        · rw [pushA, up2_a (by decide), up2_a (by decide), e1, up2_s]
        · rw [pushA, up2_a (by decide), e1, up2_s]
        · rw [pushA, e1, up2_s]
    · intro k hk
      dsimp only
      rw [pushA, up2_a (by omega), up2_a (by omega), up2_a (by omega), up2_a (by omega)]
    · dsimp only
      rw [up2_a (by decide), up2_a (by decide)]
end
section
/-! PURE: cat, alt, star, reverse keep the relation -/
theorem cat2_n {a : Nat → Nat → Nat} {x y k : Nat} (h : k ≠ 10) : cat2 a x y k = a k := by
  unfold cat2
  split
  · rfl
  · exact up2_a h
theorem cat3_n {a : Nat → Nat → Nat} {x y k : Nat} (h : k ≠ 11) : cat3 a x y k = a k := by
  unfold cat3
  split <;> exact up2_a h
theorem cat4_n {a : Nat → Nat → Nat} {x y k : Nat} (h : k ≠ 12) : cat4 a x y k = a k := by
  unfold cat4
  exact up2_a h
def catA (ar : Nat → Nat → Nat) (x y : Nat) : Nat → Nat → Nat := cat4 (cat3 (cat2 (linkP ar (ar 11 x) (ar 10 y) 8) x y) x y) x y
theorem catA_n {ar : Nat → Nat → Nat} {x y k : Nat} (h1 : k ≠ 10) (h2 : k ≠ 11) (h3 : k ≠ 12) (h4 : k ≠ 14) : catA ar x y k = ar k := by
  unfold catA
  rw [cat4_n h3, cat3_n h2, cat2_n h1, linkP_n h4]
theorem catA_14 {ar : Nat → Nat → Nat} {x y : Nat} : catA ar x y 14 = linkP ar (ar 11 x) (ar 10 y) 8 14 := by
  unfold catA
  rw [cat4_n (by decide), cat3_n (by decide), cat2_n (by decide)]
theorem catA_10 {ar : Nat → Nat → Nat} {x y i : Nat} : catA ar x y 10 i = if i = x ∧ ar 12 x ≠ 0 then ar 10 x ||| ar 10 y else ar 10 i := by
  unfold catA
  rw [cat4_n (by decide), cat3_n (by decide), cat2, linkP_n (by decide)]
  by_cases h : ar 12 x = 0
  · rw [if_pos h, if_neg (by omega), linkP_n (by decide)]
  · rw [if_neg h, up2_k, linkP_n (by decide)]
    by_cases hi : i = x
    · rw [if_pos hi, if_pos ⟨hi, h⟩]
    · rw [if_neg hi, if_neg (fun z => hi z.1)]
theorem catA_11 {ar : Nat → Nat → Nat} {x y i : Nat} : catA ar x y 11 i = if i = x then (if ar 12 y = 0 then ar 11 y else ar 11 x ||| ar 11 y) else ar 11 i := by
  unfold catA
  rw [cat4_n (by decide), cat3, cat2_n (by decide), cat2_n (by decide), linkP_n (by decide), linkP_n (by decide)]
  by_cases h : ar 12 y = 0
  · rw [if_pos h, if_pos h, up2_k, cat2_n (by decide), linkP_n (by decide)]
  · rw [if_neg h, if_neg h, up2_k, cat2_n (by decide), linkP_n (by decide)]
theorem catA_12 {ar : Nat → Nat → Nat} {x y i : Nat} : catA ar x y 12 i = if i = x then (if ar 12 x = 0 then 0 else if ar 12 y = 0 then 0 else 1) else ar 12 i := by
  unfold catA
  rw [cat4, up2_k, cat3_n (by decide), cat2_n (by decide), linkP_n (by decide)]
theorem catA_B {ar : Nat → Nat → Nat} {x y : Nat} (h : ∀ k j, ar k j < 2 ^ 31) : ∀ k j, catA ar x y k j < 2 ^ 31 := by
  intro k j
  by_cases h10 : k = 10
  · subst h10
    rw [catA_10]
    split
    · exact Nat.or_lt_two_pow (h _ _) (h _ _)
    · exact h _ _
  by_cases h11 : k = 11
  · subst h11
    rw [catA_11]
    split
    · split
      · exact h _ _
      · exact Nat.or_lt_two_pow (h _ _) (h _ _)
    · exact h _ _
  by_cases h12 : k = 12
  · subst h12
    rw [catA_12]
    split
    · split
      · decide
      · split <;> decide
    · exact h _ _
  by_cases h14 : k = 14
  · subst h14
    rw [catA_14]
    exact linkP_B h (h _ _) _ _
  · rw [catA_n h10 h11 h12 h14]
    exact h _ _
theorem RE_pair {fi fj : Nat → Nat} {ar br a : Nat → Nat → Nat} (hE : RE fi ar fj br) (h2 : 2 ≤ fi 7) (S : Nat) (h12 : ∀ j, a 12 j < 2) (h9 : ∀ i, i < fi 7 → a 9 i = ar 9 i) (h10 : ∀ i, i < fi 7 - 2 → a 10 i = ar 10 i ∧ a 11 i = ar 11 i ∧ a 12 i = ar 12 i) (h13 : ∀ p, p < ltsP br (fi 7 - 2) → a 13 p = ar 13 p ∧ a 14 p = ar 14 p)
    (top : ExOk a (fi 7 - 2) (ltsP br (fi 7 - 2)) (ltsP br (fi 7)) S) : RE (up fi 7 (fi 7 - 1)) a (up fj 2 (fi 7 - 1)) (up2 (up2 br 0 (fi 7 - 2) S) 1 (fi 7 - 2) (br 1 (fi 7 - 2) + br 1 (fi 7 - 1))) := by
  obtain ⟨e1, e2, e3, e4, e5, e6⟩ := id hE
  have el : ltsP (up2 (up2 br 0 (fi 7 - 2) S) 1 (fi 7 - 2) (br 1 (fi 7 - 2) + br 1 (fi 7 - 1))) (fi 7 - 2 + 1) = ltsP br (fi 7) := by
    rw [ltsP, up2_s, ltsP_congr (b := br) (fun j hj => by rw [up2_k, if_neg (by omega), up2_a (by decide)])]
    obtain ⟨z, hz⟩ : ∃ z, fi 7 = z + 2 := ⟨fi 7 - 2, by omega⟩
    rw [hz, show z + 2 - 2 = z by omega, show z + 2 - 1 = z + 1 by omega, show z + 2 = z + 1 + 1 from rfl, ltsP, ltsP]
    omega
  refine RE_mk hE (fi 7 - 2) (by omega) ?_ ?_ (by omega) ?_ ?_ h12 ?_ ?_ ?_ h10 h13 ?_ ?_
  · rw [up_s]; omega
  · rw [up_s]; omega
  · rw [up_n (by decide), el]; exact e3
  · rw [up_n (by decide)]; exact e4
  · intro i hi
    rw [up2_k, if_neg (by omega), up2_a (by decide)]
  · intro i hi
    rw [up2_a (by decide), up2_k, if_neg (by omega)]
  · exact fun i hi => h9 i (by omega)
  · rw [h9 _ (by omega)]
    exact (e6 (fi 7 - 2) (by omega)).1
  · rw [el, up2_a (by decide), up2_s]
    exact top
theorem lts_pair {fi fj : Nat → Nat} {ar br : Nat → Nat → Nat} (hE : RE fi ar fj br) (h2 : 2 ≤ fi 7) : br 1 (fi 7 - 2) + br 1 (fi 7 - 1) < 2 ^ 31 ∧ ltsP br (fi 7 - 2) ≤ ltsP br (fi 7 - 1) ∧ ltsP br (fi 7 - 1) ≤ ltsP br (fi 7) ∧ ltsP br (fi 7) ≤ 8 := by
  obtain ⟨e1, e2, e3, e4, e5, e6⟩ := id hE
  obtain ⟨z, hz⟩ : ∃ z, fi 7 = z + 2 := ⟨fi 7 - 2, by omega⟩
  rw [hz] at e3
  rw [hz, show z + 2 - 2 = z by omega, show z + 2 - 1 = z + 1 by omega]
  have a1 : ltsP br (z + 1) = ltsP br z + br 1 z := rfl
  have a2 : ltsP br (z + 2) = ltsP br (z + 1) + br 1 (z + 1) := rfl
  omega
theorem ag_cat {fi fj : Nat → Nat} {ar br : Nat → Nat → Nat} (h : Rel (fi, ar) (fj, br)) : (catX fi ar).1 = (catM fj br).1 ∧ Rel (catX fi ar).2 (catM fj br).2 := by
  obtain ⟨hG, hE, hL⟩ := id h
  obtain ⟨g1, g2, g3, g4, g5, g6, g7, g8⟩ := id hG
  obtain ⟨e1, e2, e3, e4, e5, e6⟩ := id hE
  dsimp only at *
  rw [catX, catM, ← e1]
  by_cases hf : fi 7 < 2
  · rw [if_pos hf, if_pos hf]
    exact ⟨rfl, h⟩
  · rw [if_neg hf, if_neg hf, pairM, ← e1]
    refine ⟨rfl, ?_⟩
    obtain ⟨l1, l2, l3, l4⟩ := lts_pair hE (by omega)
    obtain ⟨q1, q2⟩ := e6 (fi 7 - 2) (by omega)
    obtain ⟨q3, q4⟩ := e6 (fi 7 - 1) (by omega)
    rw [show fi 7 - 2 + 1 = fi 7 - 1 by omega] at q2
    rw [show fi 7 - 1 + 1 = fi 7 by omega] at q4
    show Rel (up fi 7 (fi 7 - 1), catA ar (fi 7 - 2) (fi 7 - 1)) (up fj 2 (fi 7 - 1), _)
    refine ⟨RG_mk hG rfl rfl rfl rfl g6 rfl rfl (catA_B g4) (hB_up (hB_up g5 (proO_lt (by decide))) l1) (by dsimp only; rw [catA_n (by decide) (by decide) (by decide) (by decide)]) (by dsimp only; rw [catA_n (by decide) (by decide) (by decide) (by decide)]) (by dsimp only; rw [catA_n (by decide) (by decide) (by decide) (by decide)]) rfl, RE_pair hE (by omega) _ ?_ ?_ ?_ ?_ ?_, RL_congr (fi := fi) (ar := ar) (br := br) rfl rfl rfl rfl ?_ rfl hL⟩
    · intro j
      dsimp only
      rw [catA_12]
      split
      · split
        · decide
        · split <;> decide
      · exact e5 j
    · intro i hi
      dsimp only
      rw [catA_n (by decide) (by decide) (by decide) (by decide)]
    · intro i hi
      dsimp only
      rw [catA_10, catA_11, catA_12, if_neg (by omega), if_neg (by omega), if_neg (by omega)]
      exact ⟨rfl, rfl, rfl⟩
    · intro p hp
      dsimp only
      rw [catA_n (by decide) (by decide) (by decide) (by decide), catA_14, linkP_at, if_neg]
      · exact ⟨rfl, rfl⟩
      · rintro ⟨-, hb⟩
        have := q2.2.1 p hb
        omega
    · dsimp only
      refine ex_cat l4 l2 l3 q2 q4 ?_ ?_ ?_ ?_ ?_
      · intro q
        rw [catA_10]
        by_cases h0 : ar 12 (fi 7 - 2) = 0
        · rw [if_neg (fun z => z.2 h0)]
          constructor
          · exact Or.inl
          · rintro (h1 | ⟨h1, -⟩)
            · exact h1
            · exact absurd h0 h1
        · rw [if_pos ⟨rfl, h0⟩, Nat.testBit_or, Bool.or_eq_true]
          constructor
          · rintro (h1 | h1)
            · exact Or.inl h1
            · exact Or.inr ⟨h0, h1⟩
          · rintro (h1 | ⟨-, h1⟩)
            · exact Or.inl h1
            · exact Or.inr h1
      · intro q
        rw [catA_11, if_pos rfl]
        by_cases h0 : ar 12 (fi 7 - 1) = 0
        · rw [if_pos h0]
          constructor
          · exact Or.inl
          · rintro (h1 | ⟨h1, -⟩)
            · exact h1
            · exact absurd h0 h1
        · rw [if_neg h0, Nat.testBit_or, Bool.or_eq_true]
          constructor
          · rintro (h1 | h1)
            · exact Or.inr ⟨h0, h1⟩
            · exact Or.inl h1
          · rintro (h1 | ⟨-, h1⟩)
            · exact Or.inr h1
            · exact Or.inl h1
      · rw [catA_12, if_pos rfl]
        by_cases h0 : ar 12 (fi 7 - 2) = 0
        · rw [if_pos h0]
          exact ⟨fun z => absurd rfl z, fun z => absurd h0 z.1⟩
        · rw [if_neg h0]
          by_cases h1 : ar 12 (fi 7 - 1) = 0
          · rw [if_pos h1]
            exact ⟨fun z => absurd rfl z, fun z => absurd h1 z.2⟩
          · rw [if_neg h1]
            exact ⟨fun _ => ⟨h0, h1⟩, fun _ => by decide⟩
      · intro p
        rw [catA_n (by decide) (by decide) (by decide) (by decide)]
      · intro p q hp
        rw [catA_14]
        exact linkP_bit hp
    · intro k hk
      dsimp only
      exact catA_n (by omega) (by omega) (by omega) (by omega)
def altA (ar : Nat → Nat → Nat) (x y : Nat) : Nat → Nat → Nat := alt2 (alt1 ar x y) x y
theorem altA_n {ar : Nat → Nat → Nat} {x y k : Nat} (h1 : k ≠ 10) (h2 : k ≠ 11) (h3 : k ≠ 12) : altA ar x y k = ar k := by
  unfold altA alt2 alt1
  rw [up2_a h3, up2_a h2, up2_a h1]
theorem altA_10 {ar : Nat → Nat → Nat} {x y i : Nat} : altA ar x y 10 i = if i = x then ar 10 x ||| ar 10 y else ar 10 i := by
  unfold altA alt2 alt1
  rw [up2_a (by decide), up2_a (by decide), up2_k]
theorem altA_11 {ar : Nat → Nat → Nat} {x y i : Nat} : altA ar x y 11 i = if i = x then ar 11 x ||| ar 11 y else ar 11 i := by
  unfold altA alt2 alt1
  rw [up2_a (by decide), up2_k, up2_a (by decide)]
theorem altA_12 {ar : Nat → Nat → Nat} {x y i : Nat} : altA ar x y 12 i = if i = x then (if ar 12 x = 0 then (if ar 12 y = 0 then 0 else 1) else 1) else ar 12 i := by
  unfold altA alt2
  have e : alt1 ar x y 12 = ar 12 := by
    unfold alt1
    rw [up2_a (by decide), up2_a (by decide)]
  rw [up2_k, e]
theorem altA_B {ar : Nat → Nat → Nat} {x y : Nat} (h : ∀ k j, ar k j < 2 ^ 31) : ∀ k j, altA ar x y k j < 2 ^ 31 := by
  intro k j
  by_cases h10 : k = 10
  · subst h10
    rw [altA_10]
    split
    · exact Nat.or_lt_two_pow (h _ _) (h _ _)
    · exact h _ _
  by_cases h11 : k = 11
  · subst h11
    rw [altA_11]
    split
    · exact Nat.or_lt_two_pow (h _ _) (h _ _)
    · exact h _ _
  by_cases h12 : k = 12
  · subst h12
    rw [altA_12]
    split
    · split
      · split <;> decide
      · decide
    · exact h _ _
  · rw [altA_n h10 h11 h12]
    exact h _ _
theorem ag_alt {fi fj : Nat → Nat} {ar br : Nat → Nat → Nat} (h : Rel (fi, ar) (fj, br)) : (altX fi ar).1 = (altM fj br).1 ∧ Rel (altX fi ar).2 (altM fj br).2 := by
  obtain ⟨hG, hE, hL⟩ := id h
  obtain ⟨g1, g2, g3, g4, g5, g6, g7, g8⟩ := id hG
  obtain ⟨e1, e2, e3, e4, e5, e6⟩ := id hE
  dsimp only at *
  rw [altX, altM, ← e1]
  by_cases hf : fi 7 < 2
  · rw [if_pos hf, if_pos hf]
    exact ⟨rfl, h⟩
  · rw [if_neg hf, if_neg hf, pairM, ← e1]
    refine ⟨rfl, ?_⟩
    obtain ⟨l1, l2, l3, l4⟩ := lts_pair hE (by omega)
    obtain ⟨q1, q2⟩ := e6 (fi 7 - 2) (by omega)
    obtain ⟨q3, q4⟩ := e6 (fi 7 - 1) (by omega)
    rw [show fi 7 - 2 + 1 = fi 7 - 1 by omega] at q2
    rw [show fi 7 - 1 + 1 = fi 7 by omega] at q4
    show Rel (up fi 7 (fi 7 - 1), altA ar (fi 7 - 2) (fi 7 - 1)) (up fj 2 (fi 7 - 1), _)
    refine ⟨RG_mk hG rfl rfl rfl rfl g6 rfl rfl (altA_B g4) (hB_up (hB_up g5 (Nat.or_lt_two_pow (g5 _ _) (g5 _ _))) l1) (by dsimp only; rw [altA_n (by decide) (by decide) (by decide)]) (by dsimp only; rw [altA_n (by decide) (by decide) (by decide)]) (by dsimp only; rw [altA_n (by decide) (by decide) (by decide)]) rfl, RE_pair hE (by omega) _ ?_ ?_ ?_ ?_ ?_, RL_congr (fi := fi) (ar := ar) (br := br) rfl rfl rfl rfl ?_ rfl hL⟩
    · intro j
      dsimp only
      rw [altA_12]
      split
      · split
        · split <;> decide
        · decide
      · exact e5 j
    · intro i hi
      dsimp only
      rw [altA_n (by decide) (by decide) (by decide)]
    · intro i hi
      dsimp only
      rw [altA_10, altA_11, altA_12, if_neg (by omega), if_neg (by omega), if_neg (by omega)]
      exact ⟨rfl, rfl, rfl⟩
    · intro p hp
      dsimp only
      rw [altA_n (by decide) (by decide) (by decide), altA_n (by decide) (by decide) (by decide)]
      exact ⟨rfl, rfl⟩
    · dsimp only
      refine ex_alt l4 l2 l3 q2 q4 ?_ ?_ ?_ ?_ ?_
      · rw [altA_10, if_pos rfl]
      · rw [altA_11, if_pos rfl]
      · rw [altA_12, if_pos rfl]
        by_cases h0 : ar 12 (fi 7 - 2) = 0
        · rw [if_pos h0]
          by_cases h1 : ar 12 (fi 7 - 1) = 0
          · rw [if_pos h1]
            exact ⟨fun z => absurd rfl z, fun z => by rcases z with z | z; exact absurd h0 z; exact absurd h1 z⟩
          · rw [if_neg h1]
            exact ⟨fun _ => Or.inr h1, fun _ => by decide⟩
        · rw [if_neg h0]
          exact ⟨fun _ => Or.inl h0, fun _ => by decide⟩
      · intro p
        rw [altA_n (by decide) (by decide) (by decide)]
      · intro p
        rw [altA_n (by decide) (by decide) (by decide)]
    · intro k hk
      dsimp only
      exact altA_n (by omega) (by omega) (by omega)
theorem RE_top {fi fj : Nat → Nat} {ar br a : Nat → Nat → Nat} (hE : RE fi ar fj br) (h1 : 1 ≤ fi 7) (S : Nat) (h12 : ∀ j, a 12 j < 2) (h9 : ∀ i, i < fi 7 → a 9 i = ar 9 i) (h10 : ∀ i, i < fi 7 - 1 → a 10 i = ar 10 i ∧ a 11 i = ar 11 i ∧ a 12 i = ar 12 i) (h13 : ∀ p, p < ltsP br (fi 7 - 1) → a 13 p = ar 13 p ∧ a 14 p = ar 14 p)
    (top : ExOk a (fi 7 - 1) (ltsP br (fi 7 - 1)) (ltsP br (fi 7)) S) : RE fi a fj (up2 br 0 (fi 7 - 1) S) := by
  obtain ⟨e1, e2, e3, e4, e5, e6⟩ := id hE
  have el : ∀ i, ltsP (up2 br 0 (fi 7 - 1) S) i = ltsP br i := fun i => ltsP_congr (fun j _ => by rw [up2_a (by decide)])
  refine RE_mk hE (fi 7 - 1) (by omega) (by omega) (by omega) (by omega) ?_ e4 h12 ?_ ?_ ?_ h10 h13 ?_ ?_
  · rw [el, show fi 7 - 1 + 1 = fi 7 by omega]; exact e3
  · intro i hi
    rw [up2_a (by decide)]
  · intro i hi
    rw [up2_k, if_neg (by omega)]
  · exact fun i hi => h9 i (by omega)
  · rw [h9 _ (by omega)]
    exact (e6 (fi 7 - 1) (by omega)).1
  · rw [el, up2_s, show fi 7 - 1 + 1 = fi 7 by omega]
    exact top
theorem ag_star {fi fj : Nat → Nat} {ar br : Nat → Nat → Nat} (h : Rel (fi, ar) (fj, br)) : (starX fi ar).1 = (starM fj br).1 ∧ Rel (starX fi ar).2 (starM fj br).2 := by
  obtain ⟨hG, hE, hL⟩ := id h
  obtain ⟨g1, g2, g3, g4, g5, g6, g7, g8⟩ := id hG
  obtain ⟨e1, e2, e3, e4, e5, e6⟩ := id hE
  dsimp only at *
  rw [starX, starM, ← e1]
  by_cases hf : fi 7 < 1
  · rw [if_pos hf, if_pos (by omega)]
    exact ⟨rfl, h⟩
  · rw [if_neg hf, if_neg (by omega)]
    refine ⟨rfl, ?_⟩
    obtain ⟨q3, q4⟩ := e6 (fi 7 - 1) (by omega)
    rw [show fi 7 - 1 + 1 = fi 7 by omega] at q4
    have hS : chaO (br 0 (fi 7 - 1)) 4 < 2 ^ 31 := chaO_lt (by decide)
    refine ⟨RG_mk hG rfl rfl rfl rfl g6 rfl rfl (hB_up (linkP_B g4 (g4 _ _)) (by decide)) (hB_up g5 hS) ?_ ?_ ?_ ?_, RE_top hE (by omega) _ ?_ ?_ ?_ ?_ ?_, RL_congr (fi := fi) (ar := ar) (br := br) rfl rfl rfl rfl ?_ ?_ hL⟩
    · dsimp only
      rw [up2_a (by decide), linkP_n (by decide)]
    · dsimp only
      rw [up2_a (by decide), linkP_n (by decide)]
    · dsimp only
      rw [up2_a (by decide), linkP_n (by decide)]
    · dsimp only
      rw [up2_a (by decide)]
    · intro j
      dsimp only
      rw [up2_k, linkP_n (by decide)]
      split
      · decide
      · exact e5 j
    · intro i hi
      dsimp only
      rw [up2_a (by decide), linkP_n (by decide)]
    · intro i hi
      dsimp only
      refine ⟨?_, ?_, ?_⟩
      · rw [up2_a (by decide), linkP_n (by decide)]
      · rw [up2_a (by decide), linkP_n (by decide)]
      · rw [up2_k, if_neg (by omega), linkP_n (by decide)]
    · intro p hp
      dsimp only
      rw [up2_a (by decide), linkP_n (by decide), up2_a (by decide), linkP_at, if_neg]
      · exact ⟨rfl, rfl⟩
      · rintro ⟨-, hb⟩
        have := q4.2.1 p hb
        omega
    · dsimp only
      refine ex_star (by omega) q4 ?_ ?_ ?_ ?_ ?_
      · rw [up2_a (by decide), linkP_n (by decide)]
      · rw [up2_a (by decide), linkP_n (by decide)]
      · rw [up2_s]; decide
      · intro p
        rw [up2_a (by decide), linkP_n (by decide)]
      · intro p q hp
        rw [up2_a (by decide)]
        exact linkP_bit hp
    · intro k hk
      dsimp only
      rw [up2_a (by omega), linkP_n (by omega)]
    · dsimp only
      rw [up2_a (by decide)]
-- reverse
theorem zerP_at (ar : Nat → Nat → Nat) : ∀ P q, zerP ar P 15 q = if q < P then 0 else ar 15 q := by
  intro P
  induction P with
  | zero => intro q; rw [zerP, if_neg (by omega)]
  | succ P ih =>
    intro q
    rw [zerP, up2_k]
    by_cases h : q = P
    · rw [if_pos h, if_pos (by omega)]
    · rw [if_neg h, ih]
      by_cases h2 : q < P
      · rw [if_pos h2, if_pos (by omega)]
      · rw [if_neg h2, if_neg (by omega)]
theorem turnP_bit (ar : Nat → Nat → Nat) (p0 : Nat) : ∀ Q q z, (turnP ar p0 Q 15 q).testBit z = true ↔ (ar 15 q).testBit z = true ∨ (q < Q ∧ z = p0 ∧ (ar 14 p0).testBit q = true) := by
  intro Q
  induction Q with
  | zero =>
    intro q z
    rw [turnP]
    constructor
    · exact Or.inl
    · rintro (h | ⟨h, -⟩)
      · exact h
      · omega
  | succ Q ih =>
    intro q z
    rw [turnP, turnP_n (by decide)]
    by_cases h : ar 14 p0 >>> Q &&& 1 = 1
    · rw [if_pos h, up2_k]
      rw [bit_iff] at h
      by_cases hq : q = Q
      · subst hq
        rw [if_pos rfl, Nat.testBit_or, Bool.or_eq_true, ih, shl_bit]
        constructor
        · rintro ((h1 | ⟨h1, -⟩) | h1)
          · exact Or.inl h1
          · omega
          · exact Or.inr ⟨by omega, h1, h⟩
        · rintro (h1 | ⟨-, h1, -⟩)
          · exact Or.inl (Or.inl h1)
          · exact Or.inr h1
      · rw [if_neg hq, ih]
        constructor
        · rintro (h1 | ⟨h1, h2⟩)
          · exact Or.inl h1
          · exact Or.inr ⟨by omega, h2⟩
        · rintro (h1 | ⟨h1, h2⟩)
          · exact Or.inl h1
          · exact Or.inr ⟨by omega, h2⟩
    · rw [if_neg h, ih]
      rw [bit_iff] at h
      constructor
      · rintro (h1 | ⟨h1, h2⟩)
        · exact Or.inl h1
        · exact Or.inr ⟨by omega, h2⟩
      · rintro (h1 | ⟨h1, h2, h3⟩)
        · exact Or.inl h1
        · by_cases hq : q = Q
          · subst hq; exact absurd h3 h
          · exact Or.inr ⟨by omega, h2, h3⟩
theorem turP_bit (ar : Nat → Nat → Nat) (lo : Nat) : ∀ n q z, (turP ar lo n 15 q).testBit z = true ↔ (ar 15 q).testBit z = true ∨ (q < 8 ∧ lo ≤ z ∧ z < lo + n ∧ (ar 14 z).testBit q = true) := by
  intro n
  induction n with
  | zero =>
    intro q z
    rw [turP]
    constructor
    · exact Or.inl
    · rintro (h | ⟨-, h1, h2, -⟩)
      · exact h
      · omega
  | succ n ih =>
    intro q z
    rw [turP, turnP_bit, ih, turP_n (by decide)]
    constructor
    · rintro ((h | ⟨h1, h2, h3, h4⟩) | ⟨h1, h2, h3⟩)
      · exact Or.inl h
      · exact Or.inr ⟨h1, h2, by omega, h4⟩
      · subst h2
        exact Or.inr ⟨h1, by omega, by omega, h3⟩
    · rintro (h | ⟨h1, h2, h3, h4⟩)
      · exact Or.inl (Or.inl h)
      · by_cases hz : z = lo + n
        · subst hz
          exact Or.inr ⟨h1, rfl, h4⟩
        · exact Or.inl (Or.inr ⟨h1, h2, by omega, h4⟩)
theorem cpyP_at (ar : Nat → Nat → Nat) (lo : Nat) : ∀ n p, cpyP ar lo n 14 p = if lo ≤ p ∧ p < lo + n then ar 15 p else ar 14 p := by
  intro n
  induction n with
  | zero => intro p; rw [cpyP, if_neg (by omega)]
  | succ n ih =>
    intro p
    rw [cpyP, up2_k, cpyP_n (by decide)]
    by_cases h : p = lo + n
    · rw [if_pos h, if_pos (by omega), h]
    · rw [if_neg h, ih]
      by_cases h2 : lo ≤ p ∧ p < lo + n
      · rw [if_pos h2, if_pos (by omega)]
      · rw [if_neg h2, if_neg (by omega)]
theorem bits_lt {x n : Nat} (h : ∀ z, x.testBit z = true → z < n) : x < 2 ^ n := by
  apply Nat.lt_pow_two_of_testBit
  intro i hi
  cases hb : x.testBit i with
  | false => rfl
  | true => exact absurd (h i hb) (by omega)
def revA (ar : Nat → Nat → Nat) (x lo n : Nat) : Nat → Nat → Nat := swpA (cpyP (turP (zerP ar 8) lo n) lo n) x
theorem revA_n {ar : Nat → Nat → Nat} {x lo n k : Nat} (h1 : k ≠ 10) (h2 : k ≠ 11) (h3 : k ≠ 14) (h4 : k ≠ 15) : revA ar x lo n k = ar k := by
  unfold revA swpA
  rw [up2_a h2, up2_a h1, cpyP_n h3, turP_n h4, zerP_n h4]
theorem revA_10 {ar : Nat → Nat → Nat} {x lo n i : Nat} : revA ar x lo n 10 i = if i = x then ar 11 x else ar 10 i := by
  unfold revA swpA
  rw [up2_a (by decide), up2_k, cpyP_n (by decide), turP_n (by decide), zerP_n (by decide), cpyP_n (by decide), turP_n (by decide), zerP_n (by decide)]
theorem revA_11 {ar : Nat → Nat → Nat} {x lo n i : Nat} : revA ar x lo n 11 i = if i = x then ar 10 x else ar 11 i := by
  unfold revA swpA
  rw [up2_k, up2_a (by decide), cpyP_n (by decide), turP_n (by decide), zerP_n (by decide), cpyP_n (by decide), turP_n (by decide), zerP_n (by decide)]
theorem revA_14 {ar : Nat → Nat → Nat} {x lo n p : Nat} : revA ar x lo n 14 p = if lo ≤ p ∧ p < lo + n then turP (zerP ar 8) lo n 15 p else ar 14 p := by
  unfold revA swpA
  rw [up2_a (by decide), up2_a (by decide), cpyP_at, turP_n (k := 14) (by decide), zerP_n (k := 14) (by decide)]
theorem tur_bit {ar : Nat → Nat → Nat} {lo n p z : Nat} (hp : p < 8) : (turP (zerP ar 8) lo n 15 p).testBit z = true ↔ lo ≤ z ∧ z < lo + n ∧ (ar 14 z).testBit p = true := by
  rw [turP_bit, zerP_at, if_pos hp, Nat.zero_testBit, zerP_n (by decide)]
  constructor
  · rintro (h | ⟨-, h⟩)
    · cases h
    · exact h
  · intro h; exact Or.inr ⟨hp, h⟩
theorem tur_B {ar : Nat → Nat → Nat} {lo n : Nat} (hn : lo + n ≤ 8) (h : ∀ k j, ar k j < 2 ^ 31) : ∀ q, turP (zerP ar 8) lo n 15 q < 2 ^ 31 := by
  intro q
  apply bits_lt
  intro z hz
  rw [turP_bit, zerP_at] at hz
  rcases hz with hz | ⟨-, h1, h2, -⟩
  · split at hz
    · rw [Nat.zero_testBit] at hz; cases hz
    · exact bit_lt 31 (h _ _) hz
  · omega
theorem revA_B {ar : Nat → Nat → Nat} {x lo n : Nat} (hn : lo + n ≤ 8) (h : ∀ k j, ar k j < 2 ^ 31) : ∀ k j, revA ar x lo n k j < 2 ^ 31 := by
  intro k j
  by_cases h10 : k = 10
  · subst h10
    rw [revA_10]
    split <;> exact h _ _
  by_cases h11 : k = 11
  · subst h11
    rw [revA_11]
    split <;> exact h _ _
  by_cases h14 : k = 14
  · subst h14
    rw [revA_14]
    split
    · exact tur_B hn h _
    · exact h _ _
  by_cases h15 : k = 15
  · subst h15
    unfold revA swpA
    rw [up2_a (by decide), up2_a (by decide), cpyP_n (by decide)]
    exact tur_B hn h _
  · rw [revA_n h10 h11 h14 h15]
    exact h _ _
theorem ag_reverse {fi fj : Nat → Nat} {ar br : Nat → Nat → Nat} (h : Rel (fi, ar) (fj, br)) : (revX fi ar).1 = (revM fj br).1 ∧ Rel (revX fi ar).2 (revM fj br).2 := by
  obtain ⟨hG, hE, hL⟩ := id h
  obtain ⟨g1, g2, g3, g4, g5, g6, g7, g8⟩ := id hG
  obtain ⟨e1, e2, e3, e4, e5, e6⟩ := id hE
  dsimp only at *
  rw [revX, revM, ← e1]
  by_cases hf : fi 7 < 1
  · rw [if_pos hf, if_pos (by omega)]
    exact ⟨rfl, h⟩
  · rw [if_neg hf, if_neg (by omega)]
    refine ⟨rfl, ?_⟩
    obtain ⟨q3, q4⟩ := e6 (fi 7 - 1) (by omega)
    rw [show fi 7 - 1 + 1 = fi 7 by omega] at q4
    have hm := ltsP_mono (br := br) (show fi 7 - 1 ≤ fi 7 by omega)
    have hS : mrsO (br 0 (fi 7 - 1)) 5 < 2 ^ 31 := mrsO_lt (by decide)
    rw [q3, e3]
    generalize hlo : ltsP br (fi 7 - 1) = lo at *
    generalize hhi : ltsP br (fi 7) = hi at *
    show Rel (fi, revA ar (fi 7 - 1) lo (hi - lo)) (fj, _)
    refine ⟨RG_mk hG rfl rfl rfl rfl g6 rfl rfl (revA_B (by omega) g4) (hB_up g5 hS) (by dsimp only; rw [revA_n (by decide) (by decide) (by decide) (by decide)]) (by dsimp only; rw [revA_n (by decide) (by decide) (by decide) (by decide)]) (by dsimp only; rw [revA_n (by decide) (by decide) (by decide) (by decide)]) rfl, RE_top hE (by omega) _ ?_ ?_ ?_ ?_ ?_, RL_congr (fi := fi) (ar := ar) (br := br) rfl rfl rfl rfl ?_ rfl hL⟩
    · intro j
      dsimp only
      rw [revA_n (by decide) (by decide) (by decide) (by decide)]
      exact e5 j
    · intro i hi
      dsimp only
      rw [revA_n (by decide) (by decide) (by decide) (by decide)]
    · intro i hi
      dsimp only
      rw [revA_10, revA_11, if_neg (by omega), if_neg (by omega), revA_n (by decide) (by decide) (by decide) (by decide)]
      exact ⟨rfl, rfl, rfl⟩
    · intro p hp
      rw [hlo] at hp
      dsimp only
      rw [revA_14, if_neg (by omega), revA_n (by decide) (by decide) (by decide) (by decide)]
      exact ⟨rfl, rfl⟩
    · dsimp only
      rw [hlo, hhi]
      refine ex_rev (by omega) q4 ?_ ?_ ?_ ?_ ?_
      · rw [revA_10, if_pos rfl]
      · rw [revA_11, if_pos rfl]
      · rw [revA_n (by decide) (by decide) (by decide) (by decide)]
      · intro p
        rw [revA_n (by decide) (by decide) (by decide) (by decide)]
      · intro p h1 h2 q
        rw [revA_14, if_pos (by omega), tur_bit (by omega), show lo + (hi - lo) = hi by omega]
    · intro k hk
      dsimp only
      exact revA_n (by omega) (by omega) (by omega) (by omega)
end
section
/-! PURE: setLine, freeLine, pin, pinned, depth, letters keep the relation; the relation holds at the start -/
theorem awP_n {ar : Nat → Nat → Nat} {ln p k : Nat} (h : k < 16 ∨ 21 < k) : awP ar ln p k = ar k := by
  induction p with
  | zero => rw [awP, up2_a (by omega), up2_a (by omega), up2_a (by omega), up2_a (by omega), up2_a (by omega)]
  | succ p ih => rw [awP, up2_a (by omega), ih]
theorem awP_k {ar : Nat → Nat → Nat} {ln p k j : Nat} (h : 16 ≤ k) (h2 : k ≤ 20) : awP ar ln p k j = if j = ln then 1 else ar k j := by
  induction p with
  | zero =>
    rw [awP]
    rcases (show k = 16 ∨ k = 17 ∨ k = 18 ∨ k = 19 ∨ k = 20 by omega) with rfl | rfl | rfl | rfl | rfl
    · rw [up2_a (by decide), up2_a (by decide), up2_a (by decide), up2_a (by decide), up2_k]
    · rw [up2_a (by decide), up2_a (by decide), up2_a (by decide), up2_k, up2_a (by decide)]
    · rw [up2_a (by decide), up2_a (by decide), up2_k, up2_a (by decide), up2_a (by decide)]
    · rw [up2_a (by decide), up2_k, up2_a (by decide), up2_a (by decide), up2_a (by decide)]
    · rw [up2_k, up2_a (by decide), up2_a (by decide), up2_a (by decide), up2_a (by decide)]
  | succ p ih => rw [awP, up2_a (by omega), ih]
theorem awP_21 {ar : Nat → Nat → Nat} {ln p j : Nat} : awP ar ln p 21 j = if ln * 8 ≤ j ∧ j < ln * 8 + p then 0 else ar 21 j := by
  induction p with
  | zero => rw [awP, if_neg (by omega), up2_a (by decide), up2_a (by decide), up2_a (by decide), up2_a (by decide), up2_a (by decide)]
  | succ p ih =>
    rw [awP, up2_k, ih]
    by_cases h : j = ln * 8 + p
    · rw [if_pos h, if_pos (by omega)]
    · rw [if_neg h]
      by_cases h2 : ln * 8 ≤ j ∧ j < ln * 8 + p
      · rw [if_pos h2, if_pos (by omega)]
      · rw [if_neg h2, if_neg (by omega)]
theorem awA_n {ar : Nat → Nat → Nat} {ln k : Nat} (h : k < 16 ∨ 21 < k) : awA ar ln k = ar k := by
  unfold awA
  rw [up2_a (by omega), awP_n h]
theorem awA_k {ar : Nat → Nat → Nat} {ln k j : Nat} (h : 16 ≤ k) (h2 : k ≤ 20) : awA ar ln k j = if j = ln then 1 else ar k j := by
  unfold awA
  rw [up2_a (by omega), awP_k h h2]
theorem awA_21 {ar : Nat → Nat → Nat} {ln j : Nat} : awA ar ln 21 j = if j = ln * 8 then 1 else if ln * 8 ≤ j ∧ j < ln * 8 + 8 then 0 else ar 21 j := by
  unfold awA
  rw [up2_k, awP_21]
theorem awA_B {ar : Nat → Nat → Nat} {ln : Nat} (h : ∀ k j, ar k j < 2 ^ 31) : ∀ k j, awA ar ln k j < 2 ^ 31 := by
  intro k j
  by_cases h1 : k < 16 ∨ 21 < k
  · rw [awA_n h1]; exact h _ _
  · by_cases h2 : k = 21
    · subst h2
      rw [awA_21]
      split
      · decide
      · split
        · decide
        · exact h _ _
    · rw [awA_k (by omega) (by omega)]
      split
      · decide
      · exact h _ _
theorem ln_aw (ar : Nat → Nat → Nat) (ln : Nat) : LnOk (awA ar ln) ln 2147483647 := ln_any (by rw [awA_k (by decide) (by decide), if_pos rfl]) (by rw [awA_k (by decide) (by decide), if_pos rfl]) (by rw [awA_k (by decide) (by decide), if_pos rfl]) (by rw [awA_k (by decide) (by decide), if_pos rfl]) (by rw [awA_21, if_pos rfl])
theorem ln_aw' {ar : Nat → Nat → Nat} {ln ln' S : Nat} (h : ln' ≠ ln) (hl : LnOk ar ln' S) : LnOk (awA ar ln) ln' S := by
  refine LnOk_congr ?_ ?_ ?_ ?_ ?_ hl
  · rw [awA_k (by decide) (by decide), if_neg h]
  · rw [awA_k (by decide) (by decide), if_neg h]
  · rw [awA_k (by decide) (by decide), if_neg h]
  · rw [awA_k (by decide) (by decide), if_neg h]
  · intro p hp
    rw [awA_21, if_neg (by omega), if_neg (by omega)]
theorem RE_same {fi fj fi' fj' : Nat → Nat} {ar br a b' : Nat → Nat → Nat} (hE : RE fi ar fj br) (h7 : fi' 7 = fi 7) (h8 : fi' 8 = fi 8) (h2 : fj' 2 = fj 2) (ha : ∀ k, 9 ≤ k → k ≤ 14 → a k = ar k) (h0 : b' 0 = br 0) (h1 : b' 1 = br 1) : RE fi' a fj' b' := by
  obtain ⟨e1, e2, e3, e4, e5, e6⟩ := id hE
  have el : ∀ i, ltsP b' i = ltsP br i := fun i => ltsP_congr (fun j _ => by rw [h1])
  refine ⟨by rw [h7, h2]; exact e1, by rw [h7]; exact e2, by rw [h8, h7, el]; exact e3, by rw [h8]; exact e4, by rw [ha 12 (by decide) (by decide)]; exact e5, fun i hi => ?_⟩
  rw [h7] at hi
  obtain ⟨q1, q2⟩ := e6 i hi
  rw [el, el, h0, ha 9 (by decide) (by decide)]
  have hm := ltsP_mono (br := br) (show i + 1 ≤ fi 7 by omega)
  exact ⟨q1, ExOk_congr (by omega) (by rw [ha 10 (by decide) (by decide)]) (by rw [ha 11 (by decide) (by decide)]) (by rw [ha 12 (by decide) (by decide)]) (fun p _ _ => by rw [ha 13 (by decide) (by decide), ha 14 (by decide) (by decide)]; exact ⟨rfl, rfl⟩) q2⟩
theorem ag_freeLine {fi fj : Nat → Nat} {ar br : Nat → Nat → Nat} (x : Int32) (h : Rel (fi, ar) (fj, br)) : (freeX x fi ar).1 = (freeM x fj br).1 ∧ Rel (freeX x fi ar).2 (freeM x fj br).2 := by
  obtain ⟨hG, hE, hL⟩ := id h
  obtain ⟨g1, g2, g3, g4, g5, g6, g7, g8⟩ := id hG
  obtain ⟨f1, f2, f3, f4, f5, f6⟩ := id g1
  dsimp only at *
  rw [freeX, freeM, g2, g3, ← f5]
  by_cases hx : x < 0 ∨ nI (fi 2) ≤ x
  · rw [if_pos hx, if_pos hx]
    exact ⟨rfl, h⟩
  · rw [if_neg hx, if_neg hx]
    refine ⟨rfl, ?_⟩
    rcases pk_ix x (n := fi 2) (by omega) with hq | hq | ⟨ln, hj, rfl⟩
    · exact absurd (Or.inl hq) hx
    · exact absurd (Or.inr hq) hx
    rw [nI_clamp (by omega)]
    refine ⟨RG_mk hG rfl rfl rfl rfl (by dsimp only; rw [up_s]; decide) rfl rfl (awA_B g4) (hB_up g5 (by decide)) (by dsimp only; rw [awA_n (by decide)]) (by dsimp only; rw [awA_n (by decide)]) (by dsimp only; rw [awA_n (by decide)]) rfl, RE_same hE rfl rfl rfl (fun k h1 h2 => by dsimp only; rw [awA_n (by omega)]) rfl rfl, fun ln' hln' => ?_, fun hq => ?_⟩
    · have hln' : ln' < fi 2 := hln'
      dsimp only
      rw [up2_k]
      by_cases hq : ln' = ln
      · subst hq
        rw [if_pos rfl]
        exact ln_aw _ _
      · rw [if_neg hq]
        exact ln_aw' hq (hL.1 ln' hln')
    · dsimp only at hq
      rw [up_s] at hq
      exact absurd rfl hq
-- setLine
def slS (a : Nat → Nat → Nat) (ln dn p : Nat) : Nat → Nat → Nat := sl3 (sl2 (sl1 a ln dn p) ln dn p) ln dn p
theorem sl1_n {a : Nat → Nat → Nat} {ln dn p k : Nat} (h : k ≠ 19) : sl1 a ln dn p k = a k := by
  unfold sl1
  split
  · rfl
  · exact up2_a h
theorem sl2_n {a : Nat → Nat → Nat} {ln dn p k : Nat} (h : k ≠ 20) : sl2 a ln dn p k = a k := by
  unfold sl2
  split
  · rfl
  · exact up2_a h
theorem slS_n {a : Nat → Nat → Nat} {ln dn p k : Nat} (h1 : k ≠ 19) (h2 : k ≠ 20) (h3 : k ≠ 21) : slS a ln dn p k = a k := by
  unfold slS sl3
  rw [up2_a h3, sl2_n h2, sl1_n h1]
theorem slS_19 {a : Nat → Nat → Nat} {ln dn p j : Nat} : slS a ln dn p 19 j = if j = ln ∧ a 13 p ≠ 1 then a 19 ln ||| 1 <<< (p - dn) else a 19 j := by
  unfold slS sl3
  rw [up2_a (by decide), sl2_n (by decide), sl1]
  by_cases h : a 13 p = 1
  · rw [if_pos h, if_neg (fun z => z.2 h)]
  · rw [if_neg h, up2_k]
    by_cases hj : j = ln
    · rw [if_pos hj, if_pos ⟨hj, h⟩]
    · rw [if_neg hj, if_neg (fun z => hj z.1)]
theorem slS_20 {a : Nat → Nat → Nat} {ln dn p j : Nat} : slS a ln dn p 20 j = if j = ln ∧ a 13 p ≠ 0 then a 20 ln ||| 1 <<< (p - dn) else a 20 j := by
  unfold slS sl3
  rw [up2_a (by decide), sl2, sl1_n (by decide), sl1_n (by decide)]
  by_cases h : a 13 p = 0
  · rw [if_pos h, if_neg (fun z => z.2 h), sl1_n (by decide)]
  · rw [if_neg h, up2_k, sl1_n (by decide)]
    by_cases hj : j = ln
    · rw [if_pos hj, if_pos ⟨hj, h⟩]
    · rw [if_neg hj, if_neg (fun z => hj z.1)]
theorem slS_21 {a : Nat → Nat → Nat} {ln dn p j : Nat} : slS a ln dn p 21 j = if j = ln * 8 + p - dn then a 14 p >>> dn else a 21 j := by
  unfold slS sl3
  rw [up2_k, sl2_n (by decide), sl1_n (by decide), sl2_n (by decide), sl1_n (by decide)]
theorem slP_s {ar : Nat → Nat → Nat} {ln x dn n : Nat} : slP ar ln x dn (n + 1) = slS (slP ar ln x dn n) ln dn (dn + n) := rfl
theorem slP_16 {ar : Nat → Nat → Nat} {ln x dn n j : Nat} : slP ar ln x dn n 16 j = if j = ln then ar 10 x >>> dn else ar 16 j := by
  induction n with
  | zero => rw [slP, sl0, up2_a (by decide), up2_a (by decide), up2_a (by decide), up2_a (by decide), up2_k]
  | succ n ih => rw [slP_s, slS_n (by decide) (by decide) (by decide), ih]
theorem slP_17 {ar : Nat → Nat → Nat} {ln x dn n j : Nat} : slP ar ln x dn n 17 j = if j = ln then ar 11 x >>> dn else ar 17 j := by
  induction n with
  | zero => rw [slP, sl0, up2_a (by decide), up2_a (by decide), up2_a (by decide), up2_k, up2_a (by decide)]
  | succ n ih => rw [slP_s, slS_n (by decide) (by decide) (by decide), ih]
theorem slP_18 {ar : Nat → Nat → Nat} {ln x dn n j : Nat} : slP ar ln x dn n 18 j = if j = ln then ar 12 x else ar 18 j := by
  induction n with
  | zero => rw [slP, sl0, up2_a (by decide), up2_a (by decide), up2_k, up2_a (by decide), up2_a (by decide)]
  | succ n ih => rw [slP_s, slS_n (by decide) (by decide) (by decide), ih]
theorem slP_19n {ar : Nat → Nat → Nat} {ln x dn n j : Nat} (h : j ≠ ln) : slP ar ln x dn n 19 j = ar 19 j ∧ slP ar ln x dn n 20 j = ar 20 j := by
  induction n with
  | zero =>
    rw [slP, sl0]
    constructor
    · rw [up2_a (by decide), up2_k, if_neg h, up2_a (by decide), up2_a (by decide), up2_a (by decide)]
    · rw [up2_k, if_neg h, up2_a (by decide), up2_a (by decide), up2_a (by decide), up2_a (by decide)]
  | succ n ih =>
    rw [slP_s, slS_19, slS_20, if_neg (fun z => h z.1), if_neg (fun z => h z.1)]
    exact ih
theorem slP_19 {ar : Nat → Nat → Nat} {ln x dn n : Nat} (q : Nat) : ((slP ar ln x dn n 19 ln).testBit q = true ↔ q < n ∧ ar 13 (dn + q) ≠ 1) ∧ ((slP ar ln x dn n 20 ln).testBit q = true ↔ q < n ∧ ar 13 (dn + q) ≠ 0) := by
  induction n with
  | zero =>
    rw [slP, sl0, up2_a (by decide), up2_s, up2_s, Nat.zero_testBit]
    constructor
    · constructor
      · intro h; cases h
      · rintro ⟨h, -⟩; omega
    · constructor
      · intro h; cases h
      · rintro ⟨h, -⟩; omega
  | succ n ih =>
    rw [slP_s, slS_19, slS_20, slP_n (by decide), show dn + n - dn = n by omega]
    constructor
    · by_cases h : ar 13 (dn + n) ≠ 1
      · rw [if_pos ⟨rfl, h⟩, Nat.testBit_or, Bool.or_eq_true, ih.1, shl_bit]
        constructor
        · rintro (⟨h1, h2⟩ | h1)
          · exact ⟨by omega, h2⟩
          · subst h1; exact ⟨by omega, h⟩
        · rintro ⟨h1, h2⟩
          by_cases hq : q = n
          · exact Or.inr hq
          · exact Or.inl ⟨by omega, h2⟩
      · rw [if_neg (fun z => h z.2), ih.1]
        constructor
        · rintro ⟨h1, h2⟩; exact ⟨by omega, h2⟩
        · rintro ⟨h1, h2⟩
          by_cases hq : q = n
          · subst hq; exact absurd h2 h
          · exact ⟨by omega, h2⟩
    · by_cases h : ar 13 (dn + n) ≠ 0
      · rw [if_pos ⟨rfl, h⟩, Nat.testBit_or, Bool.or_eq_true, ih.2, shl_bit]
        constructor
        · rintro (⟨h1, h2⟩ | h1)
          · exact ⟨by omega, h2⟩
          · subst h1; exact ⟨by omega, h⟩
        · rintro ⟨h1, h2⟩
          by_cases hq : q = n
          · exact Or.inr hq
          · exact Or.inl ⟨by omega, h2⟩
      · rw [if_neg (fun z => h z.2), ih.2]
        constructor
        · rintro ⟨h1, h2⟩; exact ⟨by omega, h2⟩
        · rintro ⟨h1, h2⟩
          by_cases hq : q = n
          · subst hq; exact absurd h2 h
          · exact ⟨by omega, h2⟩
theorem slP_21 {ar : Nat → Nat → Nat} {ln x dn n j : Nat} : slP ar ln x dn n 21 j = if ln * 8 ≤ j ∧ j < ln * 8 + n then ar 14 (dn + (j - ln * 8)) >>> dn else ar 21 j := by
  induction n with
  | zero => rw [slP, sl0, if_neg (by omega), up2_a (by decide), up2_a (by decide), up2_a (by decide), up2_a (by decide), up2_a (by decide)]
  | succ n ih =>
    rw [slP_s, slS_21, ih, slP_n (by decide)]
    by_cases h : j = ln * 8 + (dn + n) - dn
    · rw [if_pos h, if_pos (by omega), show j - ln * 8 = n by omega]
    · rw [if_neg h]
      by_cases h2 : ln * 8 ≤ j ∧ j < ln * 8 + n
      · rw [if_pos h2, if_pos (by omega)]
      · rw [if_neg h2, if_neg (by omega)]
theorem shr_le31 {x n : Nat} (h : x < 2 ^ 31) : x >>> n < 2 ^ 31 := by
  rw [Nat.shiftRight_eq_div_pow]
  exact Nat.lt_of_le_of_lt (Nat.div_le_self _ _) h
theorem slP_256 {ar : Nat → Nat → Nat} {ln x dn n : Nat} (hn : n ≤ 8) : slP ar ln x dn n 19 ln < 256 ∧ slP ar ln x dn n 20 ln < 256 := by
  constructor
  · refine bits_lt (n := 8) (fun z hz => ?_)
    have := ((slP_19 z).1.mp hz).1
    omega
  · refine bits_lt (n := 8) (fun z hz => ?_)
    have := ((slP_19 z).2.mp hz).1
    omega
theorem slP_B {ar : Nat → Nat → Nat} {ln x dn n : Nat} (hn : n ≤ 8) (h : ∀ k j, ar k j < 2 ^ 31) : ∀ k j, slP ar ln x dn n k j < 2 ^ 31 := by
  intro k j
  have h256 := slP_256 (ar := ar) (ln := ln) (x := x) (dn := dn) hn
  by_cases h16 : k = 16
  · subst h16
    rw [slP_16]
    split
    · exact shr_le31 (h _ _)
    · exact h _ _
  by_cases h17 : k = 17
  · subst h17
    rw [slP_17]
    split
    · exact shr_le31 (h _ _)
    · exact h _ _
  by_cases h18 : k = 18
  · subst h18
    rw [slP_18]
    split <;> exact h _ _
  by_cases h19 : k = 19
  · subst h19
    by_cases hj : j = ln
    · subst hj
      exact Nat.lt_trans h256.1 (by decide)
    · rw [(slP_19n hj).1]; exact h _ _
  by_cases h20 : k = 20
  · subst h20
    by_cases hj : j = ln
    · subst hj
      exact Nat.lt_trans h256.2 (by decide)
    · rw [(slP_19n hj).2]; exact h _ _
  by_cases h21 : k = 21
  · subst h21
    rw [slP_21]
    split
    · exact shr_le31 (h _ _)
    · exact h _ _
  · rw [slP_n ⟨h16, h17, h18, h19, h20, h21⟩]
    exact h _ _
theorem ag_setLine {fi fj : Nat → Nat} {ar br : Nat → Nat → Nat} (x : Int32) (h : Rel (fi, ar) (fj, br)) : (setX x fi ar).1 = (setM x fj br).1 ∧ Rel (setX x fi ar).2 (setM x fj br).2 := by
  obtain ⟨hG, hE, hL⟩ := id h
  obtain ⟨g1, g2, g3, g4, g5, g6, g7, g8⟩ := id hG
  obtain ⟨f1, f2, f3, f4, f5, f6⟩ := id g1
  obtain ⟨e1, e2, e3, e4, e5, e6⟩ := id hE
  dsimp only at *
  rw [setX, setM, g2, g3, ← f5, ← e1]
  by_cases hx : x < 0 ∨ nI (fi 2) ≤ x
  · rw [if_pos hx, if_pos hx]
    exact ⟨rfl, h⟩
  · rw [if_neg hx, if_neg hx]
    by_cases h7 : fi 7 < 1
    · rw [if_pos h7, if_pos (by omega)]
      exact ⟨rfl, h⟩
    · rw [if_neg h7, if_neg (by omega)]
      refine ⟨rfl, ?_⟩
      rcases pk_ix x (n := fi 2) (by omega) with hq | hq | ⟨ln, hj, rfl⟩
      · exact absurd (Or.inl hq) hx
      · exact absurd (Or.inr hq) hx
      rw [nI_clamp (by omega)]
      obtain ⟨q3, q4⟩ := e6 (fi 7 - 1) (by omega)
      rw [show fi 7 - 1 + 1 = fi 7 by omega] at q4
      have hm := ltsP_mono (br := br) (show fi 7 - 1 ≤ fi 7 by omega)
      rw [q3]
      have hn8 : fi 8 - ltsP br (fi 7 - 1) ≤ 8 := by omega
      have h256 := slP_256 (ar := ar) (ln := ln) (x := fi 7 - 1) (dn := ltsP br (fi 7 - 1)) hn8
      refine ⟨RG_mk hG rfl rfl rfl rfl (by dsimp only; rw [up_s]; decide) rfl rfl (slP_B hn8 g4) (hB_up g5 (g5 _ _)) (by dsimp only; rw [slP_n (by decide)]) (by dsimp only; rw [slP_n (by decide)]) (by dsimp only; rw [slP_n (by decide)]) rfl, ?_, fun ln' hln' => ?_, fun hq => ?_⟩
      · dsimp only
        have el : ∀ i, ltsP (up2 br 3 ln (br 0 (fi 7 - 1))) i = ltsP br i := fun i => ltsP_congr (fun j _ => by rw [up2_a (by decide)])
        have u7 : up (up (up fi 8 (ltsP br (fi 7 - 1))) 7 (fi 7 - 1)) 23 0 7 = fi 7 - 1 := rfl
        have u8 : up (up (up fi 8 (ltsP br (fi 7 - 1))) 7 (fi 7 - 1)) 23 0 8 = ltsP br (fi 7 - 1) := rfl
        refine ⟨rfl, ?_, ?_, ?_, ?_, ?_⟩
        · rw [u7]; omega
        · rw [u7, u8, el]
        · rw [u8]; omega
        · rw [slP_n (by decide)]; exact e5
        · intro i hi
          rw [u7] at hi
          obtain ⟨a1, a2⟩ := e6 i (by omega)
          have hm := ltsP_mono (br := br) (show i + 1 ≤ fi 7 by omega)
          rw [el, el, up2_a (by decide), slP_n (by decide)]
          exact ⟨a1, ExOk_congr (by omega) (by rw [slP_n (by decide)]) (by rw [slP_n (by decide)]) (by rw [slP_n (by decide)]) (fun p _ _ => by rw [slP_n (by decide), slP_n (by decide)]; exact ⟨rfl, rfl⟩) a2⟩
      · have hln' : ln' < fi 2 := hln'
        dsimp only
        rw [up2_k]
        by_cases hq : ln' = ln
        · subst hq
          rw [if_pos rfl]
          refine ln_set (by omega) q4 ?_ ?_ ?_ ?_ ?_ h256.1 h256.2
          · rw [slP_16, if_pos rfl]
          · rw [slP_17, if_pos rfl]
          · intro q
            rw [(slP_19 q).1]
            constructor
            · rintro ⟨a1, a2⟩; exact ⟨by omega, a2⟩
            · rintro ⟨a1, a2⟩; exact ⟨by omega, a2⟩
          · intro q
            rw [(slP_19 q).2]
            constructor
            · rintro ⟨a1, a2⟩; exact ⟨by omega, a2⟩
            · rintro ⟨a1, a2⟩; exact ⟨by omega, a2⟩
          · intro p hp
            rw [slP_21, if_pos (by omega), show ln' * 8 + p - ln' * 8 = p by omega]
        · rw [if_neg hq]
          refine LnOk_congr ?_ ?_ (slP_19n hq).1 (slP_19n hq).2 ?_ (hL.1 ln' hln')
          · rw [slP_16, if_neg hq]
          · rw [slP_17, if_neg hq]
          · intro p hp
            rw [slP_21, if_neg (by omega)]
      · dsimp only at hq
        rw [up_s] at hq
        exact absurd rfl hq
theorem cell_inj {r c r' c' C : Nat} (hc : c < C) (hc' : c' < C) (h : r * C + c = r' * C + c') : r = r' ∧ c = c' := by
  have h1 := dm_of (i := r) hc
  have h2 := dm_of (i := r') hc'
  rw [h] at h1
  exact ⟨h1.1.symm.trans h2.1, h1.2.symm.trans h2.2⟩
theorem ag_pin {fi fj : Nat → Nat} {ar br : Nat → Nat → Nat} (r c v : Int32) (h : Rel (fi, ar) (fj, br)) : (pinX r c v fi ar).1 = (pinM r c v fj br).1 ∧ Rel (pinX r c v fi ar).2 (pinM r c v fj br).2 := by
  obtain ⟨hG, hE, hL⟩ := id h
  obtain ⟨g1, g2, g3, g4, g5, g6, g7, g8⟩ := id hG
  obtain ⟨f1, f2, f3, f4, f5, f6⟩ := id g1
  dsimp only at *
  rw [pinX, pinM, g2, g3]
  by_cases hx : 0 ≤ r ∧ r < nI (fi 0) ∧ 0 ≤ c ∧ c < nI (fi 1) ∧ 0 ≤ v ∧ v ≤ 2
  · rw [if_pos hx, if_pos hx]
    obtain ⟨x1, x2, x3, x4, x5, x6⟩ := hx
    obtain ⟨v0, hv0, rfl⟩ := nI_of2 (M := 2) (n := 2) rfl (Int32.not_lt.mpr x5) x6
    rcases pk_ix r (n := fi 0) (by omega) with hq | hq | ⟨r0, hr0, rfl⟩
    · exact absurd hq (Int32.not_lt.mpr x1)
    · exact absurd x2 (Int32.not_lt.mpr hq)
    rcases pk_ix c (n := fi 1) (by omega) with hq | hq | ⟨c0, hc0, rfl⟩
    · exact absurd hq (Int32.not_lt.mpr x3)
    · exact absurd x4 (Int32.not_lt.mpr hq)
    rw [nI_clamp (by omega), nI_clamp (by omega), nI_clamp (by omega)]
    refine ⟨(g8 r0 c0 hr0 hc0).1, ⟨g1, g2, g3, hB_up g4 (by omega), hB_up g5 (by omega), by dsimp only; rw [up_s]; decide, ?_, ?_⟩, RE_same hE rfl rfl rfl (fun k h1 h2 => by dsimp only; rw [up2_a (by omega)]) rfl rfl, fun ln' hln' => ?_, fun hq => ?_⟩
    · dsimp only
      rw [up2_a (by decide), up2_a (by decide)]
      exact g7
    · intro r c hr hc
      have hr : r < fi 0 := hr
      have hc : c < fi 1 := hc
      have e1 : up fi 23 0 1 = fi 1 := rfl
      dsimp only
      rw [e1, up2_k, up2_k]
      by_cases hq : r * fi 1 + c = r0 * fi 1 + c0
      · obtain ⟨rfl, rfl⟩ := cell_inj hc hc0 hq
        rw [if_pos rfl, if_pos rfl]
        exact ⟨rfl, hv0⟩
      · rw [if_neg hq, if_neg]
        · exact g8 r c hr hc
        · intro hz
          obtain ⟨rfl, rfl⟩ := cell_inj (C := 4) (by omega) (by omega) hz
          exact hq rfl
    · have hln' : ln' < fi 2 := hln'
      dsimp only
      rw [up2_a (by decide)]
      exact LnOk_congr (by rw [up2_a (by decide)]) (by rw [up2_a (by decide)]) (by rw [up2_a (by decide)]) (by rw [up2_a (by decide)]) (fun p _ => by rw [up2_a (by decide)]) (hL.1 ln' hln')
    · dsimp only at hq
      rw [up_s] at hq
      exact absurd rfl hq
  · rw [if_neg hx, if_neg hx]
    exact ⟨rfl, h⟩
theorem ag_pinned {fi fj : Nat → Nat} {ar br : Nat → Nat → Nat} (r c : Int32) (h : Rel (fi, ar) (fj, br)) : (pindX r c fi ar).1 = (pindM r c fj br).1 ∧ Rel (pindX r c fi ar).2 (pindM r c fj br).2 := by
  obtain ⟨hG, hE, hL⟩ := id h
  obtain ⟨g1, g2, g3, g4, g5, g6, g7, g8⟩ := id hG
  obtain ⟨f1, f2, f3, f4, f5, f6⟩ := id g1
  dsimp only at *
  rw [pindX, pindM, g2, g3]
  by_cases hx : 0 ≤ r ∧ r < nI (fi 0) ∧ 0 ≤ c ∧ c < nI (fi 1)
  · rw [if_pos hx, if_pos hx]
    obtain ⟨x1, x2, x3, x4⟩ := hx
    rcases pk_ix r (n := fi 0) (by omega) with hq | hq | ⟨r0, hr0, rfl⟩
    · exact absurd hq (Int32.not_lt.mpr x1)
    · exact absurd x2 (Int32.not_lt.mpr hq)
    rcases pk_ix c (n := fi 1) (by omega) with hq | hq | ⟨c0, hc0, rfl⟩
    · exact absurd hq (Int32.not_lt.mpr x3)
    · exact absurd x4 (Int32.not_lt.mpr hq)
    rw [nI_clamp (by omega), nI_clamp (by omega)]
    exact ⟨(g8 r0 c0 hr0 hc0).1, h⟩
  · rw [if_neg hx, if_neg hx]
    exact ⟨rfl, h⟩
-- the start
theorem gP_n {C N k : Nat} (h : k ≠ 4 ∧ k ≠ 5 ∧ k ≠ 6) : ∀ j, gP C N k j = 0 := by
  induction N with
  | zero => intro j; rfl
  | succ N ih => rw [gP, up2_a h.2.2, up2_a h.2.1, up2_a h.1]; exact ih
theorem gP_at {C N n : Nat} (h : n < N) : gP C N 4 n = n / C ∧ gP C N 5 n = n % C ∧ gP C N 6 n = 2 := by
  induction N with
  | zero => omega
  | succ N ih =>
    rw [gP]
    by_cases hn : n = N
    · subst hn
      refine ⟨?_, ?_, ?_⟩
      · rw [up2_a (by decide), up2_a (by decide), up2_s]
      · rw [up2_a (by decide), up2_s]
      · rw [up2_s]
    · obtain ⟨a1, a2, a3⟩ := ih (by omega)
      refine ⟨?_, ?_, ?_⟩
      · rw [up2_a (by decide), up2_a (by decide), up2_k, if_neg hn, a1]
      · rw [up2_a (by decide), up2_k, if_neg hn, up2_a (by decide), a2]
      · rw [up2_k, if_neg hn, up2_a (by decide), up2_a (by decide), a3]
theorem gP_B {C N : Nat} (hN : N ≤ 12) : ∀ k j, gP C N k j < 2 ^ 31 := by
  induction N with
  | zero => intro k j; show 0 < 2 ^ 31; decide
  | succ N ih =>
    rw [gP]
    have h1 : N / C ≤ N := Nat.div_le_self _ _
    have h2 : N % C ≤ N := Nat.mod_le _ _
    exact hB_up (hB_up (hB_up (ih (by omega)) (by omega)) (by omega)) (by decide)
theorem iP_n {C N i k : Nat} (h : k < 16 ∨ 21 < k) : iP C N i k = gP C N k := by
  induction i with
  | zero => rfl
  | succ i ih => rw [iP, awA_n h, ih]
theorem iP_B {C N i : Nat} (hN : N ≤ 12) : ∀ k j, iP C N i k j < 2 ^ 31 := by
  induction i with
  | zero => exact gP_B hN
  | succ i ih => exact awA_B ih
theorem iP_ln {C N : Nat} : ∀ i ln, ln < i → LnOk (iP C N i) ln 2147483647 := by
  intro i
  induction i with
  | zero => intro ln h; omega
  | succ i ih =>
    intro ln h
    rw [iP]
    by_cases hq : ln = i
    · subst hq; exact ln_aw _ _
    · exact ln_aw' hq (ih ln (by omega))
theorem lP_at : ∀ i j, lP i 3 j = if j < i then 2147483647 else 0 := by
  intro i
  induction i with
  | zero => intro j; rw [lP, if_neg (by omega)]
  | succ i ih =>
    intro j
    rw [lP, up2_k, ih]
    by_cases h : j = i
    · rw [if_pos h, if_pos (by omega)]
    · rw [if_neg h]
      by_cases h2 : j < i
      · rw [if_pos h2, if_pos (by omega)]
      · rw [if_neg h2, if_neg (by omega)]
theorem qP_at : ∀ i j, qP i 4 j = if j < i then 2 else lP 7 4 j := by
  intro i
  induction i with
  | zero => intro j; rw [qP, if_neg (by omega)]
  | succ i ih =>
    intro j
    rw [qP, up2_k, ih]
    by_cases h : j = i
    · rw [if_pos h, if_pos (by omega)]
    · rw [if_neg h]
      by_cases h2 : j < i
      · rw [if_pos h2, if_pos (by omega)]
      · rw [if_neg h2, if_neg (by omega)]
theorem qP_3 : ∀ i, qP i 3 = lP 7 3 := by
  intro i
  induction i with
  | zero => rfl
  | succ i ih => rw [qP, up2_a (by decide), ih]
theorem lP_B : ∀ i k j, lP i k j < 2 ^ 31 := by
  intro i
  induction i with
  | zero => intro k j; show 0 < 2 ^ 31; decide
  | succ i ih => rw [lP]; exact hB_up ih (by decide)
theorem qP_B : ∀ i k j, qP i k j < 2 ^ 31 := by
  intro i
  induction i with
  | zero => exact lP_B 7
  | succ i ih => rw [qP]; exact hB_up ih (by decide)
theorem rel_start (R C : Nat) (hR1 : 1 ≤ R) (hR3 : R ≤ 3) (hC1 : 1 ≤ C) (hC4 : C ≤ 4) : Rel (fX0 R C, aX0 R C) (fM0 R C, qP 12) := by
  have hRC : R * C ≤ 12 := Nat.mul_le_mul hR3 hC4
  have f0 : fX0 R C 0 = R := rfl
  have f1 : fX0 R C 1 = C := rfl
  have f2 : fX0 R C 2 = R + C := rfl
  have f3 : fX0 R C 3 = R * C := rfl
  refine ⟨⟨⟨hR1, hR3, hC1, hC4, rfl, rfl⟩, rfl, rfl, iP_B hRC, qP_B 12, by show (0 : Nat) < 2; decide, ?_, ?_⟩, ⟨rfl, by show (0 : Nat) ≤ 6; decide, rfl, by show (0 : Nat) ≤ 8; decide, ?_, fun i hi => ?_⟩, fun ln hln => ?_, fun hq => absurd rfl hq⟩
  · intro n hn
    have hn : n < R * C := hn
    dsimp only
    unfold aX0
    rw [iP_n (by decide), iP_n (by decide), (gP_at hn).1, (gP_at hn).2.1, f1]
    exact ⟨rfl, rfl⟩
  · intro r c hr hc
    have hr : r < R := hr
    have hc : c < C := hc
    dsimp only
    unfold aX0
    have hlt : r * C + c < R * C := by
      have : (r + 1) * C ≤ R * C := Nat.mul_le_mul_right _ hr
      rw [Nat.add_mul] at this
      omega
    rw [iP_n (by decide), f1, (gP_at hlt).2.2, qP_at, if_pos (by omega)]
    exact ⟨rfl, Nat.le_refl 2⟩
  · intro j
    dsimp only
    unfold aX0
    rw [iP_n (by decide), gP_n (by decide)]
    decide
  · exact absurd hi (Nat.not_lt_zero i)
  · have hln : ln < R + C := hln
    dsimp only
    rw [qP_3, lP_at, if_pos (by omega)]
    exact iP_ln _ _ hln
end
section
/-! PURE: fillings. The reference's fits, over the machines; a prefix of cells, what place decides -/
theorem wofP_lt1 (fi : Nat → Nat) (num ln : Nat) : ∀ n i, i < n → lt (wofP fi num ln n) (n - 1 - i) = digM fi num ln i := by
  intro n
  induction n with
  | zero => intro i h; omega
  | succ n ih =>
    intro i hi
    have hle := digM_le fi num ln n
    rw [wofP]
    by_cases h : i = n
    · subst h
      unfold lt
      rw [show i + 1 - 1 - i = 0 by omega, Nat.shiftRight_zero, Nat.and_one_is_mod]
      omega
    · have := ih i (by omega)
      rw [← this, show n + 1 - 1 - i = (n - 1 - i) + 1 by omega]
      unfold lt
      rw [Nat.shiftRight_succ_inside]
      congr 2
      omega
theorem numP_lt1 {a : Nat → Nat → Nat} : ∀ n, (∀ j, j < n → a 24 j ≤ 1) → ∀ i, i < n → lt (numP a n) (n - 1 - i) = a 24 i := by
  intro n
  induction n with
  | zero => intro _ i h; omega
  | succ n ih =>
    intro hd i hi
    have hle := hd n (by omega)
    rw [numP]
    by_cases h : i = n
    · subst h
      unfold lt
      rw [show i + 1 - 1 - i = 0 by omega, Nat.shiftRight_zero, Nat.and_one_is_mod]
      omega
    · have := ih (fun j hj => hd j (by omega)) i (by omega)
      rw [← this, show n + 1 - 1 - i = (n - 1 - i) + 1 by omega]
      unfold lt
      rw [Nat.shiftRight_succ_inside]
      congr 2
      omega
theorem numP_lt {a : Nat → Nat → Nat} : ∀ n, (∀ j, j < n → a 24 j ≤ 1) → numP a n < 2 ^ n := by
  intro n
  induction n with
  | zero => intro _; rw [numP]; decide
  | succ n ih =>
    intro hd
    have h1 := ih (fun j hj => hd j (by omega))
    have h2 := hd n (by omega)
    rw [numP, Nat.pow_succ]
    omega
theorem numP_congr {a b : Nat → Nat → Nat} : ∀ n, (∀ j, j < n → a 24 j = b 24 j) → numP a n = numP b n := by
  intro n
  induction n with
  | zero => intro _; rw [numP, numP]
  | succ n ih =>
    intro h
    rw [numP, numP, ih (fun j hj => h j (by omega)), h n (by omega)]
theorem grid_dm {fi : Nat → Nat} (hg : gridF fi) {d : Nat} (hd : d < fi 3) : d / fi 1 < fi 0 ∧ d % fi 1 < fi 1 ∧ d = d / fi 1 * fi 1 + d % fi 1 := by
  obtain ⟨h1, h2, h3, h4, h5, h6⟩ := hg
  refine ⟨?_, Nat.mod_lt _ (by omega), ?_⟩
  · rw [h6] at hd
    exact Nat.div_lt_of_lt_mul (by rw [Nat.mul_comm]; exact hd)
  · have := Nat.div_add_mod d (fi 1)
    rw [Nat.mul_comm] at this
    exact this.symm
theorem grid_cell {fi : Nat → Nat} (hg : gridF fi) {r c : Nat} (hr : r < fi 0) (hc : c < fi 1) : r * fi 1 + c < fi 3 := by
  obtain ⟨h1, h2, h3, h4, h5, h6⟩ := hg
  rw [h6]
  have : (r + 1) * fi 1 ≤ fi 0 * fi 1 := Nat.mul_le_mul_right _ hr
  rw [Nat.add_mul] at this
  omega
/-- the letters of the line ln in the number num, by how many come behind -/
def lw (fi : Nat → Nat) (num ln m : Nat) : Nat := lt num (fi 3 - 1 - celX fi ln (lenX fi ln - 1 - m))
/-- what the search stands on: the grid, 'back', the machines; and fits in their words -/
def Hc (fi : Nat → Nat) (a0 : Nat → Nat → Nat) (F : Nat → Prop) : Prop :=
  gridF fi ∧ BackOk fi a0 ∧ (∀ n, n < fi 3 → a0 4 n = n / fi 1 ∧ a0 5 n = n % fi 1) ∧ (∀ ln, ln < fi 2 → ∀ v, ltr a0 ln v < 256) ∧ (∀ j, j < fi 3 → a0 6 j ≤ 2) ∧
  (∀ num, F num ↔ (∀ d, d < fi 3 → a0 6 d = 2 ∨ a0 6 d = lt num (fi 3 - 1 - d)) ∧ ∀ ln, ln < fi 2 → fin (GL a0 ln) (KL a0 ln) (LL a0 ln) (lw fi num ln) (lenX fi ln) 8)
theorem fit_iff {fi fj : Nat → Nat} {ar br : Nat → Nat → Nat} (h : Rel (fi, ar) (fj, br)) (num : Nat) : fitM fj br num ↔ (∀ d, d < fi 3 → ar 6 d = 2 ∨ ar 6 d = lt num (fi 3 - 1 - d)) ∧ ∀ ln, ln < fi 2 → fin (GL ar ln) (KL ar ln) (LL ar ln) (lw fi num ln) (lenX fi ln) 8 := by
  obtain ⟨hG, hE, hL⟩ := id h
  obtain ⟨g1, g2, g3, g4, g5, g6, g7, g8⟩ := id hG
  obtain ⟨f1, f2, f3, f4, f5, f6⟩ := id g1
  dsimp only at *
  have hcel : ∀ r c, celM fj num r c = lt num (fi 3 - 1 - (r * fi 1 + c)) := by
    intro r c
    unfold celM lt
    rw [g2, g3, f6]
  have hlen : ∀ ln, lenM fj ln = lenX fi ln := by
    intro ln
    unfold lenM lenX
    rw [g2, g3]
  have hdig : ∀ ln i, ln < fi 2 → digM fj num ln i = lt num (fi 3 - 1 - celX fi ln i) := by
    intro ln i hln
    unfold digM celX
    rw [g2]
    by_cases hr : ln < fi 0
    · rw [if_pos hr, if_pos hr, hcel]
    · rw [if_neg hr, if_neg hr, hcel, show i * fi 1 + ln - fi 0 = i * fi 1 + (ln - fi 0) by omega]
  have hp : keepM fj br num ↔ ∀ d, d < fi 3 → ar 6 d = 2 ∨ ar 6 d = lt num (fi 3 - 1 - d) := by
    unfold keepM pinQ
    rw [g2, g3]
    constructor
    · intro hk d hd
      obtain ⟨a1, a2, a3⟩ := grid_dm g1 hd
      have := hk _ a1 _ a2
      rw [hcel, ← (g8 _ _ a1 a2).1, ← a3] at this
      exact this
    · intro hk r hr c hc
      have := hk _ (grid_cell g1 hr hc)
      rw [(g8 _ _ hr hc).1] at this
      rw [hcel]
      exact this
  have hl : (∀ ln, ln < fj 5 + fj 6 → hol (br 3 ln) (lenM fj ln) (wofP fj num ln (lenM fj ln))) ↔ ∀ ln, ln < fi 2 → fin (GL ar ln) (KL ar ln) (LL ar ln) (lw fi num ln) (lenX fi ln) 8 := by
    rw [g2, g3, ← f5]
    have key : ∀ ln, ln < fi 2 → (hol (br 3 ln) (lenM fj ln) (wofP fj num ln (lenM fj ln)) ↔ fin (GL ar ln) (KL ar ln) (LL ar ln) (lw fi num ln) (lenX fi ln) 8) := by
      intro ln hln
      have hb := wofP_lt fj num ln (lenM fj ln)
      rw [hlen] at hb ⊢
      have hn := lenX_in g1 ln
      rw [(hL.1 ln hln).2.2 _ _ hn.1 hn.2 hb]
      refine fin_w _ (fun m hm => ?_) 8
      have := wofP_lt1 fj num ln (lenX fi ln) (lenX fi ln - 1 - m) (by omega)
      rw [show lenX fi ln - 1 - (lenX fi ln - 1 - m) = m by omega] at this
      rw [this, hdig ln _ hln]
      rfl
    constructor
    · intro hk ln hln; exact (key ln hln).mp (hk ln hln)
    · intro hk ln hln; exact (key ln hln).mpr (hk ln hln)
  unfold fitM
  rw [hp, hl]
theorem fin_lik {a b : Nat → Nat → Nat} (h : lik a b) (ln : Nat) (w : Nat → Nat) (n p : Nat) : fin (GL a ln) (KL a ln) (LL a ln) w n p ↔ fin (GL b ln) (KL b ln) (LL b ln) w n p := by
  have e1 : GL a ln = GL b ln := by
    funext p q
    unfold GL
    rw [h 16 (by decide), h 21 (by decide)]
  have e2 : KL a ln = KL b ln := by
    funext v q
    unfold KL
    rw [ltr_lik h]
  have e3 : LL a ln = LL b ln := by
    funext p
    unfold LL
    rw [h 17 (by decide)]
  rw [e1, e2, e3]
theorem hc_of {fi fj : Nat → Nat} {ar br : Nat → Nat → Nat} (h : Rel (fi, ar) (fj, br)) : Hc fi (prpA fi ar) (fitM fj br) := by
  obtain ⟨hG, hE, hL⟩ := id h
  obtain ⟨g1, g2, g3, g4, g5, g6, g7, g8⟩ := id hG
  dsimp only at *
  have hl := prpA_lik fi ar
  refine ⟨g1, prpA_back g1 hL.2, ?_, ?_, ?_, ?_⟩
  · rw [hl 4 (by decide), hl 5 (by decide)]; exact g7
  · intro ln hln v
    rw [ltr_lik hl]
    unfold ltr
    split
    · exact (hL.1 ln hln).1
    · exact (hL.1 ln hln).2.1
  · intro j hj
    rw [hl 6 (by decide)]
    obtain ⟨a1, a2, a3⟩ := grid_dm g1 hj
    rw [a3]
    exact (g8 _ _ a1 a2).2
  · intro num
    rw [fit_iff h num, hl 6 (by decide)]
    constructor
    · rintro ⟨h1, h2⟩
      exact ⟨h1, fun ln hln => (fin_lik hl ln _ _ _).mpr (h2 ln hln)⟩
    · rintro ⟨h1, h2⟩
      exact ⟨h1, fun ln hln => (fin_lik hl ln _ _ _).mp (h2 ln hln)⟩
-- the prefix
def RowOk (fi : Nat → Nat) (a0 a : Nat → Nat → Nat) (j : Nat) : Prop := a 26 j ≠ 0 ∧ ∀ p, (a 26 j).testBit p = true ↔ rea (GL a0 (j / fi 1)) (KL a0 (j / fi 1)) (fun t => a 24 (j / fi 1 * fi 1 + t)) (j % fi 1 + 1) p ∧ (bkv fi a0 (j / fi 1) (fi 1 - 1 - j % fi 1)).testBit p = true
def ColOk (fi : Nat → Nat) (a0 a : Nat → Nat → Nat) (j : Nat) : Prop := a 27 j ≠ 0 ∧ ∀ p, (a 27 j).testBit p = true ↔ rea (GL a0 (fi 0 + j % fi 1)) (KL a0 (fi 0 + j % fi 1)) (fun t => a 24 (t * fi 1 + j % fi 1)) (j / fi 1 + 1) p ∧ (bkv fi a0 (fi 0 + j % fi 1) (fi 0 - 1 - j / fi 1)).testBit p = true
def Pfx (fi : Nat → Nat) (a0 a : Nat → Nat → Nat) (d : Nat) : Prop := ∀ j, j < d → a 24 j ≤ 1 ∧ a 25 j = a 24 j + 1 ∧ (a0 6 j = 2 ∨ a0 6 j = a 24 j) ∧ RowOk fi a0 a j ∧ ColOk fi a0 a j
theorem row_idx {C j t : Nat} (ht : t ≤ j % C) : j / C * C + t ≤ j := by
  have := Nat.div_add_mod j C
  rw [Nat.mul_comm] at this
  omega
theorem col_idx {C j t : Nat} (ht : t ≤ j / C) : t * C + j % C ≤ j := by
  have h1 := Nat.div_add_mod j C
  rw [Nat.mul_comm] at h1
  have h2 : t * C ≤ j / C * C := Nat.mul_le_mul_right _ ht
  omega
theorem Pfx_congr {fi : Nat → Nat} {a0 a b : Nat → Nat → Nat} {d : Nat} (h : ∀ j, j < d → b 24 j = a 24 j ∧ b 25 j = a 25 j ∧ b 26 j = a 26 j ∧ b 27 j = a 27 j) (hp : Pfx fi a0 a d) : Pfx fi a0 b d := by
  intro j hj
  obtain ⟨p1, p2, p3, p4, p5⟩ := hp j hj
  obtain ⟨h1, h2, h3, h4⟩ := h j hj
  refine ⟨by rw [h1]; exact p1, by rw [h2, h1]; exact p2, by rw [h1]; exact p3, ⟨by rw [h3]; exact p4.1, fun p => ?_⟩, ⟨by rw [h4]; exact p5.1, fun p => ?_⟩⟩
  · rw [h3, p4.2 p]
    refine and_congr (rea_w _ (fun m hm => ?_) p) Iff.rfl
    have := row_idx (C := fi 1) (j := j) (t := m) (by omega)
    exact ((h _ (by omega)).1).symm
  · rw [h4, p5.2 p]
    refine and_congr (rea_w _ (fun m hm => ?_) p) Iff.rfl
    have := col_idx (C := fi 1) (j := j) (t := m) (by omega)
    exact ((h _ (by omega)).1).symm
/-- what place finds in the row and the column of d, with v there -/
theorem acr_bits {fi : Nat → Nat} {a0 a : Nat → Nat → Nat} {F : Nat → Prop} {d v : Nat} (hc : Hc fi a0 F) (hd : d < fi 3) (hv : v ≤ 1) (hp : Pfx fi a0 a d) (ha : ∀ k, k < 24 → a k = a0 k) (hpin : a0 6 d = 2 ∨ a0 6 d = v) (g : Nat → Nat) (hg1 : ∀ j, j < d → g j = a 24 j) (hg2 : g d = v) :
    ∀ p, (acr a d v).testBit p = true ↔ rea (GL a0 (d / fi 1)) (KL a0 (d / fi 1)) (fun t => g (d / fi 1 * fi 1 + t)) (d % fi 1 + 1) p ∧ (bkv fi a0 (d / fi 1) (fi 1 - 1 - d % fi 1)).testBit p = true := by
  obtain ⟨c1, c2, c3, c4, c5, c6⟩ := hc
  obtain ⟨m1, m2, m3⟩ := grid_dm c1 hd
  have hcel := c3 d hd
  have hln : d / fi 1 < fi 2 := by obtain ⟨-, -, -, -, h5, -⟩ := id c1; omega
  have hlen : lenX fi (d / fi 1) = fi 1 := by unfold lenX; rw [if_pos m1]
  have hlik : lik a a0 := fun k hk => ha k (by omega)
  have hbk : a 22 (a 4 d * 5 + a 5 d + 1) = bkv fi a0 (d / fi 1) (fi 1 - 1 - d % fi 1) := by
    rw [ha 4 (by decide), ha 5 (by decide), ha 22 (by decide), hcel.1, hcel.2]
    have := c2 (d / fi 1) hln (fi 1 - 1 - d % fi 1) (by omega)
    rw [← this, hlen, show d / fi 1 * 5 + (fi 1 - (fi 1 - 1 - d % fi 1)) = d / fi 1 * 5 + d % fi 1 + 1 by omega]
  intro p
  unfold acr
  rw [hbk, stp_lik hlik, ha 4 (by decide), ha 5 (by decide), hcel.1, hcel.2]
  refine reach_step (w := fun t => g (d / fi 1 * fi 1 + t)) (by rw [hlen]; omega) (c4 _ hln) (by show g (d / fi 1 * fi 1 + d % fi 1) = v; rw [← m3]; exact hg2) ?_ ?_ p
  · have : celX fi (d / fi 1) (d % fi 1) = d := by unfold celX; rw [if_pos m1]; exact m3.symm
    rw [this]
    exact (alw_iff (c5 d hd) hv).mpr hpin
  · intro q
    by_cases hc0 : d % fi 1 = 0
    · rw [if_pos hc0, hc0]
      exact start_set a0 fi _ _ _ q
    · rw [if_neg hc0]
      have hlt : d - 1 < d := by omega
      obtain ⟨-, -, -, hrow, -⟩ := hp (d - 1) hlt
      have e := dm_of (i := d / fi 1) (j := d % fi 1 - 1) (C := fi 1) (by omega)
      have e2 : d / fi 1 * fi 1 + (d % fi 1 - 1) = d - 1 := by omega
      rw [e2] at e
      have := hrow.2 q
      rw [e.1, e.2] at this
      rw [this, show d % fi 1 - 1 + 1 = d % fi 1 by omega, show fi 1 - 1 - (d % fi 1 - 1) = fi 1 - 1 - d % fi 1 + 1 by omega]
      constructor
      · rintro ⟨h1, h2⟩
        exact ⟨(rea_w _ (fun m hm => by have := row_idx (C := fi 1) (j := d) (t := m) (by omega); rw [hg1 _ (by omega)]) q).mp h1, Or.inr h2⟩
      · rintro ⟨h1, h2⟩
        refine ⟨(rea_w _ (fun m hm => by have := row_idx (C := fi 1) (j := d) (t := m) (by omega); rw [hg1 _ (by omega)]) q).mpr h1, ?_⟩
        rcases h2 with h2 | h2
        · exact absurd h2 hc0
        · exact h2
theorem dwn_bits {fi f : Nat → Nat} {a0 a : Nat → Nat → Nat} {F : Nat → Prop} {d v : Nat} (hc : Hc fi a0 F) (hf0 : f 0 = fi 0) (hf1 : f 1 = fi 1) (hd : d < fi 3) (hv : v ≤ 1) (hp : Pfx fi a0 a d) (ha : ∀ k, k < 24 → a k = a0 k) (hpin : a0 6 d = 2 ∨ a0 6 d = v) (g : Nat → Nat) (hg1 : ∀ j, j < d → g j = a 24 j) (hg2 : g d = v) :
    ∀ p, (dwn f a d v).testBit p = true ↔ rea (GL a0 (fi 0 + d % fi 1)) (KL a0 (fi 0 + d % fi 1)) (fun t => g (t * fi 1 + d % fi 1)) (d / fi 1 + 1) p ∧ (bkv fi a0 (fi 0 + d % fi 1) (fi 0 - 1 - d / fi 1)).testBit p = true := by
  obtain ⟨c1, c2, c3, c4, c5, c6⟩ := hc
  obtain ⟨m1, m2, m3⟩ := grid_dm c1 hd
  have hcel := c3 d hd
  have hln : fi 0 + d % fi 1 < fi 2 := by obtain ⟨-, -, -, -, h5, -⟩ := id c1; omega
  have hlen : lenX fi (fi 0 + d % fi 1) = fi 0 := by unfold lenX; rw [if_neg (by omega)]
  have hlik : lik a a0 := fun k hk => ha k (by omega)
  have hbk : a 22 ((f 0 + a 5 d) * 5 + a 4 d + 1) = bkv fi a0 (fi 0 + d % fi 1) (fi 0 - 1 - d / fi 1) := by
    rw [ha 4 (by decide), ha 5 (by decide), ha 22 (by decide), hcel.1, hcel.2, hf0]
    have := c2 (fi 0 + d % fi 1) hln (fi 0 - 1 - d / fi 1) (by omega)
    rw [← this, hlen, show (fi 0 + d % fi 1) * 5 + (fi 0 - (fi 0 - 1 - d / fi 1)) = (fi 0 + d % fi 1) * 5 + d / fi 1 + 1 by omega]
  intro p
  unfold dwn
  rw [hbk, stp_lik hlik, ha 4 (by decide), ha 5 (by decide), hcel.1, hcel.2, hf0, hf1]
  refine reach_step (w := fun t => g (t * fi 1 + d % fi 1)) (by rw [hlen]; omega) (c4 _ hln) (by show g (d / fi 1 * fi 1 + d % fi 1) = v; rw [← m3]; exact hg2) ?_ ?_ p
  · have : celX fi (fi 0 + d % fi 1) (d / fi 1) = d := by
      unfold celX
      rw [if_neg (by omega)]
      omega
    rw [this]
    exact (alw_iff (c5 d hd) hv).mpr hpin
  · intro q
    by_cases hc0 : d / fi 1 = 0
    · rw [if_pos hc0, hc0]
      exact start_set a0 fi _ _ _ q
    · rw [if_neg hc0]
      have e2 : (d / fi 1 - 1) * fi 1 + d % fi 1 = d - fi 1 := by
        have : (d / fi 1 - 1) * fi 1 = d / fi 1 * fi 1 - fi 1 := by rw [Nat.sub_mul, Nat.one_mul]
        have h1 : 1 * fi 1 ≤ d / fi 1 * fi 1 := Nat.mul_le_mul_right _ (by omega)
        omega
      have hlt : d - fi 1 < d := by
        obtain ⟨-, -, h3, -⟩ := id c1
        have h1 : 1 * fi 1 ≤ d / fi 1 * fi 1 := Nat.mul_le_mul_right _ (by omega)
        omega
      obtain ⟨-, -, -, -, hcol⟩ := hp (d - fi 1) hlt
      have e := dm_of (i := d / fi 1 - 1) (j := d % fi 1) (C := fi 1) m2
      rw [e2] at e
      have := hcol.2 q
      rw [e.1, e.2] at this
      rw [this, show d / fi 1 - 1 + 1 = d / fi 1 by omega, show fi 0 - 1 - (d / fi 1 - 1) = fi 0 - 1 - d / fi 1 + 1 by omega]
      have hidx : ∀ m, m < d / fi 1 → m * fi 1 + d % fi 1 < d := by
        intro m hm
        have h1 : (m + 1) * fi 1 ≤ d / fi 1 * fi 1 := Nat.mul_le_mul_right _ hm
        rw [Nat.add_mul] at h1
        omega
      constructor
      · rintro ⟨h1, h2⟩
        exact ⟨(rea_w _ (fun m hm => by have := hidx m hm; rw [hg1 _ this]) q).mp h1, Or.inr h2⟩
      · rintro ⟨h1, h2⟩
        refine ⟨(rea_w _ (fun m hm => by have := hidx m hm; rw [hg1 _ this]) q).mpr h1, ?_⟩
        rcases h2 with h2 | h2
        · exact absurd h2 hc0
        · exact h2
theorem ne0_bit {x : Nat} (h : x ≠ 0) : ∃ p, x.testBit p = true := Nat.exists_testBit_of_ne_zero h
/-- a filling whose first cells are the prefix and v passes place -/
theorem fit_plOk {fi f : Nat → Nat} {a0 a : Nat → Nat → Nat} {F : Nat → Prop} {d v num : Nat} (hc : Hc fi a0 F) (hf0 : f 0 = fi 0) (hf1 : f 1 = fi 1) (hd : d < fi 3) (hv : v ≤ 1) (hp : Pfx fi a0 a d) (ha : ∀ k, k < 24 → a k = a0 k) (hF : F num) (hn1 : ∀ j, j < d → lt num (fi 3 - 1 - j) = a 24 j) (hn2 : lt num (fi 3 - 1 - d) = v) : plOk f a d v := by
  obtain ⟨c1, c2, c3, c4, c5, c6⟩ := id hc
  obtain ⟨m1, m2, m3⟩ := grid_dm c1 hd
  obtain ⟨hpins, hlines⟩ := (c6 num).mp hF
  have hpin := hpins d hd
  rw [hn2] at hpin
  have hln2 : fi 2 = fi 0 + fi 1 := by obtain ⟨-, -, -, -, h5, -⟩ := id c1; exact h5
  have key : ∀ ln t, ln < fi 2 → t < lenX fi ln → ∃ p, rea (GL a0 ln) (KL a0 ln) (fun i => lt num (fi 3 - 1 - celX fi ln i)) (t + 1) p ∧ (bkv fi a0 ln (lenX fi ln - 1 - t)).testBit p = true := by
    intro ln t hln ht
    obtain ⟨p, h1, h2⟩ := (acc_split (t + 1) (by omega)).mp (hlines ln hln)
    refine ⟨p, (rea_w _ (fun m hm => ?_) p).mp h1, ?_⟩
    · show lw fi num ln (lenX fi ln - 1 - m) = _
      unfold lw
      rw [show lenX fi ln - 1 - (lenX fi ln - 1 - m) = m by omega]
    · rw [show lenX fi ln - (t + 1) = lenX fi ln - 1 - t by omega] at h2
      refine bkv_of _ p (rea_le h1) (fun i hi => ?_) h2
      have hci := celX_in c1 hln (t := lenX fi ln - 1 - i) (by omega)
      exact (alw_iff (c5 _ hci.1) (lt_le _ _)).mpr (hpins _ hci.1)
  refine ⟨by rw [ha 6 (by decide)]; exact hpin, ?_, ?_⟩
  · intro h0
    have hlen : lenX fi (d / fi 1) = fi 1 := by unfold lenX; rw [if_pos m1]
    obtain ⟨p, h1, h2⟩ := key (d / fi 1) (d % fi 1) (by omega) (by omega)
    rw [hlen] at h2
    have := (acr_bits hc hd hv hp ha hpin (fun j => lt num (fi 3 - 1 - j)) hn1 hn2 p).mpr ⟨(rea_w _ (fun m hm => ?_) p).mp h1, h2⟩
    · rw [h0, Nat.zero_testBit] at this
      cases this
    · unfold celX
      rw [if_pos m1]
  · intro h0
    have hlen : lenX fi (fi 0 + d % fi 1) = fi 0 := by unfold lenX; rw [if_neg (by omega)]
    obtain ⟨p, h1, h2⟩ := key (fi 0 + d % fi 1) (d / fi 1) (by omega) (by omega)
    rw [hlen] at h2
    have := (dwn_bits hc hf0 hf1 hd hv hp ha hpin (fun j => lt num (fi 3 - 1 - j)) hn1 hn2 p).mpr ⟨(rea_w _ (fun m hm => ?_) p).mp h1, h2⟩
    · rw [h0, Nat.zero_testBit] at this
      cases this
    · unfold celX
      rw [if_neg (by omega), show m * fi 1 + (fi 0 + d % fi 1) - fi 0 = m * fi 1 + d % fi 1 by omega]
/-- place leaves a longer prefix -/
theorem pfx_place {fi f : Nat → Nat} {a0 a : Nat → Nat → Nat} {F : Nat → Prop} {d v : Nat} (hc : Hc fi a0 F) (hf0 : f 0 = fi 0) (hf1 : f 1 = fi 1) (hd : d < fi 3) (hv : v ≤ 1) (hp : Pfx fi a0 a d) (ha : ∀ k, k < 24 → a k = a0 k) (h25 : a 25 d = v + 1) (hok : plOk f a d v) : Pfx fi a0 (plA f a d v) (d + 1) := by
  obtain ⟨hpin, h1, h2⟩ := hok
  rw [ha 6 (by decide)] at hpin
  have e24 : ∀ j, plA f a d v 24 j = if j = d then v else a 24 j := fun j => by
    unfold plA
    rw [up2_a (by decide), up2_a (by decide), up2_k]
  have e25 : plA f a d v 25 = a 25 := by
    unfold plA
    rw [up2_a (by decide), up2_a (by decide), up2_a (by decide)]
  have e26 : ∀ j, plA f a d v 26 j = if j = d then acr a d v else a 26 j := fun j => by
    unfold plA
    rw [up2_a (by decide), up2_k, up2_a (by decide)]
  have e27 : ∀ j, plA f a d v 27 j = if j = d then dwn f a d v else a 27 j := fun j => by
    unfold plA
    rw [up2_k, up2_a (by decide), up2_a (by decide)]
  have hp' : Pfx fi a0 (plA f a d v) d := Pfx_congr (fun j hj => by rw [e24, e25, e26, e27, if_neg (by omega), if_neg (by omega), if_neg (by omega)]; exact ⟨rfl, rfl, rfl, rfl⟩) hp
  intro j hj
  by_cases hjd : j = d
  · subst hjd
    have g1 : ∀ i, i < j → plA f a j v 24 i = a 24 i := fun i hi => by rw [e24, if_neg (by omega)]
    have g2 : plA f a j v 24 j = v := by rw [e24, if_pos rfl]
    refine ⟨by rw [g2]; exact hv, by rw [e25, g2]; exact h25, by rw [g2]; exact hpin, ⟨?_, ?_⟩, ⟨?_, ?_⟩⟩
    · rw [e26, if_pos rfl]; exact h1
    · rw [e26, if_pos rfl]
      exact acr_bits hc hd hv hp ha hpin (plA f a j v 24) g1 g2
    · rw [e27, if_pos rfl]; exact h2
    · rw [e27, if_pos rfl]
      exact dwn_bits hc hf0 hf1 hd hv hp ha hpin (plA f a j v 24) g1 g2
  · exact hp' j (by omega)
/-- a whole grid of placed cells is a filling -/
theorem pfx_fit {fi : Nat → Nat} {a0 a : Nat → Nat → Nat} {F : Nat → Prop} (hc : Hc fi a0 F) (hp : Pfx fi a0 a (fi 3)) : F (numP a (fi 3)) := by
  obtain ⟨c1, c2, c3, c4, c5, c6⟩ := id hc
  have hdg : ∀ j, j < fi 3 → lt (numP a (fi 3)) (fi 3 - 1 - j) = a 24 j := numP_lt1 (fi 3) (fun j hj => (hp j hj).1)
  obtain ⟨g1, g2, g3, g4, g5, g6⟩ := id c1
  rw [c6]
  refine ⟨fun d hd => by rw [hdg d hd]; exact (hp d hd).2.2.1, fun ln hln => ?_⟩
  have hn := lenX_in c1 ln
  rw [acc_split (lenX fi ln) (Nat.le_refl _), Nat.sub_self]
  have hlet : ∀ m, m < lenX fi ln → lw fi (numP a (fi 3)) ln (lenX fi ln - 1 - m) = a 24 (celX fi ln m) := by
    intro m hm
    unfold lw
    rw [show lenX fi ln - 1 - (lenX fi ln - 1 - m) = m by omega]
    exact hdg _ (celX_in c1 hln hm).1
  by_cases hr : ln < fi 0
  · have hlen : lenX fi ln = fi 1 := by unfold lenX; rw [if_pos hr]
    have hcell : ∀ m, celX fi ln m = ln * fi 1 + m := fun m => by unfold celX; rw [if_pos hr]
    obtain ⟨-, -, -, hrow, -⟩ := hp (ln * fi 1 + (fi 1 - 1)) (grid_cell c1 hr (by omega))
    have e := dm_of (i := ln) (j := fi 1 - 1) (C := fi 1) (by omega)
    obtain ⟨p, hpb⟩ := ne0_bit hrow.1
    have := (hrow.2 p).mp hpb
    rw [e.1, e.2, show fi 1 - 1 + 1 = fi 1 by omega, show fi 1 - 1 - (fi 1 - 1) = 0 by omega] at this
    refine ⟨p, ?_, ?_⟩
    · rw [hlen]
      refine (rea_w _ (fun m hm => ?_) p).mp this.1
      rw [← hlen] at hm ⊢
      rw [hlet m hm, hcell, hlen]
    · have hp8 : p < 8 := by
        have h1 := this.1
        rw [show fi 1 = fi 1 - 1 + 1 by omega] at h1
        exact h1.1
      exact bkv_0 hp8 this.2
  · have hlen : lenX fi ln = fi 0 := by unfold lenX; rw [if_neg hr]
    have hcell : ∀ m, celX fi ln m = m * fi 1 + (ln - fi 0) := fun m => by unfold celX; rw [if_neg hr]; omega
    obtain ⟨-, -, -, -, hcol⟩ := hp ((fi 0 - 1) * fi 1 + (ln - fi 0)) (grid_cell c1 (by omega) (by omega))
    have e := dm_of (i := fi 0 - 1) (j := ln - fi 0) (C := fi 1) (by omega)
    obtain ⟨p, hpb⟩ := ne0_bit hcol.1
    have := (hcol.2 p).mp hpb
    rw [e.1, e.2, show fi 0 - 1 + 1 = fi 0 by omega, show fi 0 - 1 - (fi 0 - 1) = 0 by omega, show fi 0 + (ln - fi 0) = ln by omega] at this
    refine ⟨p, ?_, ?_⟩
    · rw [hlen]
      refine (rea_w _ (fun m hm => ?_) p).mp this.1
      rw [← hlen] at hm ⊢
      rw [hlet m hm, hcell, hlen]
    · have hp8 : p < 8 := by
        have h1 := this.1
        rw [show fi 0 = fi 0 - 1 + 1 by omega] at h1
        exact h1.1
      exact bkv_0 hp8 this.2
end
section
/-! PURE: the invariant of 'scan' -/
section SI
variable {F : Nat → Prop}
theorem cnt_gap {fj : Nat → Nat} {br : Nat → Nat → Nat} {B : Nat} : ∀ n, (∀ q, B ≤ q → q < B + n → ¬ fitM fj br q) → cntM fj br (B + n) = cntM fj br B := by
  intro n
  induction n with
  | zero => intro _; rfl
  | succ n ih =>
    intro h
    rw [show B + (n + 1) = B + n + 1 from rfl, cntM, if_neg (h _ (by omega) (by omega)), ih (fun q h1 h2 => h q h1 (by omega)), Nat.add_zero]
end SI
def nmF (fj : Nat → Nat) (br : Nat → Nat → Nat) : Nat → Nat
  | 0 => 4294967295
  | n + 1 => if fitM fj br n then n else nmF fj br n
def alF (fj : Nat → Nat) (br : Nat → Nat → Nat) : Nat → Nat
  | 0 => 4095
  | n + 1 => if fitM fj br n then alF fj br n &&& n else alF fj br n
def anF (fj : Nat → Nat) (br : Nat → Nat → Nat) : Nat → Nat
  | 0 => 0
  | n + 1 => if fitM fj br n then anF fj br n ||| n else anF fj br n
/-- the fields tell of the fillings under B -/
def Smy (fj : Nat → Nat) (br : Nat → Nat → Nat) (f : Nat → Nat) (B : Nat) : Prop := f 28 = cntM fj br B ∧ f 29 = nmF fj br B ∧ f 30 = alF fj br B ∧ f 31 = anF fj br B
theorem smy_gap {fj : Nat → Nat} {br : Nat → Nat → Nat} {f : Nat → Nat} {B : Nat} : ∀ n, (∀ q, B ≤ q → q < B + n → ¬ fitM fj br q) → Smy fj br f B → Smy fj br f (B + n) := by
  intro n
  induction n with
  | zero => intro _ h; exact h
  | succ n ih =>
    intro h hs
    obtain ⟨h1, h2, h3, h4⟩ := ih (fun q h1 h2 => h q h1 (by omega)) hs
    have hn := h (B + n) (by omega) (by omega)
    rw [show B + (n + 1) = B + n + 1 from rfl]
    refine ⟨?_, ?_, ?_, ?_⟩
    · rw [cntM, if_neg hn]; exact h1
    · rw [nmF, if_neg hn]; exact h2
    · rw [alF, if_neg hn]; exact h3
    · rw [anF, if_neg hn]; exact h4
theorem smy_ent {fj : Nat → Nat} {br : Nat → Nat → Nat} {f : Nat → Nat} {n : Nat} (hF : fitM fj br n) (hs : Smy fj br f n) : Smy fj br (entF f n) (n + 1) := by
  obtain ⟨h1, h2, h3, h4⟩ := hs
  refine ⟨?_, ?_, ?_, ?_⟩
  · rw [cntM, if_pos hF, ← h1]; rfl
  · rw [nmF, if_pos hF]; rfl
  · rw [alF, if_pos hF, ← h3]; rfl
  · rw [anF, if_pos hF, ← h4]; rfl
def dsm (a : Nat → Nat → Nat) : Nat → Nat
  | 0 => 0
  | j + 1 => dsm a j + a 24 j
theorem dsm_congr {a b : Nat → Nat → Nat} : ∀ n, (∀ j, j < n → a 24 j = b 24 j) → dsm a n = dsm b n := by
  intro n
  induction n with
  | zero => intro _; rfl
  | succ n ih =>
    intro h
    rw [dsm, dsm, ih (fun j hj => h j (by omega)), h n (by omega)]
/-- what stays through the search -/
def Sfr (fi : Nat → Nat) (a0 : Nat → Nat → Nat) (f : Nat → Nat) (a : Nat → Nat → Nat) : Prop := (∀ k, k < 28 → f k = prpF fi k) ∧ (∀ k, (k < 24 ∨ 27 < k) → a k = a0 k) ∧ ∀ k j, a k j < 2 ^ 31
/-- the end of the search -/
def SPost (fi : Nat → Nat) (a0 : Nat → Nat → Nat) (fj : Nat → Nat) (br : Nat → Nat → Nat) (stop : Nat) (bound : Int32) (f : Nat → Nat) (a : Nat → Nat → Nat) : Prop :=
  Sfr fi a0 f a ∧ ∃ B, B ≤ 2 ^ fi 3 ∧ Smy fj br f B ∧ (∀ n, n < B → fitM fj br n → nI n < bound) ∧ ((B = 2 ^ fi 3 ∧ f 28 < stop) ∨ (f 28 = stop ∧ 1 ≤ B ∧ fitM fj br (B - 1)) ∨ (B < 2 ^ fi 3 ∧ fitM fj br B ∧ ¬ nI B < bound))
/-- the invariant at the loop's head -/
def SInv (fi : Nat → Nat) (a0 : Nat → Nat → Nat) (fj : Nat → Nat) (br : Nat → Nat → Nat) (stop : Nat) (bound : Int32) (i d' o : Nat) (f : Nat → Nat) (a : Nat → Nat → Nat) : Prop :=
  Sfr fi a0 f a ∧ d' ≤ fi 3 ∧ i ≤ 13000 ∧
  ((o = 1 ∧ SPost fi a0 fj br stop bound f a) ∨ (o = 0 ∧ f 28 < stop ∧ ∃ B, B ≤ 2 ^ fi 3 ∧ Smy fj br f B ∧ (∀ n, n < B → fitM fj br n → nI n < bound) ∧
    ((d' = 0 ∧ B = 2 ^ fi 3) ∨ ∃ d, d' = d + 1 ∧ Pfx fi a0 a d ∧ a 25 d ≤ 2 ∧ B = (numP a d * 2 + a 25 d) * 2 ^ (fi 3 - 1 - d) ∧ i + 2 * (dsm a d + a 25 d) ≤ d + 3 * B)))
theorem Sfr_up {fi f : Nat → Nat} {a0 a : Nat → Nat → Nat} {k j v : Nat} (h : Sfr fi a0 f a) (h1 : 24 ≤ k) (h2 : k ≤ 27) (hv : v < 2 ^ 31) : Sfr fi a0 f (up2 a k j v) := by
  refine ⟨h.1, fun q hq => ?_, hB_up h.2.2 hv⟩
  rw [up2_a (by omega)]
  exact h.2.1 q hq
theorem acr_lt {a : Nat → Nat → Nat} {d v : Nat} (h : ∀ k j, a k j < 2 ^ 31) : acr a d v < 2 ^ 31 := Nat.lt_of_le_of_lt Nat.and_le_right (h _ _)
theorem dwn_lt {f : Nat → Nat} {a : Nat → Nat → Nat} {d v : Nat} (h : ∀ k j, a k j < 2 ^ 31) : dwn f a d v < 2 ^ 31 := Nat.lt_of_le_of_lt Nat.and_le_right (h _ _)
theorem Sfr_pl {fi f : Nat → Nat} {a0 a : Nat → Nat → Nat} {d v : Nat} (h : Sfr fi a0 f a) (hv : v < 2 ^ 31) : Sfr fi a0 f (plA f a d v) := by
  have h1 := acr_lt (d := d) (v := v) h.2.2
  have h2 := dwn_lt (f := f) (d := d) (v := v) h.2.2
  unfold plA
  exact Sfr_up (Sfr_up (Sfr_up h (by decide) (by decide) hv) (by decide) (by decide) h1) (by decide) (by decide) h2
theorem Sfr_ent {fi f : Nat → Nat} {a0 a : Nat → Nat → Nat} {n : Nat} (h : Sfr fi a0 f a) : Sfr fi a0 (entF f n) a := by
  refine ⟨fun k hk => ?_, h.2⟩
  unfold entF
  rw [up_n (by omega), up_n (by omega), up_n (by omega), up_n (by omega)]
  exact h.1 k hk
theorem pw_split {N d : Nat} (h : d < N) : 2 ^ N = 2 ^ d * 2 * 2 ^ (N - 1 - d) := by
  rw [← Nat.pow_succ, ← Nat.pow_add]
  congr 1
  omega
theorem base_le {N d w v : Nat} (hd : d < N) (hw : w < 2 ^ d) (hv : v ≤ 2) : (w * 2 + v) * 2 ^ (N - 1 - d) ≤ 2 ^ N := by
  rw [pw_split hd]
  exact Nat.mul_le_mul_right _ (by omega)
/-- the digits of a number that begins with the prefix -/
theorem digs_of {a : Nat → Nat → Nat} {N d v q : Nat} (hd : d < N) (hdg : ∀ j, j < d → a 24 j ≤ 1) (hv : v ≤ 1) (h1 : (numP a d * 2 + v) * 2 ^ (N - 1 - d) ≤ q) (h2 : q < (numP a d * 2 + v) * 2 ^ (N - 1 - d) + 2 ^ (N - 1 - d)) : (∀ j, j < d → lt q (N - 1 - j) = a 24 j) ∧ lt q (N - 1 - d) = v := by
  have hq : q >>> (N - 1 - d) = numP a d * 2 + v := by
    rw [Nat.shiftRight_eq_div_pow]
    have hp := Nat.two_pow_pos (N - 1 - d)
    apply Nat.div_eq_of_lt_le
    · exact h1
    · rw [Nat.add_mul, Nat.one_mul]
      exact h2
  have hn : numP (up2 a 24 d v) (d + 1) = numP a d * 2 + v := by
    rw [numP, up2_s, numP_congr d (fun j hj => by rw [up2_k, if_neg (by omega)])]
  have hd2 : ∀ j, j < d + 1 → up2 a 24 d v 24 j ≤ 1 := by
    intro j hj
    rw [up2_k]
    split
    · exact hv
    · exact hdg j (by omega)
  have key : ∀ j, j < d + 1 → lt q (N - 1 - j) = up2 a 24 d v 24 j := by
    intro j hj
    have h3 := numP_lt1 (d + 1) hd2 j hj
    rw [hn, ← hq, lt_shr] at h3
    rw [← h3]
    congr 1
    omega
  refine ⟨fun j hj => ?_, ?_⟩
  · rw [key j (by omega), up2_k, if_neg (by omega)]
  · rw [key d (by omega), up2_s]
theorem sc_inv {fi fj : Nat → Nat} {a0 br : Nat → Nat → Nat} {stop : Nat} {bound : Int32} (hc : Hc fi a0 (fitM fj br)) (hst : stop ≤ 4096) : ScI stop bound (SInv fi a0 fj br stop bound) (SPost fi a0 fj br stop bound) := by
  obtain ⟨c1, c2, c3, c4, c5, c6⟩ := id hc
  obtain ⟨g1, g2, g3, g4, g5, g6⟩ := id c1
  have hN12 : fi 3 ≤ 12 := by rw [g6]; exact Nat.mul_le_mul g2 g4
  have hN1 : 1 ≤ fi 3 := by rw [g6]; exact Nat.mul_le_mul g1 g3
  have hP12 : 2 ^ fi 3 ≤ 4096 := Nat.pow_le_pow_right (n := 2) (by decide) hN12
  have hk : ∀ f a, Sfr fi a0 f a → f 0 = fi 0 ∧ f 1 = fi 1 ∧ f 2 = fi 2 ∧ f 3 = fi 3 := by
    intro f a h
    exact ⟨(h.1 0 (by decide)).trans (prpF_n (by decide)), (h.1 1 (by decide)).trans (prpF_n (by decide)), (h.1 2 (by decide)).trans (prpF_n (by decide)), (h.1 3 (by decide)).trans (prpF_n (by decide))⟩
  have hop : ∀ i d f a, SInv fi a0 fj br stop bound i (d + 1) 0 f a → Sfr fi a0 f a ∧ d < fi 3 ∧ f 28 < stop ∧ ∃ B, B ≤ 2 ^ fi 3 ∧ Smy fj br f B ∧ (∀ n, n < B → fitM fj br n → nI n < bound) ∧ Pfx fi a0 a d ∧ a 25 d ≤ 2 ∧ B = (numP a d * 2 + a 25 d) * 2 ^ (fi 3 - 1 - d) ∧ i + 2 * (dsm a d + a 25 d) ≤ d + 3 * B := by
    rintro i d f a ⟨s1, s2, s3, s4⟩
    rcases s4 with ⟨s4, -⟩ | ⟨-, s4, B, b1, b2, b3, b4⟩
    · cases s4
    · rcases b4 with ⟨b4, -⟩ | ⟨d2, b4, b5⟩
      · cases b4
      · obtain rfl : d = d2 := by omega
        exact ⟨s1, by omega, s4, B, b1, b2, b3, b5⟩
  refine ⟨?_, ?_, ?_, ?_, ?_, ?_, ?_⟩
  · rintro i d o f a ⟨s1, s2, s3, s4⟩
    have h3 := (hk f a s1).2.2.2
    refine ⟨by omega, ?_, by omega, by omega, by omega⟩
    rcases s4 with ⟨s4, -⟩ | ⟨s4, -⟩ <;> omega
  · intro i d f a h
    obtain ⟨s1, hd, s4, B, b1, b2, b3, b4, b5, b6, b7⟩ := hop i d f a h
    obtain ⟨h0, h1, h2, h3⟩ := hk f a s1
    obtain ⟨m1, m2, m3⟩ := grid_dm c1 hd
    have hcel := c3 d hd
    refine ⟨?_, s1.2.2, ?_, ?_, ?_, b5, by omega⟩
    · unfold gridF
      rw [h0, h1, h2, h3]; exact c1
    · rw [s1.2.1 4 (by decide), s1.2.1 5 (by decide), hcel.1, hcel.2, h1]
      exact m3
    · rw [s1.2.1 4 (by decide), hcel.1, h0]; exact m1
    · rw [s1.2.1 5 (by decide), hcel.2, h1]; exact m2
  · intro i d f a h hi hv
    obtain ⟨s1, hd, s4, B, b1, b2, b3, b4, b5, b6, b7⟩ := hop i d f a h
    rw [hv] at b6 b7
    refine ⟨s1, by omega, by omega, Or.inr ⟨rfl, s4, B, b1, b2, b3, ?_⟩⟩
    cases d with
    | zero =>
      refine Or.inl ⟨rfl, ?_⟩
      rw [b6, pw_split hd, numP]
    | succ d =>
      obtain ⟨p1, p2, -⟩ := b4 d (by omega)
      refine Or.inr ⟨d, rfl, fun j hj => b4 j (by omega), by omega, ?_, ?_⟩
      · rw [b6, p2, numP]
        rw [show fi 3 - 1 - d = (fi 3 - 1 - (d + 1)) + 1 by omega, Nat.pow_succ, Nat.mul_comm (2 ^ (fi 3 - 1 - (d + 1))) 2, ← Nat.mul_assoc]
        congr 1
        omega
      · rw [dsm] at b7
        omega
  · intro i d f a v h hi hv hv2 hno
    obtain ⟨s1, hd, s4, B, b1, b2, b3, b4, b5, b6, b7⟩ := hop i d f a h
    obtain ⟨h0, h1, h2, h3⟩ := hk f a s1
    rw [hv] at b6 b7
    have s1' : Sfr fi a0 f (up2 a 25 d (v + 1)) := Sfr_up s1 (by decide) (by decide) (by omega)
    have hpx : Pfx fi a0 (up2 a 25 d (v + 1)) d := Pfx_congr (fun j hj => by rw [up2_a (by decide), up2_k, if_neg (by omega), up2_a (by decide), up2_a (by decide)]; exact ⟨rfl, rfl, rfl, rfl⟩) b4
    have hgap : ∀ q, B ≤ q → q < B + 2 ^ (fi 3 - 1 - d) → ¬ fitM fj br q := by
      intro q q1 q2 hF
      rw [b6] at q1 q2
      obtain ⟨r1, r2⟩ := digs_of hd (fun j hj => (b4 j hj).1) (by omega) q1 q2
      exact hno (fit_plOk hc h0 h1 hd (by omega) hpx (fun k hk => s1'.2.1 k (Or.inl hk)) hF (fun j hj => by rw [up2_a (by decide)]; exact r1 j hj) r2)
    have hBe : (numP (up2 a 25 d (v + 1)) d * 2 + up2 a 25 d (v + 1) 25 d) * 2 ^ (fi 3 - 1 - d) = B + 2 ^ (fi 3 - 1 - d) := by
      rw [numP_congr d (fun j hj => by rw [up2_a (by decide)]), up2_s, b6, ← Nat.add_assoc, Nat.add_mul (numP a d * 2 + v) 1, Nat.one_mul]
    have hwl := numP_lt d (fun j hj => (b4 j hj).1)
    have hle : B + 2 ^ (fi 3 - 1 - d) ≤ 2 ^ fi 3 := by
      rw [← hBe, numP_congr (b := a) d (fun j hj => by rw [up2_a (by decide)]), up2_s]
      exact base_le hd hwl (by omega)
    have hpp := Nat.two_pow_pos (fi 3 - 1 - d)
    have hds : dsm (up2 a 25 d (v + 1)) d = dsm a d := dsm_congr d (fun j hj => by rw [up2_a (by decide)])
    refine ⟨s1', by omega, ?_, Or.inr ⟨rfl, s4, B + 2 ^ (fi 3 - 1 - d), hle, smy_gap _ hgap b2, ?_, Or.inr ⟨d, rfl, hpx, by rw [up2_s]; omega, hBe.symm, ?_⟩⟩⟩
    · omega
    · intro n hn hF
      rcases Nat.lt_or_ge n B with hq | hq
      · exact b3 n hq hF
      · exact absurd hF (hgap n hq hn)
    · rw [hds, up2_s]
      omega
  · intro i d f a v h hi hv hv2 hok hdn
    obtain ⟨s1, hd, s4, B, b1, b2, b3, b4, b5, b6, b7⟩ := hop i d f a h
    obtain ⟨h0, h1, h2, h3⟩ := hk f a s1
    rw [hv] at b6 b7
    have s1' : Sfr fi a0 f (up2 a 25 d (v + 1)) := Sfr_up s1 (by decide) (by decide) (by omega)
    have hpx : Pfx fi a0 (up2 a 25 d (v + 1)) d := Pfx_congr (fun j hj => by rw [up2_a (by decide), up2_k, if_neg (by omega), up2_a (by decide), up2_a (by decide)]; exact ⟨rfl, rfl, rfl, rfl⟩) b4
    have hpl := pfx_place hc h0 h1 hd (by omega) hpx (fun k hk => s1'.2.1 k (Or.inl hk)) (up2_s _ _ _ _) hok
    have s2' := Sfr_pl (d := d) (v := v) s1' (by omega)
    have e24 : ∀ j, plA f (up2 a 25 d (v + 1)) d v 24 j = if j = d then v else a 24 j := fun j => by
      unfold plA
      rw [up2_a (by decide), up2_a (by decide), up2_k, up2_a (by decide)]
    generalize plA f (up2 a 25 d (v + 1)) d v = a2 at *
    have hn : numP (up2 a2 25 (d + 1) 0) (d + 1) = numP a d * 2 + v := by
      rw [numP, up2_a (by decide), e24, if_pos rfl, numP_congr (b := a) d (fun j hj => by rw [up2_a (by decide), e24, if_neg (by omega)])]
    have hds : dsm (up2 a2 25 (d + 1) 0) (d + 1) = dsm a d + v := by
      rw [dsm, up2_a (by decide), e24, if_pos rfl, dsm_congr (b := a) d (fun j hj => by rw [up2_a (by decide), e24, if_neg (by omega)])]
    refine ⟨Sfr_up s2' (by decide) (by decide) (by decide), by omega, by omega, Or.inr ⟨rfl, s4, B, b1, b2, b3, Or.inr ⟨d + 1, rfl, ?_, by rw [up2_s]; decide, ?_, ?_⟩⟩⟩
    · exact Pfx_congr (fun j hj => by rw [up2_a (by decide), up2_k, if_neg (by omega), up2_a (by decide), up2_a (by decide)]; exact ⟨rfl, rfl, rfl, rfl⟩) hpl
    · rw [hn, up2_s, b6, Nat.add_zero, show fi 3 - 1 - d = (fi 3 - 1 - (d + 1)) + 1 by omega, Nat.pow_succ, Nat.mul_comm (2 ^ (fi 3 - 1 - (d + 1))) 2, ← Nat.mul_assoc]
    · rw [hds, up2_s]
      omega
  · intro i d f a v h hi hv hv2 hok hdn
    obtain ⟨s1, hd, s4, B, b1, b2, b3, b4, b5, b6, b7⟩ := hop i d f a h
    obtain ⟨h0, h1, h2, h3⟩ := hk f a s1
    rw [hv] at b6 b7
    have s1' : Sfr fi a0 f (up2 a 25 d (v + 1)) := Sfr_up s1 (by decide) (by decide) (by omega)
    have hpx : Pfx fi a0 (up2 a 25 d (v + 1)) d := Pfx_congr (fun j hj => by rw [up2_a (by decide), up2_k, if_neg (by omega), up2_a (by decide), up2_a (by decide)]; exact ⟨rfl, rfl, rfl, rfl⟩) b4
    have hpl := pfx_place hc h0 h1 hd (by omega) hpx (fun k hk => s1'.2.1 k (Or.inl hk)) (up2_s _ _ _ _) hok
    have s2' := Sfr_pl (d := d) (v := v) s1' (by omega)
    have e24 : ∀ j, plA f (up2 a 25 d (v + 1)) d v 24 j = if j = d then v else a 24 j := fun j => by
      unfold plA
      rw [up2_a (by decide), up2_a (by decide), up2_k, up2_a (by decide)]
    have e25 : plA f (up2 a 25 d (v + 1)) d v 25 d = v + 1 := by
      unfold plA
      rw [up2_a (by decide), up2_a (by decide), up2_a (by decide), up2_s]
    generalize plA f (up2 a 25 d (v + 1)) d v = a2 at *
    have hdN : d + 1 = fi 3 := by omega
    rw [h3]
    have hB : B = numP a d * 2 + v := by
      rw [b6, show fi 3 - 1 - d = 0 by omega, Nat.pow_zero, Nat.mul_one]
    have hn : numP a2 (fi 3) = B := by
      rw [← hdN, numP, e24, if_pos rfl, numP_congr (b := a) d (fun j hj => by rw [e24, if_neg (by omega)]), hB]
    have hF : fitM fj br B := by
      rw [← hn]
      exact pfx_fit hc (by rw [← hdN]; exact hpl)
    have hlt : B < 2 ^ fi 3 := by
      rw [← hn]
      exact numP_lt (fi 3) (fun j hj => (hpl j (by omega)).1)
    rw [hn]
    refine ⟨fun hnb => ?_, fun hlb o ho => ?_⟩
    · exact ⟨s2', by omega, by omega, Or.inl ⟨rfl, s2', B, b1, b2, b3, Or.inr (Or.inr ⟨hlt, hF, hnb⟩)⟩⟩
    · have hs3 := smy_ent hF b2
      have hb3 : ∀ n, n < B + 1 → fitM fj br n → nI n < bound := by
        intro n hn hFn
        by_cases hq : n = B
        · rw [hq]; exact hlb
        · exact b3 n (by omega) hFn
      have e28 : entF f B 28 = f 28 + 1 := by unfold entF; rw [up_s]
      refine ⟨Sfr_ent s2', by omega, by omega, ?_⟩
      by_cases hq : f 28 + 1 = stop
      · rw [if_pos hq] at ho
        refine Or.inl ⟨ho, Sfr_ent s2', B + 1, by omega, hs3, hb3, Or.inr (Or.inl ⟨by rw [e28]; exact hq, by omega, by rw [Nat.add_sub_cancel]; exact hF⟩)⟩
      · rw [if_neg hq] at ho
        have hds : dsm a2 d = dsm a d := dsm_congr d (fun j hj => by rw [e24, if_neg (by omega)])
        refine Or.inr ⟨ho, by rw [e28]; omega, B + 1, by omega, hs3, hb3, Or.inr ⟨d, rfl, fun j hj => hpl j (by omega), by rw [e25]; omega, ?_, ?_⟩⟩
        · rw [e25, numP_congr (b := a) d (fun j hj => by rw [e24, if_neg (by omega)]), show fi 3 - 1 - d = 0 by omega, Nat.pow_zero, Nat.mul_one, hB]
          omega
        · rw [e25, hds]
          omega
  · rintro i d o f a ⟨s1, s2, s3, s4⟩ hx
    rcases s4 with ⟨-, s4⟩ | ⟨s4, s5, B, b1, b2, b3, b4⟩
    · exact s4
    · rcases b4 with ⟨b4, b5⟩ | ⟨d2, b4, b5⟩
      · exact ⟨s1, B, b1, b2, b3, Or.inl ⟨b5, s5⟩⟩
      · exfalso
        omega
theorem sc_start {fi fj : Nat → Nat} {ar br : Nat → Nat → Nat} {stop : Nat} {bound : Int32} (h : Rel (fi, ar) (fj, br)) (hst : 1 ≤ stop) : SInv fi (prpA fi ar) fj br stop bound 0 1 0 (scF fi) (scA fi ar) := by
  obtain ⟨hG, hE, hL⟩ := id h
  obtain ⟨g1, g2, g3, g4, g5, g6, g7, g8⟩ := id hG
  obtain ⟨f1, f2, f3, f4, f5, f6⟩ := id g1
  dsimp only at *
  have hN1 : 1 ≤ fi 3 := by rw [f6]; exact Nat.mul_le_mul f1 f3
  have hs : Sfr fi (prpA fi ar) (scF fi) (scA fi ar) := by
    refine ⟨fun k hk => ?_, fun k hk => ?_, ?_⟩
    · unfold scF
      rw [up_n (by omega), up_n (by omega), up_n (by omega), up_n (by omega)]
    · unfold scA
      rw [up2_a (by omega)]
    · unfold scA
      exact hB_up (prpA_B g4) (by decide)
  refine ⟨hs, by omega, by omega, Or.inr ⟨rfl, by show 0 < stop; omega, 0, Nat.zero_le _, ⟨rfl, rfl, rfl, rfl⟩, fun n hn => absurd hn (Nat.not_lt_zero n), Or.inr ⟨0, rfl, fun j hj => absurd hj (Nat.not_lt_zero j), ?_, ?_, ?_⟩⟩⟩
  · unfold scA; rw [up2_s]; decide
  · unfold scA; rw [up2_s, numP]; simp
  · unfold scA; rw [up2_s, dsm]; decide
end
section
/-! PURE: the questions agree -/
theorem rel_srch {fi fj f : Nat → Nat} {ar br a : Nat → Nat → Nat} (h : Rel (fi, ar) (fj, br)) (hs : Sfr fi (prpA fi ar) f a) : Rel (f, a) (fj, br) := by
  obtain ⟨hG, hE, hL⟩ := id h
  obtain ⟨g1, g2, g3, g4, g5, g6, g7, g8⟩ := id hG
  dsimp only at *
  have hf : ∀ k, k < 28 → k ≠ 23 → f k = fi k := fun k h1 h2 => (hs.1 k h1).trans (prpF_n h2)
  have ha : ∀ k, k < 22 → a k = ar k := fun k hk => (hs.2.1 k (Or.inl (by omega))).trans (prpA_n (by omega))
  have h23 : f 23 < 2 := by
    rw [hs.1 23 (by decide)]
    unfold prpF
    split
    · rw [up_s]; decide
    · exact g6
  refine ⟨RG_mk hG (hf 0 (by decide) (by decide)) (hf 1 (by decide) (by decide)) (hf 2 (by decide) (by decide)) (hf 3 (by decide) (by decide)) h23 rfl rfl hs.2.2 g5 (ha 4 (by decide)) (ha 5 (by decide)) (ha 6 (by decide)) rfl, RE_same hE (hf 7 (by decide) (by decide)) (hf 8 (by decide) (by decide)) rfl (fun k _ h2 => ha k (by omega)) rfl rfl, fun ln hln => ?_, fun _ => ?_⟩
  · have hln : ln < fi 2 := by have := hf 2 (by decide) (by decide); dsimp only at hln; omega
    exact LnOk_congr (by dsimp only; rw [ha 16 (by decide)]) (by dsimp only; rw [ha 17 (by decide)]) (by dsimp only; rw [ha 19 (by decide)]) (by dsimp only; rw [ha 20 (by decide)]) (fun p _ => by dsimp only; rw [ha 21 (by decide)]) (hL.1 ln hln)
  · have hb := prpA_back g1 hL.2
    refine BackOk_fi (hf 0 (by decide) (by decide)) (hf 1 (by decide) (by decide)) (hf 2 (by decide) (by decide)) (fun ln hln m hm => ?_)
    dsimp only
    rw [hs.2.1 22 (by decide), bkv_lik (b := prpA fi ar) (fun k hk => hs.2.1 k (Or.inl (by omega)))]
    exact hb ln hln m hm
theorem scan_met (l : Launch) {fi fj : Nat → Nat} {ar br : Nat → Nat → Nat} (h : Rel (fi, ar) (fj, br)) (stop : Nat) (bound : Int32) (h1 : 1 ≤ stop) (h2 : stop ≤ 4096) : oMetV l 0 y_X_scan b_X_scan 8 3 [.int (nI stop), .int bound] fi ar (SPost fi (prpA fi ar) fj br stop bound) := by
  obtain ⟨hG, hE, hL⟩ := id h
  obtain ⟨g1, g2, g3, g4, g5, g6, g7, g8⟩ := id hG
  exact c_X_scan l fi ar stop bound _ _ (sc_inv (hc_of h) h2) g1 g4 (by dsimp only at *; omega) (by omega) (by omega) (sc_start h h1)
theorem rel_pw {fi fj : Nat → Nat} {ar br : Nat → Nat → Nat} (h : Rel (fi, ar) (fj, br)) : 1 <<< (fj 5 * fj 6) = 2 ^ fi 3 ∧ 2 ^ fi 3 ≤ 4096 ∧ fi 3 ≤ 12 ∧ gridM fj := by
  obtain ⟨hG, hE, hL⟩ := id h
  obtain ⟨g1, g2, g3, g4, g5, g6, g7, g8⟩ := id hG
  obtain ⟨f1, f2, f3, f4, f5, f6⟩ := id g1
  dsimp only at *
  have h12 : fi 3 ≤ 12 := by rw [f6]; exact Nat.mul_le_mul f2 f4
  refine ⟨?_, Nat.pow_le_pow_right (n := 2) (by decide) h12, h12, by unfold gridM; omega⟩
  rw [Nat.one_shiftLeft, g2, g3, f6]
/-- a search to the end finds all -/
theorem spost_all {fi fj f : Nat → Nat} {a0 br a : Nat → Nat → Nat} (hN : 2 ^ fi 3 ≤ 4096) (h : SPost fi a0 fj br 4096 (nI 4096) f a) : Smy fj br f (2 ^ fi 3) := by
  obtain ⟨-, B, b1, b2, b3, b4⟩ := h
  rcases b4 with ⟨rfl, -⟩ | ⟨b4, b5, b6⟩ | ⟨b4, b5, b6⟩
  · exact b2
  · have h1 := b2.1
    have h2 := cntM_le fj br B
    have : B = 2 ^ fi 3 := by omega
    rw [← this]
    exact b2
  · exact absurd (nI_lt (by omega) (by decide)) b6
theorem cnt_mono {fj : Nat → Nat} {br : Nat → Nat → Nat} {m n : Nat} (h : m ≤ n) : cntM fj br m ≤ cntM fj br n := by
  induction n with
  | zero => rw [show m = 0 by omega]; exact Nat.le_refl _
  | succ n ih =>
    by_cases hm : m = n + 1
    · rw [hm]; exact Nat.le_refl _
    · have := ih (by omega)
      rw [cntM]
      omega
theorem cnt_fit {fj : Nat → Nat} {br : Nat → Nat → Nat} {n : Nat} (h : fitM fj br n) : cntM fj br (n + 1) = cntM fj br n + 1 := by
  rw [cntM, if_pos h]
theorem cnt_uniq {fj : Nat → Nat} {br : Nat → Nat → Nat} {m n : Nat} (h1 : fitM fj br m) (h2 : fitM fj br n) (h : cntM fj br m = cntM fj br n) : m = n := by
  rcases Nat.lt_trichotomy m n with hq | hq | hq
  · have := cnt_mono (fj := fj) (br := br) (show m + 1 ≤ n from hq)
    have := cnt_fit h1
    omega
  · exact hq
  · have := cnt_mono (fj := fj) (br := br) (show n + 1 ≤ m from hq)
    have := cnt_fit h2
    omega
theorem ag_fillings (l : Launch) : Agree l Rel y_X_fillings b_X_fillings 1 y_M_fillings b_M_fillings 3 [] := by
  intro fi ar fj br h
  obtain ⟨p1, p2, p3, p4⟩ := rel_pw h
  have g5 := h.1.2.2.2.2.1
  refine ⟨4, 3, _, _, by decide, by decide, c_X_fillings l fi ar _ (scan_met l h 4096 (nI 4096) (by decide) (by decide)), c_M_fillings l fj br p4 g5, ?_⟩
  rintro r f a r' f' a' ⟨hp, rfl⟩ ⟨hr', hf', ha'⟩
  rw [hr', hf', ha']
  refine ⟨?_, rel_srch h hp.1⟩
  rw [(spost_all p2 hp).1, p1]
theorem ag_filling (l : Launch) (x : Int32) : Agree l Rel y_X_filling b_X_filling 2 y_M_filling b_M_filling 4 [.int x] := by
  intro fi ar fj br h
  obtain ⟨p1, p2, p3, p4⟩ := rel_pw h
  have g5 := h.1.2.2.2.2.1
  refine ⟨4, 3, _, _, by decide, by decide, c_X_filling l fi ar x (fun k => SPost fi (prpA fi ar) fj br (k + 1) (nI 4096)) (fun k hk => scan_met l h (k + 1) (nI 4096) (by omega) (by omega)) ?_, c_M_filling l fj br x p4 g5, ?_⟩
  · rintro k f a ⟨-, B, b1, b2, -⟩
    have := cntM_le fj br B
    have := b2.1
    omega
  · rintro r f a r' f' a' hX ⟨hM, hf', ha'⟩
    rw [hf', ha']
    rw [p1] at hM
    rcases hX with ⟨x1, rfl, h2, h3⟩ | ⟨x1, x2, rfl, h2, h3⟩ | ⟨k, hk, rfl, hp, rfl⟩
    · rw [h2, h3]
      rcases hM with ⟨-, rfl⟩ | ⟨k, hk, rfl, -⟩
      · exact ⟨rfl, h⟩
      · exact absurd x1 (nI_pos hk)
    · rw [h2, h3]
      rcases hM with ⟨m1, -⟩ | ⟨k, hk, rfl, hM⟩
      · exact absurd m1 x2
      · have hk4 : 4096 ≤ k := (nI_leI (by decide) hk).mp x1
        rcases hM with ⟨n, n1, n2, n3, -⟩ | ⟨-, rfl⟩
        · have := cntM_le fj br n
          omega
        · exact ⟨rfl, h⟩
    · refine ⟨?_, rel_srch h hp.1⟩
      obtain ⟨-, B, b1, b2, b3, b4⟩ := hp
      rcases hM with ⟨m1, -⟩ | ⟨k', hk', hkk, hM⟩
      · exact absurd m1 (nI_pos (by omega))
      · obtain rfl : k = k' := (nI_eq (by omega) hk').mp hkk
        rcases b4 with ⟨rfl, b4⟩ | ⟨b4, b5, b6⟩ | ⟨b4, b5, b6⟩
        · rw [if_neg (by omega)]
          rcases hM with ⟨n, n1, n2, n3, -⟩ | ⟨-, rfl⟩
          · have e1 := cnt_fit n2
            have e2 := cnt_mono (fj := fj) (br := br) (show n + 1 ≤ 2 ^ fi 3 from n1)
            have e3 := b2.1
            omega
          · rfl
        · rw [if_pos b4]
          obtain ⟨z, rfl⟩ : ∃ z, B = z + 1 := ⟨B - 1, by omega⟩
          rw [Nat.add_sub_cancel] at b6
          have e1 := cnt_fit b6
          have e2 := b2.1
          rcases hM with ⟨n, n1, n2, n3, rfl⟩ | ⟨hM, -⟩
          · rw [b2.2.1, nmF, if_pos b6]
            rw [cnt_uniq b6 n2 (by omega)]
          · exact absurd (show cntM fj br z = k by omega) (hM z (by omega) b6)
        · exact absurd (nI_lt (by omega) (by decide)) b6
theorem blw_all {fj : Nat → Nat} {br : Nat → Nat → Nat} {x : Int32} : ∀ n, (∀ q, q < n → fitM fj br q → nI q < x) → blwM fj br x n = cntM fj br n := by
  intro n
  induction n with
  | zero => intro _; rfl
  | succ n ih =>
    intro h
    rw [blwM, cntM, ih (fun q hq => h q (by omega))]
    by_cases hf : fitM fj br n
    · rw [if_pos hf, if_pos ⟨h n (by omega) hf, hf⟩]
    · rw [if_neg hf, if_neg (fun z => hf z.2)]
theorem blw_gap {fj : Nat → Nat} {br : Nat → Nat → Nat} {x : Int32} {B : Nat} (hx : ¬ nI B < x) : ∀ n, B + n < 2 ^ 31 → blwM fj br x (B + n) = blwM fj br x B := by
  intro n
  induction n with
  | zero => intro _; rfl
  | succ n ih =>
    intro hn
    rw [show B + (n + 1) = B + n + 1 from rfl, blwM, ih (by omega), if_neg, Nat.add_zero]
    rintro ⟨h1, -⟩
    exact hx (Int32.lt_of_le_of_lt (nI_le (show B ≤ B + n by omega) (by omega)) h1)
theorem ag_below (l : Launch) (x : Int32) : Agree l Rel y_X_below b_X_below 2 y_M_below b_M_below 4 [.int x] := by
  intro fi ar fj br h
  obtain ⟨p1, p2, p3, p4⟩ := rel_pw h
  have g5 := h.1.2.2.2.2.1
  refine ⟨4, 3, _, _, by decide, by decide, c_X_below l fi ar x _ (scan_met l h 4096 x (by decide) (by decide)), c_M_below l fj br x p4 g5, ?_⟩
  rintro r f a r' f' a' ⟨hp, rfl⟩ ⟨hr', hf', ha'⟩
  rw [hr', hf', ha']
  refine ⟨?_, rel_srch h hp.1⟩
  dsimp only
  rw [p1]
  obtain ⟨-, B, b1, b2, b3, b4⟩ := hp
  rw [b2.1]
  congr 1
  rcases b4 with ⟨rfl, b4⟩ | ⟨b4, b5, b6⟩ | ⟨b4, b5, b6⟩
  · exact (blw_all _ b3).symm
  · have h1 := b2.1
    have h2 := cntM_le fj br B
    have : B = 2 ^ fi 3 := by omega
    rw [← this]
    exact (blw_all _ b3).symm
  · have := blw_gap (fj := fj) (br := br) b6 (2 ^ fi 3 - B) (by omega)
    rw [show B + (2 ^ fi 3 - B) = 2 ^ fi 3 by omega] at this
    rw [this]
    exact (blw_all _ b3).symm
theorem al_bit {fj : Nat → Nat} {br : Nat → Nat → Nat} {b : Nat} (hb : b < 12) : ∀ n, (alF fj br n).testBit b = true ↔ ∀ q, q < n → fitM fj br q → q.testBit b = true := by
  intro n
  induction n with
  | zero =>
    rw [alF, show (4095 : Nat) = 2 ^ 12 - 1 from rfl, Nat.testBit_two_pow_sub_one, decide_eq_true_iff]
    exact ⟨fun _ q hq => absurd hq (Nat.not_lt_zero q), fun _ => hb⟩
  | succ n ih =>
    rw [alF]
    by_cases hf : fitM fj br n
    · rw [if_pos hf, Nat.testBit_and, Bool.and_eq_true, ih]
      constructor
      · rintro ⟨h1, h2⟩ q hq hfq
        by_cases hqn : q = n
        · rw [hqn]; exact h2
        · exact h1 q (by omega) hfq
      · intro h
        exact ⟨fun q hq => h q (by omega), h n (by omega) hf⟩
    · rw [if_neg hf, ih]
      constructor
      · intro h q hq hfq
        by_cases hqn : q = n
        · rw [hqn] at hfq; exact absurd hfq hf
        · exact h q (by omega) hfq
      · intro h q hq
        exact h q (by omega)
theorem an_bit {fj : Nat → Nat} {br : Nat → Nat → Nat} {b : Nat} : ∀ n, (anF fj br n).testBit b = true ↔ ∃ q, q < n ∧ fitM fj br q ∧ q.testBit b = true := by
  intro n
  induction n with
  | zero =>
    rw [anF, Nat.zero_testBit]
    constructor
    · intro h; cases h
    · rintro ⟨q, hq, -⟩; omega
  | succ n ih =>
    rw [anF]
    by_cases hf : fitM fj br n
    · rw [if_pos hf, Nat.testBit_or, Bool.or_eq_true, ih]
      constructor
      · rintro (⟨q, h1, h2⟩ | h1)
        · exact ⟨q, by omega, h2⟩
        · exact ⟨n, by omega, hf, h1⟩
      · rintro ⟨q, h1, h2, h3⟩
        by_cases hqn : q = n
        · rw [hqn] at h3; exact Or.inr h3
        · exact Or.inl ⟨q, by omega, h2, h3⟩
    · rw [if_neg hf, ih]
      constructor
      · rintro ⟨q, h1, h2⟩
        exact ⟨q, by omega, h2⟩
      · rintro ⟨q, h1, h2, h3⟩
        by_cases hqn : q = n
        · rw [hqn] at h2; exact absurd h2 hf
        · exact ⟨q, by omega, h2, h3⟩
theorem frO_iff {fj : Nat → Nat} {br : Nat → Nat → Nat} {r c : Nat} : ∀ n, frO fj br r c n ≠ 0 ↔ ∃ q, q < n ∧ fitM fj br q ∧ celM fj q r c = 1 := by
  intro n
  induction n with
  | zero =>
    rw [frO]
    constructor
    · intro h; exact absurd rfl h
    · rintro ⟨q, hq, -⟩; omega
  | succ n ih =>
    rw [frO]
    by_cases hf : fitM fj br n
    · rw [if_pos hf]
      by_cases h0 : frO fj br r c n = 0
      · rw [if_pos h0]
        have ih' : ¬ ∃ q, q < n ∧ fitM fj br q ∧ celM fj q r c = 1 := fun z => (ih.mpr z) h0
        by_cases h1 : celM fj n r c = 1
        · rw [if_pos h1]
          exact ⟨fun _ => ⟨n, by omega, hf, h1⟩, fun _ => by decide⟩
        · rw [if_neg h1]
          constructor
          · intro h; exact absurd rfl h
          · rintro ⟨q, q1, q2, q3⟩
            by_cases hqn : q = n
            · rw [hqn] at q3; exact absurd q3 h1
            · exact absurd ⟨q, by omega, q2, q3⟩ ih'
      · rw [if_neg h0]
        obtain ⟨q, q1, q2⟩ := ih.mp h0
        exact ⟨fun _ => ⟨q, by omega, q2⟩, fun _ => by decide⟩
    · rw [if_neg hf, ih]
      constructor
      · rintro ⟨q, h1, h2⟩
        exact ⟨q, by omega, h2⟩
      · rintro ⟨q, h1, h2, h3⟩
        by_cases hqn : q = n
        · rw [hqn] at h2; exact absurd h2 hf
        · exact ⟨q, by omega, h2, h3⟩
theorem frZ_iff {fj : Nat → Nat} {br : Nat → Nat → Nat} {r c : Nat} : ∀ n, frZ fj br r c n ≠ 0 ↔ ∃ q, q < n ∧ fitM fj br q ∧ celM fj q r c ≠ 1 := by
  intro n
  induction n with
  | zero =>
    rw [frZ]
    constructor
    · intro h; exact absurd rfl h
    · rintro ⟨q, hq, -⟩; omega
  | succ n ih =>
    rw [frZ]
    by_cases hf : fitM fj br n
    · rw [if_pos hf]
      by_cases h0 : frZ fj br r c n = 0
      · rw [if_pos h0]
        have ih' : ¬ ∃ q, q < n ∧ fitM fj br q ∧ celM fj q r c ≠ 1 := fun z => (ih.mpr z) h0
        by_cases h1 : celM fj n r c = 1
        · rw [if_pos h1]
          constructor
          · intro h; exact absurd rfl h
          · rintro ⟨q, q1, q2, q3⟩
            by_cases hqn : q = n
            · rw [hqn] at q3; exact absurd h1 q3
            · exact absurd ⟨q, by omega, q2, q3⟩ ih'
        · rw [if_neg h1]
          exact ⟨fun _ => ⟨n, by omega, hf, h1⟩, fun _ => by decide⟩
      · rw [if_neg h0]
        obtain ⟨q, q1, q2⟩ := ih.mp h0
        exact ⟨fun _ => ⟨q, by omega, q2⟩, fun _ => by decide⟩
    · rw [if_neg hf, ih]
      constructor
      · rintro ⟨q, h1, h2⟩
        exact ⟨q, by omega, h2⟩
      · rintro ⟨q, h1, h2, h3⟩
        by_cases hqn : q = n
        · rw [hqn] at h2; exact absurd h2 hf
        · exact ⟨q, by omega, h2, h3⟩
theorem cnt_0 {fj : Nat → Nat} {br : Nat → Nat → Nat} : ∀ n, cntM fj br n = 0 ↔ ∀ q, q < n → ¬ fitM fj br q := by
  intro n
  induction n with
  | zero => exact ⟨fun _ q hq => absurd hq (Nat.not_lt_zero q), fun _ => rfl⟩
  | succ n ih =>
    rw [cntM]
    by_cases hf : fitM fj br n
    · rw [if_pos hf]
      constructor
      · intro h; omega
      · intro h; exact absurd hf (h n (by omega))
    · rw [if_neg hf, Nat.add_zero, ih]
      constructor
      · intro h q hq
        by_cases hqn : q = n
        · rw [hqn]; exact hf
        · exact h q (by omega)
      · intro h q hq
        exact h q (by omega)
theorem frc_eq {fi fj f : Nat → Nat} {br : Nat → Nat → Nat} {r c N : Nat} (hs : Smy fj br f N) (hb : f 3 - 1 - r * f 1 - c < 12) (hcel : ∀ q, celM fj q r c = 1 ↔ q.testBit (f 3 - 1 - r * f 1 - c) = true) : frcV f r c = frV (frZ fj br r c N) (frO fj br r c N) := by
  obtain ⟨h1, h2, h3, h4⟩ := hs
  unfold frcV frV
  rw [h1, h3, h4]
  generalize f 3 - 1 - r * f 1 - c = b at *
  have o1 := frO_iff (fj := fj) (br := br) (r := r) (c := c) N
  have z1 := frZ_iff (fj := fj) (br := br) (r := r) (c := c) N
  have a1 := al_bit (fj := fj) (br := br) hb N
  have n1 := an_bit (fj := fj) (br := br) (b := b) N
  have c1 := cnt_0 (fj := fj) (br := br) N
  by_cases hc : cntM fj br N = 0
  · have hno := c1.mp hc
    rw [if_pos hc, if_pos]
    refine ⟨?_, ?_⟩
    · apply Classical.byContradiction
      intro hq
      obtain ⟨q, q1, q2, -⟩ := z1.mp hq
      exact hno q q1 q2
    · apply Classical.byContradiction
      intro hq
      obtain ⟨q, q1, q2, -⟩ := o1.mp hq
      exact hno q q1 q2
  · rw [if_neg hc]
    obtain ⟨q0, hq0, hf0⟩ : ∃ q, q < N ∧ fitM fj br q := by
      apply Classical.byContradiction
      intro hq
      exact hc (c1.mpr (fun q h1 h2 => hq ⟨q, h1, h2⟩))
    have hzo : ¬ (frZ fj br r c N = 0 ∧ frO fj br r c N = 0) := by
      rintro ⟨e1, e2⟩
      by_cases hq : celM fj q0 r c = 1
      · exact (o1.mpr ⟨q0, hq0, hf0, hq⟩) e2
      · exact (z1.mpr ⟨q0, hq0, hf0, hq⟩) e1
    rw [if_neg hzo]
    by_cases ha : (alF fj br N).testBit b = true
    · rw [if_pos ((bit_iff _ _).mpr ha)]
      have hz0 : frZ fj br r c N = 0 := by
        apply Classical.byContradiction
        intro hq
        obtain ⟨q, q1, q2, q3⟩ := z1.mp hq
        exact q3 ((hcel q).mpr (a1.mp ha q q1 q2))
      have ho : frO fj br r c N ≠ 0 := fun e => hzo ⟨hz0, e⟩
      rw [if_neg (fun z => z.1 hz0), if_pos ho]
    · rw [if_neg (fun z => ha ((bit_iff _ _).mp z))]
      have hz : frZ fj br r c N ≠ 0 := by
        intro e
        apply ha
        rw [a1]
        intro q q1 q2
        apply Classical.byContradiction
        intro hq
        exact (z1.mpr ⟨q, q1, q2, fun z => hq ((hcel q).mp z)⟩) e
      by_cases hn : (anF fj br N).testBit b = true
      · rw [if_pos ((bit_iff _ _).mpr hn)]
        obtain ⟨q, q1, q2, q3⟩ := n1.mp hn
        rw [if_pos ⟨hz, o1.mpr ⟨q, q1, q2, (hcel q).mpr q3⟩⟩]
      · rw [if_neg (fun z => hn ((bit_iff _ _).mp z))]
        have ho : frO fj br r c N = 0 := by
          apply Classical.byContradiction
          intro hq
          obtain ⟨q, q1, q2, q3⟩ := o1.mp hq
          exact hn (n1.mpr ⟨q, q1, q2, (hcel q).mp q3⟩)
        rw [if_neg (fun z => z.2 ho), if_neg (fun z => z ho)]
theorem al_le {fj : Nat → Nat} {br : Nat → Nat → Nat} : ∀ n, alF fj br n ≤ 4095 := by
  intro n
  induction n with
  | zero => exact Nat.le_refl _
  | succ n ih =>
    rw [alF]
    split
    · exact Nat.le_trans Nat.and_le_left ih
    · exact ih
theorem an_lt {fj : Nat → Nat} {br : Nat → Nat → Nat} : ∀ n, n ≤ 4096 → anF fj br n < 2 ^ 31 := by
  intro n
  induction n with
  | zero => intro _; rw [anF]; decide
  | succ n ih =>
    intro hn
    have ih := ih (by omega)
    rw [anF]
    split
    · exact Nat.or_lt_two_pow ih (by omega)
    · exact ih
theorem ag_forced (l : Launch) (r0 c0 : Int32) : Agree l Rel y_X_forced b_X_forced 4 y_M_forced b_M_forced 7 [.int r0, .int c0] := by
  intro fi ar fj br h
  obtain ⟨p1, p2, p3, p4⟩ := rel_pw h
  obtain ⟨g1, g2, g3, g4, g5, g6, g7, g8⟩ := id h.1
  obtain ⟨f1, f2, f3, f4, f5, f6⟩ := id g1
  dsimp only at *
  refine ⟨4, 3, _, _, by decide, by decide, c_X_forced l fi ar r0 c0 g1 (SPost fi (prpA fi ar) fj br 4096 (nI 4096)) (scan_met l h 4096 (nI 4096) (by decide) (by decide)) ?_, c_M_forced l fj br r0 c0 p4 g5, ?_⟩
  · intro f a hp
    have hs := spost_all p2 hp
    have hf : ∀ k, k < 28 → k ≠ 23 → f k = fi k := fun k h1 h2 => (hp.1.1 k h1).trans (prpF_n h2)
    have e1 := cntM_le fj br (2 ^ fi 3)
    have e2 := al_le (fj := fj) (br := br) (2 ^ fi 3)
    have e3 := an_lt (fj := fj) (br := br) (2 ^ fi 3) p2
    obtain ⟨s1, s2, s3, s4⟩ := hs
    refine ⟨by omega, by omega, by omega, hf 1 (by decide) (by decide), hf 3 (by decide) (by decide)⟩
  · rintro r f a r' f' a' hX ⟨hM, hf', ha'⟩
    rw [hf', ha']
    rw [p1] at hM
    have hin : inG fi r0 c0 ↔ inC fj r0 c0 := by
      unfold inG inC
      rw [g2, g3]
    rcases hX with ⟨x1, rfl, h2, h3⟩ | ⟨r1, c1, hr1, hc1, rfl, rfl, hp, rfl⟩
    · rw [h2, h3]
      rcases hM with ⟨-, rfl⟩ | ⟨r2, c2, hr2, hc2, rfl, rfl, -⟩
      · exact ⟨rfl, h⟩
      · exfalso
        apply x1
        rw [hin]
        exact ⟨nI_pos' (by omega), nI_lt hr2 (by omega), nI_pos' (by omega), nI_lt hc2 (by omega)⟩
    · refine ⟨?_, rel_srch h hp.1⟩
      rcases hM with ⟨m1, -⟩ | ⟨r2, c2, hr2, hc2, e1, e2, rfl⟩
      · exfalso
        apply m1
        rw [← hin]
        exact ⟨nI_pos' (by omega), nI_lt hr1 (by omega), nI_pos' (by omega), nI_lt hc1 (by omega)⟩
      · obtain rfl : r1 = r2 := (nI_eq (by omega) (by omega)).mp e1
        obtain rfl : c1 = c2 := (nI_eq (by omega) (by omega)).mp e2
        have hf : ∀ k, k < 28 → k ≠ 23 → f k = fi k := fun k h1 h2 => (hp.1.1 k h1).trans (prpF_n h2)
        have h3 := hf 3 (by decide) (by decide)
        have h1 := hf 1 (by decide) (by decide)
        rw [frc_eq (fi := fi) (spost_all p2 hp) (by omega)]
        intro q
        rw [← bit_iff]
        unfold celM
        rw [g2, g3, h3, h1, f6, show fi 0 * fi 1 - 1 - (r1 * fi 1 + c1) = fi 0 * fi 1 - 1 - r1 * fi 1 - c1 by omega]
-- lineWords
theorem sp_bits {fi : Nat → Nat} {a : Nat → Nat → Nat} {F : Nat → Prop} {ln b : Nat} (hc : Hc fi a F) (hln : ln < fi 2) (hpin : ∀ t, t < lenX fi ln → spP fi a ln (lenX fi ln) b t) : ∀ t, t ≤ lenX fi ln → ∀ q, (spS a ln (lenX fi ln) b t).testBit q = true ↔ rea (GL a ln) (KL a ln) (fun i => bitv (lenX fi ln) b i) t q ∧ (t = 0 ∨ (bkv fi a ln (lenX fi ln - t)).testBit q = true) := by
  obtain ⟨c1, c2, c3, c4, c5, c6⟩ := id hc
  intro t
  induction t with
  | zero =>
    intro _ q
    rw [spS]
    exact start_set a fi ln (lenX fi ln - 1) _ q |>.trans (by
      constructor
      · rintro ⟨h1, -⟩; exact ⟨h1, Or.inl rfl⟩
      · rintro ⟨h1, -⟩; exact ⟨h1, Or.inl rfl⟩)
  | succ t ih =>
    intro ht q
    have ih := ih (by omega)
    have hci := celX_in c1 hln (t := t) (by omega)
    have hbk : a 22 (ln * 5 + t + 1) = bkv fi a ln (lenX fi ln - 1 - t) := by
      have := c2 ln hln (lenX fi ln - 1 - t) (by omega)
      rw [← this]
      congr 1
      omega
    rw [spS, hbk]
    have hrs := reach_step (fi := fi) (ar := a) (ln := ln) (t := t) (m := lenX fi ln - 1 - t) (s0 := spS a ln (lenX fi ln) b t) (v := bitv (lenX fi ln) b t) (w := fun i => bitv (lenX fi ln) b i) (by omega) (c4 ln hln) rfl ?_ ?_ q
    · rw [hrs, show lenX fi ln - (t + 1) = lenX fi ln - 1 - t by omega]
      constructor
      · rintro ⟨h1, h2⟩; exact ⟨h1, Or.inr h2⟩
      · rintro ⟨h1, h2⟩
        refine ⟨h1, ?_⟩
        rcases h2 with h2 | h2
        · omega
        · exact h2
    · exact (alw_iff (c5 _ hci.1) Nat.and_le_right).mpr (hpin t (by omega))
    · intro q
      rw [ih q, show lenX fi ln - 1 - t + 1 = lenX fi ln - t by omega]
theorem sp_iff {fi : Nat → Nat} {a : Nat → Nat → Nat} {F : Nat → Prop} {ln b : Nat} (hc : Hc fi a F) (hln : ln < fi 2) (hpin : ∀ t, t < lenX fi ln → spP fi a ln (lenX fi ln) b t) : spS a ln (lenX fi ln) b (lenX fi ln) ≠ 0 ↔ fin (GL a ln) (KL a ln) (LL a ln) (lt b) (lenX fi ln) 8 := by
  have hn := lenX_in hc.1 ln
  have hb := sp_bits hc hln hpin (lenX fi ln) (Nat.le_refl _)
  rw [acc_split (lenX fi ln) (Nat.le_refl _), Nat.sub_self]
  constructor
  · intro h
    obtain ⟨p, hp⟩ := ne0_bit h
    obtain ⟨h1, h2⟩ := (hb p).mp hp
    refine ⟨p, h1, ?_⟩
    have hp8 : p < 8 := by
      obtain ⟨z, hz⟩ : ∃ z, lenX fi ln = z + 1 := ⟨lenX fi ln - 1, by omega⟩
      rw [hz] at h1
      exact h1.1
    rcases h2 with h2 | h2
    · omega
    · rw [Nat.sub_self] at h2
      exact bkv_0 hp8 h2
  · rintro ⟨p, h1, h2⟩ h0
    have := (hb p).mpr ⟨h1, Or.inr (by rw [Nat.sub_self]; exact bkv_of 0 p (rea_le h1) (fun i hi => absurd hi (Nat.not_lt_zero i)) h2)⟩
    rw [h0, Nat.zero_testBit] at this
    cases this
theorem ag_lineWords (l : Launch) (x : Int32) : Agree l Rel y_X_lineWords b_X_lineWords 5 y_M_lineWords b_M_lineWords 5 [.int x] := by
  intro fi ar fj br h
  obtain ⟨p1, p2, p3, p4⟩ := rel_pw h
  obtain ⟨hG, hE, hL⟩ := id h
  obtain ⟨g1, g2, g3, g4, g5, g6, g7, g8⟩ := id hG
  obtain ⟨f1, f2, f3, f4, f5, f6⟩ := id g1
  dsimp only at *
  have hc := hc_of h
  refine agree_PI (by decide) (by decide) (c_X_lineWords l fi ar x g1 g4 (by omega)) (c_M_lineWords l fj br x p4 g5) ?_ ?_
  · rw [lwX, lwdM, g2, g3, ← f5]
    by_cases hx : x < 0 ∨ nI (fi 2) ≤ x
    · rw [if_pos hx, if_pos hx]
    · rw [if_neg hx, if_neg hx]
      rcases pk_ix x (n := fi 2) (by omega) with hq | hq | ⟨ln, hj, rfl⟩
      · exact absurd (Or.inl hq) hx
      · exact absurd (Or.inr hq) hx
      rw [nI_clamp (by omega)]
      dsimp only
      have hlen : lenM fj ln = lenX fi ln := by
        unfold lenM lenX
        rw [g2, g3]
      have hlenF : ∀ q, lenX (prpF fi) q = lenX fi q := fun q => by
        unfold lenX
        rw [prpF_n (by decide), prpF_n (by decide)]
      have hcelF : ∀ q t, celX (prpF fi) q t = celX fi q t := fun q t => by
        unfold celX
        rw [prpF_n (by decide), prpF_n (by decide)]
      have hn := lenX_in g1 ln
      rw [hlen, hlenF]
      have key : ∀ b, b < 1 <<< lenX fi ln → (spOk (prpF fi) (prpA fi ar) ln (lenX (prpF fi) ln) b ↔ hol (br 3 ln) (lenX fi ln) b ∧ wkpM fj br ln (lenX fi ln) b) := by
        intro b hb
        have hw : ∀ i, i < lenX fi ln → wntM fj br ln i = prpA fi ar 6 (celX fi ln i) := by
          intro i hi
          rw [prpA_n (by decide)]
          unfold wntM celX
          unfold lenX at hi
          rw [g2]
          by_cases hr : ln < fi 0
          · rw [if_pos hr, if_pos hr]
            rw [if_pos hr] at hi
            exact (g8 ln i hr hi).1.symm
          · rw [if_neg hr, if_neg hr]
            rw [if_neg hr] at hi
            have := (g8 i (ln - fi 0) hi (by omega)).1
            rw [show i * fi 1 + ln - fi 0 = i * fi 1 + (ln - fi 0) by omega, this]
            congr 1
            omega
        rw [hlenF]
        have hpe : (∀ t, t < lenX fi ln → spP (prpF fi) (prpA fi ar) ln (lenX fi ln) b t) ↔ wkpM fj br ln (lenX fi ln) b := by
          constructor
          · intro hk i hi
            have := hk i hi
            unfold spP at this
            rw [hcelF, ← hw i hi] at this
            exact this
          · intro hk t ht
            unfold spP
            rw [hcelF, ← hw t ht]
            exact hk t ht
        have hpe2 : (∀ t, t < lenX fi ln → spP (prpF fi) (prpA fi ar) ln (lenX fi ln) b t) → ∀ t, t < lenX fi ln → spP fi (prpA fi ar) ln (lenX fi ln) b t := by
          intro hk t ht
          have := hk t ht
          unfold spP at this ⊢
          rw [hcelF] at this
          exact this
        have hln := (hL.1 ln hj).2.2 _ b hn.1 hn.2 hb
        constructor
        · rintro ⟨k1, k2⟩
          refine ⟨?_, hpe.mp k1⟩
          rw [hln]
          exact (fin_lik (prpA_lik fi ar) ln _ _ _).mp ((sp_iff hc hj (hpe2 k1)).mp k2)
        · rintro ⟨k1, k2⟩
          have k2' := hpe.mpr k2
          refine ⟨k2', (sp_iff hc hj (hpe2 k2')).mpr ?_⟩
          rw [hln] at k1
          exact (fin_lik (prpA_lik fi ar) ln _ _ _).mpr k1
      have hsum : ∀ B, B ≤ 1 <<< lenX fi ln → lwP (prpF fi) (prpA fi ar) ln B = lwM fj br ln (lenX fi ln) B := by
        intro B
        induction B with
        | zero => intro _; rfl
        | succ B ih =>
          intro hB
          have hk := key B (by omega)
          rw [lwP, lwM, ih (by omega)]
          by_cases hq : spOk (prpF fi) (prpA fi ar) ln (lenX (prpF fi) ln) B
          · rw [if_pos hq, if_pos (hk.mp hq)]
          · rw [if_neg hq, if_neg (fun z => hq (hk.mpr z))]
      exact hsum _ (Nat.le_refl _)
  · have hM : (lwdM x fj br).2 = (fj, br) := by
      unfold lwdM
      split <;> rfl
    rw [hM]
    unfold lwX
    split
    · exact h
    · exact rel_srch h ⟨fun _ _ => rfl, fun _ _ => rfl, prpA_B g4⟩
end
section
/-! THE END: all pairs of calls agree; the law from its entry; the claim (the skeleton's tail, a starting text) -/
theorem agree_all (l : Launch) : AgreeAll l Rel := by
  have hB : ∀ {fi fj : Nat → Nat} {ar br : Nat → Nat → Nat}, Rel (fi, ar) (fj, br) → fi 7 ≤ 6 ∧ fi 8 ≤ 8 ∧ fj 2 ≤ 6 ∧ fi 2 ≤ 7 ∧ fi 0 ≤ 3 ∧ fi 1 ≤ 4 ∧ gridM fj ∧ ltsP br (fj 2) < 2 ^ 31 := by
    intro fi fj ar br h
    obtain ⟨hG, hE, hL⟩ := id h
    obtain ⟨g1, g2, g3, g4, g5, g6, g7, g8⟩ := id hG
    obtain ⟨f1, f2, f3, f4, f5, f6⟩ := id g1
    obtain ⟨e1, e2, e3, e4, e5, e6⟩ := id hE
    dsimp only at *
    refine ⟨by omega, by omega, by omega, by omega, by omega, by omega, by unfold gridM; omega, ?_⟩
    rw [← e1, ← e3]
    omega
  have hlo : ∀ {fi fj : Nat → Nat} {ar br : Nat → Nat → Nat}, Rel (fi, ar) (fj, br) → 1 ≤ fi 7 → ar 9 (fi 7 - 1) ≤ fi 8 := by
    intro fi fj ar br h h7
    obtain ⟨hG, hE, hL⟩ := id h
    obtain ⟨e1, e2, e3, e4, e5, e6⟩ := id hE
    dsimp only at *
    rw [(e6 (fi 7 - 1) (by omega)).1, e3]
    exact ltsP_mono (by omega)
  refine ⟨?_, ?_, ?_, ?_, ?_, ?_, ?_, ?_, ?_, ?_, ?_, ?_, ag_fillings l, ag_filling l, ag_below l, ag_forced l, ag_lineWords l⟩
  · intro x fi ar fj br h
    obtain ⟨b1, b2, b3, b4, b5, b6, b7, b8⟩ := hB h
    exact agree_PI (by decide) (by decide) (c_X_letter l fi ar x b1 b2) (c_M_letter l fj br x b3 b8) (ag_letter x h).1 (ag_letter x h).2
  · intro fi ar fj br h
    obtain ⟨b1, b2, b3, b4, b5, b6, b7, b8⟩ := hB h
    exact agree_PI (by decide) (by decide) (c_X_unit l fi ar b1) (c_M_unit l fj br b3) (ag_unit h).1 (ag_unit h).2
  · intro fi ar fj br h
    obtain ⟨b1, b2, b3, b4, b5, b6, b7, b8⟩ := hB h
    exact agree_PI (by decide) (by decide) (c_X_cat l fi ar b1 h.1.2.2.2.1) (c_M_cat l fj br b3 h.1.2.2.2.2.1) (ag_cat h).1 (ag_cat h).2
  · intro fi ar fj br h
    obtain ⟨b1, b2, b3, b4, b5, b6, b7, b8⟩ := hB h
    exact agree_PI (by decide) (by decide) (c_X_alt l fi ar b1 h.1.2.2.2.1) (c_M_alt l fj br b3) (ag_alt h).1 (ag_alt h).2
  · intro fi ar fj br h
    obtain ⟨b1, b2, b3, b4, b5, b6, b7, b8⟩ := hB h
    exact agree_PI (by decide) (by decide) (c_X_star l fi ar b1 h.1.2.2.2.1) (c_M_star l fj br b3 h.1.2.2.2.2.1) (ag_star h).1 (ag_star h).2
  · intro fi ar fj br h
    obtain ⟨b1, b2, b3, b4, b5, b6, b7, b8⟩ := hB h
    exact agree_PI (by decide) (by decide) (c_X_reverse l fi ar b1 b2 h.1.2.2.2.1 (hlo h)) (c_M_reverse l fj br b3 h.1.2.2.2.2.1) (ag_reverse h).1 (ag_reverse h).2
  · intro x fi ar fj br h
    obtain ⟨b1, b2, b3, b4, b5, b6, b7, b8⟩ := hB h
    exact agree_PI (by decide) (by decide) (c_X_setLine l fi ar x b4 b1 b2 h.1.2.2.2.1 h.2.1.2.2.2.2.1 (hlo h)) (c_M_setLine l fj br x b7 b3) (ag_setLine x h).1 (ag_setLine x h).2
  · intro fi ar fj br h
    exact agree_PI (qX := (fi 7, fi, ar)) (by decide) (by decide) (c_X_depth l fi ar) (c_M_depth l fj br) h.2.1.1 h
  · intro fi ar fj br h
    obtain ⟨b1, b2, b3, b4, b5, b6, b7, b8⟩ := hB h
    refine agree_PI (qX := (fi 8, fi, ar)) (by decide) (by decide) (c_X_letters l fi ar) (c_M_letters l fj br b3) ?_ h
    have e1 := h.2.1.1
    have e3 := h.2.1.2.2.1
    dsimp only at *
    rw [e3, e1]
  · intro x fi ar fj br h
    obtain ⟨b1, b2, b3, b4, b5, b6, b7, b8⟩ := hB h
    exact agree_PI (by decide) (by decide) (c_X_freeLine l fi ar x b4) (c_M_freeLine l fj br x b7) (ag_freeLine x h).1 (ag_freeLine x h).2
  · intro r c v fi ar fj br h
    obtain ⟨b1, b2, b3, b4, b5, b6, b7, b8⟩ := hB h
    exact agree_PI (by decide) (by decide) (c_X_pin l fi ar r c v b5 b6) (c_M_pin l fj br r c v b7) (ag_pin r c v h).1 (ag_pin r c v h).2
  · intro r c fi ar fj br h
    obtain ⟨b1, b2, b3, b4, b5, b6, b7, b8⟩ := hB h
    exact agree_PI (by decide) (by decide) (c_X_pinned l fi ar r c b5 b6) (c_M_pinned l fj br r c b7) (ag_pinned r c h).1 (ag_pinned r c h).2
/-- from the entry, for every script of at most 2050 ints, the law comes to its end with true -/
theorem whole_start {p : Program} {e : Env} {s : State} {m : MethodId} {below : List Frame} {meth : Method} {c : Code} (l : Launch) {b L : Nat} {xs : Nat → Int32} (hL : L ≤ 2050) (C0 : lw_At p s m meth c b L xs) : W p l e room_1 s m #[Value.ref b] below meth c s.heap [] 0 0 (lw_Z below #[Value.ref b] s) (entryFrame m ([Value.ref b] : List Value).toArray 4) :=
  whole_of l hL C0 Rel (agree_all l) rel_start
set_option maxHeartbeats 4000000 in
theorem lw_walk (l : Launch) (b : Addr) (xs : List Int32) : MetFree l x (headSpec (Jvm.Cond.code x code maxLocals ret :: tables_1) room_1) (lw_P b xs) (fun _ _ _ _ _ => True) lw_Q := by
  refine MetFree.of_bodyS (code := code) (maxLocals := maxLocals) (ret := ret) (by decide) ?_ ?_
  · intro args s m h hn
    obtain ⟨meth, c, h1, h2, h3, h4, h5, h6, -, -⟩ := Cond.code_spec hn (atoms_spec (ws := Jvm.Cond.code x code maxLocals ret :: tables_1) h _ List.mem_cons_self)
    exact ⟨meth, c, h1, h2, h3, h4, h5, h6⟩
  · intro p e s m args below meth c s₁ B hml0 hP _
    obtain ⟨rfl, hx, hbd, hgv⟩ := hP
    obtain ⟨scr, harrAt, hlist, hof, hsmall⟩ := hx
    obtain ⟨hcb, hkn, -, -⟩ := State.arrayAt?_spec harrAt
    have hown : s.vm.findClass R_law = some m.cls := findClass_of_methodNamed B.named
    have hts0 : ∀ c ∈ (Jvm.Cond.code x code maxLocals ret :: tables_1), c.before #[Value.ref b] s = true := atoms_spec (ws := Jvm.Cond.code x code maxLocals ret :: tables_1) B.pre
    have hts : ∀ w ∈ lw_tbl, w.before #[Value.ref b] s = true := k2_hts_sels lw_privs (fun w hw => hts0 w (List.mem_cons_of_mem _ hw)) lw_privs_ok
    have hml : c.maxLocals = 4 := B.maxLocals_eq (hts0 _ List.mem_cons_self)
    have X₀ : Stand p l e room_1 s m #[Value.ref b] below meth c s₁ [] 0 0 := Stand.of_body B
    have hh0 : s₁.heap = s.heap := by rw [B.state]; rfl
    have hsz : scr.slots.size = xs.length := by rw [← Array.length_toList, hlist, List.length_map]
    have hval : ∀ j : Nat, j < xs.length → scr.slots[j]? = some (.int (xs.getD j 0)) := fun j hj => by
      rw [← Array.getElem?_toList, hlist]
      simp [hj]
    have hbl : b < s.heap.size := (Array.getElem?_eq_some_iff.mp hcb).1
    have hX : va_X b xs.length (fun j => xs.getD j 0) s s.heap := ⟨scr, hcb, hof, hkn, hsz, hval⟩
    have K : W p l e room_1 s m #[Value.ref b] below meth c s₁.heap [] 0 0 (lw_Z below #[Value.ref b] s) (entryFrame m ([Value.ref b] : List Value).toArray 4) := by
      rw [hh0]
      exact whole_start l hbd ⟨B.exec, B.bytes, B.returns, hml, hown, hts, hX, hbl, B.notSynchronized, hgv⟩
    obtain ⟨t, a1, o, b1, b2, b3⟩ := K s₁ rfl X₀
    exact ⟨t, o, a1, b1, b2, b3⟩
theorem lw_pre_spec {args : Array Value} {s : State} (h : (Jvm.Cond.and given_1 narrow_1).before args s = true) (hr : rest_1_c.before args s = true) : ∃ (b : Addr) (xs : List Int32), lw_P b xs args s := by
  have hs := flat_of_before _ h
  have hq := flat_of_before _ hr
  have hc : (Cond.count 1).before args s = true := hs _ (by decide +kernel)
  have harr : (Cond.arrayOf (.arg 0) .int).before args s = true := hs _ (by decide +kernel)
  have hle : (Cond.le (.length (.arg 0)) (.int 2050)).before args s = true := hs _ (by decide +kernel)
  have hlen : (Cond.isInt (.length (.arg 0))).before args s = true := hq _ (by decide +kernel)
  have hall : (Cond.all (.arg 0) (.isInt (.elem (.arg 0) (.index 0)))).before args s = true := hq _ (by decide +kernel)
  obtain ⟨b, xs, hb, hx⟩ := State.ints_of_pre rfl harr hlen hall
  have hsm : xs.length < 2 ^ 31 := hx.choose_spec.2.2.2
  have hev : (Term.length (.arg 0)).eval args s none [] s = some (.int xs.length.toInt32) := hx.length_eval hb
  have hv := Cond.le_ints hev (show (Term.int 2050).eval args s none [] s = some (.int 2050) from rfl)
  have hd : xs.length.toInt32 ≤ 2050 := by
    simpa [Cond.before, Cond.holds, hv] using hle
  have hN : xs.length ≤ 2050 := (Int32.ofNat_le_ofNat hsm (by decide)).mp (show Int32.ofNat xs.length ≤ Int32.ofNat 2050 from hd)
  exact ⟨b, xs, Cond.one_arg hc (show args[0]? = some (.ref b) from hb), hx, hN, h⟩
theorem lw_comes (l : Launch) : Comes l x (Jvm.Cond.code x code maxLocals ret :: tables_1) room_1 (fun tb e args s => Calls_1 tb e args s ∧ rest_1 tb e args s ∧ Pre_1 tb e args s)
    (fun _ _ args s o t => lw_Q args s o t) := by
  intro p e ha hc hk s m args below hf hfit hheap happ hpre
  obtain ⟨b, xs, hP⟩ := lw_pre_spec hpre.2.2 hpre.2.1
  obtain ⟨k, o, h1, h2, h3, hQ⟩ := lw_walk l b xs p e ha hc hk s m args below hf ((Spec.applies_iff_loose hf).mp happ).1 hP trivial
  exact ⟨k, o, h1, h2, h3, hQ⟩
theorem lw_frame {s t : State} {o : Outcome} {args : Array Value} (h : Framed s o t [] 27 328) :
    Framed s o t (fieldLocs frame_1_writes args s ++ arrayLocs frame_1_arrays args s ++ staticLocs frame_1_statics s) 27 328 := h
theorem lw_limb (L : Cond) (hL : ∀ (args : Array Value) (s t : State), L.after args s (.returned (some (.int 1))) t = true) :
    ArmFor flags0 classFile x code maxLocals ret World_1 tables_1 room_1 Calls_1 rest_1 Pre_1
      (fun tb e a s o t => postC L tb e a s o t ∧ Framed s o t (fieldLocs frame_1_writes a s ++ arrayLocs frame_1_arrays a s ++ staticLocs frame_1_statics s) 27 328) := by
  intro l _ _ _ p e ha hc hk s m args below hf hfit hheap happ hpre
  obtain ⟨k, o, h1, h2, h3, rfl, hF⟩ := lw_comes l p e ha hc hk s m args below hf hfit hheap happ hpre
  exact ⟨k, _, h1, h2, h3, hL args s _, lw_frame hF⟩
theorem i_vc : Claimed_1_1 ∧ Claimed_1_2 := ⟨lw_limb limb_1_1 (fun args s t => by simp [limb_1_1, Cond.after, Cond.holds, Cond.value]), lw_limb limb_1_2 (fun args s t => Cond.after_iff.mpr (by
  first | (rw [show limb_1_2 = Cond.eq .result (.int 1) from rfl, Cond.eq_ints (x := 1) (y := 1) rfl rfl]; simp; done) | (simp [limb_1_2, Cond.value, Term.eval]; done)))⟩
end
