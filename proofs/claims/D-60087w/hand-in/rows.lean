section
-- ===== PART A: goes FIRST, ahead of the names: the tables' words, and 'selects' of the private methods out of them =====
/-- a private method of a class that the tables say can be made, by its rows of tables_1 -/
def lw_okq (q : MethodName × Nat) : Prop := (q.1.cls ≠ "java/lang/invoke/MethodHandle" ∧ q.1.cls ≠ "java/lang/invoke/VarHandle") ∧ Cond.instantiable q.1.cls q.2 ∈ tables_1 ∧ Cond.privateMethod q.1 ∈ tables_1 ∧ Cond.instanceMethod q.1 ∈ tables_1
theorem lw_p0 : lw_okq (⟨"CutDesk", "askPlainly", "()V"⟩, 19) := ⟨⟨by decide +kernel, by decide +kernel⟩, List.mem_of_getElem? (i := 4) (by decide +kernel), List.mem_of_getElem? (i := 104) (by decide +kernel), List.mem_of_getElem? (i := 105) (by decide +kernel)⟩
theorem lw_p1 : lw_okq (⟨"CutDesk", "solve", "()I"⟩, 19) := ⟨⟨by decide +kernel, by decide +kernel⟩, List.mem_of_getElem? (i := 4) (by decide +kernel), List.mem_of_getElem? (i := 108) (by decide +kernel), List.mem_of_getElem? (i := 109) (by decide +kernel)⟩
theorem lw_p2 : lw_okq (⟨"CutDesk", "findPrices", "()V"⟩, 19) := ⟨⟨by decide +kernel, by decide +kernel⟩, List.mem_of_getElem? (i := 4) (by decide +kernel), List.mem_of_getElem? (i := 112) (by decide +kernel), List.mem_of_getElem? (i := 113) (by decide +kernel)⟩
theorem lw_p3 : lw_okq (⟨"CutDesk", "priceBasis", "()Z"⟩, 19) := ⟨⟨by decide +kernel, by decide +kernel⟩, List.mem_of_getElem? (i := 4) (by decide +kernel), List.mem_of_getElem? (i := 116) (by decide +kernel), List.mem_of_getElem? (i := 117) (by decide +kernel)⟩
theorem lw_p4 : lw_okq (⟨"CutDesk", "reduce", "()Z"⟩, 19) := ⟨⟨by decide +kernel, by decide +kernel⟩, List.mem_of_getElem? (i := 4) (by decide +kernel), List.mem_of_getElem? (i := 120) (by decide +kernel), List.mem_of_getElem? (i := 121) (by decide +kernel)⟩
theorem lw_p5 : lw_okq (⟨"CutDesk", "swapRows", "(II)V"⟩, 19) := ⟨⟨by decide +kernel, by decide +kernel⟩, List.mem_of_getElem? (i := 4) (by decide +kernel), List.mem_of_getElem? (i := 124) (by decide +kernel), List.mem_of_getElem? (i := 125) (by decide +kernel)⟩
theorem lw_p6 : lw_okq (⟨"CutDesk", "combine", "(IIJJ)V"⟩, 19) := ⟨⟨by decide +kernel, by decide +kernel⟩, List.mem_of_getElem? (i := 4) (by decide +kernel), List.mem_of_getElem? (i := 128) (by decide +kernel), List.mem_of_getElem? (i := 129) (by decide +kernel)⟩
theorem lw_p7 : lw_okq (⟨"CutDesk", "sound", "()Z"⟩, 19) := ⟨⟨by decide +kernel, by decide +kernel⟩, List.mem_of_getElem? (i := 4) (by decide +kernel), List.mem_of_getElem? (i := 132) (by decide +kernel), List.mem_of_getElem? (i := 133) (by decide +kernel)⟩
theorem lw_p8 : lw_okq (⟨"CutDesk", "mostValuable", "()J"⟩, 19) := ⟨⟨by decide +kernel, by decide +kernel⟩, List.mem_of_getElem? (i := 4) (by decide +kernel), List.mem_of_getElem? (i := 136) (by decide +kernel), List.mem_of_getElem? (i := 137) (by decide +kernel)⟩
theorem lw_p9 : lw_okq (⟨"CutDesk", "pivot", "()Z"⟩, 19) := ⟨⟨by decide +kernel, by decide +kernel⟩, List.mem_of_getElem? (i := 4) (by decide +kernel), List.mem_of_getElem? (i := 140) (by decide +kernel), List.mem_of_getElem? (i := 141) (by decide +kernel)⟩
theorem lw_p10 : lw_okq (⟨"CutDesk", "byFallingWidths", "()I"⟩, 19) := ⟨⟨by decide +kernel, by decide +kernel⟩, List.mem_of_getElem? (i := 4) (by decide +kernel), List.mem_of_getElem? (i := 144) (by decide +kernel), List.mem_of_getElem? (i := 145) (by decide +kernel)⟩
theorem lw_p11 : lw_okq (⟨"CutDesk", "served", "(I)Z"⟩, 19) := ⟨⟨by decide +kernel, by decide +kernel⟩, List.mem_of_getElem? (i := 4) (by decide +kernel), List.mem_of_getElem? (i := 148) (by decide +kernel), List.mem_of_getElem? (i := 149) (by decide +kernel)⟩
theorem lw_p12 : lw_okq (⟨"CutDesk", "fillWidest", "(I)V"⟩, 19) := ⟨⟨by decide +kernel, by decide +kernel⟩, List.mem_of_getElem? (i := 4) (by decide +kernel), List.mem_of_getElem? (i := 152) (by decide +kernel), List.mem_of_getElem? (i := 153) (by decide +kernel)⟩
theorem lw_p13 : lw_okq (⟨"CutDesk", "takeOff", "(I)V"⟩, 19) := ⟨⟨by decide +kernel, by decide +kernel⟩, List.mem_of_getElem? (i := 4) (by decide +kernel), List.mem_of_getElem? (i := 156) (by decide +kernel), List.mem_of_getElem? (i := 157) (by decide +kernel)⟩
theorem lw_p14 : lw_okq (⟨"CutDesk", "boundAt", "(I)I"⟩, 19) := ⟨⟨by decide +kernel, by decide +kernel⟩, List.mem_of_getElem? (i := 4) (by decide +kernel), List.mem_of_getElem? (i := 160) (by decide +kernel), List.mem_of_getElem? (i := 161) (by decide +kernel)⟩
theorem lw_p15 : lw_okq (⟨"CutDesk", "search", "(I)V"⟩, 19) := ⟨⟨by decide +kernel, by decide +kernel⟩, List.mem_of_getElem? (i := 4) (by decide +kernel), List.mem_of_getElem? (i := 164) (by decide +kernel), List.mem_of_getElem? (i := 165) (by decide +kernel)⟩
def lw_privs_1 : List (MethodName × Nat) := [(⟨"CutDesk", "askPlainly", "()V"⟩, 19), (⟨"CutDesk", "solve", "()I"⟩, 19), (⟨"CutDesk", "findPrices", "()V"⟩, 19), (⟨"CutDesk", "priceBasis", "()Z"⟩, 19), (⟨"CutDesk", "reduce", "()Z"⟩, 19), (⟨"CutDesk", "swapRows", "(II)V"⟩, 19), (⟨"CutDesk", "combine", "(IIJJ)V"⟩, 19), (⟨"CutDesk", "sound", "()Z"⟩, 19), (⟨"CutDesk", "mostValuable", "()J"⟩, 19), (⟨"CutDesk", "pivot", "()Z"⟩, 19), (⟨"CutDesk", "byFallingWidths", "()I"⟩, 19), (⟨"CutDesk", "served", "(I)Z"⟩, 19), (⟨"CutDesk", "fillWidest", "(I)V"⟩, 19), (⟨"CutDesk", "takeOff", "(I)V"⟩, 19), (⟨"CutDesk", "boundAt", "(I)I"⟩, 19), (⟨"CutDesk", "search", "(I)V"⟩, 19)]
theorem lw_r1 : ∀ q ∈ lw_privs_1, lw_okq q := List.forall_mem_cons.mpr ⟨lw_p0, List.forall_mem_cons.mpr ⟨lw_p1, List.forall_mem_cons.mpr ⟨lw_p2, List.forall_mem_cons.mpr ⟨lw_p3, List.forall_mem_cons.mpr ⟨lw_p4, List.forall_mem_cons.mpr ⟨lw_p5, List.forall_mem_cons.mpr ⟨lw_p6, List.forall_mem_cons.mpr ⟨lw_p7, List.forall_mem_cons.mpr ⟨lw_p8, List.forall_mem_cons.mpr ⟨lw_p9, List.forall_mem_cons.mpr ⟨lw_p10, List.forall_mem_cons.mpr ⟨lw_p11, List.forall_mem_cons.mpr ⟨lw_p12, List.forall_mem_cons.mpr ⟨lw_p13, List.forall_mem_cons.mpr ⟨lw_p14, List.forall_mem_cons.mpr ⟨lw_p15, fun _ h => absurd h List.not_mem_nil⟩⟩⟩⟩⟩⟩⟩⟩⟩⟩⟩⟩⟩⟩⟩⟩
theorem lw_p16 : lw_okq (⟨"CutDesk", "nextPattern", "(I)Z"⟩, 19) := ⟨⟨by decide +kernel, by decide +kernel⟩, List.mem_of_getElem? (i := 4) (by decide +kernel), List.mem_of_getElem? (i := 169) (by decide +kernel), List.mem_of_getElem? (i := 170) (by decide +kernel)⟩
theorem lw_p17 : lw_okq (⟨"CutDesk", "firstPattern", "(I)Z"⟩, 19) := ⟨⟨by decide +kernel, by decide +kernel⟩, List.mem_of_getElem? (i := 4) (by decide +kernel), List.mem_of_getElem? (i := 173) (by decide +kernel), List.mem_of_getElem? (i := 174) (by decide +kernel)⟩
theorem lw_p18 : lw_okq (⟨"CutDesk", "widest", "(I)I"⟩, 19) := ⟨⟨by decide +kernel, by decide +kernel⟩, List.mem_of_getElem? (i := 4) (by decide +kernel), List.mem_of_getElem? (i := 177) (by decide +kernel), List.mem_of_getElem? (i := 178) (by decide +kernel)⟩
theorem lw_p19 : lw_okq (⟨"CutDesk", "fillFrom", "(II)V"⟩, 19) := ⟨⟨by decide +kernel, by decide +kernel⟩, List.mem_of_getElem? (i := 4) (by decide +kernel), List.mem_of_getElem? (i := 181) (by decide +kernel), List.mem_of_getElem? (i := 182) (by decide +kernel)⟩
theorem lw_p20 : lw_okq (⟨"CutDesk", "leavesOneLess", "(II)Z"⟩, 19) := ⟨⟨by decide +kernel, by decide +kernel⟩, List.mem_of_getElem? (i := 4) (by decide +kernel), List.mem_of_getElem? (i := 208) (by decide +kernel), List.mem_of_getElem? (i := 209) (by decide +kernel)⟩
theorem lw_p21 : lw_okq (⟨"CutDeskModel", "kind", "(I)Z"⟩, 4) := ⟨⟨by decide +kernel, by decide +kernel⟩, List.mem_of_getElem? (i := 219) (by decide +kernel), List.mem_of_getElem? (i := 243) (by decide +kernel), List.mem_of_getElem? (i := 244) (by decide +kernel)⟩
theorem lw_p22 : lw_okq (⟨"CutDeskModel", "whole", "()I"⟩, 4) := ⟨⟨by decide +kernel, by decide +kernel⟩, List.mem_of_getElem? (i := 219) (by decide +kernel), List.mem_of_getElem? (i := 271) (by decide +kernel), List.mem_of_getElem? (i := 272) (by decide +kernel)⟩
theorem lw_p23 : lw_okq (⟨"CutDeskModel", "work", "(II)V"⟩, 4) := ⟨⟨by decide +kernel, by decide +kernel⟩, List.mem_of_getElem? (i := 219) (by decide +kernel), List.mem_of_getElem? (i := 275) (by decide +kernel), List.mem_of_getElem? (i := 276) (by decide +kernel)⟩
theorem lw_p24 : lw_okq (⟨"CutDeskModel", "within", "(II)Z"⟩, 4) := ⟨⟨by decide +kernel, by decide +kernel⟩, List.mem_of_getElem? (i := 219) (by decide +kernel), List.mem_of_getElem? (i := 279) (by decide +kernel), List.mem_of_getElem? (i := 280) (by decide +kernel)⟩
theorem lw_p25 : lw_okq (⟨"CutDeskModel", "after", "(II)I"⟩, 4) := ⟨⟨by decide +kernel, by decide +kernel⟩, List.mem_of_getElem? (i := 219) (by decide +kernel), List.mem_of_getElem? (i := 283) (by decide +kernel), List.mem_of_getElem? (i := 284) (by decide +kernel)⟩
theorem lw_p26 : lw_okq (⟨"CutDeskModel", "part", "(II)I"⟩, 4) := ⟨⟨by decide +kernel, by decide +kernel⟩, List.mem_of_getElem? (i := 219) (by decide +kernel), List.mem_of_getElem? (i := 287) (by decide +kernel), List.mem_of_getElem? (i := 288) (by decide +kernel)⟩
theorem lw_p27 : lw_okq (⟨"CutDeskModel", "length", "(I)I"⟩, 4) := ⟨⟨by decide +kernel, by decide +kernel⟩, List.mem_of_getElem? (i := 219) (by decide +kernel), List.mem_of_getElem? (i := 291) (by decide +kernel), List.mem_of_getElem? (i := 292) (by decide +kernel)⟩
def lw_privs_2 : List (MethodName × Nat) := [(⟨"CutDesk", "nextPattern", "(I)Z"⟩, 19), (⟨"CutDesk", "firstPattern", "(I)Z"⟩, 19), (⟨"CutDesk", "widest", "(I)I"⟩, 19), (⟨"CutDesk", "fillFrom", "(II)V"⟩, 19), (⟨"CutDesk", "leavesOneLess", "(II)Z"⟩, 19), (⟨"CutDeskModel", "kind", "(I)Z"⟩, 4), (⟨"CutDeskModel", "whole", "()I"⟩, 4), (⟨"CutDeskModel", "work", "(II)V"⟩, 4), (⟨"CutDeskModel", "within", "(II)Z"⟩, 4), (⟨"CutDeskModel", "after", "(II)I"⟩, 4), (⟨"CutDeskModel", "part", "(II)I"⟩, 4), (⟨"CutDeskModel", "length", "(I)I"⟩, 4)]
theorem lw_r2 : ∀ q ∈ lw_privs_2, lw_okq q := List.forall_mem_cons.mpr ⟨lw_p16, List.forall_mem_cons.mpr ⟨lw_p17, List.forall_mem_cons.mpr ⟨lw_p18, List.forall_mem_cons.mpr ⟨lw_p19, List.forall_mem_cons.mpr ⟨lw_p20, List.forall_mem_cons.mpr ⟨lw_p21, List.forall_mem_cons.mpr ⟨lw_p22, List.forall_mem_cons.mpr ⟨lw_p23, List.forall_mem_cons.mpr ⟨lw_p24, List.forall_mem_cons.mpr ⟨lw_p25, List.forall_mem_cons.mpr ⟨lw_p26, List.forall_mem_cons.mpr ⟨lw_p27, fun _ h => absurd h List.not_mem_nil⟩⟩⟩⟩⟩⟩⟩⟩⟩⟩⟩⟩
def lw_privs : List (MethodName × Nat) := lw_privs_1 ++ (lw_privs_2)
def lw_tbl : List Cond := k2_sels lw_privs ++ tables_1
theorem lw_privs_ok : ∀ q ∈ lw_privs, lw_okq q := by
  show ∀ q ∈ lw_privs_1 ++ (lw_privs_2), lw_okq q
  exact List.forall_mem_append.mpr ⟨lw_r1, lw_r2⟩
-- ===== end of PART A; then your names; then what follows =====
end
section
-- NAMES (printed by names.py)
def tb : List Cond := lw_tbl.filter goodWord
theorem tb_good : GoodIn tb tb := fun w hw => ⟨hw, good_of_word (List.mem_filter.mp hw).2⟩
theorem tb_in {w : Cond} (i : Nat) (h : tables_1[i]? = some w) (hg : goodWord w = true) : w ∈ tb := List.mem_filter.mpr ⟨List.mem_append_right _ (List.mem_of_getElem? h), hg⟩
theorem tb_sel {w : Cond} (i : Nat) (h : (k2_sels lw_privs)[i]? = some w) (hg : goodWord w = true) : w ∈ tb := List.mem_filter.mpr ⟨List.mem_append_left _ (List.mem_of_getElem? h), hg⟩
theorem tb_sub : ∀ w ∈ tb, w ∈ lw_tbl := fun w hw => (List.mem_filter.mp hw).1
abbrev R_D : String := "CutDesk"
def F_D : u_T := fun k => match k with
  | 0 => ("CutDesk", "rollWidth", "I", false)
  | 1 => ("CutDesk", "widths", "[B", true)
  | 2 => ("CutDesk", "orders", "[B", true)
  | 3 => ("CutDesk", "room", "I", false)
  | 4 => ("CutDesk", "wanted", "[B", true)
  | 5 => ("CutDesk", "basis", "[B", true)
  | 6 => ("CutDesk", "cells", "[J", true)
  | 7 => ("CutDesk", "divisor", "J", false)
  | 8 => ("CutDesk", "prices", "[J", true)
  | 9 => ("CutDesk", "priceDivisor", "J", false)
  | 10 => ("CutDesk", "amounts", "[J", true)
  | 11 => ("CutDesk", "rates", "[J", true)
  | 12 => ("CutDesk", "worth", "[J", true)
  | 13 => ("CutDesk", "lastPiece", "[B", true)
  | 14 => ("CutDesk", "entering", "[B", true)
  | 15 => ("CutDesk", "still", "[B", true)
  | 16 => ("CutDesk", "cut", "[B", true)
  | 17 => ("CutDesk", "cutMade", "[Z", true)
  | _ => ("CutDesk", "best", "I", false)
def t_D : Nat → FieldType := fun k => match k with
  | 0 => .int
  | 1 => .array .byte
  | 2 => .array .byte
  | 3 => .int
  | 4 => .array .byte
  | 5 => .array .byte
  | 6 => .array .long
  | 7 => .long
  | 8 => .array .long
  | 9 => .long
  | 10 => .array .long
  | 11 => .array .long
  | 12 => .array .long
  | 13 => .array .byte
  | 14 => .array .byte
  | 15 => .array .byte
  | 16 => .array .byte
  | 17 => .array .boolean
  | _ => .int
theorem n_D : ∀ a, a < 19 → ∀ b, b < 19 → a ≠ b → (F_D a).2.1 ≠ (F_D b).2.1 := by decide +kernel
theorem t_D_ok : ∀ k, k < 19 → parseFieldDescriptor (F_D k).2.2.1 = some (t_D k) := by decide +kernel
theorem i_D : ∀ w ∈ u_ws R_D F_D 19, w ∈ tb := by decide +kernel
abbrev R_M : String := "CutDeskModel"
def F_M : u_T := fun k => match k with
  | 0 => ("CutDeskModel", "room", "I", false)
  | 1 => ("CutDeskModel", "wide", "[I", false)
  | 2 => ("CutDeskModel", "wanted", "[I", false)
  | _ => ("CutDeskModel", "need", "[I", false)
def t_M : Nat → FieldType := fun k => match k with
  | 0 => .int
  | 1 => .array .int
  | 2 => .array .int
  | _ => .array .int
theorem n_M : ∀ a, a < 4 → ∀ b, b < 4 → a ≠ b → (F_M a).2.1 ≠ (F_M b).2.1 := by decide +kernel
theorem t_M_ok : ∀ k, k < 4 → parseFieldDescriptor (F_M k).2.2.1 = some (t_M k) := by decide +kernel
theorem i_M : ∀ w ∈ u_ws R_M F_M 4, w ∈ tb := by decide +kernel
abbrev R_L : String := "CutDeskLaw"
abbrev classes : List vw_C := [(R_D, F_D, 19), (R_M, F_M, 4)]
abbrev b_D_askPlainly : ByteArray := prog_1_method_28_code
def y_D_askPlainly : MethodName := ⟨"CutDesk", "askPlainly", "()V"⟩
theorem k_D_askPlainly : Cond.code y_D_askPlainly b_D_askPlainly 2 none ∈ tb := tb_in 106 (by rfl) rfl
abbrev b_D_boundAt : ByteArray := prog_1_method_18_code
def y_D_boundAt : MethodName := ⟨"CutDesk", "boundAt", "(I)I"⟩
theorem k_D_boundAt : Cond.code y_D_boundAt b_D_boundAt 6 (some .int) ∈ tb := tb_in 162 (by rfl) rfl
abbrev b_D_byFallingWidths : ByteArray := prog_1_method_19_code
def y_D_byFallingWidths : MethodName := ⟨"CutDesk", "byFallingWidths", "()I"⟩
theorem k_D_byFallingWidths : Cond.code y_D_byFallingWidths b_D_byFallingWidths 3 (some .int) ∈ tb := tb_in 146 (by rfl) rfl
abbrev b_D_combine : ByteArray := prog_1_method_14_code
def y_D_combine : MethodName := ⟨"CutDesk", "combine", "(IIJJ)V"⟩
theorem k_D_combine : Cond.code y_D_combine b_D_combine 12 none ∈ tb := tb_in 130 (by rfl) rfl
abbrev b_D_couldUse : ByteArray := prog_1_method_34_code
def y_D_couldUse : MethodName := ⟨"CutDesk", "couldUse", "(I)Z"⟩
theorem k_D_couldUse : Cond.code y_D_couldUse b_D_couldUse 3 (some .boolean) ∈ tb := tb_in 205 (by rfl) rfl
abbrev b_D_fillFrom : ByteArray := prog_1_method_27_code
def y_D_fillFrom : MethodName := ⟨"CutDesk", "fillFrom", "(II)V"⟩
theorem k_D_fillFrom : Cond.code y_D_fillFrom b_D_fillFrom 9 none ∈ tb := tb_in 183 (by rfl) rfl
abbrev b_D_fillWidest : ByteArray := prog_1_method_22_code
def y_D_fillWidest : MethodName := ⟨"CutDesk", "fillWidest", "(I)V"⟩
theorem k_D_fillWidest : Cond.code y_D_fillWidest b_D_fillWidest 7 none ∈ tb := tb_in 154 (by rfl) rfl
abbrev b_D_findPrices : ByteArray := prog_1_method_9_code
def y_D_findPrices : MethodName := ⟨"CutDesk", "findPrices", "()V"⟩
theorem k_D_findPrices : Cond.code y_D_findPrices b_D_findPrices 3 none ∈ tb := tb_in 114 (by rfl) rfl
abbrev b_D_firstPattern : ByteArray := prog_1_method_26_code
def y_D_firstPattern : MethodName := ⟨"CutDesk", "firstPattern", "(I)Z"⟩
theorem k_D_firstPattern : Cond.code y_D_firstPattern b_D_firstPattern 4 (some .boolean) ∈ tb := tb_in 175 (by rfl) rfl
abbrev b_D_fits : ByteArray := prog_1_method_33_code
def y_D_fits : MethodName := ⟨"CutDesk", "fits", "(I)Z"⟩
theorem k_D_fits : Cond.code y_D_fits b_D_fits 4 (some .boolean) ∈ tb := tb_in 201 (by rfl) rfl
abbrev b_D_freeOrder : ByteArray := prog_1_method_32_code
def y_D_freeOrder : MethodName := ⟨"CutDesk", "freeOrder", "(I)I"⟩
theorem k_D_freeOrder : Cond.code y_D_freeOrder b_D_freeOrder 6 (some .int) ∈ tb := tb_in 195 (by rfl) rfl
abbrev b_D_greatestUse : ByteArray := prog_1_method_36_code
def y_D_greatestUse : MethodName := ⟨"CutDesk", "greatestUse", "()I"⟩
theorem k_D_greatestUse : Cond.code y_D_greatestUse b_D_greatestUse 3 (some .int) ∈ tb := tb_in 214 (by rfl) rfl
abbrev b_D_init : ByteArray := prog_1_method_1_code
def y_D_init : MethodName := ⟨"CutDesk", "<init>", "(I)V"⟩
theorem k_D_init : Cond.code y_D_init b_D_init 3 none ∈ tb := tb_in 7 (by rfl) rfl
abbrev b_D_isKind : ByteArray := prog_1_method_2_code
def y_D_isKind : MethodName := ⟨"CutDesk", "isKind", "(I)Z"⟩
theorem k_D_isKind : Cond.code y_D_isKind b_D_isKind 1 (some .boolean) ∈ tb := tb_in 78 (by rfl) rfl
abbrev b_D_least : ByteArray := prog_1_method_29_code
def y_D_least : MethodName := ⟨"CutDesk", "least", "()I"⟩
theorem k_D_least : Cond.code y_D_least b_D_least 1 (some .int) ∈ tb := tb_in 102 (by rfl) rfl
abbrev b_D_leastFor : ByteArray := prog_1_method_31_code
def y_D_leastFor : MethodName := ⟨"CutDesk", "leastFor", "(I)I"⟩
theorem k_D_leastFor : Cond.code y_D_leastFor b_D_leastFor 3 (some .int) ∈ tb := tb_in 191 (by rfl) rfl
abbrev b_D_leastWith : ByteArray := prog_1_method_30_code
def y_D_leastWith : MethodName := ⟨"CutDesk", "leastWith", "(II)I"⟩
theorem k_D_leastWith : Cond.code y_D_leastWith b_D_leastWith 3 (some .int) ∈ tb := tb_in 187 (by rfl) rfl
abbrev b_D_leavesOneLess : ByteArray := prog_1_method_35_code
def y_D_leavesOneLess : MethodName := ⟨"CutDesk", "leavesOneLess", "(II)Z"⟩
theorem k_D_leavesOneLess : Cond.code y_D_leavesOneLess b_D_leavesOneLess 5 (some .boolean) ∈ tb := tb_in 210 (by rfl) rfl
abbrev b_D_mostValuable : ByteArray := prog_1_method_15_code
def y_D_mostValuable : MethodName := ⟨"CutDesk", "mostValuable", "()J"⟩
theorem k_D_mostValuable : Cond.code y_D_mostValuable b_D_mostValuable 4 (some .long) ∈ tb := tb_in 138 (by rfl) rfl
abbrev b_D_nextPattern : ByteArray := prog_1_method_25_code
def y_D_nextPattern : MethodName := ⟨"CutDesk", "nextPattern", "(I)Z"⟩
theorem k_D_nextPattern : Cond.code y_D_nextPattern b_D_nextPattern 5 (some .boolean) ∈ tb := tb_in 171 (by rfl) rfl
abbrev b_D_order : ByteArray := prog_1_method_4_code
def y_D_order : MethodName := ⟨"CutDesk", "order", "(II)Z"⟩
theorem k_D_order : Cond.code y_D_order b_D_order 3 (some .boolean) ∈ tb := tb_in 82 (by rfl) rfl
abbrev b_D_ordered : ByteArray := prog_1_method_8_code
def y_D_ordered : MethodName := ⟨"CutDesk", "ordered", "(I)I"⟩
theorem k_D_ordered : Cond.code y_D_ordered b_D_ordered 2 (some .int) ∈ tb := tb_in 98 (by rfl) rfl
abbrev b_D_pivot : ByteArray := prog_1_method_16_code
def y_D_pivot : MethodName := ⟨"CutDesk", "pivot", "()Z"⟩
theorem k_D_pivot : Cond.code y_D_pivot b_D_pivot 3 (some .boolean) ∈ tb := tb_in 142 (by rfl) rfl
abbrev b_D_priceBasis : ByteArray := prog_1_method_10_code
def y_D_priceBasis : MethodName := ⟨"CutDesk", "priceBasis", "()Z"⟩
theorem k_D_priceBasis : Cond.code y_D_priceBasis b_D_priceBasis 3 (some .boolean) ∈ tb := tb_in 118 (by rfl) rfl
abbrev b_D_reduce : ByteArray := prog_1_method_12_code
def y_D_reduce : MethodName := ⟨"CutDesk", "reduce", "()Z"⟩
theorem k_D_reduce : Cond.code y_D_reduce b_D_reduce 8 (some .boolean) ∈ tb := tb_in 122 (by rfl) rfl
abbrev b_D_roll : ByteArray := prog_1_method_6_code
def y_D_roll : MethodName := ⟨"CutDesk", "roll", "()I"⟩
theorem k_D_roll : Cond.code y_D_roll b_D_roll 1 (some .int) ∈ tb := tb_in 90 (by rfl) rfl
abbrev b_D_search : ByteArray := prog_1_method_24_code
def y_D_search : MethodName := ⟨"CutDesk", "search", "(I)V"⟩
theorem k_D_search : Cond.code y_D_search b_D_search 4 none ∈ tb := tb_in 166 (by rfl) rfl
abbrev b_D_served : ByteArray := prog_1_method_20_code
def y_D_served : MethodName := ⟨"CutDesk", "served", "(I)Z"⟩
theorem k_D_served : Cond.code y_D_served b_D_served 3 (some .boolean) ∈ tb := tb_in 150 (by rfl) rfl
abbrev b_D_setRoll : ByteArray := prog_1_method_5_code
def y_D_setRoll : MethodName := ⟨"CutDesk", "setRoll", "(I)Z"⟩
theorem k_D_setRoll : Cond.code y_D_setRoll b_D_setRoll 3 (some .boolean) ∈ tb := tb_in 86 (by rfl) rfl
abbrev b_D_setWidth : ByteArray := prog_1_method_3_code
def y_D_setWidth : MethodName := ⟨"CutDesk", "setWidth", "(II)Z"⟩
theorem k_D_setWidth : Cond.code y_D_setWidth b_D_setWidth 3 (some .boolean) ∈ tb := tb_in 75 (by rfl) rfl
abbrev b_D_solve : ByteArray := prog_1_method_17_code
def y_D_solve : MethodName := ⟨"CutDesk", "solve", "()I"⟩
theorem k_D_solve : Cond.code y_D_solve b_D_solve 3 (some .int) ∈ tb := tb_in 110 (by rfl) rfl
abbrev b_D_sound : ByteArray := prog_1_method_11_code
def y_D_sound : MethodName := ⟨"CutDesk", "sound", "()Z"⟩
theorem k_D_sound : Cond.code y_D_sound b_D_sound 2 (some .boolean) ∈ tb := tb_in 134 (by rfl) rfl
abbrev b_D_swapRows : ByteArray := prog_1_method_13_code
def y_D_swapRows : MethodName := ⟨"CutDesk", "swapRows", "(II)V"⟩
theorem k_D_swapRows : Cond.code y_D_swapRows b_D_swapRows 6 none ∈ tb := tb_in 126 (by rfl) rfl
abbrev b_D_takeOff : ByteArray := prog_1_method_23_code
def y_D_takeOff : MethodName := ⟨"CutDesk", "takeOff", "(I)V"⟩
theorem k_D_takeOff : Cond.code y_D_takeOff b_D_takeOff 4 none ∈ tb := tb_in 158 (by rfl) rfl
abbrev b_D_widest : ByteArray := prog_1_method_21_code
def y_D_widest : MethodName := ⟨"CutDesk", "widest", "(I)I"⟩
theorem k_D_widest : Cond.code y_D_widest b_D_widest 4 (some .int) ∈ tb := tb_in 179 (by rfl) rfl
abbrev b_D_width : ByteArray := prog_1_method_7_code
def y_D_width : MethodName := ⟨"CutDesk", "width", "(I)I"⟩
theorem k_D_width : Cond.code y_D_width b_D_width 2 (some .int) ∈ tb := tb_in 94 (by rfl) rfl
abbrev b_L_cell : ByteArray := method_2_code
def y_L_cell : MethodName := ⟨"CutDeskLaw", "cell", "([II)I"⟩
theorem k_L_cell : Cond.code y_L_cell b_L_cell 2 (some .int) ∈ tb := tb_in 217 (by rfl) rfl
abbrev b_M_after : ByteArray := prog_3_method_11_code
def y_M_after : MethodName := ⟨"CutDeskModel", "after", "(II)I"⟩
theorem k_M_after : Cond.code y_M_after b_M_after 6 (some .int) ∈ tb := tb_in 285 (by rfl) rfl
abbrev b_M_couldUse : ByteArray := prog_3_method_20_code
def y_M_couldUse : MethodName := ⟨"CutDeskModel", "couldUse", "(I)Z"⟩
theorem k_M_couldUse : Cond.code y_M_couldUse b_M_couldUse 4 (some .boolean) ∈ tb := tb_in 315 (by rfl) rfl
abbrev b_M_fits : ByteArray := prog_3_method_19_code
def y_M_fits : MethodName := ⟨"CutDeskModel", "fits", "(I)Z"⟩
theorem k_M_fits : Cond.code y_M_fits b_M_fits 2 (some .boolean) ∈ tb := tb_in 311 (by rfl) rfl
abbrev b_M_freeOrder : ByteArray := prog_3_method_18_code
def y_M_freeOrder : MethodName := ⟨"CutDeskModel", "freeOrder", "(I)I"⟩
theorem k_M_freeOrder : Cond.code y_M_freeOrder b_M_freeOrder 6 (some .int) ∈ tb := tb_in 306 (by rfl) rfl
abbrev b_M_greatestUse : ByteArray := prog_3_method_21_code
def y_M_greatestUse : MethodName := ⟨"CutDeskModel", "greatestUse", "()I"⟩
theorem k_M_greatestUse : Cond.code y_M_greatestUse b_M_greatestUse 4 (some .int) ∈ tb := tb_in 320 (by rfl) rfl
abbrev b_M_init : ByteArray := prog_3_method_1_code
def y_M_init : MethodName := ⟨"CutDeskModel", "<init>", "(I)V"⟩
theorem k_M_init : Cond.code y_M_init b_M_init 3 none ∈ tb := tb_in 222 (by rfl) rfl
abbrev b_M_kind : ByteArray := prog_3_method_2_code
def y_M_kind : MethodName := ⟨"CutDeskModel", "kind", "(I)Z"⟩
theorem k_M_kind : Cond.code y_M_kind b_M_kind 2 (some .boolean) ∈ tb := tb_in 245 (by rfl) rfl
abbrev b_M_least : ByteArray := prog_3_method_15_code
def y_M_least : MethodName := ⟨"CutDeskModel", "least", "()I"⟩
theorem k_M_least : Cond.code y_M_least b_M_least 2 (some .int) ∈ tb := tb_in 269 (by rfl) rfl
abbrev b_M_leastFor : ByteArray := prog_3_method_17_code
def y_M_leastFor : MethodName := ⟨"CutDeskModel", "leastFor", "(I)I"⟩
theorem k_M_leastFor : Cond.code y_M_leastFor b_M_leastFor 3 (some .int) ∈ tb := tb_in 302 (by rfl) rfl
abbrev b_M_leastWith : ByteArray := prog_3_method_16_code
def y_M_leastWith : MethodName := ⟨"CutDeskModel", "leastWith", "(II)I"⟩
theorem k_M_leastWith : Cond.code y_M_leastWith b_M_leastWith 5 (some .int) ∈ tb := tb_in 297 (by rfl) rfl
abbrev b_M_length : ByteArray := prog_3_method_10_code
def y_M_length : MethodName := ⟨"CutDeskModel", "length", "(I)I"⟩
theorem k_M_length : Cond.code y_M_length b_M_length 4 (some .int) ∈ tb := tb_in 293 (by rfl) rfl
abbrev b_M_order : ByteArray := prog_3_method_4_code
def y_M_order : MethodName := ⟨"CutDeskModel", "order", "(II)Z"⟩
theorem k_M_order : Cond.code y_M_order b_M_order 3 (some .boolean) ∈ tb := tb_in 249 (by rfl) rfl
abbrev b_M_ordered : ByteArray := prog_3_method_8_code
def y_M_ordered : MethodName := ⟨"CutDeskModel", "ordered", "(I)I"⟩
theorem k_M_ordered : Cond.code y_M_ordered b_M_ordered 2 (some .int) ∈ tb := tb_in 265 (by rfl) rfl
abbrev b_M_part : ByteArray := prog_3_method_9_code
def y_M_part : MethodName := ⟨"CutDeskModel", "part", "(II)I"⟩
theorem k_M_part : Cond.code y_M_part b_M_part 3 (some .int) ∈ tb := tb_in 289 (by rfl) rfl
abbrev b_M_roll : ByteArray := prog_3_method_6_code
def y_M_roll : MethodName := ⟨"CutDeskModel", "roll", "()I"⟩
theorem k_M_roll : Cond.code y_M_roll b_M_roll 1 (some .int) ∈ tb := tb_in 257 (by rfl) rfl
abbrev b_M_setRoll : ByteArray := prog_3_method_5_code
def y_M_setRoll : MethodName := ⟨"CutDeskModel", "setRoll", "(I)Z"⟩
theorem k_M_setRoll : Cond.code y_M_setRoll b_M_setRoll 3 (some .boolean) ∈ tb := tb_in 253 (by rfl) rfl
abbrev b_M_setWidth : ByteArray := prog_3_method_3_code
def y_M_setWidth : MethodName := ⟨"CutDeskModel", "setWidth", "(II)Z"⟩
theorem k_M_setWidth : Cond.code y_M_setWidth b_M_setWidth 3 (some .boolean) ∈ tb := tb_in 241 (by rfl) rfl
abbrev b_M_whole : ByteArray := prog_3_method_13_code
def y_M_whole : MethodName := ⟨"CutDeskModel", "whole", "()I"⟩
theorem k_M_whole : Cond.code y_M_whole b_M_whole 3 (some .int) ∈ tb := tb_in 273 (by rfl) rfl
abbrev b_M_width : ByteArray := prog_3_method_7_code
def y_M_width : MethodName := ⟨"CutDeskModel", "width", "(I)I"⟩
theorem k_M_width : Cond.code y_M_width b_M_width 2 (some .int) ∈ tb := tb_in 261 (by rfl) rfl
abbrev b_M_within : ByteArray := prog_3_method_12_code
def y_M_within : MethodName := ⟨"CutDeskModel", "within", "(II)Z"⟩
theorem k_M_within : Cond.code y_M_within b_M_within 3 (some .boolean) ∈ tb := tb_in 281 (by rfl) rfl
abbrev b_M_work : ByteArray := prog_3_method_14_code
def y_M_work : MethodName := ⟨"CutDeskModel", "work", "(II)V"⟩
theorem k_M_work : Cond.code y_M_work b_M_work 6 none ∈ tb := tb_in 277 (by rfl) rfl
theorem im_D_askPlainly : Cond.instanceMethod y_D_askPlainly ∈ tb := tb_in 105 (by rfl) rfl
theorem sl_D_askPlainly : Cond.selects "CutDesk" y_D_askPlainly y_D_askPlainly ∈ tb := tb_sel 0 (by rfl) rfl
theorem im_D_boundAt : Cond.instanceMethod y_D_boundAt ∈ tb := tb_in 161 (by rfl) rfl
theorem sl_D_boundAt : Cond.selects "CutDesk" y_D_boundAt y_D_boundAt ∈ tb := tb_sel 14 (by rfl) rfl
theorem im_D_byFallingWidths : Cond.instanceMethod y_D_byFallingWidths ∈ tb := tb_in 145 (by rfl) rfl
theorem sl_D_byFallingWidths : Cond.selects "CutDesk" y_D_byFallingWidths y_D_byFallingWidths ∈ tb := tb_sel 10 (by rfl) rfl
theorem im_D_combine : Cond.instanceMethod y_D_combine ∈ tb := tb_in 129 (by rfl) rfl
theorem sl_D_combine : Cond.selects "CutDesk" y_D_combine y_D_combine ∈ tb := tb_sel 6 (by rfl) rfl
theorem im_D_couldUse : Cond.instanceMethod y_D_couldUse ∈ tb := tb_in 203 (by rfl) rfl
theorem sl_D_couldUse : Cond.selects "CutDesk" y_D_couldUse y_D_couldUse ∈ tb := tb_in 204 (by rfl) rfl
theorem im_D_fillFrom : Cond.instanceMethod y_D_fillFrom ∈ tb := tb_in 182 (by rfl) rfl
theorem sl_D_fillFrom : Cond.selects "CutDesk" y_D_fillFrom y_D_fillFrom ∈ tb := tb_sel 19 (by rfl) rfl
theorem im_D_fillWidest : Cond.instanceMethod y_D_fillWidest ∈ tb := tb_in 153 (by rfl) rfl
theorem sl_D_fillWidest : Cond.selects "CutDesk" y_D_fillWidest y_D_fillWidest ∈ tb := tb_sel 12 (by rfl) rfl
theorem im_D_findPrices : Cond.instanceMethod y_D_findPrices ∈ tb := tb_in 113 (by rfl) rfl
theorem sl_D_findPrices : Cond.selects "CutDesk" y_D_findPrices y_D_findPrices ∈ tb := tb_sel 2 (by rfl) rfl
theorem im_D_firstPattern : Cond.instanceMethod y_D_firstPattern ∈ tb := tb_in 174 (by rfl) rfl
theorem sl_D_firstPattern : Cond.selects "CutDesk" y_D_firstPattern y_D_firstPattern ∈ tb := tb_sel 17 (by rfl) rfl
theorem im_D_fits : Cond.instanceMethod y_D_fits ∈ tb := tb_in 199 (by rfl) rfl
theorem sl_D_fits : Cond.selects "CutDesk" y_D_fits y_D_fits ∈ tb := tb_in 200 (by rfl) rfl
theorem im_D_freeOrder : Cond.instanceMethod y_D_freeOrder ∈ tb := tb_in 193 (by rfl) rfl
theorem sl_D_freeOrder : Cond.selects "CutDesk" y_D_freeOrder y_D_freeOrder ∈ tb := tb_in 194 (by rfl) rfl
theorem im_D_greatestUse : Cond.instanceMethod y_D_greatestUse ∈ tb := tb_in 212 (by rfl) rfl
theorem sl_D_greatestUse : Cond.selects "CutDesk" y_D_greatestUse y_D_greatestUse ∈ tb := tb_in 213 (by rfl) rfl
theorem im_D_init : Cond.instanceMethod y_D_init ∈ tb := tb_in 6 (by rfl) rfl
theorem sm_D_isKind : Cond.static y_D_isKind ∈ tb := tb_in 77 (by rfl) rfl
theorem im_D_least : Cond.instanceMethod y_D_least ∈ tb := tb_in 100 (by rfl) rfl
theorem sl_D_least : Cond.selects "CutDesk" y_D_least y_D_least ∈ tb := tb_in 101 (by rfl) rfl
theorem im_D_leastFor : Cond.instanceMethod y_D_leastFor ∈ tb := tb_in 189 (by rfl) rfl
theorem sl_D_leastFor : Cond.selects "CutDesk" y_D_leastFor y_D_leastFor ∈ tb := tb_in 190 (by rfl) rfl
theorem im_D_leastWith : Cond.instanceMethod y_D_leastWith ∈ tb := tb_in 185 (by rfl) rfl
theorem sl_D_leastWith : Cond.selects "CutDesk" y_D_leastWith y_D_leastWith ∈ tb := tb_in 186 (by rfl) rfl
theorem im_D_leavesOneLess : Cond.instanceMethod y_D_leavesOneLess ∈ tb := tb_in 209 (by rfl) rfl
theorem sl_D_leavesOneLess : Cond.selects "CutDesk" y_D_leavesOneLess y_D_leavesOneLess ∈ tb := tb_sel 20 (by rfl) rfl
theorem im_D_mostValuable : Cond.instanceMethod y_D_mostValuable ∈ tb := tb_in 137 (by rfl) rfl
theorem sl_D_mostValuable : Cond.selects "CutDesk" y_D_mostValuable y_D_mostValuable ∈ tb := tb_sel 8 (by rfl) rfl
theorem im_D_nextPattern : Cond.instanceMethod y_D_nextPattern ∈ tb := tb_in 170 (by rfl) rfl
theorem sl_D_nextPattern : Cond.selects "CutDesk" y_D_nextPattern y_D_nextPattern ∈ tb := tb_sel 16 (by rfl) rfl
theorem im_D_order : Cond.instanceMethod y_D_order ∈ tb := tb_in 80 (by rfl) rfl
theorem sl_D_order : Cond.selects "CutDesk" y_D_order y_D_order ∈ tb := tb_in 81 (by rfl) rfl
theorem im_D_ordered : Cond.instanceMethod y_D_ordered ∈ tb := tb_in 96 (by rfl) rfl
theorem sl_D_ordered : Cond.selects "CutDesk" y_D_ordered y_D_ordered ∈ tb := tb_in 97 (by rfl) rfl
theorem im_D_pivot : Cond.instanceMethod y_D_pivot ∈ tb := tb_in 141 (by rfl) rfl
theorem sl_D_pivot : Cond.selects "CutDesk" y_D_pivot y_D_pivot ∈ tb := tb_sel 9 (by rfl) rfl
theorem im_D_priceBasis : Cond.instanceMethod y_D_priceBasis ∈ tb := tb_in 117 (by rfl) rfl
theorem sl_D_priceBasis : Cond.selects "CutDesk" y_D_priceBasis y_D_priceBasis ∈ tb := tb_sel 3 (by rfl) rfl
theorem im_D_reduce : Cond.instanceMethod y_D_reduce ∈ tb := tb_in 121 (by rfl) rfl
theorem sl_D_reduce : Cond.selects "CutDesk" y_D_reduce y_D_reduce ∈ tb := tb_sel 4 (by rfl) rfl
theorem im_D_roll : Cond.instanceMethod y_D_roll ∈ tb := tb_in 88 (by rfl) rfl
theorem sl_D_roll : Cond.selects "CutDesk" y_D_roll y_D_roll ∈ tb := tb_in 89 (by rfl) rfl
theorem im_D_search : Cond.instanceMethod y_D_search ∈ tb := tb_in 165 (by rfl) rfl
theorem sl_D_search : Cond.selects "CutDesk" y_D_search y_D_search ∈ tb := tb_sel 15 (by rfl) rfl
theorem im_D_served : Cond.instanceMethod y_D_served ∈ tb := tb_in 149 (by rfl) rfl
theorem sl_D_served : Cond.selects "CutDesk" y_D_served y_D_served ∈ tb := tb_sel 11 (by rfl) rfl
theorem im_D_setRoll : Cond.instanceMethod y_D_setRoll ∈ tb := tb_in 84 (by rfl) rfl
theorem sl_D_setRoll : Cond.selects "CutDesk" y_D_setRoll y_D_setRoll ∈ tb := tb_in 85 (by rfl) rfl
theorem im_D_setWidth : Cond.instanceMethod y_D_setWidth ∈ tb := tb_in 73 (by rfl) rfl
theorem sl_D_setWidth : Cond.selects "CutDesk" y_D_setWidth y_D_setWidth ∈ tb := tb_in 74 (by rfl) rfl
theorem im_D_solve : Cond.instanceMethod y_D_solve ∈ tb := tb_in 109 (by rfl) rfl
theorem sl_D_solve : Cond.selects "CutDesk" y_D_solve y_D_solve ∈ tb := tb_sel 1 (by rfl) rfl
theorem im_D_sound : Cond.instanceMethod y_D_sound ∈ tb := tb_in 133 (by rfl) rfl
theorem sl_D_sound : Cond.selects "CutDesk" y_D_sound y_D_sound ∈ tb := tb_sel 7 (by rfl) rfl
theorem im_D_swapRows : Cond.instanceMethod y_D_swapRows ∈ tb := tb_in 125 (by rfl) rfl
theorem sl_D_swapRows : Cond.selects "CutDesk" y_D_swapRows y_D_swapRows ∈ tb := tb_sel 5 (by rfl) rfl
theorem im_D_takeOff : Cond.instanceMethod y_D_takeOff ∈ tb := tb_in 157 (by rfl) rfl
theorem sl_D_takeOff : Cond.selects "CutDesk" y_D_takeOff y_D_takeOff ∈ tb := tb_sel 13 (by rfl) rfl
theorem im_D_widest : Cond.instanceMethod y_D_widest ∈ tb := tb_in 178 (by rfl) rfl
theorem sl_D_widest : Cond.selects "CutDesk" y_D_widest y_D_widest ∈ tb := tb_sel 18 (by rfl) rfl
theorem im_D_width : Cond.instanceMethod y_D_width ∈ tb := tb_in 92 (by rfl) rfl
theorem sl_D_width : Cond.selects "CutDesk" y_D_width y_D_width ∈ tb := tb_in 93 (by rfl) rfl
theorem sm_L_cell : Cond.static y_L_cell ∈ tb := tb_in 216 (by rfl) rfl
theorem im_M_after : Cond.instanceMethod y_M_after ∈ tb := tb_in 284 (by rfl) rfl
theorem sl_M_after : Cond.selects "CutDeskModel" y_M_after y_M_after ∈ tb := tb_sel 25 (by rfl) rfl
theorem im_M_couldUse : Cond.instanceMethod y_M_couldUse ∈ tb := tb_in 313 (by rfl) rfl
theorem sl_M_couldUse : Cond.selects "CutDeskModel" y_M_couldUse y_M_couldUse ∈ tb := tb_in 314 (by rfl) rfl
theorem im_M_fits : Cond.instanceMethod y_M_fits ∈ tb := tb_in 309 (by rfl) rfl
theorem sl_M_fits : Cond.selects "CutDeskModel" y_M_fits y_M_fits ∈ tb := tb_in 310 (by rfl) rfl
theorem im_M_freeOrder : Cond.instanceMethod y_M_freeOrder ∈ tb := tb_in 304 (by rfl) rfl
theorem sl_M_freeOrder : Cond.selects "CutDeskModel" y_M_freeOrder y_M_freeOrder ∈ tb := tb_in 305 (by rfl) rfl
theorem im_M_greatestUse : Cond.instanceMethod y_M_greatestUse ∈ tb := tb_in 318 (by rfl) rfl
theorem sl_M_greatestUse : Cond.selects "CutDeskModel" y_M_greatestUse y_M_greatestUse ∈ tb := tb_in 319 (by rfl) rfl
theorem im_M_init : Cond.instanceMethod y_M_init ∈ tb := tb_in 221 (by rfl) rfl
theorem im_M_kind : Cond.instanceMethod y_M_kind ∈ tb := tb_in 244 (by rfl) rfl
theorem sl_M_kind : Cond.selects "CutDeskModel" y_M_kind y_M_kind ∈ tb := tb_sel 21 (by rfl) rfl
theorem im_M_least : Cond.instanceMethod y_M_least ∈ tb := tb_in 267 (by rfl) rfl
theorem sl_M_least : Cond.selects "CutDeskModel" y_M_least y_M_least ∈ tb := tb_in 268 (by rfl) rfl
theorem im_M_leastFor : Cond.instanceMethod y_M_leastFor ∈ tb := tb_in 300 (by rfl) rfl
theorem sl_M_leastFor : Cond.selects "CutDeskModel" y_M_leastFor y_M_leastFor ∈ tb := tb_in 301 (by rfl) rfl
theorem im_M_leastWith : Cond.instanceMethod y_M_leastWith ∈ tb := tb_in 295 (by rfl) rfl
theorem sl_M_leastWith : Cond.selects "CutDeskModel" y_M_leastWith y_M_leastWith ∈ tb := tb_in 296 (by rfl) rfl
theorem im_M_length : Cond.instanceMethod y_M_length ∈ tb := tb_in 292 (by rfl) rfl
theorem sl_M_length : Cond.selects "CutDeskModel" y_M_length y_M_length ∈ tb := tb_sel 27 (by rfl) rfl
theorem im_M_order : Cond.instanceMethod y_M_order ∈ tb := tb_in 247 (by rfl) rfl
theorem sl_M_order : Cond.selects "CutDeskModel" y_M_order y_M_order ∈ tb := tb_in 248 (by rfl) rfl
theorem im_M_ordered : Cond.instanceMethod y_M_ordered ∈ tb := tb_in 263 (by rfl) rfl
theorem sl_M_ordered : Cond.selects "CutDeskModel" y_M_ordered y_M_ordered ∈ tb := tb_in 264 (by rfl) rfl
theorem im_M_part : Cond.instanceMethod y_M_part ∈ tb := tb_in 288 (by rfl) rfl
theorem sl_M_part : Cond.selects "CutDeskModel" y_M_part y_M_part ∈ tb := tb_sel 26 (by rfl) rfl
theorem im_M_roll : Cond.instanceMethod y_M_roll ∈ tb := tb_in 255 (by rfl) rfl
theorem sl_M_roll : Cond.selects "CutDeskModel" y_M_roll y_M_roll ∈ tb := tb_in 256 (by rfl) rfl
theorem im_M_setRoll : Cond.instanceMethod y_M_setRoll ∈ tb := tb_in 251 (by rfl) rfl
theorem sl_M_setRoll : Cond.selects "CutDeskModel" y_M_setRoll y_M_setRoll ∈ tb := tb_in 252 (by rfl) rfl
theorem im_M_setWidth : Cond.instanceMethod y_M_setWidth ∈ tb := tb_in 239 (by rfl) rfl
theorem sl_M_setWidth : Cond.selects "CutDeskModel" y_M_setWidth y_M_setWidth ∈ tb := tb_in 240 (by rfl) rfl
theorem im_M_whole : Cond.instanceMethod y_M_whole ∈ tb := tb_in 272 (by rfl) rfl
theorem sl_M_whole : Cond.selects "CutDeskModel" y_M_whole y_M_whole ∈ tb := tb_sel 22 (by rfl) rfl
theorem im_M_width : Cond.instanceMethod y_M_width ∈ tb := tb_in 259 (by rfl) rfl
theorem sl_M_width : Cond.selects "CutDeskModel" y_M_width y_M_width ∈ tb := tb_in 260 (by rfl) rfl
theorem im_M_within : Cond.instanceMethod y_M_within ∈ tb := tb_in 280 (by rfl) rfl
theorem sl_M_within : Cond.selects "CutDeskModel" y_M_within y_M_within ∈ tb := tb_sel 24 (by rfl) rfl
theorem im_M_work : Cond.instanceMethod y_M_work ∈ tb := tb_in 276 (by rfl) rfl
theorem sl_M_work : Cond.selects "CutDeskModel" y_M_work y_M_work ∈ tb := tb_sel 23 (by rfl) rfl
theorem in_D : Cond.initialized "CutDesk" ∈ tb := tb_in 1 (by rfl) rfl
theorem in_M : Cond.initialized "CutDeskModel" ∈ tb := tb_in 2 (by rfl) rfl
theorem in_L : Cond.initialized "CutDeskLaw" ∈ tb := tb_in 0 (by rfl) rfl
theorem lk_D_1 : Cond.methodLink "CutDesk" 1 Lib.objectInit ∈ tb := tb_in 8 (by rfl) rfl
theorem lk_D_7 : Cond.fieldLink "CutDesk" 7 "CutDesk" "widths" "[B" ∈ tb := tb_in 12 (by rfl) rfl
theorem lk_D_13 : Cond.fieldLink "CutDesk" 13 "CutDesk" "orders" "[B" ∈ tb := tb_in 13 (by rfl) rfl
theorem lk_D_16 : Cond.fieldLink "CutDesk" 16 "CutDesk" "wanted" "[B" ∈ tb := tb_in 15 (by rfl) rfl
theorem lk_D_19 : Cond.fieldLink "CutDesk" 19 "CutDesk" "basis" "[B" ∈ tb := tb_in 16 (by rfl) rfl
theorem lk_D_22 : Cond.fieldLink "CutDesk" 22 "CutDesk" "cells" "[J" ∈ tb := tb_in 17 (by rfl) rfl
theorem lk_D_26 : Cond.fieldLink "CutDesk" 26 "CutDesk" "prices" "[J" ∈ tb := tb_in 19 (by rfl) rfl
theorem lk_D_29 : Cond.fieldLink "CutDesk" 29 "CutDesk" "amounts" "[J" ∈ tb := tb_in 21 (by rfl) rfl
theorem lk_D_32 : Cond.fieldLink "CutDesk" 32 "CutDesk" "rates" "[J" ∈ tb := tb_in 22 (by rfl) rfl
theorem lk_D_35 : Cond.fieldLink "CutDesk" 35 "CutDesk" "worth" "[J" ∈ tb := tb_in 23 (by rfl) rfl
theorem lk_D_38 : Cond.fieldLink "CutDesk" 38 "CutDesk" "lastPiece" "[B" ∈ tb := tb_in 24 (by rfl) rfl
theorem lk_D_41 : Cond.fieldLink "CutDesk" 41 "CutDesk" "entering" "[B" ∈ tb := tb_in 25 (by rfl) rfl
theorem lk_D_44 : Cond.fieldLink "CutDesk" 44 "CutDesk" "still" "[B" ∈ tb := tb_in 26 (by rfl) rfl
theorem lk_D_47 : Cond.fieldLink "CutDesk" 47 "CutDesk" "cut" "[B" ∈ tb := tb_in 27 (by rfl) rfl
theorem lk_D_50 : Cond.fieldLink "CutDesk" 50 "CutDesk" "cutMade" "[Z" ∈ tb := tb_in 28 (by rfl) rfl
theorem lk_D_54 : Cond.fieldLink "CutDesk" 54 "CutDesk" "rollWidth" "I" ∈ tb := tb_in 11 (by rfl) rfl
theorem lk_D_58 : Cond.methodLink "CutDesk" 58 y_D_isKind ∈ tb := tb_in 76 (by rfl) rfl
theorem lk_D_62 : Cond.fieldLink "CutDesk" 62 "CutDesk" "room" "I" ∈ tb := tb_in 14 (by rfl) rfl
theorem lk_D_65 : Cond.methodLink "CutDesk" 65 y_D_priceBasis ∈ tb := tb_in 115 (by rfl) rfl
theorem lk_D_69 : Cond.methodLink "CutDesk" 69 y_D_sound ∈ tb := tb_in 131 (by rfl) rfl
theorem lk_D_72 : Cond.methodLink "CutDesk" 72 y_D_mostValuable ∈ tb := tb_in 135 (by rfl) rfl
theorem lk_D_76 : Cond.fieldLink "CutDesk" 76 "CutDesk" "priceDivisor" "J" ∈ tb := tb_in 20 (by rfl) rfl
theorem lk_D_80 : Cond.methodLink "CutDesk" 80 y_D_pivot ∈ tb := tb_in 139 (by rfl) rfl
theorem lk_D_83 : Cond.methodLink "CutDesk" 83 y_D_reduce ∈ tb := tb_in 119 (by rfl) rfl
theorem lk_D_86 : Cond.fieldLink "CutDesk" 86 "CutDesk" "divisor" "J" ∈ tb := tb_in 18 (by rfl) rfl
theorem lk_D_89 : Cond.methodLink "CutDesk" 89 y_D_swapRows ∈ tb := tb_in 123 (by rfl) rfl
theorem lk_D_93 : Cond.methodLink "CutDesk" 93 y_D_combine ∈ tb := tb_in 127 (by rfl) rfl
theorem lk_D_97 : Cond.methodLink "CutDesk" 97 y_D_findPrices ∈ tb := tb_in 111 (by rfl) rfl
theorem lk_D_100 : Cond.methodLink "CutDesk" 100 y_D_byFallingWidths ∈ tb := tb_in 143 (by rfl) rfl
theorem lk_D_104 : Cond.fieldLink "CutDesk" 104 "CutDesk" "best" "I" ∈ tb := tb_in 29 (by rfl) rfl
theorem lk_D_107 : Cond.methodLink "CutDesk" 107 y_D_boundAt ∈ tb := tb_in 159 (by rfl) rfl
theorem lk_D_111 : Cond.methodLink "CutDesk" 111 y_D_search ∈ tb := tb_in 163 (by rfl) rfl
theorem lk_D_115 : Cond.methodLink "CutDesk" 115 y_D_served ∈ tb := tb_in 147 (by rfl) rfl
theorem lk_D_118 : Cond.methodLink "CutDesk" 118 y_D_fillWidest ∈ tb := tb_in 151 (by rfl) rfl
theorem lk_D_121 : Cond.methodLink "CutDesk" 121 y_D_takeOff ∈ tb := tb_in 155 (by rfl) rfl
theorem lk_D_124 : Cond.constant "CutDesk" 124 (134217728 : Int32) ∈ tb := tb_in 167 (by rfl) rfl
theorem lk_D_125 : Cond.methodLink "CutDesk" 125 y_D_nextPattern ∈ tb := tb_in 168 (by rfl) rfl
theorem lk_D_128 : Cond.methodLink "CutDesk" 128 y_D_firstPattern ∈ tb := tb_in 172 (by rfl) rfl
theorem lk_D_131 : Cond.methodLink "CutDesk" 131 y_D_widest ∈ tb := tb_in 176 (by rfl) rfl
theorem lk_D_134 : Cond.methodLink "CutDesk" 134 y_D_fillFrom ∈ tb := tb_in 180 (by rfl) rfl
theorem lk_D_137 : Cond.methodLink "CutDesk" 137 y_D_askPlainly ∈ tb := tb_in 103 (by rfl) rfl
theorem lk_D_140 : Cond.methodLink "CutDesk" 140 y_D_solve ∈ tb := tb_in 107 (by rfl) rfl
theorem lk_D_143 : Cond.methodLink "CutDesk" 143 y_D_least ∈ tb := tb_in 196 (by rfl) rfl
theorem lk_D_146 : Cond.methodLink "CutDesk" 146 y_D_leastWith ∈ tb := tb_in 197 (by rfl) rfl
theorem lk_D_150 : Cond.methodLink "CutDesk" 150 y_D_fits ∈ tb := tb_in 206 (by rfl) rfl
theorem lk_D_153 : Cond.methodLink "CutDesk" 153 y_D_leavesOneLess ∈ tb := tb_in 207 (by rfl) rfl
theorem lk_L_7 : Cond.classLink "CutDeskLaw" 7 "CutDesk" ∈ tb := tb_in 3 (by rfl) rfl
theorem lk_L_9 : Cond.methodLink "CutDeskLaw" 9 y_L_cell ∈ tb := tb_in 215 (by rfl) rfl
theorem lk_L_15 : Cond.methodLink "CutDeskLaw" 15 y_D_init ∈ tb := tb_in 5 (by rfl) rfl
theorem lk_L_18 : Cond.classLink "CutDeskLaw" 18 "CutDeskModel" ∈ tb := tb_in 218 (by rfl) rfl
theorem lk_L_20 : Cond.methodLink "CutDeskLaw" 20 y_M_init ∈ tb := tb_in 220 (by rfl) rfl
theorem lk_L_21 : Cond.methodLink "CutDeskLaw" 21 y_D_setWidth ∈ tb := tb_in 72 (by rfl) rfl
theorem lk_L_25 : Cond.methodLink "CutDeskLaw" 25 y_M_setWidth ∈ tb := tb_in 238 (by rfl) rfl
theorem lk_L_26 : Cond.methodLink "CutDeskLaw" 26 y_D_order ∈ tb := tb_in 79 (by rfl) rfl
theorem lk_L_29 : Cond.methodLink "CutDeskLaw" 29 y_M_order ∈ tb := tb_in 246 (by rfl) rfl
theorem lk_L_30 : Cond.methodLink "CutDeskLaw" 30 y_D_setRoll ∈ tb := tb_in 83 (by rfl) rfl
theorem lk_L_34 : Cond.methodLink "CutDeskLaw" 34 y_M_setRoll ∈ tb := tb_in 250 (by rfl) rfl
theorem lk_L_35 : Cond.methodLink "CutDeskLaw" 35 y_D_roll ∈ tb := tb_in 87 (by rfl) rfl
theorem lk_L_39 : Cond.methodLink "CutDeskLaw" 39 y_M_roll ∈ tb := tb_in 254 (by rfl) rfl
theorem lk_L_40 : Cond.methodLink "CutDeskLaw" 40 y_D_width ∈ tb := tb_in 91 (by rfl) rfl
theorem lk_L_44 : Cond.methodLink "CutDeskLaw" 44 y_M_width ∈ tb := tb_in 258 (by rfl) rfl
theorem lk_L_45 : Cond.methodLink "CutDeskLaw" 45 y_D_ordered ∈ tb := tb_in 95 (by rfl) rfl
theorem lk_L_48 : Cond.methodLink "CutDeskLaw" 48 y_M_ordered ∈ tb := tb_in 262 (by rfl) rfl
theorem lk_L_49 : Cond.methodLink "CutDeskLaw" 49 y_D_least ∈ tb := tb_in 99 (by rfl) rfl
theorem lk_L_52 : Cond.methodLink "CutDeskLaw" 52 y_M_least ∈ tb := tb_in 266 (by rfl) rfl
theorem lk_L_53 : Cond.methodLink "CutDeskLaw" 53 y_D_leastWith ∈ tb := tb_in 184 (by rfl) rfl
theorem lk_L_57 : Cond.methodLink "CutDeskLaw" 57 y_M_leastWith ∈ tb := tb_in 294 (by rfl) rfl
theorem lk_L_58 : Cond.methodLink "CutDeskLaw" 58 y_D_leastFor ∈ tb := tb_in 188 (by rfl) rfl
theorem lk_L_61 : Cond.methodLink "CutDeskLaw" 61 y_M_leastFor ∈ tb := tb_in 299 (by rfl) rfl
theorem lk_L_62 : Cond.methodLink "CutDeskLaw" 62 y_D_freeOrder ∈ tb := tb_in 192 (by rfl) rfl
theorem lk_L_65 : Cond.methodLink "CutDeskLaw" 65 y_M_freeOrder ∈ tb := tb_in 303 (by rfl) rfl
theorem lk_L_66 : Cond.methodLink "CutDeskLaw" 66 y_D_fits ∈ tb := tb_in 198 (by rfl) rfl
theorem lk_L_69 : Cond.methodLink "CutDeskLaw" 69 y_M_fits ∈ tb := tb_in 308 (by rfl) rfl
theorem lk_L_70 : Cond.methodLink "CutDeskLaw" 70 y_D_couldUse ∈ tb := tb_in 202 (by rfl) rfl
theorem lk_L_73 : Cond.methodLink "CutDeskLaw" 73 y_M_couldUse ∈ tb := tb_in 312 (by rfl) rfl
theorem lk_L_74 : Cond.methodLink "CutDeskLaw" 74 y_D_greatestUse ∈ tb := tb_in 211 (by rfl) rfl
theorem lk_L_77 : Cond.methodLink "CutDeskLaw" 77 y_M_greatestUse ∈ tb := tb_in 317 (by rfl) rfl
theorem lk_M_1 : Cond.methodLink "CutDeskModel" 1 Lib.objectInit ∈ tb := tb_in 223 (by rfl) rfl
theorem lk_M_7 : Cond.fieldLink "CutDeskModel" 7 "CutDeskModel" "wide" "[I" ∈ tb := tb_in 225 (by rfl) rfl
theorem lk_M_13 : Cond.fieldLink "CutDeskModel" 13 "CutDeskModel" "wanted" "[I" ∈ tb := tb_in 226 (by rfl) rfl
theorem lk_M_16 : Cond.fieldLink "CutDeskModel" 16 "CutDeskModel" "need" "[I" ∈ tb := tb_in 227 (by rfl) rfl
theorem lk_M_19 : Cond.fieldLink "CutDeskModel" 19 "CutDeskModel" "room" "I" ∈ tb := tb_in 224 (by rfl) rfl
theorem lk_M_23 : Cond.methodLink "CutDeskModel" 23 y_M_kind ∈ tb := tb_in 242 (by rfl) rfl
theorem lk_M_27 : Cond.methodLink "CutDeskModel" 27 y_M_part ∈ tb := tb_in 286 (by rfl) rfl
theorem lk_M_31 : Cond.methodLink "CutDeskModel" 31 y_M_after ∈ tb := tb_in 282 (by rfl) rfl
theorem lk_M_34 : Cond.methodLink "CutDeskModel" 34 y_M_within ∈ tb := tb_in 278 (by rfl) rfl
theorem lk_M_38 : Cond.methodLink "CutDeskModel" 38 y_M_length ∈ tb := tb_in 290 (by rfl) rfl
theorem lk_M_42 : Cond.methodLink "CutDeskModel" 42 y_M_whole ∈ tb := tb_in 270 (by rfl) rfl
theorem lk_M_46 : Cond.methodLink "CutDeskModel" 46 y_M_work ∈ tb := tb_in 274 (by rfl) rfl
theorem lk_M_50 : Cond.methodLink "CutDeskModel" 50 y_M_least ∈ tb := tb_in 298 (by rfl) rfl
theorem lk_M_53 : Cond.methodLink "CutDeskModel" 53 y_M_leastWith ∈ tb := tb_in 307 (by rfl) rfl
theorem lk_M_56 : Cond.methodLink "CutDeskModel" 56 y_M_fits ∈ tb := tb_in 316 (by rfl) rfl
theorem it_D : Cond.instantiable "CutDesk" 19 ∈ tb := tb_in 4 (by rfl) rfl
theorem ac_byte : Cond.arrayClass .byte ∈ tb := tb_in 69 (by rfl) rfl
theorem ac_long : Cond.arrayClass .long ∈ tb := tb_in 70 (by rfl) rfl
theorem ac_boolean : Cond.arrayClass .boolean ∈ tb := tb_in 71 (by rfl) rfl
theorem it_M : Cond.instantiable "CutDeskModel" 4 ∈ tb := tb_in 219 (by rfl) rfl
theorem ac_int : Cond.arrayClass .int ∈ tb := tb_in 237 (by rfl) rfl
theorem im_O : Cond.instanceMethod Lib.objectInit ∈ tb := tb_in 9 (by rfl) rfl
theorem k_O : Cond.code Lib.objectInit object_method_1_code 1 none ∈ tb := tb_in 10 (by rfl) rfl
end
section
theorem d_D_askPlainly_0 : decode b_D_askPlainly 0 = .ok (.aload_n 0, 1) := by decide +kernel
theorem d_D_askPlainly_1 : decode b_D_askPlainly 1 = .ok (.aload_n 0, 1) := by decide +kernel
theorem d_D_askPlainly_2 : decode b_D_askPlainly 2 = .ok (.getfield 54, 3) := by decide +kernel
theorem d_D_askPlainly_5 : decode b_D_askPlainly 5 = .ok (.putfield 62, 3) := by decide +kernel
theorem d_D_askPlainly_8 : decode b_D_askPlainly 8 = .ok (.iconst 0, 1) := by decide +kernel
theorem d_D_askPlainly_9 : decode b_D_askPlainly 9 = .ok (.istore_n 1, 1) := by decide +kernel
theorem d_D_askPlainly_10 : decode b_D_askPlainly 10 = .ok (.iload_n 1, 1) := by decide +kernel
theorem d_D_askPlainly_11 : decode b_D_askPlainly 11 = .ok (.iconst 4, 1) := by decide +kernel
theorem d_D_askPlainly_12 : decode b_D_askPlainly 12 = .ok (.if_icmp .ge 21, 3) := by decide +kernel
theorem d_D_askPlainly_15 : decode b_D_askPlainly 15 = .ok (.aload_n 0, 1) := by decide +kernel
theorem d_D_askPlainly_16 : decode b_D_askPlainly 16 = .ok (.getfield 16, 3) := by decide +kernel
theorem d_D_askPlainly_19 : decode b_D_askPlainly 19 = .ok (.iload_n 1, 1) := by decide +kernel
theorem d_D_askPlainly_20 : decode b_D_askPlainly 20 = .ok (.aload_n 0, 1) := by decide +kernel
theorem d_D_askPlainly_21 : decode b_D_askPlainly 21 = .ok (.getfield 13, 3) := by decide +kernel
theorem d_D_askPlainly_24 : decode b_D_askPlainly 24 = .ok (.iload_n 1, 1) := by decide +kernel
theorem d_D_askPlainly_25 : decode b_D_askPlainly 25 = .ok (.baload, 1) := by decide +kernel
theorem d_D_askPlainly_26 : decode b_D_askPlainly 26 = .ok (.bastore, 1) := by decide +kernel
theorem d_D_askPlainly_27 : decode b_D_askPlainly 27 = .ok (.iinc 1 1, 3) := by decide +kernel
theorem d_D_askPlainly_30 : decode b_D_askPlainly 30 = .ok (.goto (-20), 3) := by decide +kernel
theorem d_D_askPlainly_33 : decode b_D_askPlainly 33 = .ok (.return_, 1) := by decide +kernel
theorem d_D_boundAt_0 : decode b_D_boundAt 0 = .ok (.lconst 0, 1) := by decide +kernel
theorem d_D_boundAt_1 : decode b_D_boundAt 1 = .ok (.lstore_n 2, 1) := by decide +kernel
theorem d_D_boundAt_2 : decode b_D_boundAt 2 = .ok (.iconst 0, 1) := by decide +kernel
theorem d_D_boundAt_3 : decode b_D_boundAt 3 = .ok (.istore 4, 2) := by decide +kernel
theorem d_D_boundAt_5 : decode b_D_boundAt 5 = .ok (.iload 4, 2) := by decide +kernel
theorem d_D_boundAt_7 : decode b_D_boundAt 7 = .ok (.iconst 4, 1) := by decide +kernel
theorem d_D_boundAt_8 : decode b_D_boundAt 8 = .ok (.if_icmp .ge 32, 3) := by decide +kernel
theorem d_D_boundAt_11 : decode b_D_boundAt 11 = .ok (.lload_n 2, 1) := by decide +kernel
theorem d_D_boundAt_12 : decode b_D_boundAt 12 = .ok (.aload_n 0, 1) := by decide +kernel
theorem d_D_boundAt_13 : decode b_D_boundAt 13 = .ok (.getfield 26, 3) := by decide +kernel
theorem d_D_boundAt_16 : decode b_D_boundAt 16 = .ok (.iload 4, 2) := by decide +kernel
theorem d_D_boundAt_18 : decode b_D_boundAt 18 = .ok (.laload, 1) := by decide +kernel
theorem d_D_boundAt_19 : decode b_D_boundAt 19 = .ok (.aload_n 0, 1) := by decide +kernel
theorem d_D_boundAt_20 : decode b_D_boundAt 20 = .ok (.getfield 44, 3) := by decide +kernel
theorem d_D_boundAt_23 : decode b_D_boundAt 23 = .ok (.iload_n 1, 1) := by decide +kernel
theorem d_D_boundAt_24 : decode b_D_boundAt 24 = .ok (.iconst 4, 1) := by decide +kernel
theorem d_D_boundAt_25 : decode b_D_boundAt 25 = .ok (.imul, 1) := by decide +kernel
theorem d_D_boundAt_26 : decode b_D_boundAt 26 = .ok (.iload 4, 2) := by decide +kernel
theorem d_D_boundAt_28 : decode b_D_boundAt 28 = .ok (.iadd, 1) := by decide +kernel
theorem d_D_boundAt_29 : decode b_D_boundAt 29 = .ok (.baload, 1) := by decide +kernel
theorem d_D_boundAt_30 : decode b_D_boundAt 30 = .ok (.i2l, 1) := by decide +kernel
theorem d_D_boundAt_31 : decode b_D_boundAt 31 = .ok (.lmul, 1) := by decide +kernel
theorem d_D_boundAt_32 : decode b_D_boundAt 32 = .ok (.ladd, 1) := by decide +kernel
theorem d_D_boundAt_33 : decode b_D_boundAt 33 = .ok (.lstore_n 2, 1) := by decide +kernel
theorem d_D_boundAt_34 : decode b_D_boundAt 34 = .ok (.iinc 4 1, 3) := by decide +kernel
theorem d_D_boundAt_37 : decode b_D_boundAt 37 = .ok (.goto (-32), 3) := by decide +kernel
theorem d_D_boundAt_40 : decode b_D_boundAt 40 = .ok (.aload_n 0, 1) := by decide +kernel
theorem d_D_boundAt_41 : decode b_D_boundAt 41 = .ok (.getfield 76, 3) := by decide +kernel
theorem d_D_boundAt_44 : decode b_D_boundAt 44 = .ok (.lconst 0, 1) := by decide +kernel
theorem d_D_boundAt_45 : decode b_D_boundAt 45 = .ok (.lcmp, 1) := by decide +kernel
theorem d_D_boundAt_46 : decode b_D_boundAt 46 = .ok (.ifCond .le 10, 3) := by decide +kernel
theorem d_D_boundAt_49 : decode b_D_boundAt 49 = .ok (.aload_n 0, 1) := by decide +kernel
theorem d_D_boundAt_50 : decode b_D_boundAt 50 = .ok (.getfield 76, 3) := by decide +kernel
theorem d_D_boundAt_53 : decode b_D_boundAt 53 = .ok (.goto 4, 3) := by decide +kernel
theorem d_D_boundAt_56 : decode b_D_boundAt 56 = .ok (.lconst 1, 1) := by decide +kernel
theorem d_D_boundAt_57 : decode b_D_boundAt 57 = .ok (.lstore 4, 2) := by decide +kernel
theorem d_D_boundAt_59 : decode b_D_boundAt 59 = .ok (.lload_n 2, 1) := by decide +kernel
theorem d_D_boundAt_60 : decode b_D_boundAt 60 = .ok (.lload 4, 2) := by decide +kernel
theorem d_D_boundAt_62 : decode b_D_boundAt 62 = .ok (.ladd, 1) := by decide +kernel
theorem d_D_boundAt_63 : decode b_D_boundAt 63 = .ok (.lconst 1, 1) := by decide +kernel
theorem d_D_boundAt_64 : decode b_D_boundAt 64 = .ok (.lsub, 1) := by decide +kernel
theorem d_D_boundAt_65 : decode b_D_boundAt 65 = .ok (.lload 4, 2) := by decide +kernel
theorem d_D_boundAt_67 : decode b_D_boundAt 67 = .ok (.ldiv, 1) := by decide +kernel
theorem d_D_boundAt_68 : decode b_D_boundAt 68 = .ok (.l2i, 1) := by decide +kernel
theorem d_D_boundAt_69 : decode b_D_boundAt 69 = .ok (.ireturn, 1) := by decide +kernel
theorem d_D_byFallingWidths_0 : decode b_D_byFallingWidths 0 = .ok (.iconst 0, 1) := by decide +kernel
theorem d_D_byFallingWidths_1 : decode b_D_byFallingWidths 1 = .ok (.istore_n 1, 1) := by decide +kernel
theorem d_D_byFallingWidths_2 : decode b_D_byFallingWidths 2 = .ok (.iconst 0, 1) := by decide +kernel
theorem d_D_byFallingWidths_3 : decode b_D_byFallingWidths 3 = .ok (.istore_n 2, 1) := by decide +kernel
theorem d_D_byFallingWidths_4 : decode b_D_byFallingWidths 4 = .ok (.iload_n 2, 1) := by decide +kernel
theorem d_D_byFallingWidths_5 : decode b_D_byFallingWidths 5 = .ok (.bipush 12, 2) := by decide +kernel
theorem d_D_byFallingWidths_7 : decode b_D_byFallingWidths 7 = .ok (.if_icmp .ge 30, 3) := by decide +kernel
theorem d_D_byFallingWidths_10 : decode b_D_byFallingWidths 10 = .ok (.aload_n 0, 1) := by decide +kernel
theorem d_D_byFallingWidths_11 : decode b_D_byFallingWidths 11 = .ok (.iload_n 2, 1) := by decide +kernel
theorem d_D_byFallingWidths_12 : decode b_D_byFallingWidths 12 = .ok (.invokevirtual 115, 3) := by decide +kernel
theorem d_D_byFallingWidths_15 : decode b_D_byFallingWidths 15 = .ok (.ifCond .ne 22, 3) := by decide +kernel
theorem d_D_byFallingWidths_18 : decode b_D_byFallingWidths 18 = .ok (.aload_n 0, 1) := by decide +kernel
theorem d_D_byFallingWidths_19 : decode b_D_byFallingWidths 19 = .ok (.iload_n 2, 1) := by decide +kernel
theorem d_D_byFallingWidths_20 : decode b_D_byFallingWidths 20 = .ok (.invokevirtual 118, 3) := by decide +kernel
theorem d_D_byFallingWidths_23 : decode b_D_byFallingWidths 23 = .ok (.aload_n 0, 1) := by decide +kernel
theorem d_D_byFallingWidths_24 : decode b_D_byFallingWidths 24 = .ok (.iload_n 2, 1) := by decide +kernel
theorem d_D_byFallingWidths_25 : decode b_D_byFallingWidths 25 = .ok (.invokevirtual 121, 3) := by decide +kernel
theorem d_D_byFallingWidths_28 : decode b_D_byFallingWidths 28 = .ok (.iinc 1 1, 3) := by decide +kernel
theorem d_D_byFallingWidths_31 : decode b_D_byFallingWidths 31 = .ok (.iinc 2 1, 3) := by decide +kernel
theorem d_D_byFallingWidths_34 : decode b_D_byFallingWidths 34 = .ok (.goto (-30), 3) := by decide +kernel
theorem d_D_byFallingWidths_37 : decode b_D_byFallingWidths 37 = .ok (.iload_n 1, 1) := by decide +kernel
theorem d_D_byFallingWidths_38 : decode b_D_byFallingWidths 38 = .ok (.ireturn, 1) := by decide +kernel
theorem d_D_combine_0 : decode b_D_combine 0 = .ok (.aload_n 0, 1) := by decide +kernel
theorem d_D_combine_1 : decode b_D_combine 1 = .ok (.getfield 22, 3) := by decide +kernel
theorem d_D_combine_4 : decode b_D_combine 4 = .ok (.iload_n 1, 1) := by decide +kernel
theorem d_D_combine_5 : decode b_D_combine 5 = .ok (.bipush 6, 2) := by decide +kernel
theorem d_D_combine_7 : decode b_D_combine 7 = .ok (.imul, 1) := by decide +kernel
theorem d_D_combine_8 : decode b_D_combine 8 = .ok (.iload_n 2, 1) := by decide +kernel
theorem d_D_combine_9 : decode b_D_combine 9 = .ok (.iadd, 1) := by decide +kernel
theorem d_D_combine_10 : decode b_D_combine 10 = .ok (.laload, 1) := by decide +kernel
theorem d_D_combine_11 : decode b_D_combine 11 = .ok (.lstore 7, 2) := by decide +kernel
theorem d_D_combine_13 : decode b_D_combine 13 = .ok (.iconst 0, 1) := by decide +kernel
theorem d_D_combine_14 : decode b_D_combine 14 = .ok (.istore 9, 2) := by decide +kernel
theorem d_D_combine_16 : decode b_D_combine 16 = .ok (.iload 9, 2) := by decide +kernel
theorem d_D_combine_18 : decode b_D_combine 18 = .ok (.bipush 6, 2) := by decide +kernel
theorem d_D_combine_20 : decode b_D_combine 20 = .ok (.if_icmp .ge 70, 3) := by decide +kernel
theorem d_D_combine_23 : decode b_D_combine 23 = .ok (.aload_n 0, 1) := by decide +kernel
theorem d_D_combine_24 : decode b_D_combine 24 = .ok (.getfield 22, 3) := by decide +kernel
theorem d_D_combine_27 : decode b_D_combine 27 = .ok (.iload_n 1, 1) := by decide +kernel
theorem d_D_combine_28 : decode b_D_combine 28 = .ok (.bipush 6, 2) := by decide +kernel
theorem d_D_combine_30 : decode b_D_combine 30 = .ok (.imul, 1) := by decide +kernel
theorem d_D_combine_31 : decode b_D_combine 31 = .ok (.iload 9, 2) := by decide +kernel
theorem d_D_combine_33 : decode b_D_combine 33 = .ok (.iadd, 1) := by decide +kernel
theorem d_D_combine_34 : decode b_D_combine 34 = .ok (.laload, 1) := by decide +kernel
theorem d_D_combine_35 : decode b_D_combine 35 = .ok (.lload_n 3, 1) := by decide +kernel
theorem d_D_combine_36 : decode b_D_combine 36 = .ok (.lmul, 1) := by decide +kernel
theorem d_D_combine_37 : decode b_D_combine 37 = .ok (.lload 7, 2) := by decide +kernel
theorem d_D_combine_39 : decode b_D_combine 39 = .ok (.aload_n 0, 1) := by decide +kernel
theorem d_D_combine_40 : decode b_D_combine 40 = .ok (.getfield 22, 3) := by decide +kernel
theorem d_D_combine_43 : decode b_D_combine 43 = .ok (.iload_n 2, 1) := by decide +kernel
theorem d_D_combine_44 : decode b_D_combine 44 = .ok (.bipush 6, 2) := by decide +kernel
theorem d_D_combine_46 : decode b_D_combine 46 = .ok (.imul, 1) := by decide +kernel
theorem d_D_combine_47 : decode b_D_combine 47 = .ok (.iload 9, 2) := by decide +kernel
theorem d_D_combine_49 : decode b_D_combine 49 = .ok (.iadd, 1) := by decide +kernel
theorem d_D_combine_50 : decode b_D_combine 50 = .ok (.laload, 1) := by decide +kernel
theorem d_D_combine_51 : decode b_D_combine 51 = .ok (.lmul, 1) := by decide +kernel
theorem d_D_combine_52 : decode b_D_combine 52 = .ok (.lsub, 1) := by decide +kernel
theorem d_D_combine_53 : decode b_D_combine 53 = .ok (.lstore 10, 2) := by decide +kernel
theorem d_D_combine_55 : decode b_D_combine 55 = .ok (.aload_n 0, 1) := by decide +kernel
theorem d_D_combine_56 : decode b_D_combine 56 = .ok (.getfield 22, 3) := by decide +kernel
theorem d_D_combine_59 : decode b_D_combine 59 = .ok (.iload_n 1, 1) := by decide +kernel
theorem d_D_combine_60 : decode b_D_combine 60 = .ok (.bipush 6, 2) := by decide +kernel
theorem d_D_combine_62 : decode b_D_combine 62 = .ok (.imul, 1) := by decide +kernel
theorem d_D_combine_63 : decode b_D_combine 63 = .ok (.iload 9, 2) := by decide +kernel
theorem d_D_combine_65 : decode b_D_combine 65 = .ok (.iadd, 1) := by decide +kernel
theorem d_D_combine_66 : decode b_D_combine 66 = .ok (.lload 5, 2) := by decide +kernel
theorem d_D_combine_68 : decode b_D_combine 68 = .ok (.lconst 0, 1) := by decide +kernel
theorem d_D_combine_69 : decode b_D_combine 69 = .ok (.lcmp, 1) := by decide +kernel
theorem d_D_combine_70 : decode b_D_combine 70 = .ok (.ifCond .eq 11, 3) := by decide +kernel
theorem d_D_combine_73 : decode b_D_combine 73 = .ok (.lload 10, 2) := by decide +kernel
theorem d_D_combine_75 : decode b_D_combine 75 = .ok (.lload 5, 2) := by decide +kernel
theorem d_D_combine_77 : decode b_D_combine 77 = .ok (.ldiv, 1) := by decide +kernel
theorem d_D_combine_78 : decode b_D_combine 78 = .ok (.goto 5, 3) := by decide +kernel
theorem d_D_combine_81 : decode b_D_combine 81 = .ok (.lload 10, 2) := by decide +kernel
theorem d_D_combine_83 : decode b_D_combine 83 = .ok (.lastore, 1) := by decide +kernel
theorem d_D_combine_84 : decode b_D_combine 84 = .ok (.iinc 9 1, 3) := by decide +kernel
theorem d_D_combine_87 : decode b_D_combine 87 = .ok (.goto (-71), 3) := by decide +kernel
theorem d_D_combine_90 : decode b_D_combine 90 = .ok (.return_, 1) := by decide +kernel
theorem d_D_couldUse_0 : decode b_D_couldUse 0 = .ok (.aload_n 0, 1) := by decide +kernel
theorem d_D_couldUse_1 : decode b_D_couldUse 1 = .ok (.iload_n 1, 1) := by decide +kernel
theorem d_D_couldUse_2 : decode b_D_couldUse 2 = .ok (.invokevirtual 150, 3) := by decide +kernel
theorem d_D_couldUse_5 : decode b_D_couldUse 5 = .ok (.ifCond .ne 5, 3) := by decide +kernel
theorem d_D_couldUse_8 : decode b_D_couldUse 8 = .ok (.iconst 0, 1) := by decide +kernel
theorem d_D_couldUse_9 : decode b_D_couldUse 9 = .ok (.ireturn, 1) := by decide +kernel
theorem d_D_couldUse_10 : decode b_D_couldUse 10 = .ok (.aload_n 0, 1) := by decide +kernel
theorem d_D_couldUse_11 : decode b_D_couldUse 11 = .ok (.invokevirtual 143, 3) := by decide +kernel
theorem d_D_couldUse_14 : decode b_D_couldUse 14 = .ok (.istore_n 2, 1) := by decide +kernel
theorem d_D_couldUse_15 : decode b_D_couldUse 15 = .ok (.iload_n 2, 1) := by decide +kernel
theorem d_D_couldUse_16 : decode b_D_couldUse 16 = .ok (.ifCond .le 16, 3) := by decide +kernel
theorem d_D_couldUse_19 : decode b_D_couldUse 19 = .ok (.aload_n 0, 1) := by decide +kernel
theorem d_D_couldUse_20 : decode b_D_couldUse 20 = .ok (.iload_n 1, 1) := by decide +kernel
theorem d_D_couldUse_21 : decode b_D_couldUse 21 = .ok (.iload_n 2, 1) := by decide +kernel
theorem d_D_couldUse_22 : decode b_D_couldUse 22 = .ok (.invokevirtual 153, 3) := by decide +kernel
theorem d_D_couldUse_25 : decode b_D_couldUse 25 = .ok (.ifCond .eq 7, 3) := by decide +kernel
theorem d_D_couldUse_28 : decode b_D_couldUse 28 = .ok (.iconst 1, 1) := by decide +kernel
theorem d_D_couldUse_29 : decode b_D_couldUse 29 = .ok (.goto 4, 3) := by decide +kernel
theorem d_D_couldUse_32 : decode b_D_couldUse 32 = .ok (.iconst 0, 1) := by decide +kernel
theorem d_D_couldUse_33 : decode b_D_couldUse 33 = .ok (.ireturn, 1) := by decide +kernel
theorem d_D_fillFrom_0 : decode b_D_fillFrom 0 = .ok (.aload_n 0, 1) := by decide +kernel
theorem d_D_fillFrom_1 : decode b_D_fillFrom 1 = .ok (.iload_n 1, 1) := by decide +kernel
theorem d_D_fillFrom_2 : decode b_D_fillFrom 2 = .ok (.invokevirtual 131, 3) := by decide +kernel
theorem d_D_fillFrom_5 : decode b_D_fillFrom 5 = .ok (.istore_n 3, 1) := by decide +kernel
theorem d_D_fillFrom_6 : decode b_D_fillFrom 6 = .ok (.aload_n 0, 1) := by decide +kernel
theorem d_D_fillFrom_7 : decode b_D_fillFrom 7 = .ok (.getfield 62, 3) := by decide +kernel
theorem d_D_fillFrom_10 : decode b_D_fillFrom 10 = .ok (.istore 4, 2) := by decide +kernel
theorem d_D_fillFrom_12 : decode b_D_fillFrom 12 = .ok (.iconst 0, 1) := by decide +kernel
theorem d_D_fillFrom_13 : decode b_D_fillFrom 13 = .ok (.istore 5, 2) := by decide +kernel
theorem d_D_fillFrom_15 : decode b_D_fillFrom 15 = .ok (.iload 5, 2) := by decide +kernel
theorem d_D_fillFrom_17 : decode b_D_fillFrom 17 = .ok (.iload_n 2, 1) := by decide +kernel
theorem d_D_fillFrom_18 : decode b_D_fillFrom 18 = .ok (.if_icmp .ge 33, 3) := by decide +kernel
theorem d_D_fillFrom_21 : decode b_D_fillFrom 21 = .ok (.iload 4, 2) := by decide +kernel
theorem d_D_fillFrom_23 : decode b_D_fillFrom 23 = .ok (.aload_n 0, 1) := by decide +kernel
theorem d_D_fillFrom_24 : decode b_D_fillFrom 24 = .ok (.getfield 47, 3) := by decide +kernel
theorem d_D_fillFrom_27 : decode b_D_fillFrom 27 = .ok (.iload_n 1, 1) := by decide +kernel
theorem d_D_fillFrom_28 : decode b_D_fillFrom 28 = .ok (.iconst 4, 1) := by decide +kernel
theorem d_D_fillFrom_29 : decode b_D_fillFrom 29 = .ok (.imul, 1) := by decide +kernel
theorem d_D_fillFrom_30 : decode b_D_fillFrom 30 = .ok (.iload 5, 2) := by decide +kernel
theorem d_D_fillFrom_32 : decode b_D_fillFrom 32 = .ok (.iadd, 1) := by decide +kernel
theorem d_D_fillFrom_33 : decode b_D_fillFrom 33 = .ok (.baload, 1) := by decide +kernel
theorem d_D_fillFrom_34 : decode b_D_fillFrom 34 = .ok (.aload_n 0, 1) := by decide +kernel
theorem d_D_fillFrom_35 : decode b_D_fillFrom 35 = .ok (.getfield 7, 3) := by decide +kernel
theorem d_D_fillFrom_38 : decode b_D_fillFrom 38 = .ok (.iload 5, 2) := by decide +kernel
theorem d_D_fillFrom_40 : decode b_D_fillFrom 40 = .ok (.baload, 1) := by decide +kernel
theorem d_D_fillFrom_41 : decode b_D_fillFrom 41 = .ok (.imul, 1) := by decide +kernel
theorem d_D_fillFrom_42 : decode b_D_fillFrom 42 = .ok (.isub, 1) := by decide +kernel
theorem d_D_fillFrom_43 : decode b_D_fillFrom 43 = .ok (.istore 4, 2) := by decide +kernel
theorem d_D_fillFrom_45 : decode b_D_fillFrom 45 = .ok (.iinc 5 1, 3) := by decide +kernel
theorem d_D_fillFrom_48 : decode b_D_fillFrom 48 = .ok (.goto (-33), 3) := by decide +kernel
theorem d_D_fillFrom_51 : decode b_D_fillFrom 51 = .ok (.iload_n 2, 1) := by decide +kernel
theorem d_D_fillFrom_52 : decode b_D_fillFrom 52 = .ok (.istore 5, 2) := by decide +kernel
theorem d_D_fillFrom_54 : decode b_D_fillFrom 54 = .ok (.iload 5, 2) := by decide +kernel
theorem d_D_fillFrom_56 : decode b_D_fillFrom 56 = .ok (.iconst 4, 1) := by decide +kernel
theorem d_D_fillFrom_57 : decode b_D_fillFrom 57 = .ok (.if_icmp .ge 137, 3) := by decide +kernel
theorem d_D_fillFrom_60 : decode b_D_fillFrom 60 = .ok (.iload_n 3, 1) := by decide +kernel
theorem d_D_fillFrom_61 : decode b_D_fillFrom 61 = .ok (.iload 5, 2) := by decide +kernel
theorem d_D_fillFrom_63 : decode b_D_fillFrom 63 = .ok (.if_icmp .le 12, 3) := by decide +kernel
theorem d_D_fillFrom_66 : decode b_D_fillFrom 66 = .ok (.aload_n 0, 1) := by decide +kernel
theorem d_D_fillFrom_67 : decode b_D_fillFrom 67 = .ok (.getfield 7, 3) := by decide +kernel
theorem d_D_fillFrom_70 : decode b_D_fillFrom 70 = .ok (.iload_n 3, 1) := by decide +kernel
theorem d_D_fillFrom_71 : decode b_D_fillFrom 71 = .ok (.baload, 1) := by decide +kernel
theorem d_D_fillFrom_72 : decode b_D_fillFrom 72 = .ok (.goto 4, 3) := by decide +kernel
theorem d_D_fillFrom_75 : decode b_D_fillFrom 75 = .ok (.iconst 0, 1) := by decide +kernel
theorem d_D_fillFrom_76 : decode b_D_fillFrom 76 = .ok (.istore 6, 2) := by decide +kernel
theorem d_D_fillFrom_78 : decode b_D_fillFrom 78 = .ok (.iload 4, 2) := by decide +kernel
theorem d_D_fillFrom_80 : decode b_D_fillFrom 80 = .ok (.iload 6, 2) := by decide +kernel
theorem d_D_fillFrom_82 : decode b_D_fillFrom 82 = .ok (.isub, 1) := by decide +kernel
theorem d_D_fillFrom_83 : decode b_D_fillFrom 83 = .ok (.aload_n 0, 1) := by decide +kernel
theorem d_D_fillFrom_84 : decode b_D_fillFrom 84 = .ok (.getfield 7, 3) := by decide +kernel
theorem d_D_fillFrom_87 : decode b_D_fillFrom 87 = .ok (.iload 5, 2) := by decide +kernel
theorem d_D_fillFrom_89 : decode b_D_fillFrom 89 = .ok (.baload, 1) := by decide +kernel
theorem d_D_fillFrom_90 : decode b_D_fillFrom 90 = .ok (.ifCond .le 13, 3) := by decide +kernel
theorem d_D_fillFrom_93 : decode b_D_fillFrom 93 = .ok (.aload_n 0, 1) := by decide +kernel
theorem d_D_fillFrom_94 : decode b_D_fillFrom 94 = .ok (.getfield 7, 3) := by decide +kernel
theorem d_D_fillFrom_97 : decode b_D_fillFrom 97 = .ok (.iload 5, 2) := by decide +kernel
theorem d_D_fillFrom_99 : decode b_D_fillFrom 99 = .ok (.baload, 1) := by decide +kernel
theorem d_D_fillFrom_100 : decode b_D_fillFrom 100 = .ok (.goto 4, 3) := by decide +kernel
theorem d_D_fillFrom_103 : decode b_D_fillFrom 103 = .ok (.iconst 1, 1) := by decide +kernel
theorem d_D_fillFrom_104 : decode b_D_fillFrom 104 = .ok (.idiv, 1) := by decide +kernel
theorem d_D_fillFrom_105 : decode b_D_fillFrom 105 = .ok (.istore 7, 2) := by decide +kernel
theorem d_D_fillFrom_107 : decode b_D_fillFrom 107 = .ok (.iload 7, 2) := by decide +kernel
theorem d_D_fillFrom_109 : decode b_D_fillFrom 109 = .ok (.aload_n 0, 1) := by decide +kernel
theorem d_D_fillFrom_110 : decode b_D_fillFrom 110 = .ok (.getfield 44, 3) := by decide +kernel
theorem d_D_fillFrom_113 : decode b_D_fillFrom 113 = .ok (.iload_n 1, 1) := by decide +kernel
theorem d_D_fillFrom_114 : decode b_D_fillFrom 114 = .ok (.iconst 4, 1) := by decide +kernel
theorem d_D_fillFrom_115 : decode b_D_fillFrom 115 = .ok (.imul, 1) := by decide +kernel
theorem d_D_fillFrom_116 : decode b_D_fillFrom 116 = .ok (.iload 5, 2) := by decide +kernel
theorem d_D_fillFrom_118 : decode b_D_fillFrom 118 = .ok (.iadd, 1) := by decide +kernel
theorem d_D_fillFrom_119 : decode b_D_fillFrom 119 = .ok (.baload, 1) := by decide +kernel
theorem d_D_fillFrom_120 : decode b_D_fillFrom 120 = .ok (.if_icmp .ge 8, 3) := by decide +kernel
theorem d_D_fillFrom_123 : decode b_D_fillFrom 123 = .ok (.iload 7, 2) := by decide +kernel
theorem d_D_fillFrom_125 : decode b_D_fillFrom 125 = .ok (.goto 14, 3) := by decide +kernel
theorem d_D_fillFrom_128 : decode b_D_fillFrom 128 = .ok (.aload_n 0, 1) := by decide +kernel
theorem d_D_fillFrom_129 : decode b_D_fillFrom 129 = .ok (.getfield 44, 3) := by decide +kernel
theorem d_D_fillFrom_132 : decode b_D_fillFrom 132 = .ok (.iload_n 1, 1) := by decide +kernel
theorem d_D_fillFrom_133 : decode b_D_fillFrom 133 = .ok (.iconst 4, 1) := by decide +kernel
theorem d_D_fillFrom_134 : decode b_D_fillFrom 134 = .ok (.imul, 1) := by decide +kernel
theorem d_D_fillFrom_135 : decode b_D_fillFrom 135 = .ok (.iload 5, 2) := by decide +kernel
theorem d_D_fillFrom_137 : decode b_D_fillFrom 137 = .ok (.iadd, 1) := by decide +kernel
theorem d_D_fillFrom_138 : decode b_D_fillFrom 138 = .ok (.baload, 1) := by decide +kernel
theorem d_D_fillFrom_139 : decode b_D_fillFrom 139 = .ok (.istore 8, 2) := by decide +kernel
theorem d_D_fillFrom_141 : decode b_D_fillFrom 141 = .ok (.aload_n 0, 1) := by decide +kernel
theorem d_D_fillFrom_142 : decode b_D_fillFrom 142 = .ok (.getfield 47, 3) := by decide +kernel
theorem d_D_fillFrom_145 : decode b_D_fillFrom 145 = .ok (.iload_n 1, 1) := by decide +kernel
theorem d_D_fillFrom_146 : decode b_D_fillFrom 146 = .ok (.iconst 4, 1) := by decide +kernel
theorem d_D_fillFrom_147 : decode b_D_fillFrom 147 = .ok (.imul, 1) := by decide +kernel
theorem d_D_fillFrom_148 : decode b_D_fillFrom 148 = .ok (.iload 5, 2) := by decide +kernel
theorem d_D_fillFrom_150 : decode b_D_fillFrom 150 = .ok (.iadd, 1) := by decide +kernel
theorem d_D_fillFrom_151 : decode b_D_fillFrom 151 = .ok (.iload 8, 2) := by decide +kernel
theorem d_D_fillFrom_153 : decode b_D_fillFrom 153 = .ok (.ifCond .le 8, 3) := by decide +kernel
theorem d_D_fillFrom_156 : decode b_D_fillFrom 156 = .ok (.iload 8, 2) := by decide +kernel
theorem d_D_fillFrom_158 : decode b_D_fillFrom 158 = .ok (.goto 4, 3) := by decide +kernel
theorem d_D_fillFrom_161 : decode b_D_fillFrom 161 = .ok (.iconst 0, 1) := by decide +kernel
theorem d_D_fillFrom_162 : decode b_D_fillFrom 162 = .ok (.i2b, 1) := by decide +kernel
theorem d_D_fillFrom_163 : decode b_D_fillFrom 163 = .ok (.bastore, 1) := by decide +kernel
theorem d_D_fillFrom_164 : decode b_D_fillFrom 164 = .ok (.iload 4, 2) := by decide +kernel
theorem d_D_fillFrom_166 : decode b_D_fillFrom 166 = .ok (.aload_n 0, 1) := by decide +kernel
theorem d_D_fillFrom_167 : decode b_D_fillFrom 167 = .ok (.getfield 47, 3) := by decide +kernel
theorem d_D_fillFrom_170 : decode b_D_fillFrom 170 = .ok (.iload_n 1, 1) := by decide +kernel
theorem d_D_fillFrom_171 : decode b_D_fillFrom 171 = .ok (.iconst 4, 1) := by decide +kernel
theorem d_D_fillFrom_172 : decode b_D_fillFrom 172 = .ok (.imul, 1) := by decide +kernel
theorem d_D_fillFrom_173 : decode b_D_fillFrom 173 = .ok (.iload 5, 2) := by decide +kernel
theorem d_D_fillFrom_175 : decode b_D_fillFrom 175 = .ok (.iadd, 1) := by decide +kernel
theorem d_D_fillFrom_176 : decode b_D_fillFrom 176 = .ok (.baload, 1) := by decide +kernel
theorem d_D_fillFrom_177 : decode b_D_fillFrom 177 = .ok (.aload_n 0, 1) := by decide +kernel
theorem d_D_fillFrom_178 : decode b_D_fillFrom 178 = .ok (.getfield 7, 3) := by decide +kernel
theorem d_D_fillFrom_181 : decode b_D_fillFrom 181 = .ok (.iload 5, 2) := by decide +kernel
theorem d_D_fillFrom_183 : decode b_D_fillFrom 183 = .ok (.baload, 1) := by decide +kernel
theorem d_D_fillFrom_184 : decode b_D_fillFrom 184 = .ok (.imul, 1) := by decide +kernel
theorem d_D_fillFrom_185 : decode b_D_fillFrom 185 = .ok (.isub, 1) := by decide +kernel
theorem d_D_fillFrom_186 : decode b_D_fillFrom 186 = .ok (.istore 4, 2) := by decide +kernel
theorem d_D_fillFrom_188 : decode b_D_fillFrom 188 = .ok (.iinc 5 1, 3) := by decide +kernel
theorem d_D_fillFrom_191 : decode b_D_fillFrom 191 = .ok (.goto (-137), 3) := by decide +kernel
theorem d_D_fillFrom_194 : decode b_D_fillFrom 194 = .ok (.return_, 1) := by decide +kernel
theorem d_D_fillWidest_0 : decode b_D_fillWidest 0 = .ok (.aload_n 0, 1) := by decide +kernel
theorem d_D_fillWidest_1 : decode b_D_fillWidest 1 = .ok (.getfield 62, 3) := by decide +kernel
theorem d_D_fillWidest_4 : decode b_D_fillWidest 4 = .ok (.istore_n 2, 1) := by decide +kernel
theorem d_D_fillWidest_5 : decode b_D_fillWidest 5 = .ok (.iconst 0, 1) := by decide +kernel
theorem d_D_fillWidest_6 : decode b_D_fillWidest 6 = .ok (.istore_n 3, 1) := by decide +kernel
theorem d_D_fillWidest_7 : decode b_D_fillWidest 7 = .ok (.iload_n 3, 1) := by decide +kernel
theorem d_D_fillWidest_8 : decode b_D_fillWidest 8 = .ok (.iconst 4, 1) := by decide +kernel
theorem d_D_fillWidest_9 : decode b_D_fillWidest 9 = .ok (.if_icmp .ge 20, 3) := by decide +kernel
theorem d_D_fillWidest_12 : decode b_D_fillWidest 12 = .ok (.aload_n 0, 1) := by decide +kernel
theorem d_D_fillWidest_13 : decode b_D_fillWidest 13 = .ok (.getfield 47, 3) := by decide +kernel
theorem d_D_fillWidest_16 : decode b_D_fillWidest 16 = .ok (.iload_n 1, 1) := by decide +kernel
theorem d_D_fillWidest_17 : decode b_D_fillWidest 17 = .ok (.iconst 4, 1) := by decide +kernel
theorem d_D_fillWidest_18 : decode b_D_fillWidest 18 = .ok (.imul, 1) := by decide +kernel
theorem d_D_fillWidest_19 : decode b_D_fillWidest 19 = .ok (.iload_n 3, 1) := by decide +kernel
theorem d_D_fillWidest_20 : decode b_D_fillWidest 20 = .ok (.iadd, 1) := by decide +kernel
theorem d_D_fillWidest_21 : decode b_D_fillWidest 21 = .ok (.iconst 0, 1) := by decide +kernel
theorem d_D_fillWidest_22 : decode b_D_fillWidest 22 = .ok (.bastore, 1) := by decide +kernel
theorem d_D_fillWidest_23 : decode b_D_fillWidest 23 = .ok (.iinc 3 1, 3) := by decide +kernel
theorem d_D_fillWidest_26 : decode b_D_fillWidest 26 = .ok (.goto (-19), 3) := by decide +kernel
theorem d_D_fillWidest_29 : decode b_D_fillWidest 29 = .ok (.iconst 0, 1) := by decide +kernel
theorem d_D_fillWidest_30 : decode b_D_fillWidest 30 = .ok (.istore_n 3, 1) := by decide +kernel
theorem d_D_fillWidest_31 : decode b_D_fillWidest 31 = .ok (.iload_n 3, 1) := by decide +kernel
theorem d_D_fillWidest_32 : decode b_D_fillWidest 32 = .ok (.bipush 12, 2) := by decide +kernel
theorem d_D_fillWidest_34 : decode b_D_fillWidest 34 = .ok (.if_icmp .ge 132, 3) := by decide +kernel
theorem d_D_fillWidest_37 : decode b_D_fillWidest 37 = .ok (.iconst (-1), 1) := by decide +kernel
theorem d_D_fillWidest_38 : decode b_D_fillWidest 38 = .ok (.istore 4, 2) := by decide +kernel
theorem d_D_fillWidest_40 : decode b_D_fillWidest 40 = .ok (.iconst 0, 1) := by decide +kernel
theorem d_D_fillWidest_41 : decode b_D_fillWidest 41 = .ok (.istore 5, 2) := by decide +kernel
theorem d_D_fillWidest_43 : decode b_D_fillWidest 43 = .ok (.iload 5, 2) := by decide +kernel
theorem d_D_fillWidest_45 : decode b_D_fillWidest 45 = .ok (.iconst 4, 1) := by decide +kernel
theorem d_D_fillWidest_46 : decode b_D_fillWidest 46 = .ok (.if_icmp .ge 83, 3) := by decide +kernel
theorem d_D_fillWidest_49 : decode b_D_fillWidest 49 = .ok (.aload_n 0, 1) := by decide +kernel
theorem d_D_fillWidest_50 : decode b_D_fillWidest 50 = .ok (.getfield 47, 3) := by decide +kernel
theorem d_D_fillWidest_53 : decode b_D_fillWidest 53 = .ok (.iload_n 1, 1) := by decide +kernel
theorem d_D_fillWidest_54 : decode b_D_fillWidest 54 = .ok (.iconst 4, 1) := by decide +kernel
theorem d_D_fillWidest_55 : decode b_D_fillWidest 55 = .ok (.imul, 1) := by decide +kernel
theorem d_D_fillWidest_56 : decode b_D_fillWidest 56 = .ok (.iload 5, 2) := by decide +kernel
theorem d_D_fillWidest_58 : decode b_D_fillWidest 58 = .ok (.iadd, 1) := by decide +kernel
theorem d_D_fillWidest_59 : decode b_D_fillWidest 59 = .ok (.baload, 1) := by decide +kernel
theorem d_D_fillWidest_60 : decode b_D_fillWidest 60 = .ok (.aload_n 0, 1) := by decide +kernel
theorem d_D_fillWidest_61 : decode b_D_fillWidest 61 = .ok (.getfield 44, 3) := by decide +kernel
theorem d_D_fillWidest_64 : decode b_D_fillWidest 64 = .ok (.iload_n 1, 1) := by decide +kernel
theorem d_D_fillWidest_65 : decode b_D_fillWidest 65 = .ok (.iconst 4, 1) := by decide +kernel
theorem d_D_fillWidest_66 : decode b_D_fillWidest 66 = .ok (.imul, 1) := by decide +kernel
theorem d_D_fillWidest_67 : decode b_D_fillWidest 67 = .ok (.iload 5, 2) := by decide +kernel
theorem d_D_fillWidest_69 : decode b_D_fillWidest 69 = .ok (.iadd, 1) := by decide +kernel
theorem d_D_fillWidest_70 : decode b_D_fillWidest 70 = .ok (.baload, 1) := by decide +kernel
theorem d_D_fillWidest_71 : decode b_D_fillWidest 71 = .ok (.if_icmp .ge 18, 3) := by decide +kernel
theorem d_D_fillWidest_74 : decode b_D_fillWidest 74 = .ok (.aload_n 0, 1) := by decide +kernel
theorem d_D_fillWidest_75 : decode b_D_fillWidest 75 = .ok (.getfield 7, 3) := by decide +kernel
theorem d_D_fillWidest_78 : decode b_D_fillWidest 78 = .ok (.iload 5, 2) := by decide +kernel
theorem d_D_fillWidest_80 : decode b_D_fillWidest 80 = .ok (.baload, 1) := by decide +kernel
theorem d_D_fillWidest_81 : decode b_D_fillWidest 81 = .ok (.iload_n 2, 1) := by decide +kernel
theorem d_D_fillWidest_82 : decode b_D_fillWidest 82 = .ok (.if_icmp .gt 7, 3) := by decide +kernel
theorem d_D_fillWidest_85 : decode b_D_fillWidest 85 = .ok (.iconst 1, 1) := by decide +kernel
theorem d_D_fillWidest_86 : decode b_D_fillWidest 86 = .ok (.goto 4, 3) := by decide +kernel
theorem d_D_fillWidest_89 : decode b_D_fillWidest 89 = .ok (.iconst 0, 1) := by decide +kernel
theorem d_D_fillWidest_90 : decode b_D_fillWidest 90 = .ok (.istore 6, 2) := by decide +kernel
theorem d_D_fillWidest_92 : decode b_D_fillWidest 92 = .ok (.iload 6, 2) := by decide +kernel
theorem d_D_fillWidest_94 : decode b_D_fillWidest 94 = .ok (.ifCond .eq 29, 3) := by decide +kernel
theorem d_D_fillWidest_97 : decode b_D_fillWidest 97 = .ok (.iload 4, 2) := by decide +kernel
theorem d_D_fillWidest_99 : decode b_D_fillWidest 99 = .ok (.ifCond .lt 20, 3) := by decide +kernel
theorem d_D_fillWidest_102 : decode b_D_fillWidest 102 = .ok (.aload_n 0, 1) := by decide +kernel
theorem d_D_fillWidest_103 : decode b_D_fillWidest 103 = .ok (.getfield 7, 3) := by decide +kernel
theorem d_D_fillWidest_106 : decode b_D_fillWidest 106 = .ok (.iload 5, 2) := by decide +kernel
theorem d_D_fillWidest_108 : decode b_D_fillWidest 108 = .ok (.baload, 1) := by decide +kernel
theorem d_D_fillWidest_109 : decode b_D_fillWidest 109 = .ok (.aload_n 0, 1) := by decide +kernel
theorem d_D_fillWidest_110 : decode b_D_fillWidest 110 = .ok (.getfield 7, 3) := by decide +kernel
theorem d_D_fillWidest_113 : decode b_D_fillWidest 113 = .ok (.iload 4, 2) := by decide +kernel
theorem d_D_fillWidest_115 : decode b_D_fillWidest 115 = .ok (.baload, 1) := by decide +kernel
theorem d_D_fillWidest_116 : decode b_D_fillWidest 116 = .ok (.if_icmp .le 7, 3) := by decide +kernel
theorem d_D_fillWidest_119 : decode b_D_fillWidest 119 = .ok (.iload 5, 2) := by decide +kernel
end
section
theorem d_D_fillWidest_121 : decode b_D_fillWidest 121 = .ok (.istore 4, 2) := by decide +kernel
theorem d_D_fillWidest_123 : decode b_D_fillWidest 123 = .ok (.iinc 5 1, 3) := by decide +kernel
theorem d_D_fillWidest_126 : decode b_D_fillWidest 126 = .ok (.goto (-83), 3) := by decide +kernel
theorem d_D_fillWidest_129 : decode b_D_fillWidest 129 = .ok (.iload 4, 2) := by decide +kernel
theorem d_D_fillWidest_131 : decode b_D_fillWidest 131 = .ok (.ifCond .lt 29, 3) := by decide +kernel
theorem d_D_fillWidest_134 : decode b_D_fillWidest 134 = .ok (.aload_n 0, 1) := by decide +kernel
theorem d_D_fillWidest_135 : decode b_D_fillWidest 135 = .ok (.getfield 47, 3) := by decide +kernel
theorem d_D_fillWidest_138 : decode b_D_fillWidest 138 = .ok (.iload_n 1, 1) := by decide +kernel
theorem d_D_fillWidest_139 : decode b_D_fillWidest 139 = .ok (.iconst 4, 1) := by decide +kernel
theorem d_D_fillWidest_140 : decode b_D_fillWidest 140 = .ok (.imul, 1) := by decide +kernel
theorem d_D_fillWidest_141 : decode b_D_fillWidest 141 = .ok (.iload 4, 2) := by decide +kernel
theorem d_D_fillWidest_143 : decode b_D_fillWidest 143 = .ok (.iadd, 1) := by decide +kernel
theorem d_D_fillWidest_144 : decode b_D_fillWidest 144 = .ok (.dup2, 1) := by decide +kernel
theorem d_D_fillWidest_145 : decode b_D_fillWidest 145 = .ok (.baload, 1) := by decide +kernel
theorem d_D_fillWidest_146 : decode b_D_fillWidest 146 = .ok (.iconst 1, 1) := by decide +kernel
theorem d_D_fillWidest_147 : decode b_D_fillWidest 147 = .ok (.iadd, 1) := by decide +kernel
theorem d_D_fillWidest_148 : decode b_D_fillWidest 148 = .ok (.i2b, 1) := by decide +kernel
theorem d_D_fillWidest_149 : decode b_D_fillWidest 149 = .ok (.bastore, 1) := by decide +kernel
theorem d_D_fillWidest_150 : decode b_D_fillWidest 150 = .ok (.iload_n 2, 1) := by decide +kernel
theorem d_D_fillWidest_151 : decode b_D_fillWidest 151 = .ok (.aload_n 0, 1) := by decide +kernel
theorem d_D_fillWidest_152 : decode b_D_fillWidest 152 = .ok (.getfield 7, 3) := by decide +kernel
theorem d_D_fillWidest_155 : decode b_D_fillWidest 155 = .ok (.iload 4, 2) := by decide +kernel
theorem d_D_fillWidest_157 : decode b_D_fillWidest 157 = .ok (.baload, 1) := by decide +kernel
theorem d_D_fillWidest_158 : decode b_D_fillWidest 158 = .ok (.isub, 1) := by decide +kernel
theorem d_D_fillWidest_159 : decode b_D_fillWidest 159 = .ok (.istore_n 2, 1) := by decide +kernel
theorem d_D_fillWidest_160 : decode b_D_fillWidest 160 = .ok (.iinc 3 1, 3) := by decide +kernel
theorem d_D_fillWidest_163 : decode b_D_fillWidest 163 = .ok (.goto (-132), 3) := by decide +kernel
theorem d_D_fillWidest_166 : decode b_D_fillWidest 166 = .ok (.return_, 1) := by decide +kernel
theorem d_D_findPrices_0 : decode b_D_findPrices 0 = .ok (.iconst 0, 1) := by decide +kernel
theorem d_D_findPrices_1 : decode b_D_findPrices 1 = .ok (.istore_n 1, 1) := by decide +kernel
theorem d_D_findPrices_2 : decode b_D_findPrices 2 = .ok (.iload_n 1, 1) := by decide +kernel
theorem d_D_findPrices_3 : decode b_D_findPrices 3 = .ok (.iconst 4, 1) := by decide +kernel
theorem d_D_findPrices_4 : decode b_D_findPrices 4 = .ok (.if_icmp .ge 90, 3) := by decide +kernel
theorem d_D_findPrices_7 : decode b_D_findPrices 7 = .ok (.iconst 0, 1) := by decide +kernel
theorem d_D_findPrices_8 : decode b_D_findPrices 8 = .ok (.istore_n 2, 1) := by decide +kernel
theorem d_D_findPrices_9 : decode b_D_findPrices 9 = .ok (.iload_n 2, 1) := by decide +kernel
theorem d_D_findPrices_10 : decode b_D_findPrices 10 = .ok (.iconst 4, 1) := by decide +kernel
theorem d_D_findPrices_11 : decode b_D_findPrices 11 = .ok (.if_icmp .ge 53, 3) := by decide +kernel
theorem d_D_findPrices_14 : decode b_D_findPrices 14 = .ok (.aload_n 0, 1) := by decide +kernel
theorem d_D_findPrices_15 : decode b_D_findPrices 15 = .ok (.getfield 19, 3) := by decide +kernel
theorem d_D_findPrices_18 : decode b_D_findPrices 18 = .ok (.iload_n 1, 1) := by decide +kernel
theorem d_D_findPrices_19 : decode b_D_findPrices 19 = .ok (.iconst 4, 1) := by decide +kernel
theorem d_D_findPrices_20 : decode b_D_findPrices 20 = .ok (.imul, 1) := by decide +kernel
theorem d_D_findPrices_21 : decode b_D_findPrices 21 = .ok (.iload_n 2, 1) := by decide +kernel
theorem d_D_findPrices_22 : decode b_D_findPrices 22 = .ok (.iadd, 1) := by decide +kernel
theorem d_D_findPrices_23 : decode b_D_findPrices 23 = .ok (.iload_n 1, 1) := by decide +kernel
theorem d_D_findPrices_24 : decode b_D_findPrices 24 = .ok (.iload_n 2, 1) := by decide +kernel
theorem d_D_findPrices_25 : decode b_D_findPrices 25 = .ok (.if_icmp .ne 30, 3) := by decide +kernel
theorem d_D_findPrices_28 : decode b_D_findPrices 28 = .ok (.aload_n 0, 1) := by decide +kernel
theorem d_D_findPrices_29 : decode b_D_findPrices 29 = .ok (.getfield 7, 3) := by decide +kernel
theorem d_D_findPrices_32 : decode b_D_findPrices 32 = .ok (.iload_n 2, 1) := by decide +kernel
theorem d_D_findPrices_33 : decode b_D_findPrices 33 = .ok (.baload, 1) := by decide +kernel
theorem d_D_findPrices_34 : decode b_D_findPrices 34 = .ok (.aload_n 0, 1) := by decide +kernel
theorem d_D_findPrices_35 : decode b_D_findPrices 35 = .ok (.getfield 62, 3) := by decide +kernel
theorem d_D_findPrices_38 : decode b_D_findPrices 38 = .ok (.if_icmp .gt 17, 3) := by decide +kernel
theorem d_D_findPrices_41 : decode b_D_findPrices 41 = .ok (.aload_n 0, 1) := by decide +kernel
theorem d_D_findPrices_42 : decode b_D_findPrices 42 = .ok (.getfield 62, 3) := by decide +kernel
theorem d_D_findPrices_45 : decode b_D_findPrices 45 = .ok (.aload_n 0, 1) := by decide +kernel
theorem d_D_findPrices_46 : decode b_D_findPrices 46 = .ok (.getfield 7, 3) := by decide +kernel
theorem d_D_findPrices_49 : decode b_D_findPrices 49 = .ok (.iload_n 2, 1) := by decide +kernel
theorem d_D_findPrices_50 : decode b_D_findPrices 50 = .ok (.baload, 1) := by decide +kernel
theorem d_D_findPrices_51 : decode b_D_findPrices 51 = .ok (.idiv, 1) := by decide +kernel
theorem d_D_findPrices_52 : decode b_D_findPrices 52 = .ok (.goto 4, 3) := by decide +kernel
theorem d_D_findPrices_55 : decode b_D_findPrices 55 = .ok (.iconst 0, 1) := by decide +kernel
theorem d_D_findPrices_56 : decode b_D_findPrices 56 = .ok (.i2b, 1) := by decide +kernel
theorem d_D_findPrices_57 : decode b_D_findPrices 57 = .ok (.bastore, 1) := by decide +kernel
theorem d_D_findPrices_58 : decode b_D_findPrices 58 = .ok (.iinc 2 1, 3) := by decide +kernel
theorem d_D_findPrices_61 : decode b_D_findPrices 61 = .ok (.goto (-52), 3) := by decide +kernel
theorem d_D_findPrices_64 : decode b_D_findPrices 64 = .ok (.aload_n 0, 1) := by decide +kernel
theorem d_D_findPrices_65 : decode b_D_findPrices 65 = .ok (.getfield 7, 3) := by decide +kernel
theorem d_D_findPrices_68 : decode b_D_findPrices 68 = .ok (.iload_n 1, 1) := by decide +kernel
theorem d_D_findPrices_69 : decode b_D_findPrices 69 = .ok (.baload, 1) := by decide +kernel
theorem d_D_findPrices_70 : decode b_D_findPrices 70 = .ok (.aload_n 0, 1) := by decide +kernel
theorem d_D_findPrices_71 : decode b_D_findPrices 71 = .ok (.getfield 62, 3) := by decide +kernel
theorem d_D_findPrices_74 : decode b_D_findPrices 74 = .ok (.if_icmp .le 14, 3) := by decide +kernel
theorem d_D_findPrices_77 : decode b_D_findPrices 77 = .ok (.aload_n 0, 1) := by decide +kernel
theorem d_D_findPrices_78 : decode b_D_findPrices 78 = .ok (.getfield 19, 3) := by decide +kernel
theorem d_D_findPrices_81 : decode b_D_findPrices 81 = .ok (.iload_n 1, 1) := by decide +kernel
theorem d_D_findPrices_82 : decode b_D_findPrices 82 = .ok (.iconst 4, 1) := by decide +kernel
theorem d_D_findPrices_83 : decode b_D_findPrices 83 = .ok (.imul, 1) := by decide +kernel
theorem d_D_findPrices_84 : decode b_D_findPrices 84 = .ok (.iload_n 1, 1) := by decide +kernel
theorem d_D_findPrices_85 : decode b_D_findPrices 85 = .ok (.iadd, 1) := by decide +kernel
theorem d_D_findPrices_86 : decode b_D_findPrices 86 = .ok (.iconst 1, 1) := by decide +kernel
theorem d_D_findPrices_87 : decode b_D_findPrices 87 = .ok (.bastore, 1) := by decide +kernel
theorem d_D_findPrices_88 : decode b_D_findPrices 88 = .ok (.iinc 1 1, 3) := by decide +kernel
theorem d_D_findPrices_91 : decode b_D_findPrices 91 = .ok (.goto (-89), 3) := by decide +kernel
theorem d_D_findPrices_94 : decode b_D_findPrices 94 = .ok (.iconst 0, 1) := by decide +kernel
theorem d_D_findPrices_95 : decode b_D_findPrices 95 = .ok (.istore_n 1, 1) := by decide +kernel
theorem d_D_findPrices_96 : decode b_D_findPrices 96 = .ok (.iload_n 1, 1) := by decide +kernel
theorem d_D_findPrices_97 : decode b_D_findPrices 97 = .ok (.bipush 40, 2) := by decide +kernel
theorem d_D_findPrices_99 : decode b_D_findPrices 99 = .ok (.if_icmp .ge 49, 3) := by decide +kernel
theorem d_D_findPrices_102 : decode b_D_findPrices 102 = .ok (.aload_n 0, 1) := by decide +kernel
theorem d_D_findPrices_103 : decode b_D_findPrices 103 = .ok (.invokevirtual 65, 3) := by decide +kernel
theorem d_D_findPrices_106 : decode b_D_findPrices 106 = .ok (.ifCond .eq 42, 3) := by decide +kernel
theorem d_D_findPrices_109 : decode b_D_findPrices 109 = .ok (.aload_n 0, 1) := by decide +kernel
theorem d_D_findPrices_110 : decode b_D_findPrices 110 = .ok (.invokevirtual 69, 3) := by decide +kernel
theorem d_D_findPrices_113 : decode b_D_findPrices 113 = .ok (.ifCond .ne 6, 3) := by decide +kernel
theorem d_D_findPrices_116 : decode b_D_findPrices 116 = .ok (.goto 32, 3) := by decide +kernel
theorem d_D_findPrices_119 : decode b_D_findPrices 119 = .ok (.aload_n 0, 1) := by decide +kernel
theorem d_D_findPrices_120 : decode b_D_findPrices 120 = .ok (.invokevirtual 72, 3) := by decide +kernel
theorem d_D_findPrices_123 : decode b_D_findPrices 123 = .ok (.aload_n 0, 1) := by decide +kernel
theorem d_D_findPrices_124 : decode b_D_findPrices 124 = .ok (.getfield 76, 3) := by decide +kernel
theorem d_D_findPrices_127 : decode b_D_findPrices 127 = .ok (.lcmp, 1) := by decide +kernel
theorem d_D_findPrices_128 : decode b_D_findPrices 128 = .ok (.ifCond .gt 4, 3) := by decide +kernel
theorem d_D_findPrices_131 : decode b_D_findPrices 131 = .ok (.return_, 1) := by decide +kernel
theorem d_D_findPrices_132 : decode b_D_findPrices 132 = .ok (.aload_n 0, 1) := by decide +kernel
theorem d_D_findPrices_133 : decode b_D_findPrices 133 = .ok (.invokevirtual 80, 3) := by decide +kernel
theorem d_D_findPrices_136 : decode b_D_findPrices 136 = .ok (.ifCond .ne 6, 3) := by decide +kernel
theorem d_D_findPrices_139 : decode b_D_findPrices 139 = .ok (.goto 9, 3) := by decide +kernel
theorem d_D_findPrices_142 : decode b_D_findPrices 142 = .ok (.iinc 1 1, 3) := by decide +kernel
theorem d_D_findPrices_145 : decode b_D_findPrices 145 = .ok (.goto (-49), 3) := by decide +kernel
theorem d_D_findPrices_148 : decode b_D_findPrices 148 = .ok (.aload_n 0, 1) := by decide +kernel
theorem d_D_findPrices_149 : decode b_D_findPrices 149 = .ok (.aload_n 0, 1) := by decide +kernel
theorem d_D_findPrices_150 : decode b_D_findPrices 150 = .ok (.getfield 62, 3) := by decide +kernel
theorem d_D_findPrices_153 : decode b_D_findPrices 153 = .ok (.i2l, 1) := by decide +kernel
theorem d_D_findPrices_154 : decode b_D_findPrices 154 = .ok (.putfield 76, 3) := by decide +kernel
theorem d_D_findPrices_157 : decode b_D_findPrices 157 = .ok (.iconst 0, 1) := by decide +kernel
theorem d_D_findPrices_158 : decode b_D_findPrices 158 = .ok (.istore_n 1, 1) := by decide +kernel
theorem d_D_findPrices_159 : decode b_D_findPrices 159 = .ok (.iload_n 1, 1) := by decide +kernel
theorem d_D_findPrices_160 : decode b_D_findPrices 160 = .ok (.iconst 4, 1) := by decide +kernel
theorem d_D_findPrices_161 : decode b_D_findPrices 161 = .ok (.if_icmp .ge 39, 3) := by decide +kernel
theorem d_D_findPrices_164 : decode b_D_findPrices 164 = .ok (.aload_n 0, 1) := by decide +kernel
theorem d_D_findPrices_165 : decode b_D_findPrices 165 = .ok (.getfield 26, 3) := by decide +kernel
theorem d_D_findPrices_168 : decode b_D_findPrices 168 = .ok (.iload_n 1, 1) := by decide +kernel
theorem d_D_findPrices_169 : decode b_D_findPrices 169 = .ok (.aload_n 0, 1) := by decide +kernel
theorem d_D_findPrices_170 : decode b_D_findPrices 170 = .ok (.getfield 7, 3) := by decide +kernel
theorem d_D_findPrices_173 : decode b_D_findPrices 173 = .ok (.iload_n 1, 1) := by decide +kernel
theorem d_D_findPrices_174 : decode b_D_findPrices 174 = .ok (.baload, 1) := by decide +kernel
theorem d_D_findPrices_175 : decode b_D_findPrices 175 = .ok (.aload_n 0, 1) := by decide +kernel
theorem d_D_findPrices_176 : decode b_D_findPrices 176 = .ok (.getfield 62, 3) := by decide +kernel
theorem d_D_findPrices_179 : decode b_D_findPrices 179 = .ok (.if_icmp .gt 13, 3) := by decide +kernel
theorem d_D_findPrices_182 : decode b_D_findPrices 182 = .ok (.aload_n 0, 1) := by decide +kernel
theorem d_D_findPrices_183 : decode b_D_findPrices 183 = .ok (.getfield 7, 3) := by decide +kernel
theorem d_D_findPrices_186 : decode b_D_findPrices 186 = .ok (.iload_n 1, 1) := by decide +kernel
theorem d_D_findPrices_187 : decode b_D_findPrices 187 = .ok (.baload, 1) := by decide +kernel
theorem d_D_findPrices_188 : decode b_D_findPrices 188 = .ok (.i2l, 1) := by decide +kernel
theorem d_D_findPrices_189 : decode b_D_findPrices 189 = .ok (.goto 4, 3) := by decide +kernel
theorem d_D_findPrices_192 : decode b_D_findPrices 192 = .ok (.lconst 0, 1) := by decide +kernel
theorem d_D_findPrices_193 : decode b_D_findPrices 193 = .ok (.lastore, 1) := by decide +kernel
theorem d_D_findPrices_194 : decode b_D_findPrices 194 = .ok (.iinc 1 1, 3) := by decide +kernel
theorem d_D_findPrices_197 : decode b_D_findPrices 197 = .ok (.goto (-38), 3) := by decide +kernel
theorem d_D_findPrices_200 : decode b_D_findPrices 200 = .ok (.return_, 1) := by decide +kernel
theorem d_D_firstPattern_0 : decode b_D_firstPattern 0 = .ok (.aload_n 0, 1) := by decide +kernel
theorem d_D_firstPattern_1 : decode b_D_firstPattern 1 = .ok (.iload_n 1, 1) := by decide +kernel
theorem d_D_firstPattern_2 : decode b_D_firstPattern 2 = .ok (.invokevirtual 131, 3) := by decide +kernel
theorem d_D_firstPattern_5 : decode b_D_firstPattern 5 = .ok (.istore_n 2, 1) := by decide +kernel
theorem d_D_firstPattern_6 : decode b_D_firstPattern 6 = .ok (.iload_n 2, 1) := by decide +kernel
theorem d_D_firstPattern_7 : decode b_D_firstPattern 7 = .ok (.ifCond .ge 5, 3) := by decide +kernel
theorem d_D_firstPattern_10 : decode b_D_firstPattern 10 = .ok (.iconst 0, 1) := by decide +kernel
theorem d_D_firstPattern_11 : decode b_D_firstPattern 11 = .ok (.ireturn, 1) := by decide +kernel
theorem d_D_firstPattern_12 : decode b_D_firstPattern 12 = .ok (.iconst 0, 1) := by decide +kernel
theorem d_D_firstPattern_13 : decode b_D_firstPattern 13 = .ok (.istore_n 3, 1) := by decide +kernel
theorem d_D_firstPattern_14 : decode b_D_firstPattern 14 = .ok (.iload_n 3, 1) := by decide +kernel
theorem d_D_firstPattern_15 : decode b_D_firstPattern 15 = .ok (.iconst 4, 1) := by decide +kernel
theorem d_D_firstPattern_16 : decode b_D_firstPattern 16 = .ok (.if_icmp .ge 20, 3) := by decide +kernel
theorem d_D_firstPattern_19 : decode b_D_firstPattern 19 = .ok (.aload_n 0, 1) := by decide +kernel
theorem d_D_firstPattern_20 : decode b_D_firstPattern 20 = .ok (.getfield 47, 3) := by decide +kernel
theorem d_D_firstPattern_23 : decode b_D_firstPattern 23 = .ok (.iload_n 1, 1) := by decide +kernel
theorem d_D_firstPattern_24 : decode b_D_firstPattern 24 = .ok (.iconst 4, 1) := by decide +kernel
theorem d_D_firstPattern_25 : decode b_D_firstPattern 25 = .ok (.imul, 1) := by decide +kernel
theorem d_D_firstPattern_26 : decode b_D_firstPattern 26 = .ok (.iload_n 3, 1) := by decide +kernel
theorem d_D_firstPattern_27 : decode b_D_firstPattern 27 = .ok (.iadd, 1) := by decide +kernel
theorem d_D_firstPattern_28 : decode b_D_firstPattern 28 = .ok (.iconst 0, 1) := by decide +kernel
theorem d_D_firstPattern_29 : decode b_D_firstPattern 29 = .ok (.bastore, 1) := by decide +kernel
theorem d_D_firstPattern_30 : decode b_D_firstPattern 30 = .ok (.iinc 3 1, 3) := by decide +kernel
theorem d_D_firstPattern_33 : decode b_D_firstPattern 33 = .ok (.goto (-19), 3) := by decide +kernel
theorem d_D_firstPattern_36 : decode b_D_firstPattern 36 = .ok (.aload_n 0, 1) := by decide +kernel
theorem d_D_firstPattern_37 : decode b_D_firstPattern 37 = .ok (.iload_n 1, 1) := by decide +kernel
theorem d_D_firstPattern_38 : decode b_D_firstPattern 38 = .ok (.iconst 0, 1) := by decide +kernel
theorem d_D_firstPattern_39 : decode b_D_firstPattern 39 = .ok (.invokevirtual 134, 3) := by decide +kernel
theorem d_D_firstPattern_42 : decode b_D_firstPattern 42 = .ok (.iconst 1, 1) := by decide +kernel
theorem d_D_firstPattern_43 : decode b_D_firstPattern 43 = .ok (.ireturn, 1) := by decide +kernel
theorem d_D_fits_0 : decode b_D_fits 0 = .ok (.iload_n 1, 1) := by decide +kernel
theorem d_D_fits_1 : decode b_D_fits 1 = .ok (.ifCond .lt 10, 3) := by decide +kernel
theorem d_D_fits_4 : decode b_D_fits 4 = .ok (.iload_n 1, 1) := by decide +kernel
theorem d_D_fits_5 : decode b_D_fits 5 = .ok (.sipush 255, 3) := by decide +kernel
theorem d_D_fits_8 : decode b_D_fits 8 = .ok (.if_icmp .le 5, 3) := by decide +kernel
theorem d_D_fits_11 : decode b_D_fits 11 = .ok (.iconst 0, 1) := by decide +kernel
theorem d_D_fits_12 : decode b_D_fits 12 = .ok (.ireturn, 1) := by decide +kernel
theorem d_D_fits_13 : decode b_D_fits 13 = .ok (.iconst 0, 1) := by decide +kernel
theorem d_D_fits_14 : decode b_D_fits 14 = .ok (.istore_n 2, 1) := by decide +kernel
theorem d_D_fits_15 : decode b_D_fits 15 = .ok (.iconst 0, 1) := by decide +kernel
theorem d_D_fits_16 : decode b_D_fits 16 = .ok (.istore_n 3, 1) := by decide +kernel
theorem d_D_fits_17 : decode b_D_fits 17 = .ok (.iload_n 3, 1) := by decide +kernel
theorem d_D_fits_18 : decode b_D_fits 18 = .ok (.iconst 4, 1) := by decide +kernel
theorem d_D_fits_19 : decode b_D_fits 19 = .ok (.if_icmp .ge 26, 3) := by decide +kernel
theorem d_D_fits_22 : decode b_D_fits 22 = .ok (.iload_n 2, 1) := by decide +kernel
theorem d_D_fits_23 : decode b_D_fits 23 = .ok (.iload_n 1, 1) := by decide +kernel
theorem d_D_fits_24 : decode b_D_fits 24 = .ok (.iconst 2, 1) := by decide +kernel
theorem d_D_fits_25 : decode b_D_fits 25 = .ok (.iload_n 3, 1) := by decide +kernel
theorem d_D_fits_26 : decode b_D_fits 26 = .ok (.imul, 1) := by decide +kernel
theorem d_D_fits_27 : decode b_D_fits 27 = .ok (.ishr, 1) := by decide +kernel
theorem d_D_fits_28 : decode b_D_fits 28 = .ok (.iconst 3, 1) := by decide +kernel
theorem d_D_fits_29 : decode b_D_fits 29 = .ok (.iand, 1) := by decide +kernel
theorem d_D_fits_30 : decode b_D_fits 30 = .ok (.aload_n 0, 1) := by decide +kernel
theorem d_D_fits_31 : decode b_D_fits 31 = .ok (.getfield 7, 3) := by decide +kernel
theorem d_D_fits_34 : decode b_D_fits 34 = .ok (.iload_n 3, 1) := by decide +kernel
theorem d_D_fits_35 : decode b_D_fits 35 = .ok (.baload, 1) := by decide +kernel
theorem d_D_fits_36 : decode b_D_fits 36 = .ok (.imul, 1) := by decide +kernel
theorem d_D_fits_37 : decode b_D_fits 37 = .ok (.iadd, 1) := by decide +kernel
theorem d_D_fits_38 : decode b_D_fits 38 = .ok (.istore_n 2, 1) := by decide +kernel
theorem d_D_fits_39 : decode b_D_fits 39 = .ok (.iinc 3 1, 3) := by decide +kernel
theorem d_D_fits_42 : decode b_D_fits 42 = .ok (.goto (-25), 3) := by decide +kernel
theorem d_D_fits_45 : decode b_D_fits 45 = .ok (.iload_n 2, 1) := by decide +kernel
theorem d_D_fits_46 : decode b_D_fits 46 = .ok (.aload_n 0, 1) := by decide +kernel
theorem d_D_fits_47 : decode b_D_fits 47 = .ok (.getfield 54, 3) := by decide +kernel
theorem d_D_fits_50 : decode b_D_fits 50 = .ok (.if_icmp .gt 7, 3) := by decide +kernel
theorem d_D_fits_53 : decode b_D_fits 53 = .ok (.iconst 1, 1) := by decide +kernel
theorem d_D_fits_54 : decode b_D_fits 54 = .ok (.goto 4, 3) := by decide +kernel
theorem d_D_fits_57 : decode b_D_fits 57 = .ok (.iconst 0, 1) := by decide +kernel
theorem d_D_fits_58 : decode b_D_fits 58 = .ok (.ireturn, 1) := by decide +kernel
theorem d_D_freeOrder_0 : decode b_D_freeOrder 0 = .ok (.iload_n 1, 1) := by decide +kernel
theorem d_D_freeOrder_1 : decode b_D_freeOrder 1 = .ok (.invokestatic 58, 3) := by decide +kernel
theorem d_D_freeOrder_4 : decode b_D_freeOrder 4 = .ok (.ifCond .ne 5, 3) := by decide +kernel
theorem d_D_freeOrder_7 : decode b_D_freeOrder 7 = .ok (.iconst (-1), 1) := by decide +kernel
theorem d_D_freeOrder_8 : decode b_D_freeOrder 8 = .ok (.ireturn, 1) := by decide +kernel
theorem d_D_freeOrder_9 : decode b_D_freeOrder 9 = .ok (.aload_n 0, 1) := by decide +kernel
theorem d_D_freeOrder_10 : decode b_D_freeOrder 10 = .ok (.invokevirtual 143, 3) := by decide +kernel
theorem d_D_freeOrder_13 : decode b_D_freeOrder 13 = .ok (.istore_n 2, 1) := by decide +kernel
theorem d_D_freeOrder_14 : decode b_D_freeOrder 14 = .ok (.aload_n 0, 1) := by decide +kernel
theorem d_D_freeOrder_15 : decode b_D_freeOrder 15 = .ok (.getfield 13, 3) := by decide +kernel
theorem d_D_freeOrder_18 : decode b_D_freeOrder 18 = .ok (.iload_n 1, 1) := by decide +kernel
theorem d_D_freeOrder_19 : decode b_D_freeOrder 19 = .ok (.baload, 1) := by decide +kernel
theorem d_D_freeOrder_20 : decode b_D_freeOrder 20 = .ok (.istore_n 3, 1) := by decide +kernel
theorem d_D_freeOrder_21 : decode b_D_freeOrder 21 = .ok (.aload_n 0, 1) := by decide +kernel
theorem d_D_freeOrder_22 : decode b_D_freeOrder 22 = .ok (.getfield 13, 3) := by decide +kernel
theorem d_D_freeOrder_25 : decode b_D_freeOrder 25 = .ok (.iload_n 1, 1) := by decide +kernel
theorem d_D_freeOrder_26 : decode b_D_freeOrder 26 = .ok (.baload, 1) := by decide +kernel
theorem d_D_freeOrder_27 : decode b_D_freeOrder 27 = .ok (.iconst 1, 1) := by decide +kernel
theorem d_D_freeOrder_28 : decode b_D_freeOrder 28 = .ok (.iadd, 1) := by decide +kernel
theorem d_D_freeOrder_29 : decode b_D_freeOrder 29 = .ok (.istore 4, 2) := by decide +kernel
theorem d_D_freeOrder_31 : decode b_D_freeOrder 31 = .ok (.iload 4, 2) := by decide +kernel
theorem d_D_freeOrder_33 : decode b_D_freeOrder 33 = .ok (.iconst 3, 1) := by decide +kernel
theorem d_D_freeOrder_34 : decode b_D_freeOrder 34 = .ok (.if_icmp .gt 27, 3) := by decide +kernel
theorem d_D_freeOrder_37 : decode b_D_freeOrder 37 = .ok (.aload_n 0, 1) := by decide +kernel
theorem d_D_freeOrder_38 : decode b_D_freeOrder 38 = .ok (.iload_n 1, 1) := by decide +kernel
theorem d_D_freeOrder_39 : decode b_D_freeOrder 39 = .ok (.iload 4, 2) := by decide +kernel
theorem d_D_freeOrder_41 : decode b_D_freeOrder 41 = .ok (.invokevirtual 146, 3) := by decide +kernel
theorem d_D_freeOrder_44 : decode b_D_freeOrder 44 = .ok (.istore 5, 2) := by decide +kernel
theorem d_D_freeOrder_46 : decode b_D_freeOrder 46 = .ok (.iload 5, 2) := by decide +kernel
theorem d_D_freeOrder_48 : decode b_D_freeOrder 48 = .ok (.iload_n 2, 1) := by decide +kernel
theorem d_D_freeOrder_49 : decode b_D_freeOrder 49 = .ok (.if_icmp .ne 6, 3) := by decide +kernel
theorem d_D_freeOrder_52 : decode b_D_freeOrder 52 = .ok (.iload 4, 2) := by decide +kernel
theorem d_D_freeOrder_54 : decode b_D_freeOrder 54 = .ok (.istore_n 3, 1) := by decide +kernel
theorem d_D_freeOrder_55 : decode b_D_freeOrder 55 = .ok (.iinc 4 1, 3) := by decide +kernel
theorem d_D_freeOrder_58 : decode b_D_freeOrder 58 = .ok (.goto (-27), 3) := by decide +kernel
theorem d_D_freeOrder_61 : decode b_D_freeOrder 61 = .ok (.iload_n 3, 1) := by decide +kernel
theorem d_D_freeOrder_62 : decode b_D_freeOrder 62 = .ok (.ireturn, 1) := by decide +kernel
theorem d_D_greatestUse_0 : decode b_D_greatestUse 0 = .ok (.aload_n 0, 1) := by decide +kernel
theorem d_D_greatestUse_1 : decode b_D_greatestUse 1 = .ok (.invokevirtual 143, 3) := by decide +kernel
theorem d_D_greatestUse_4 : decode b_D_greatestUse 4 = .ok (.istore_n 1, 1) := by decide +kernel
theorem d_D_greatestUse_5 : decode b_D_greatestUse 5 = .ok (.iload_n 1, 1) := by decide +kernel
theorem d_D_greatestUse_6 : decode b_D_greatestUse 6 = .ok (.ifCond .ne 5, 3) := by decide +kernel
theorem d_D_greatestUse_9 : decode b_D_greatestUse 9 = .ok (.iconst (-1), 1) := by decide +kernel
theorem d_D_greatestUse_10 : decode b_D_greatestUse 10 = .ok (.ireturn, 1) := by decide +kernel
theorem d_D_greatestUse_11 : decode b_D_greatestUse 11 = .ok (.sipush 255, 3) := by decide +kernel
theorem d_D_greatestUse_14 : decode b_D_greatestUse 14 = .ok (.istore_n 2, 1) := by decide +kernel
theorem d_D_greatestUse_15 : decode b_D_greatestUse 15 = .ok (.iload_n 2, 1) := by decide +kernel
theorem d_D_greatestUse_16 : decode b_D_greatestUse 16 = .ok (.ifCond .le 28, 3) := by decide +kernel
theorem d_D_greatestUse_19 : decode b_D_greatestUse 19 = .ok (.aload_n 0, 1) := by decide +kernel
theorem d_D_greatestUse_20 : decode b_D_greatestUse 20 = .ok (.iload_n 2, 1) := by decide +kernel
theorem d_D_greatestUse_21 : decode b_D_greatestUse 21 = .ok (.invokevirtual 150, 3) := by decide +kernel
theorem d_D_greatestUse_24 : decode b_D_greatestUse 24 = .ok (.ifCond .eq 14, 3) := by decide +kernel
theorem d_D_greatestUse_27 : decode b_D_greatestUse 27 = .ok (.aload_n 0, 1) := by decide +kernel
theorem d_D_greatestUse_28 : decode b_D_greatestUse 28 = .ok (.iload_n 2, 1) := by decide +kernel
theorem d_D_greatestUse_29 : decode b_D_greatestUse 29 = .ok (.iload_n 1, 1) := by decide +kernel
theorem d_D_greatestUse_30 : decode b_D_greatestUse 30 = .ok (.invokevirtual 153, 3) := by decide +kernel
theorem d_D_greatestUse_33 : decode b_D_greatestUse 33 = .ok (.ifCond .eq 5, 3) := by decide +kernel
theorem d_D_greatestUse_36 : decode b_D_greatestUse 36 = .ok (.iload_n 2, 1) := by decide +kernel
theorem d_D_greatestUse_37 : decode b_D_greatestUse 37 = .ok (.ireturn, 1) := by decide +kernel
theorem d_D_greatestUse_38 : decode b_D_greatestUse 38 = .ok (.iinc 2 (-1), 3) := by decide +kernel
theorem d_D_greatestUse_41 : decode b_D_greatestUse 41 = .ok (.goto (-26), 3) := by decide +kernel
theorem d_D_greatestUse_44 : decode b_D_greatestUse 44 = .ok (.iconst (-1), 1) := by decide +kernel
theorem d_D_greatestUse_45 : decode b_D_greatestUse 45 = .ok (.ireturn, 1) := by decide +kernel
theorem d_D_init_0 : decode b_D_init 0 = .ok (.aload_n 0, 1) := by decide +kernel
theorem d_D_init_1 : decode b_D_init 1 = .ok (.invokespecial 1, 3) := by decide +kernel
theorem d_D_init_4 : decode b_D_init 4 = .ok (.aload_n 0, 1) := by decide +kernel
theorem d_D_init_5 : decode b_D_init 5 = .ok (.iconst 4, 1) := by decide +kernel
theorem d_D_init_6 : decode b_D_init 6 = .ok (.newarray .byte, 2) := by decide +kernel
theorem d_D_init_8 : decode b_D_init 8 = .ok (.putfield 7, 3) := by decide +kernel
theorem d_D_init_11 : decode b_D_init 11 = .ok (.aload_n 0, 1) := by decide +kernel
theorem d_D_init_12 : decode b_D_init 12 = .ok (.iconst 4, 1) := by decide +kernel
theorem d_D_init_13 : decode b_D_init 13 = .ok (.newarray .byte, 2) := by decide +kernel
theorem d_D_init_15 : decode b_D_init 15 = .ok (.putfield 13, 3) := by decide +kernel
theorem d_D_init_18 : decode b_D_init 18 = .ok (.aload_n 0, 1) := by decide +kernel
theorem d_D_init_19 : decode b_D_init 19 = .ok (.iconst 4, 1) := by decide +kernel
theorem d_D_init_20 : decode b_D_init 20 = .ok (.newarray .byte, 2) := by decide +kernel
theorem d_D_init_22 : decode b_D_init 22 = .ok (.putfield 16, 3) := by decide +kernel
theorem d_D_init_25 : decode b_D_init 25 = .ok (.aload_n 0, 1) := by decide +kernel
theorem d_D_init_26 : decode b_D_init 26 = .ok (.bipush 16, 2) := by decide +kernel
theorem d_D_init_28 : decode b_D_init 28 = .ok (.newarray .byte, 2) := by decide +kernel
theorem d_D_init_30 : decode b_D_init 30 = .ok (.putfield 19, 3) := by decide +kernel
theorem d_D_init_33 : decode b_D_init 33 = .ok (.aload_n 0, 1) := by decide +kernel
theorem d_D_init_34 : decode b_D_init 34 = .ok (.bipush 24, 2) := by decide +kernel
theorem d_D_init_36 : decode b_D_init 36 = .ok (.newarray .long, 2) := by decide +kernel
theorem d_D_init_38 : decode b_D_init 38 = .ok (.putfield 22, 3) := by decide +kernel
theorem d_D_init_41 : decode b_D_init 41 = .ok (.aload_n 0, 1) := by decide +kernel
theorem d_D_init_42 : decode b_D_init 42 = .ok (.iconst 4, 1) := by decide +kernel
theorem d_D_init_43 : decode b_D_init 43 = .ok (.newarray .long, 2) := by decide +kernel
theorem d_D_init_45 : decode b_D_init 45 = .ok (.putfield 26, 3) := by decide +kernel
theorem d_D_init_48 : decode b_D_init 48 = .ok (.aload_n 0, 1) := by decide +kernel
theorem d_D_init_49 : decode b_D_init 49 = .ok (.iconst 4, 1) := by decide +kernel
theorem d_D_init_50 : decode b_D_init 50 = .ok (.newarray .long, 2) := by decide +kernel
theorem d_D_init_52 : decode b_D_init 52 = .ok (.putfield 29, 3) := by decide +kernel
theorem d_D_init_55 : decode b_D_init 55 = .ok (.aload_n 0, 1) := by decide +kernel
theorem d_D_init_56 : decode b_D_init 56 = .ok (.iconst 4, 1) := by decide +kernel
theorem d_D_init_57 : decode b_D_init 57 = .ok (.newarray .long, 2) := by decide +kernel
theorem d_D_init_59 : decode b_D_init 59 = .ok (.putfield 32, 3) := by decide +kernel
theorem d_D_init_62 : decode b_D_init 62 = .ok (.aload_n 0, 1) := by decide +kernel
theorem d_D_init_63 : decode b_D_init 63 = .ok (.bipush 41, 2) := by decide +kernel
theorem d_D_init_65 : decode b_D_init 65 = .ok (.newarray .long, 2) := by decide +kernel
theorem d_D_init_67 : decode b_D_init 67 = .ok (.putfield 35, 3) := by decide +kernel
theorem d_D_init_70 : decode b_D_init 70 = .ok (.aload_n 0, 1) := by decide +kernel
theorem d_D_init_71 : decode b_D_init 71 = .ok (.bipush 41, 2) := by decide +kernel
theorem d_D_init_73 : decode b_D_init 73 = .ok (.newarray .byte, 2) := by decide +kernel
theorem d_D_init_75 : decode b_D_init 75 = .ok (.putfield 38, 3) := by decide +kernel
theorem d_D_init_78 : decode b_D_init 78 = .ok (.aload_n 0, 1) := by decide +kernel
theorem d_D_init_79 : decode b_D_init 79 = .ok (.iconst 4, 1) := by decide +kernel
theorem d_D_init_80 : decode b_D_init 80 = .ok (.newarray .byte, 2) := by decide +kernel
theorem d_D_init_82 : decode b_D_init 82 = .ok (.putfield 41, 3) := by decide +kernel
theorem d_D_init_85 : decode b_D_init 85 = .ok (.aload_n 0, 1) := by decide +kernel
theorem d_D_init_86 : decode b_D_init 86 = .ok (.bipush 56, 2) := by decide +kernel
theorem d_D_init_88 : decode b_D_init 88 = .ok (.newarray .byte, 2) := by decide +kernel
theorem d_D_init_90 : decode b_D_init 90 = .ok (.putfield 44, 3) := by decide +kernel
theorem d_D_init_93 : decode b_D_init 93 = .ok (.aload_n 0, 1) := by decide +kernel
theorem d_D_init_94 : decode b_D_init 94 = .ok (.bipush 56, 2) := by decide +kernel
theorem d_D_init_96 : decode b_D_init 96 = .ok (.newarray .byte, 2) := by decide +kernel
theorem d_D_init_98 : decode b_D_init 98 = .ok (.putfield 47, 3) := by decide +kernel
theorem d_D_init_101 : decode b_D_init 101 = .ok (.aload_n 0, 1) := by decide +kernel
theorem d_D_init_102 : decode b_D_init 102 = .ok (.bipush 14, 2) := by decide +kernel
theorem d_D_init_104 : decode b_D_init 104 = .ok (.newarray .boolean, 2) := by decide +kernel
theorem d_D_init_106 : decode b_D_init 106 = .ok (.putfield 50, 3) := by decide +kernel
theorem d_D_init_109 : decode b_D_init 109 = .ok (.aload_n 0, 1) := by decide +kernel
theorem d_D_init_110 : decode b_D_init 110 = .ok (.iload_n 1, 1) := by decide +kernel
theorem d_D_init_111 : decode b_D_init 111 = .ok (.iconst 1, 1) := by decide +kernel
theorem d_D_init_112 : decode b_D_init 112 = .ok (.if_icmp .ge 7, 3) := by decide +kernel
theorem d_D_init_115 : decode b_D_init 115 = .ok (.iconst 1, 1) := by decide +kernel
theorem d_D_init_116 : decode b_D_init 116 = .ok (.goto 15, 3) := by decide +kernel
theorem d_D_init_119 : decode b_D_init 119 = .ok (.iload_n 1, 1) := by decide +kernel
theorem d_D_init_120 : decode b_D_init 120 = .ok (.bipush 20, 2) := by decide +kernel
theorem d_D_init_122 : decode b_D_init 122 = .ok (.if_icmp .le 8, 3) := by decide +kernel
theorem d_D_init_125 : decode b_D_init 125 = .ok (.bipush 20, 2) := by decide +kernel
theorem d_D_init_127 : decode b_D_init 127 = .ok (.goto 4, 3) := by decide +kernel
theorem d_D_init_130 : decode b_D_init 130 = .ok (.iload_n 1, 1) := by decide +kernel
theorem d_D_init_131 : decode b_D_init 131 = .ok (.putfield 54, 3) := by decide +kernel
theorem d_D_init_134 : decode b_D_init 134 = .ok (.iconst 0, 1) := by decide +kernel
theorem d_D_init_135 : decode b_D_init 135 = .ok (.istore_n 2, 1) := by decide +kernel
theorem d_D_init_136 : decode b_D_init 136 = .ok (.iload_n 2, 1) := by decide +kernel
theorem d_D_init_137 : decode b_D_init 137 = .ok (.iconst 4, 1) := by decide +kernel
theorem d_D_init_138 : decode b_D_init 138 = .ok (.if_icmp .ge 16, 3) := by decide +kernel
end
section
theorem d_D_init_141 : decode b_D_init 141 = .ok (.aload_n 0, 1) := by decide +kernel
theorem d_D_init_142 : decode b_D_init 142 = .ok (.getfield 7, 3) := by decide +kernel
theorem d_D_init_145 : decode b_D_init 145 = .ok (.iload_n 2, 1) := by decide +kernel
theorem d_D_init_146 : decode b_D_init 146 = .ok (.iconst 1, 1) := by decide +kernel
theorem d_D_init_147 : decode b_D_init 147 = .ok (.bastore, 1) := by decide +kernel
theorem d_D_init_148 : decode b_D_init 148 = .ok (.iinc 2 1, 3) := by decide +kernel
theorem d_D_init_151 : decode b_D_init 151 = .ok (.goto (-15), 3) := by decide +kernel
theorem d_D_init_154 : decode b_D_init 154 = .ok (.return_, 1) := by decide +kernel
theorem d_D_isKind_0 : decode b_D_isKind 0 = .ok (.iload_n 0, 1) := by decide +kernel
theorem d_D_isKind_1 : decode b_D_isKind 1 = .ok (.ifCond .lt 12, 3) := by decide +kernel
theorem d_D_isKind_4 : decode b_D_isKind 4 = .ok (.iload_n 0, 1) := by decide +kernel
theorem d_D_isKind_5 : decode b_D_isKind 5 = .ok (.iconst 4, 1) := by decide +kernel
theorem d_D_isKind_6 : decode b_D_isKind 6 = .ok (.if_icmp .ge 7, 3) := by decide +kernel
theorem d_D_isKind_9 : decode b_D_isKind 9 = .ok (.iconst 1, 1) := by decide +kernel
theorem d_D_isKind_10 : decode b_D_isKind 10 = .ok (.goto 4, 3) := by decide +kernel
theorem d_D_isKind_13 : decode b_D_isKind 13 = .ok (.iconst 0, 1) := by decide +kernel
theorem d_D_isKind_14 : decode b_D_isKind 14 = .ok (.ireturn, 1) := by decide +kernel
theorem d_D_least_0 : decode b_D_least 0 = .ok (.aload_n 0, 1) := by decide +kernel
theorem d_D_least_1 : decode b_D_least 1 = .ok (.invokevirtual 137, 3) := by decide +kernel
theorem d_D_least_4 : decode b_D_least 4 = .ok (.aload_n 0, 1) := by decide +kernel
theorem d_D_least_5 : decode b_D_least 5 = .ok (.invokevirtual 140, 3) := by decide +kernel
theorem d_D_least_8 : decode b_D_least 8 = .ok (.ireturn, 1) := by decide +kernel
theorem d_D_leastFor_0 : decode b_D_leastFor 0 = .ok (.iload_n 1, 1) := by decide +kernel
theorem d_D_leastFor_1 : decode b_D_leastFor 1 = .ok (.iconst 1, 1) := by decide +kernel
theorem d_D_leastFor_2 : decode b_D_leastFor 2 = .ok (.if_icmp .lt 9, 3) := by decide +kernel
theorem d_D_leastFor_5 : decode b_D_leastFor 5 = .ok (.iload_n 1, 1) := by decide +kernel
theorem d_D_leastFor_6 : decode b_D_leastFor 6 = .ok (.bipush 40, 2) := by decide +kernel
theorem d_D_leastFor_8 : decode b_D_leastFor 8 = .ok (.if_icmp .le 5, 3) := by decide +kernel
theorem d_D_leastFor_11 : decode b_D_leastFor 11 = .ok (.iconst (-1), 1) := by decide +kernel
theorem d_D_leastFor_12 : decode b_D_leastFor 12 = .ok (.ireturn, 1) := by decide +kernel
theorem d_D_leastFor_13 : decode b_D_leastFor 13 = .ok (.iconst 0, 1) := by decide +kernel
theorem d_D_leastFor_14 : decode b_D_leastFor 14 = .ok (.istore_n 2, 1) := by decide +kernel
theorem d_D_leastFor_15 : decode b_D_leastFor 15 = .ok (.iload_n 2, 1) := by decide +kernel
theorem d_D_leastFor_16 : decode b_D_leastFor 16 = .ok (.iconst 4, 1) := by decide +kernel
theorem d_D_leastFor_17 : decode b_D_leastFor 17 = .ok (.if_icmp .ge 30, 3) := by decide +kernel
theorem d_D_leastFor_20 : decode b_D_leastFor 20 = .ok (.aload_n 0, 1) := by decide +kernel
theorem d_D_leastFor_21 : decode b_D_leastFor 21 = .ok (.getfield 13, 3) := by decide +kernel
theorem d_D_leastFor_24 : decode b_D_leastFor 24 = .ok (.iload_n 2, 1) := by decide +kernel
theorem d_D_leastFor_25 : decode b_D_leastFor 25 = .ok (.baload, 1) := by decide +kernel
theorem d_D_leastFor_26 : decode b_D_leastFor 26 = .ok (.ifCond .le 15, 3) := by decide +kernel
theorem d_D_leastFor_29 : decode b_D_leastFor 29 = .ok (.aload_n 0, 1) := by decide +kernel
theorem d_D_leastFor_30 : decode b_D_leastFor 30 = .ok (.getfield 7, 3) := by decide +kernel
theorem d_D_leastFor_33 : decode b_D_leastFor 33 = .ok (.iload_n 2, 1) := by decide +kernel
theorem d_D_leastFor_34 : decode b_D_leastFor 34 = .ok (.baload, 1) := by decide +kernel
theorem d_D_leastFor_35 : decode b_D_leastFor 35 = .ok (.iload_n 1, 1) := by decide +kernel
theorem d_D_leastFor_36 : decode b_D_leastFor 36 = .ok (.if_icmp .le 5, 3) := by decide +kernel
theorem d_D_leastFor_39 : decode b_D_leastFor 39 = .ok (.iconst (-1), 1) := by decide +kernel
theorem d_D_leastFor_40 : decode b_D_leastFor 40 = .ok (.ireturn, 1) := by decide +kernel
theorem d_D_leastFor_41 : decode b_D_leastFor 41 = .ok (.iinc 2 1, 3) := by decide +kernel
theorem d_D_leastFor_44 : decode b_D_leastFor 44 = .ok (.goto (-29), 3) := by decide +kernel
theorem d_D_leastFor_47 : decode b_D_leastFor 47 = .ok (.aload_n 0, 1) := by decide +kernel
theorem d_D_leastFor_48 : decode b_D_leastFor 48 = .ok (.invokevirtual 137, 3) := by decide +kernel
theorem d_D_leastFor_51 : decode b_D_leastFor 51 = .ok (.aload_n 0, 1) := by decide +kernel
theorem d_D_leastFor_52 : decode b_D_leastFor 52 = .ok (.iload_n 1, 1) := by decide +kernel
theorem d_D_leastFor_53 : decode b_D_leastFor 53 = .ok (.putfield 62, 3) := by decide +kernel
theorem d_D_leastFor_56 : decode b_D_leastFor 56 = .ok (.aload_n 0, 1) := by decide +kernel
theorem d_D_leastFor_57 : decode b_D_leastFor 57 = .ok (.invokevirtual 140, 3) := by decide +kernel
theorem d_D_leastFor_60 : decode b_D_leastFor 60 = .ok (.ireturn, 1) := by decide +kernel
theorem d_D_leastWith_0 : decode b_D_leastWith 0 = .ok (.iload_n 1, 1) := by decide +kernel
theorem d_D_leastWith_1 : decode b_D_leastWith 1 = .ok (.invokestatic 58, 3) := by decide +kernel
theorem d_D_leastWith_4 : decode b_D_leastWith 4 = .ok (.ifCond .eq 12, 3) := by decide +kernel
theorem d_D_leastWith_7 : decode b_D_leastWith 7 = .ok (.iload_n 2, 1) := by decide +kernel
theorem d_D_leastWith_8 : decode b_D_leastWith 8 = .ok (.ifCond .lt 8, 3) := by decide +kernel
theorem d_D_leastWith_11 : decode b_D_leastWith 11 = .ok (.iload_n 2, 1) := by decide +kernel
theorem d_D_leastWith_12 : decode b_D_leastWith 12 = .ok (.iconst 3, 1) := by decide +kernel
theorem d_D_leastWith_13 : decode b_D_leastWith 13 = .ok (.if_icmp .le 5, 3) := by decide +kernel
theorem d_D_leastWith_16 : decode b_D_leastWith 16 = .ok (.iconst (-1), 1) := by decide +kernel
theorem d_D_leastWith_17 : decode b_D_leastWith 17 = .ok (.ireturn, 1) := by decide +kernel
theorem d_D_leastWith_18 : decode b_D_leastWith 18 = .ok (.aload_n 0, 1) := by decide +kernel
theorem d_D_leastWith_19 : decode b_D_leastWith 19 = .ok (.invokevirtual 137, 3) := by decide +kernel
theorem d_D_leastWith_22 : decode b_D_leastWith 22 = .ok (.aload_n 0, 1) := by decide +kernel
theorem d_D_leastWith_23 : decode b_D_leastWith 23 = .ok (.getfield 16, 3) := by decide +kernel
theorem d_D_leastWith_26 : decode b_D_leastWith 26 = .ok (.iload_n 1, 1) := by decide +kernel
theorem d_D_leastWith_27 : decode b_D_leastWith 27 = .ok (.iload_n 2, 1) := by decide +kernel
theorem d_D_leastWith_28 : decode b_D_leastWith 28 = .ok (.i2b, 1) := by decide +kernel
theorem d_D_leastWith_29 : decode b_D_leastWith 29 = .ok (.bastore, 1) := by decide +kernel
theorem d_D_leastWith_30 : decode b_D_leastWith 30 = .ok (.aload_n 0, 1) := by decide +kernel
theorem d_D_leastWith_31 : decode b_D_leastWith 31 = .ok (.invokevirtual 140, 3) := by decide +kernel
theorem d_D_leastWith_34 : decode b_D_leastWith 34 = .ok (.ireturn, 1) := by decide +kernel
theorem d_D_leavesOneLess_0 : decode b_D_leavesOneLess 0 = .ok (.aload_n 0, 1) := by decide +kernel
theorem d_D_leavesOneLess_1 : decode b_D_leavesOneLess 1 = .ok (.invokevirtual 137, 3) := by decide +kernel
theorem d_D_leavesOneLess_4 : decode b_D_leavesOneLess 4 = .ok (.iconst 0, 1) := by decide +kernel
theorem d_D_leavesOneLess_5 : decode b_D_leavesOneLess 5 = .ok (.istore_n 3, 1) := by decide +kernel
theorem d_D_leavesOneLess_6 : decode b_D_leavesOneLess 6 = .ok (.iload_n 3, 1) := by decide +kernel
theorem d_D_leavesOneLess_7 : decode b_D_leavesOneLess 7 = .ok (.iconst 4, 1) := by decide +kernel
theorem d_D_leavesOneLess_8 : decode b_D_leavesOneLess 8 = .ok (.if_icmp .ge 43, 3) := by decide +kernel
theorem d_D_leavesOneLess_11 : decode b_D_leavesOneLess 11 = .ok (.aload_n 0, 1) := by decide +kernel
theorem d_D_leavesOneLess_12 : decode b_D_leavesOneLess 12 = .ok (.getfield 16, 3) := by decide +kernel
theorem d_D_leavesOneLess_15 : decode b_D_leavesOneLess 15 = .ok (.iload_n 3, 1) := by decide +kernel
theorem d_D_leavesOneLess_16 : decode b_D_leavesOneLess 16 = .ok (.baload, 1) := by decide +kernel
theorem d_D_leavesOneLess_17 : decode b_D_leavesOneLess 17 = .ok (.iload_n 1, 1) := by decide +kernel
theorem d_D_leavesOneLess_18 : decode b_D_leavesOneLess 18 = .ok (.iconst 2, 1) := by decide +kernel
theorem d_D_leavesOneLess_19 : decode b_D_leavesOneLess 19 = .ok (.iload_n 3, 1) := by decide +kernel
theorem d_D_leavesOneLess_20 : decode b_D_leavesOneLess 20 = .ok (.imul, 1) := by decide +kernel
theorem d_D_leavesOneLess_21 : decode b_D_leavesOneLess 21 = .ok (.ishr, 1) := by decide +kernel
theorem d_D_leavesOneLess_22 : decode b_D_leavesOneLess 22 = .ok (.iconst 3, 1) := by decide +kernel
theorem d_D_leavesOneLess_23 : decode b_D_leavesOneLess 23 = .ok (.iand, 1) := by decide +kernel
theorem d_D_leavesOneLess_24 : decode b_D_leavesOneLess 24 = .ok (.isub, 1) := by decide +kernel
theorem d_D_leavesOneLess_25 : decode b_D_leavesOneLess 25 = .ok (.istore 4, 2) := by decide +kernel
theorem d_D_leavesOneLess_27 : decode b_D_leavesOneLess 27 = .ok (.aload_n 0, 1) := by decide +kernel
theorem d_D_leavesOneLess_28 : decode b_D_leavesOneLess 28 = .ok (.getfield 16, 3) := by decide +kernel
theorem d_D_leavesOneLess_31 : decode b_D_leavesOneLess 31 = .ok (.iload_n 3, 1) := by decide +kernel
theorem d_D_leavesOneLess_32 : decode b_D_leavesOneLess 32 = .ok (.iload 4, 2) := by decide +kernel
theorem d_D_leavesOneLess_34 : decode b_D_leavesOneLess 34 = .ok (.ifCond .le 8, 3) := by decide +kernel
theorem d_D_leavesOneLess_37 : decode b_D_leavesOneLess 37 = .ok (.iload 4, 2) := by decide +kernel
theorem d_D_leavesOneLess_39 : decode b_D_leavesOneLess 39 = .ok (.goto 4, 3) := by decide +kernel
theorem d_D_leavesOneLess_42 : decode b_D_leavesOneLess 42 = .ok (.iconst 0, 1) := by decide +kernel
theorem d_D_leavesOneLess_43 : decode b_D_leavesOneLess 43 = .ok (.i2b, 1) := by decide +kernel
theorem d_D_leavesOneLess_44 : decode b_D_leavesOneLess 44 = .ok (.bastore, 1) := by decide +kernel
theorem d_D_leavesOneLess_45 : decode b_D_leavesOneLess 45 = .ok (.iinc 3 1, 3) := by decide +kernel
theorem d_D_leavesOneLess_48 : decode b_D_leavesOneLess 48 = .ok (.goto (-42), 3) := by decide +kernel
theorem d_D_leavesOneLess_51 : decode b_D_leavesOneLess 51 = .ok (.aload_n 0, 1) := by decide +kernel
theorem d_D_leavesOneLess_52 : decode b_D_leavesOneLess 52 = .ok (.invokevirtual 140, 3) := by decide +kernel
theorem d_D_leavesOneLess_55 : decode b_D_leavesOneLess 55 = .ok (.iload_n 2, 1) := by decide +kernel
theorem d_D_leavesOneLess_56 : decode b_D_leavesOneLess 56 = .ok (.iconst 1, 1) := by decide +kernel
theorem d_D_leavesOneLess_57 : decode b_D_leavesOneLess 57 = .ok (.isub, 1) := by decide +kernel
theorem d_D_leavesOneLess_58 : decode b_D_leavesOneLess 58 = .ok (.if_icmp .ne 7, 3) := by decide +kernel
theorem d_D_leavesOneLess_61 : decode b_D_leavesOneLess 61 = .ok (.iconst 1, 1) := by decide +kernel
theorem d_D_leavesOneLess_62 : decode b_D_leavesOneLess 62 = .ok (.goto 4, 3) := by decide +kernel
theorem d_D_leavesOneLess_65 : decode b_D_leavesOneLess 65 = .ok (.iconst 0, 1) := by decide +kernel
theorem d_D_leavesOneLess_66 : decode b_D_leavesOneLess 66 = .ok (.ireturn, 1) := by decide +kernel
theorem d_D_mostValuable_0 : decode b_D_mostValuable 0 = .ok (.aload_n 0, 1) := by decide +kernel
theorem d_D_mostValuable_1 : decode b_D_mostValuable 1 = .ok (.getfield 35, 3) := by decide +kernel
theorem d_D_mostValuable_4 : decode b_D_mostValuable 4 = .ok (.iconst 0, 1) := by decide +kernel
theorem d_D_mostValuable_5 : decode b_D_mostValuable 5 = .ok (.lconst 0, 1) := by decide +kernel
theorem d_D_mostValuable_6 : decode b_D_mostValuable 6 = .ok (.lastore, 1) := by decide +kernel
theorem d_D_mostValuable_7 : decode b_D_mostValuable 7 = .ok (.aload_n 0, 1) := by decide +kernel
theorem d_D_mostValuable_8 : decode b_D_mostValuable 8 = .ok (.getfield 38, 3) := by decide +kernel
theorem d_D_mostValuable_11 : decode b_D_mostValuable 11 = .ok (.iconst 0, 1) := by decide +kernel
theorem d_D_mostValuable_12 : decode b_D_mostValuable 12 = .ok (.iconst (-1), 1) := by decide +kernel
theorem d_D_mostValuable_13 : decode b_D_mostValuable 13 = .ok (.bastore, 1) := by decide +kernel
theorem d_D_mostValuable_14 : decode b_D_mostValuable 14 = .ok (.iconst 1, 1) := by decide +kernel
theorem d_D_mostValuable_15 : decode b_D_mostValuable 15 = .ok (.istore_n 1, 1) := by decide +kernel
theorem d_D_mostValuable_16 : decode b_D_mostValuable 16 = .ok (.iload_n 1, 1) := by decide +kernel
theorem d_D_mostValuable_17 : decode b_D_mostValuable 17 = .ok (.aload_n 0, 1) := by decide +kernel
theorem d_D_mostValuable_18 : decode b_D_mostValuable 18 = .ok (.getfield 62, 3) := by decide +kernel
theorem d_D_mostValuable_21 : decode b_D_mostValuable 21 = .ok (.if_icmp .gt 117, 3) := by decide +kernel
theorem d_D_mostValuable_24 : decode b_D_mostValuable 24 = .ok (.aload_n 0, 1) := by decide +kernel
theorem d_D_mostValuable_25 : decode b_D_mostValuable 25 = .ok (.getfield 35, 3) := by decide +kernel
theorem d_D_mostValuable_28 : decode b_D_mostValuable 28 = .ok (.iload_n 1, 1) := by decide +kernel
theorem d_D_mostValuable_29 : decode b_D_mostValuable 29 = .ok (.aload_n 0, 1) := by decide +kernel
theorem d_D_mostValuable_30 : decode b_D_mostValuable 30 = .ok (.getfield 35, 3) := by decide +kernel
theorem d_D_mostValuable_33 : decode b_D_mostValuable 33 = .ok (.iload_n 1, 1) := by decide +kernel
theorem d_D_mostValuable_34 : decode b_D_mostValuable 34 = .ok (.iconst 1, 1) := by decide +kernel
theorem d_D_mostValuable_35 : decode b_D_mostValuable 35 = .ok (.isub, 1) := by decide +kernel
theorem d_D_mostValuable_36 : decode b_D_mostValuable 36 = .ok (.laload, 1) := by decide +kernel
theorem d_D_mostValuable_37 : decode b_D_mostValuable 37 = .ok (.lastore, 1) := by decide +kernel
theorem d_D_mostValuable_38 : decode b_D_mostValuable 38 = .ok (.aload_n 0, 1) := by decide +kernel
theorem d_D_mostValuable_39 : decode b_D_mostValuable 39 = .ok (.getfield 38, 3) := by decide +kernel
theorem d_D_mostValuable_42 : decode b_D_mostValuable 42 = .ok (.iload_n 1, 1) := by decide +kernel
theorem d_D_mostValuable_43 : decode b_D_mostValuable 43 = .ok (.iconst (-1), 1) := by decide +kernel
theorem d_D_mostValuable_44 : decode b_D_mostValuable 44 = .ok (.bastore, 1) := by decide +kernel
theorem d_D_mostValuable_45 : decode b_D_mostValuable 45 = .ok (.iconst 0, 1) := by decide +kernel
theorem d_D_mostValuable_46 : decode b_D_mostValuable 46 = .ok (.istore_n 2, 1) := by decide +kernel
theorem d_D_mostValuable_47 : decode b_D_mostValuable 47 = .ok (.iload_n 2, 1) := by decide +kernel
theorem d_D_mostValuable_48 : decode b_D_mostValuable 48 = .ok (.iconst 4, 1) := by decide +kernel
theorem d_D_mostValuable_49 : decode b_D_mostValuable 49 = .ok (.if_icmp .ge 83, 3) := by decide +kernel
theorem d_D_mostValuable_52 : decode b_D_mostValuable 52 = .ok (.aload_n 0, 1) := by decide +kernel
theorem d_D_mostValuable_53 : decode b_D_mostValuable 53 = .ok (.getfield 7, 3) := by decide +kernel
theorem d_D_mostValuable_56 : decode b_D_mostValuable 56 = .ok (.iload_n 2, 1) := by decide +kernel
theorem d_D_mostValuable_57 : decode b_D_mostValuable 57 = .ok (.baload, 1) := by decide +kernel
theorem d_D_mostValuable_58 : decode b_D_mostValuable 58 = .ok (.iload_n 1, 1) := by decide +kernel
theorem d_D_mostValuable_59 : decode b_D_mostValuable 59 = .ok (.if_icmp .gt 67, 3) := by decide +kernel
theorem d_D_mostValuable_62 : decode b_D_mostValuable 62 = .ok (.aload_n 0, 1) := by decide +kernel
theorem d_D_mostValuable_63 : decode b_D_mostValuable 63 = .ok (.getfield 35, 3) := by decide +kernel
theorem d_D_mostValuable_66 : decode b_D_mostValuable 66 = .ok (.iload_n 1, 1) := by decide +kernel
theorem d_D_mostValuable_67 : decode b_D_mostValuable 67 = .ok (.aload_n 0, 1) := by decide +kernel
theorem d_D_mostValuable_68 : decode b_D_mostValuable 68 = .ok (.getfield 7, 3) := by decide +kernel
theorem d_D_mostValuable_71 : decode b_D_mostValuable 71 = .ok (.iload_n 2, 1) := by decide +kernel
theorem d_D_mostValuable_72 : decode b_D_mostValuable 72 = .ok (.baload, 1) := by decide +kernel
theorem d_D_mostValuable_73 : decode b_D_mostValuable 73 = .ok (.isub, 1) := by decide +kernel
theorem d_D_mostValuable_74 : decode b_D_mostValuable 74 = .ok (.laload, 1) := by decide +kernel
theorem d_D_mostValuable_75 : decode b_D_mostValuable 75 = .ok (.aload_n 0, 1) := by decide +kernel
theorem d_D_mostValuable_76 : decode b_D_mostValuable 76 = .ok (.getfield 26, 3) := by decide +kernel
theorem d_D_mostValuable_79 : decode b_D_mostValuable 79 = .ok (.iload_n 2, 1) := by decide +kernel
theorem d_D_mostValuable_80 : decode b_D_mostValuable 80 = .ok (.laload, 1) := by decide +kernel
theorem d_D_mostValuable_81 : decode b_D_mostValuable 81 = .ok (.ladd, 1) := by decide +kernel
theorem d_D_mostValuable_82 : decode b_D_mostValuable 82 = .ok (.aload_n 0, 1) := by decide +kernel
theorem d_D_mostValuable_83 : decode b_D_mostValuable 83 = .ok (.getfield 35, 3) := by decide +kernel
theorem d_D_mostValuable_86 : decode b_D_mostValuable 86 = .ok (.iload_n 1, 1) := by decide +kernel
theorem d_D_mostValuable_87 : decode b_D_mostValuable 87 = .ok (.laload, 1) := by decide +kernel
theorem d_D_mostValuable_88 : decode b_D_mostValuable 88 = .ok (.lcmp, 1) := by decide +kernel
theorem d_D_mostValuable_89 : decode b_D_mostValuable 89 = .ok (.ifCond .le 37, 3) := by decide +kernel
theorem d_D_mostValuable_92 : decode b_D_mostValuable 92 = .ok (.aload_n 0, 1) := by decide +kernel
theorem d_D_mostValuable_93 : decode b_D_mostValuable 93 = .ok (.getfield 35, 3) := by decide +kernel
theorem d_D_mostValuable_96 : decode b_D_mostValuable 96 = .ok (.iload_n 1, 1) := by decide +kernel
theorem d_D_mostValuable_97 : decode b_D_mostValuable 97 = .ok (.aload_n 0, 1) := by decide +kernel
theorem d_D_mostValuable_98 : decode b_D_mostValuable 98 = .ok (.getfield 35, 3) := by decide +kernel
theorem d_D_mostValuable_101 : decode b_D_mostValuable 101 = .ok (.iload_n 1, 1) := by decide +kernel
theorem d_D_mostValuable_102 : decode b_D_mostValuable 102 = .ok (.aload_n 0, 1) := by decide +kernel
theorem d_D_mostValuable_103 : decode b_D_mostValuable 103 = .ok (.getfield 7, 3) := by decide +kernel
theorem d_D_mostValuable_106 : decode b_D_mostValuable 106 = .ok (.iload_n 2, 1) := by decide +kernel
theorem d_D_mostValuable_107 : decode b_D_mostValuable 107 = .ok (.baload, 1) := by decide +kernel
theorem d_D_mostValuable_108 : decode b_D_mostValuable 108 = .ok (.isub, 1) := by decide +kernel
theorem d_D_mostValuable_109 : decode b_D_mostValuable 109 = .ok (.laload, 1) := by decide +kernel
theorem d_D_mostValuable_110 : decode b_D_mostValuable 110 = .ok (.aload_n 0, 1) := by decide +kernel
theorem d_D_mostValuable_111 : decode b_D_mostValuable 111 = .ok (.getfield 26, 3) := by decide +kernel
theorem d_D_mostValuable_114 : decode b_D_mostValuable 114 = .ok (.iload_n 2, 1) := by decide +kernel
theorem d_D_mostValuable_115 : decode b_D_mostValuable 115 = .ok (.laload, 1) := by decide +kernel
theorem d_D_mostValuable_116 : decode b_D_mostValuable 116 = .ok (.ladd, 1) := by decide +kernel
theorem d_D_mostValuable_117 : decode b_D_mostValuable 117 = .ok (.lastore, 1) := by decide +kernel
theorem d_D_mostValuable_118 : decode b_D_mostValuable 118 = .ok (.aload_n 0, 1) := by decide +kernel
theorem d_D_mostValuable_119 : decode b_D_mostValuable 119 = .ok (.getfield 38, 3) := by decide +kernel
theorem d_D_mostValuable_122 : decode b_D_mostValuable 122 = .ok (.iload_n 1, 1) := by decide +kernel
theorem d_D_mostValuable_123 : decode b_D_mostValuable 123 = .ok (.iload_n 2, 1) := by decide +kernel
theorem d_D_mostValuable_124 : decode b_D_mostValuable 124 = .ok (.i2b, 1) := by decide +kernel
theorem d_D_mostValuable_125 : decode b_D_mostValuable 125 = .ok (.bastore, 1) := by decide +kernel
theorem d_D_mostValuable_126 : decode b_D_mostValuable 126 = .ok (.iinc 2 1, 3) := by decide +kernel
theorem d_D_mostValuable_129 : decode b_D_mostValuable 129 = .ok (.goto (-82), 3) := by decide +kernel
theorem d_D_mostValuable_132 : decode b_D_mostValuable 132 = .ok (.iinc 1 1, 3) := by decide +kernel
theorem d_D_mostValuable_135 : decode b_D_mostValuable 135 = .ok (.goto (-119), 3) := by decide +kernel
theorem d_D_mostValuable_138 : decode b_D_mostValuable 138 = .ok (.iconst 0, 1) := by decide +kernel
theorem d_D_mostValuable_139 : decode b_D_mostValuable 139 = .ok (.istore_n 1, 1) := by decide +kernel
theorem d_D_mostValuable_140 : decode b_D_mostValuable 140 = .ok (.iload_n 1, 1) := by decide +kernel
theorem d_D_mostValuable_141 : decode b_D_mostValuable 141 = .ok (.iconst 4, 1) := by decide +kernel
theorem d_D_mostValuable_142 : decode b_D_mostValuable 142 = .ok (.if_icmp .ge 16, 3) := by decide +kernel
theorem d_D_mostValuable_145 : decode b_D_mostValuable 145 = .ok (.aload_n 0, 1) := by decide +kernel
theorem d_D_mostValuable_146 : decode b_D_mostValuable 146 = .ok (.getfield 41, 3) := by decide +kernel
theorem d_D_mostValuable_149 : decode b_D_mostValuable 149 = .ok (.iload_n 1, 1) := by decide +kernel
theorem d_D_mostValuable_150 : decode b_D_mostValuable 150 = .ok (.iconst 0, 1) := by decide +kernel
theorem d_D_mostValuable_151 : decode b_D_mostValuable 151 = .ok (.bastore, 1) := by decide +kernel
theorem d_D_mostValuable_152 : decode b_D_mostValuable 152 = .ok (.iinc 1 1, 3) := by decide +kernel
theorem d_D_mostValuable_155 : decode b_D_mostValuable 155 = .ok (.goto (-15), 3) := by decide +kernel
theorem d_D_mostValuable_158 : decode b_D_mostValuable 158 = .ok (.aload_n 0, 1) := by decide +kernel
theorem d_D_mostValuable_159 : decode b_D_mostValuable 159 = .ok (.getfield 62, 3) := by decide +kernel
theorem d_D_mostValuable_162 : decode b_D_mostValuable 162 = .ok (.istore_n 1, 1) := by decide +kernel
theorem d_D_mostValuable_163 : decode b_D_mostValuable 163 = .ok (.iconst 0, 1) := by decide +kernel
theorem d_D_mostValuable_164 : decode b_D_mostValuable 164 = .ok (.istore_n 2, 1) := by decide +kernel
theorem d_D_mostValuable_165 : decode b_D_mostValuable 165 = .ok (.iload_n 2, 1) := by decide +kernel
theorem d_D_mostValuable_166 : decode b_D_mostValuable 166 = .ok (.bipush 40, 2) := by decide +kernel
theorem d_D_mostValuable_168 : decode b_D_mostValuable 168 = .ok (.if_icmp .ge 50, 3) := by decide +kernel
theorem d_D_mostValuable_171 : decode b_D_mostValuable 171 = .ok (.iload_n 1, 1) := by decide +kernel
theorem d_D_mostValuable_172 : decode b_D_mostValuable 172 = .ok (.ifCond .le 46, 3) := by decide +kernel
theorem d_D_mostValuable_175 : decode b_D_mostValuable 175 = .ok (.aload_n 0, 1) := by decide +kernel
theorem d_D_mostValuable_176 : decode b_D_mostValuable 176 = .ok (.getfield 38, 3) := by decide +kernel
theorem d_D_mostValuable_179 : decode b_D_mostValuable 179 = .ok (.iload_n 1, 1) := by decide +kernel
theorem d_D_mostValuable_180 : decode b_D_mostValuable 180 = .ok (.baload, 1) := by decide +kernel
theorem d_D_mostValuable_181 : decode b_D_mostValuable 181 = .ok (.istore_n 3, 1) := by decide +kernel
theorem d_D_mostValuable_182 : decode b_D_mostValuable 182 = .ok (.iload_n 3, 1) := by decide +kernel
theorem d_D_mostValuable_183 : decode b_D_mostValuable 183 = .ok (.ifCond .lt 26, 3) := by decide +kernel
theorem d_D_mostValuable_186 : decode b_D_mostValuable 186 = .ok (.aload_n 0, 1) := by decide +kernel
theorem d_D_mostValuable_187 : decode b_D_mostValuable 187 = .ok (.getfield 41, 3) := by decide +kernel
theorem d_D_mostValuable_190 : decode b_D_mostValuable 190 = .ok (.iload_n 3, 1) := by decide +kernel
theorem d_D_mostValuable_191 : decode b_D_mostValuable 191 = .ok (.dup2, 1) := by decide +kernel
theorem d_D_mostValuable_192 : decode b_D_mostValuable 192 = .ok (.baload, 1) := by decide +kernel
theorem d_D_mostValuable_193 : decode b_D_mostValuable 193 = .ok (.iconst 1, 1) := by decide +kernel
theorem d_D_mostValuable_194 : decode b_D_mostValuable 194 = .ok (.iadd, 1) := by decide +kernel
theorem d_D_mostValuable_195 : decode b_D_mostValuable 195 = .ok (.i2b, 1) := by decide +kernel
theorem d_D_mostValuable_196 : decode b_D_mostValuable 196 = .ok (.bastore, 1) := by decide +kernel
theorem d_D_mostValuable_197 : decode b_D_mostValuable 197 = .ok (.iload_n 1, 1) := by decide +kernel
theorem d_D_mostValuable_198 : decode b_D_mostValuable 198 = .ok (.aload_n 0, 1) := by decide +kernel
theorem d_D_mostValuable_199 : decode b_D_mostValuable 199 = .ok (.getfield 7, 3) := by decide +kernel
theorem d_D_mostValuable_202 : decode b_D_mostValuable 202 = .ok (.iload_n 3, 1) := by decide +kernel
theorem d_D_mostValuable_203 : decode b_D_mostValuable 203 = .ok (.baload, 1) := by decide +kernel
theorem d_D_mostValuable_204 : decode b_D_mostValuable 204 = .ok (.isub, 1) := by decide +kernel
theorem d_D_mostValuable_205 : decode b_D_mostValuable 205 = .ok (.istore_n 1, 1) := by decide +kernel
theorem d_D_mostValuable_206 : decode b_D_mostValuable 206 = .ok (.goto 6, 3) := by decide +kernel
theorem d_D_mostValuable_209 : decode b_D_mostValuable 209 = .ok (.iinc 1 (-1), 3) := by decide +kernel
theorem d_D_mostValuable_212 : decode b_D_mostValuable 212 = .ok (.iinc 2 1, 3) := by decide +kernel
theorem d_D_mostValuable_215 : decode b_D_mostValuable 215 = .ok (.goto (-50), 3) := by decide +kernel
theorem d_D_mostValuable_218 : decode b_D_mostValuable 218 = .ok (.aload_n 0, 1) := by decide +kernel
theorem d_D_mostValuable_219 : decode b_D_mostValuable 219 = .ok (.getfield 35, 3) := by decide +kernel
theorem d_D_mostValuable_222 : decode b_D_mostValuable 222 = .ok (.aload_n 0, 1) := by decide +kernel
theorem d_D_mostValuable_223 : decode b_D_mostValuable 223 = .ok (.getfield 62, 3) := by decide +kernel
theorem d_D_mostValuable_226 : decode b_D_mostValuable 226 = .ok (.laload, 1) := by decide +kernel
theorem d_D_mostValuable_227 : decode b_D_mostValuable 227 = .ok (.lreturn, 1) := by decide +kernel
theorem d_D_nextPattern_0 : decode b_D_nextPattern 0 = .ok (.aload_n 0, 1) := by decide +kernel
theorem d_D_nextPattern_1 : decode b_D_nextPattern 1 = .ok (.getfield 50, 3) := by decide +kernel
theorem d_D_nextPattern_4 : decode b_D_nextPattern 4 = .ok (.iload_n 1, 1) := by decide +kernel
theorem d_D_nextPattern_5 : decode b_D_nextPattern 5 = .ok (.baload, 1) := by decide +kernel
theorem d_D_nextPattern_6 : decode b_D_nextPattern 6 = .ok (.ifCond .ne 16, 3) := by decide +kernel
theorem d_D_nextPattern_9 : decode b_D_nextPattern 9 = .ok (.aload_n 0, 1) := by decide +kernel
theorem d_D_nextPattern_10 : decode b_D_nextPattern 10 = .ok (.getfield 50, 3) := by decide +kernel
theorem d_D_nextPattern_13 : decode b_D_nextPattern 13 = .ok (.iload_n 1, 1) := by decide +kernel
theorem d_D_nextPattern_14 : decode b_D_nextPattern 14 = .ok (.iconst 1, 1) := by decide +kernel
theorem d_D_nextPattern_15 : decode b_D_nextPattern 15 = .ok (.bastore, 1) := by decide +kernel
theorem d_D_nextPattern_16 : decode b_D_nextPattern 16 = .ok (.aload_n 0, 1) := by decide +kernel
theorem d_D_nextPattern_17 : decode b_D_nextPattern 17 = .ok (.iload_n 1, 1) := by decide +kernel
theorem d_D_nextPattern_18 : decode b_D_nextPattern 18 = .ok (.invokevirtual 128, 3) := by decide +kernel
theorem d_D_nextPattern_21 : decode b_D_nextPattern 21 = .ok (.ireturn, 1) := by decide +kernel
theorem d_D_nextPattern_22 : decode b_D_nextPattern 22 = .ok (.aload_n 0, 1) := by decide +kernel
theorem d_D_nextPattern_23 : decode b_D_nextPattern 23 = .ok (.iload_n 1, 1) := by decide +kernel
theorem d_D_nextPattern_24 : decode b_D_nextPattern 24 = .ok (.invokevirtual 131, 3) := by decide +kernel
theorem d_D_nextPattern_27 : decode b_D_nextPattern 27 = .ok (.istore_n 2, 1) := by decide +kernel
theorem d_D_nextPattern_28 : decode b_D_nextPattern 28 = .ok (.iconst 3, 1) := by decide +kernel
theorem d_D_nextPattern_29 : decode b_D_nextPattern 29 = .ok (.istore_n 3, 1) := by decide +kernel
theorem d_D_nextPattern_30 : decode b_D_nextPattern 30 = .ok (.iload_n 3, 1) := by decide +kernel
theorem d_D_nextPattern_31 : decode b_D_nextPattern 31 = .ok (.ifCond .lt 61, 3) := by decide +kernel
theorem d_D_nextPattern_34 : decode b_D_nextPattern 34 = .ok (.iload_n 3, 1) := by decide +kernel
theorem d_D_nextPattern_35 : decode b_D_nextPattern 35 = .ok (.iload_n 2, 1) := by decide +kernel
theorem d_D_nextPattern_36 : decode b_D_nextPattern 36 = .ok (.if_icmp .ne 7, 3) := by decide +kernel
theorem d_D_nextPattern_39 : decode b_D_nextPattern 39 = .ok (.iconst 1, 1) := by decide +kernel
theorem d_D_nextPattern_40 : decode b_D_nextPattern 40 = .ok (.goto 4, 3) := by decide +kernel
theorem d_D_nextPattern_43 : decode b_D_nextPattern 43 = .ok (.iconst 0, 1) := by decide +kernel
theorem d_D_nextPattern_44 : decode b_D_nextPattern 44 = .ok (.istore 4, 2) := by decide +kernel
theorem d_D_nextPattern_46 : decode b_D_nextPattern 46 = .ok (.aload_n 0, 1) := by decide +kernel
theorem d_D_nextPattern_47 : decode b_D_nextPattern 47 = .ok (.getfield 47, 3) := by decide +kernel
theorem d_D_nextPattern_50 : decode b_D_nextPattern 50 = .ok (.iload_n 1, 1) := by decide +kernel
theorem d_D_nextPattern_51 : decode b_D_nextPattern 51 = .ok (.iconst 4, 1) := by decide +kernel
theorem d_D_nextPattern_52 : decode b_D_nextPattern 52 = .ok (.imul, 1) := by decide +kernel
theorem d_D_nextPattern_53 : decode b_D_nextPattern 53 = .ok (.iload_n 3, 1) := by decide +kernel
theorem d_D_nextPattern_54 : decode b_D_nextPattern 54 = .ok (.iadd, 1) := by decide +kernel
theorem d_D_nextPattern_55 : decode b_D_nextPattern 55 = .ok (.baload, 1) := by decide +kernel
theorem d_D_nextPattern_56 : decode b_D_nextPattern 56 = .ok (.iload 4, 2) := by decide +kernel
theorem d_D_nextPattern_58 : decode b_D_nextPattern 58 = .ok (.if_icmp .le 28, 3) := by decide +kernel
theorem d_D_nextPattern_61 : decode b_D_nextPattern 61 = .ok (.aload_n 0, 1) := by decide +kernel
theorem d_D_nextPattern_62 : decode b_D_nextPattern 62 = .ok (.getfield 47, 3) := by decide +kernel
theorem d_D_nextPattern_65 : decode b_D_nextPattern 65 = .ok (.iload_n 1, 1) := by decide +kernel
theorem d_D_nextPattern_66 : decode b_D_nextPattern 66 = .ok (.iconst 4, 1) := by decide +kernel
theorem d_D_nextPattern_67 : decode b_D_nextPattern 67 = .ok (.imul, 1) := by decide +kernel
theorem d_D_nextPattern_68 : decode b_D_nextPattern 68 = .ok (.iload_n 3, 1) := by decide +kernel
theorem d_D_nextPattern_69 : decode b_D_nextPattern 69 = .ok (.iadd, 1) := by decide +kernel
theorem d_D_nextPattern_70 : decode b_D_nextPattern 70 = .ok (.dup2, 1) := by decide +kernel
theorem d_D_nextPattern_71 : decode b_D_nextPattern 71 = .ok (.baload, 1) := by decide +kernel
theorem d_D_nextPattern_72 : decode b_D_nextPattern 72 = .ok (.iconst 1, 1) := by decide +kernel
theorem d_D_nextPattern_73 : decode b_D_nextPattern 73 = .ok (.isub, 1) := by decide +kernel
theorem d_D_nextPattern_74 : decode b_D_nextPattern 74 = .ok (.i2b, 1) := by decide +kernel
theorem d_D_nextPattern_75 : decode b_D_nextPattern 75 = .ok (.bastore, 1) := by decide +kernel
theorem d_D_nextPattern_76 : decode b_D_nextPattern 76 = .ok (.aload_n 0, 1) := by decide +kernel
theorem d_D_nextPattern_77 : decode b_D_nextPattern 77 = .ok (.iload_n 1, 1) := by decide +kernel
theorem d_D_nextPattern_78 : decode b_D_nextPattern 78 = .ok (.iload_n 3, 1) := by decide +kernel
theorem d_D_nextPattern_79 : decode b_D_nextPattern 79 = .ok (.iconst 1, 1) := by decide +kernel
theorem d_D_nextPattern_80 : decode b_D_nextPattern 80 = .ok (.iadd, 1) := by decide +kernel
theorem d_D_nextPattern_81 : decode b_D_nextPattern 81 = .ok (.invokevirtual 134, 3) := by decide +kernel
theorem d_D_nextPattern_84 : decode b_D_nextPattern 84 = .ok (.iconst 1, 1) := by decide +kernel
theorem d_D_nextPattern_85 : decode b_D_nextPattern 85 = .ok (.ireturn, 1) := by decide +kernel
theorem d_D_nextPattern_86 : decode b_D_nextPattern 86 = .ok (.iinc 3 (-1), 3) := by decide +kernel
theorem d_D_nextPattern_89 : decode b_D_nextPattern 89 = .ok (.goto (-59), 3) := by decide +kernel
theorem d_D_nextPattern_92 : decode b_D_nextPattern 92 = .ok (.iconst 0, 1) := by decide +kernel
theorem d_D_nextPattern_93 : decode b_D_nextPattern 93 = .ok (.ireturn, 1) := by decide +kernel
theorem d_D_order_0 : decode b_D_order 0 = .ok (.iload_n 1, 1) := by decide +kernel
theorem d_D_order_1 : decode b_D_order 1 = .ok (.invokestatic 58, 3) := by decide +kernel
theorem d_D_order_4 : decode b_D_order 4 = .ok (.ifCond .eq 12, 3) := by decide +kernel
theorem d_D_order_7 : decode b_D_order 7 = .ok (.iload_n 2, 1) := by decide +kernel
theorem d_D_order_8 : decode b_D_order 8 = .ok (.ifCond .lt 8, 3) := by decide +kernel
theorem d_D_order_11 : decode b_D_order 11 = .ok (.iload_n 2, 1) := by decide +kernel
theorem d_D_order_12 : decode b_D_order 12 = .ok (.iconst 3, 1) := by decide +kernel
theorem d_D_order_13 : decode b_D_order 13 = .ok (.if_icmp .le 5, 3) := by decide +kernel
theorem d_D_order_16 : decode b_D_order 16 = .ok (.iconst 0, 1) := by decide +kernel
theorem d_D_order_17 : decode b_D_order 17 = .ok (.ireturn, 1) := by decide +kernel
theorem d_D_order_18 : decode b_D_order 18 = .ok (.aload_n 0, 1) := by decide +kernel
theorem d_D_order_19 : decode b_D_order 19 = .ok (.getfield 13, 3) := by decide +kernel
theorem d_D_order_22 : decode b_D_order 22 = .ok (.iload_n 1, 1) := by decide +kernel
theorem d_D_order_23 : decode b_D_order 23 = .ok (.iload_n 2, 1) := by decide +kernel
theorem d_D_order_24 : decode b_D_order 24 = .ok (.i2b, 1) := by decide +kernel
theorem d_D_order_25 : decode b_D_order 25 = .ok (.bastore, 1) := by decide +kernel
theorem d_D_order_26 : decode b_D_order 26 = .ok (.iconst 1, 1) := by decide +kernel
theorem d_D_order_27 : decode b_D_order 27 = .ok (.ireturn, 1) := by decide +kernel
theorem d_D_ordered_0 : decode b_D_ordered 0 = .ok (.iload_n 1, 1) := by decide +kernel
theorem d_D_ordered_1 : decode b_D_ordered 1 = .ok (.invokestatic 58, 3) := by decide +kernel
end
section
theorem d_D_ordered_4 : decode b_D_ordered 4 = .ok (.ifCond .eq 12, 3) := by decide +kernel
theorem d_D_ordered_7 : decode b_D_ordered 7 = .ok (.aload_n 0, 1) := by decide +kernel
theorem d_D_ordered_8 : decode b_D_ordered 8 = .ok (.getfield 13, 3) := by decide +kernel
theorem d_D_ordered_11 : decode b_D_ordered 11 = .ok (.iload_n 1, 1) := by decide +kernel
theorem d_D_ordered_12 : decode b_D_ordered 12 = .ok (.baload, 1) := by decide +kernel
theorem d_D_ordered_13 : decode b_D_ordered 13 = .ok (.goto 4, 3) := by decide +kernel
theorem d_D_ordered_16 : decode b_D_ordered 16 = .ok (.iconst (-1), 1) := by decide +kernel
theorem d_D_ordered_17 : decode b_D_ordered 17 = .ok (.ireturn, 1) := by decide +kernel
theorem d_D_pivot_0 : decode b_D_pivot 0 = .ok (.iconst 0, 1) := by decide +kernel
theorem d_D_pivot_1 : decode b_D_pivot 1 = .ok (.istore_n 1, 1) := by decide +kernel
theorem d_D_pivot_2 : decode b_D_pivot 2 = .ok (.iload_n 1, 1) := by decide +kernel
theorem d_D_pivot_3 : decode b_D_pivot 3 = .ok (.iconst 4, 1) := by decide +kernel
theorem d_D_pivot_4 : decode b_D_pivot 4 = .ok (.if_icmp .ge 80, 3) := by decide +kernel
theorem d_D_pivot_7 : decode b_D_pivot 7 = .ok (.iconst 0, 1) := by decide +kernel
theorem d_D_pivot_8 : decode b_D_pivot 8 = .ok (.istore_n 2, 1) := by decide +kernel
theorem d_D_pivot_9 : decode b_D_pivot 9 = .ok (.iload_n 2, 1) := by decide +kernel
theorem d_D_pivot_10 : decode b_D_pivot 10 = .ok (.iconst 4, 1) := by decide +kernel
theorem d_D_pivot_11 : decode b_D_pivot 11 = .ok (.if_icmp .ge 31, 3) := by decide +kernel
theorem d_D_pivot_14 : decode b_D_pivot 14 = .ok (.aload_n 0, 1) := by decide +kernel
theorem d_D_pivot_15 : decode b_D_pivot 15 = .ok (.getfield 22, 3) := by decide +kernel
theorem d_D_pivot_18 : decode b_D_pivot 18 = .ok (.iload_n 1, 1) := by decide +kernel
theorem d_D_pivot_19 : decode b_D_pivot 19 = .ok (.bipush 6, 2) := by decide +kernel
theorem d_D_pivot_21 : decode b_D_pivot 21 = .ok (.imul, 1) := by decide +kernel
theorem d_D_pivot_22 : decode b_D_pivot 22 = .ok (.iload_n 2, 1) := by decide +kernel
theorem d_D_pivot_23 : decode b_D_pivot 23 = .ok (.iadd, 1) := by decide +kernel
theorem d_D_pivot_24 : decode b_D_pivot 24 = .ok (.aload_n 0, 1) := by decide +kernel
theorem d_D_pivot_25 : decode b_D_pivot 25 = .ok (.getfield 19, 3) := by decide +kernel
theorem d_D_pivot_28 : decode b_D_pivot 28 = .ok (.iload_n 2, 1) := by decide +kernel
theorem d_D_pivot_29 : decode b_D_pivot 29 = .ok (.iconst 4, 1) := by decide +kernel
theorem d_D_pivot_30 : decode b_D_pivot 30 = .ok (.imul, 1) := by decide +kernel
theorem d_D_pivot_31 : decode b_D_pivot 31 = .ok (.iload_n 1, 1) := by decide +kernel
theorem d_D_pivot_32 : decode b_D_pivot 32 = .ok (.iadd, 1) := by decide +kernel
theorem d_D_pivot_33 : decode b_D_pivot 33 = .ok (.baload, 1) := by decide +kernel
theorem d_D_pivot_34 : decode b_D_pivot 34 = .ok (.i2l, 1) := by decide +kernel
theorem d_D_pivot_35 : decode b_D_pivot 35 = .ok (.lastore, 1) := by decide +kernel
theorem d_D_pivot_36 : decode b_D_pivot 36 = .ok (.iinc 2 1, 3) := by decide +kernel
theorem d_D_pivot_39 : decode b_D_pivot 39 = .ok (.goto (-30), 3) := by decide +kernel
theorem d_D_pivot_42 : decode b_D_pivot 42 = .ok (.aload_n 0, 1) := by decide +kernel
theorem d_D_pivot_43 : decode b_D_pivot 43 = .ok (.getfield 22, 3) := by decide +kernel
theorem d_D_pivot_46 : decode b_D_pivot 46 = .ok (.iload_n 1, 1) := by decide +kernel
theorem d_D_pivot_47 : decode b_D_pivot 47 = .ok (.bipush 6, 2) := by decide +kernel
theorem d_D_pivot_49 : decode b_D_pivot 49 = .ok (.imul, 1) := by decide +kernel
theorem d_D_pivot_50 : decode b_D_pivot 50 = .ok (.iconst 4, 1) := by decide +kernel
theorem d_D_pivot_51 : decode b_D_pivot 51 = .ok (.iadd, 1) := by decide +kernel
theorem d_D_pivot_52 : decode b_D_pivot 52 = .ok (.aload_n 0, 1) := by decide +kernel
theorem d_D_pivot_53 : decode b_D_pivot 53 = .ok (.getfield 16, 3) := by decide +kernel
theorem d_D_pivot_56 : decode b_D_pivot 56 = .ok (.iload_n 1, 1) := by decide +kernel
theorem d_D_pivot_57 : decode b_D_pivot 57 = .ok (.baload, 1) := by decide +kernel
theorem d_D_pivot_58 : decode b_D_pivot 58 = .ok (.i2l, 1) := by decide +kernel
theorem d_D_pivot_59 : decode b_D_pivot 59 = .ok (.lastore, 1) := by decide +kernel
theorem d_D_pivot_60 : decode b_D_pivot 60 = .ok (.aload_n 0, 1) := by decide +kernel
theorem d_D_pivot_61 : decode b_D_pivot 61 = .ok (.getfield 22, 3) := by decide +kernel
theorem d_D_pivot_64 : decode b_D_pivot 64 = .ok (.iload_n 1, 1) := by decide +kernel
theorem d_D_pivot_65 : decode b_D_pivot 65 = .ok (.bipush 6, 2) := by decide +kernel
theorem d_D_pivot_67 : decode b_D_pivot 67 = .ok (.imul, 1) := by decide +kernel
theorem d_D_pivot_68 : decode b_D_pivot 68 = .ok (.iconst 5, 1) := by decide +kernel
theorem d_D_pivot_69 : decode b_D_pivot 69 = .ok (.iadd, 1) := by decide +kernel
theorem d_D_pivot_70 : decode b_D_pivot 70 = .ok (.aload_n 0, 1) := by decide +kernel
theorem d_D_pivot_71 : decode b_D_pivot 71 = .ok (.getfield 41, 3) := by decide +kernel
theorem d_D_pivot_74 : decode b_D_pivot 74 = .ok (.iload_n 1, 1) := by decide +kernel
theorem d_D_pivot_75 : decode b_D_pivot 75 = .ok (.baload, 1) := by decide +kernel
theorem d_D_pivot_76 : decode b_D_pivot 76 = .ok (.i2l, 1) := by decide +kernel
theorem d_D_pivot_77 : decode b_D_pivot 77 = .ok (.lastore, 1) := by decide +kernel
theorem d_D_pivot_78 : decode b_D_pivot 78 = .ok (.iinc 1 1, 3) := by decide +kernel
theorem d_D_pivot_81 : decode b_D_pivot 81 = .ok (.goto (-79), 3) := by decide +kernel
theorem d_D_pivot_84 : decode b_D_pivot 84 = .ok (.aload_n 0, 1) := by decide +kernel
theorem d_D_pivot_85 : decode b_D_pivot 85 = .ok (.invokevirtual 83, 3) := by decide +kernel
theorem d_D_pivot_88 : decode b_D_pivot 88 = .ok (.ifCond .ne 5, 3) := by decide +kernel
theorem d_D_pivot_91 : decode b_D_pivot 91 = .ok (.iconst 0, 1) := by decide +kernel
theorem d_D_pivot_92 : decode b_D_pivot 92 = .ok (.ireturn, 1) := by decide +kernel
theorem d_D_pivot_93 : decode b_D_pivot 93 = .ok (.iconst (-1), 1) := by decide +kernel
theorem d_D_pivot_94 : decode b_D_pivot 94 = .ok (.istore_n 1, 1) := by decide +kernel
theorem d_D_pivot_95 : decode b_D_pivot 95 = .ok (.iconst 0, 1) := by decide +kernel
theorem d_D_pivot_96 : decode b_D_pivot 96 = .ok (.istore_n 2, 1) := by decide +kernel
theorem d_D_pivot_97 : decode b_D_pivot 97 = .ok (.iload_n 2, 1) := by decide +kernel
theorem d_D_pivot_98 : decode b_D_pivot 98 = .ok (.iconst 4, 1) := by decide +kernel
theorem d_D_pivot_99 : decode b_D_pivot 99 = .ok (.if_icmp .ge 90, 3) := by decide +kernel
theorem d_D_pivot_102 : decode b_D_pivot 102 = .ok (.aload_n 0, 1) := by decide +kernel
theorem d_D_pivot_103 : decode b_D_pivot 103 = .ok (.getfield 29, 3) := by decide +kernel
theorem d_D_pivot_106 : decode b_D_pivot 106 = .ok (.iload_n 2, 1) := by decide +kernel
theorem d_D_pivot_107 : decode b_D_pivot 107 = .ok (.aload_n 0, 1) := by decide +kernel
theorem d_D_pivot_108 : decode b_D_pivot 108 = .ok (.getfield 22, 3) := by decide +kernel
theorem d_D_pivot_111 : decode b_D_pivot 111 = .ok (.iload_n 2, 1) := by decide +kernel
theorem d_D_pivot_112 : decode b_D_pivot 112 = .ok (.bipush 6, 2) := by decide +kernel
theorem d_D_pivot_114 : decode b_D_pivot 114 = .ok (.imul, 1) := by decide +kernel
theorem d_D_pivot_115 : decode b_D_pivot 115 = .ok (.iconst 4, 1) := by decide +kernel
theorem d_D_pivot_116 : decode b_D_pivot 116 = .ok (.iadd, 1) := by decide +kernel
theorem d_D_pivot_117 : decode b_D_pivot 117 = .ok (.laload, 1) := by decide +kernel
theorem d_D_pivot_118 : decode b_D_pivot 118 = .ok (.lastore, 1) := by decide +kernel
theorem d_D_pivot_119 : decode b_D_pivot 119 = .ok (.aload_n 0, 1) := by decide +kernel
theorem d_D_pivot_120 : decode b_D_pivot 120 = .ok (.getfield 32, 3) := by decide +kernel
theorem d_D_pivot_123 : decode b_D_pivot 123 = .ok (.iload_n 2, 1) := by decide +kernel
theorem d_D_pivot_124 : decode b_D_pivot 124 = .ok (.aload_n 0, 1) := by decide +kernel
theorem d_D_pivot_125 : decode b_D_pivot 125 = .ok (.getfield 22, 3) := by decide +kernel
theorem d_D_pivot_128 : decode b_D_pivot 128 = .ok (.iload_n 2, 1) := by decide +kernel
theorem d_D_pivot_129 : decode b_D_pivot 129 = .ok (.bipush 6, 2) := by decide +kernel
theorem d_D_pivot_131 : decode b_D_pivot 131 = .ok (.imul, 1) := by decide +kernel
theorem d_D_pivot_132 : decode b_D_pivot 132 = .ok (.iconst 5, 1) := by decide +kernel
theorem d_D_pivot_133 : decode b_D_pivot 133 = .ok (.iadd, 1) := by decide +kernel
theorem d_D_pivot_134 : decode b_D_pivot 134 = .ok (.laload, 1) := by decide +kernel
theorem d_D_pivot_135 : decode b_D_pivot 135 = .ok (.lastore, 1) := by decide +kernel
theorem d_D_pivot_136 : decode b_D_pivot 136 = .ok (.aload_n 0, 1) := by decide +kernel
theorem d_D_pivot_137 : decode b_D_pivot 137 = .ok (.getfield 32, 3) := by decide +kernel
theorem d_D_pivot_140 : decode b_D_pivot 140 = .ok (.iload_n 2, 1) := by decide +kernel
theorem d_D_pivot_141 : decode b_D_pivot 141 = .ok (.laload, 1) := by decide +kernel
theorem d_D_pivot_142 : decode b_D_pivot 142 = .ok (.lconst 0, 1) := by decide +kernel
theorem d_D_pivot_143 : decode b_D_pivot 143 = .ok (.lcmp, 1) := by decide +kernel
theorem d_D_pivot_144 : decode b_D_pivot 144 = .ok (.ifCond .le 39, 3) := by decide +kernel
theorem d_D_pivot_147 : decode b_D_pivot 147 = .ok (.iload_n 1, 1) := by decide +kernel
theorem d_D_pivot_148 : decode b_D_pivot 148 = .ok (.ifCond .lt 33, 3) := by decide +kernel
theorem d_D_pivot_151 : decode b_D_pivot 151 = .ok (.aload_n 0, 1) := by decide +kernel
theorem d_D_pivot_152 : decode b_D_pivot 152 = .ok (.getfield 29, 3) := by decide +kernel
theorem d_D_pivot_155 : decode b_D_pivot 155 = .ok (.iload_n 2, 1) := by decide +kernel
theorem d_D_pivot_156 : decode b_D_pivot 156 = .ok (.laload, 1) := by decide +kernel
theorem d_D_pivot_157 : decode b_D_pivot 157 = .ok (.aload_n 0, 1) := by decide +kernel
theorem d_D_pivot_158 : decode b_D_pivot 158 = .ok (.getfield 32, 3) := by decide +kernel
theorem d_D_pivot_161 : decode b_D_pivot 161 = .ok (.iload_n 1, 1) := by decide +kernel
theorem d_D_pivot_162 : decode b_D_pivot 162 = .ok (.laload, 1) := by decide +kernel
theorem d_D_pivot_163 : decode b_D_pivot 163 = .ok (.lmul, 1) := by decide +kernel
theorem d_D_pivot_164 : decode b_D_pivot 164 = .ok (.aload_n 0, 1) := by decide +kernel
theorem d_D_pivot_165 : decode b_D_pivot 165 = .ok (.getfield 29, 3) := by decide +kernel
theorem d_D_pivot_168 : decode b_D_pivot 168 = .ok (.iload_n 1, 1) := by decide +kernel
theorem d_D_pivot_169 : decode b_D_pivot 169 = .ok (.laload, 1) := by decide +kernel
theorem d_D_pivot_170 : decode b_D_pivot 170 = .ok (.aload_n 0, 1) := by decide +kernel
theorem d_D_pivot_171 : decode b_D_pivot 171 = .ok (.getfield 32, 3) := by decide +kernel
theorem d_D_pivot_174 : decode b_D_pivot 174 = .ok (.iload_n 2, 1) := by decide +kernel
theorem d_D_pivot_175 : decode b_D_pivot 175 = .ok (.laload, 1) := by decide +kernel
theorem d_D_pivot_176 : decode b_D_pivot 176 = .ok (.lmul, 1) := by decide +kernel
theorem d_D_pivot_177 : decode b_D_pivot 177 = .ok (.lcmp, 1) := by decide +kernel
theorem d_D_pivot_178 : decode b_D_pivot 178 = .ok (.ifCond .ge 5, 3) := by decide +kernel
theorem d_D_pivot_181 : decode b_D_pivot 181 = .ok (.iload_n 2, 1) := by decide +kernel
theorem d_D_pivot_182 : decode b_D_pivot 182 = .ok (.istore_n 1, 1) := by decide +kernel
theorem d_D_pivot_183 : decode b_D_pivot 183 = .ok (.iinc 2 1, 3) := by decide +kernel
theorem d_D_pivot_186 : decode b_D_pivot 186 = .ok (.goto (-89), 3) := by decide +kernel
theorem d_D_pivot_189 : decode b_D_pivot 189 = .ok (.iload_n 1, 1) := by decide +kernel
theorem d_D_pivot_190 : decode b_D_pivot 190 = .ok (.ifCond .ge 5, 3) := by decide +kernel
theorem d_D_pivot_193 : decode b_D_pivot 193 = .ok (.iconst 0, 1) := by decide +kernel
theorem d_D_pivot_194 : decode b_D_pivot 194 = .ok (.ireturn, 1) := by decide +kernel
theorem d_D_pivot_195 : decode b_D_pivot 195 = .ok (.iconst 0, 1) := by decide +kernel
theorem d_D_pivot_196 : decode b_D_pivot 196 = .ok (.istore_n 2, 1) := by decide +kernel
theorem d_D_pivot_197 : decode b_D_pivot 197 = .ok (.iload_n 2, 1) := by decide +kernel
theorem d_D_pivot_198 : decode b_D_pivot 198 = .ok (.iconst 4, 1) := by decide +kernel
theorem d_D_pivot_199 : decode b_D_pivot 199 = .ok (.if_icmp .ge 25, 3) := by decide +kernel
theorem d_D_pivot_202 : decode b_D_pivot 202 = .ok (.aload_n 0, 1) := by decide +kernel
theorem d_D_pivot_203 : decode b_D_pivot 203 = .ok (.getfield 19, 3) := by decide +kernel
theorem d_D_pivot_206 : decode b_D_pivot 206 = .ok (.iload_n 1, 1) := by decide +kernel
theorem d_D_pivot_207 : decode b_D_pivot 207 = .ok (.iconst 4, 1) := by decide +kernel
theorem d_D_pivot_208 : decode b_D_pivot 208 = .ok (.imul, 1) := by decide +kernel
theorem d_D_pivot_209 : decode b_D_pivot 209 = .ok (.iload_n 2, 1) := by decide +kernel
theorem d_D_pivot_210 : decode b_D_pivot 210 = .ok (.iadd, 1) := by decide +kernel
theorem d_D_pivot_211 : decode b_D_pivot 211 = .ok (.aload_n 0, 1) := by decide +kernel
theorem d_D_pivot_212 : decode b_D_pivot 212 = .ok (.getfield 41, 3) := by decide +kernel
theorem d_D_pivot_215 : decode b_D_pivot 215 = .ok (.iload_n 2, 1) := by decide +kernel
theorem d_D_pivot_216 : decode b_D_pivot 216 = .ok (.baload, 1) := by decide +kernel
theorem d_D_pivot_217 : decode b_D_pivot 217 = .ok (.bastore, 1) := by decide +kernel
theorem d_D_pivot_218 : decode b_D_pivot 218 = .ok (.iinc 2 1, 3) := by decide +kernel
theorem d_D_pivot_221 : decode b_D_pivot 221 = .ok (.goto (-24), 3) := by decide +kernel
theorem d_D_pivot_224 : decode b_D_pivot 224 = .ok (.iconst 1, 1) := by decide +kernel
theorem d_D_pivot_225 : decode b_D_pivot 225 = .ok (.ireturn, 1) := by decide +kernel
theorem d_D_priceBasis_0 : decode b_D_priceBasis 0 = .ok (.iconst 0, 1) := by decide +kernel
theorem d_D_priceBasis_1 : decode b_D_priceBasis 1 = .ok (.istore_n 1, 1) := by decide +kernel
theorem d_D_priceBasis_2 : decode b_D_priceBasis 2 = .ok (.iload_n 1, 1) := by decide +kernel
theorem d_D_priceBasis_3 : decode b_D_priceBasis 3 = .ok (.iconst 4, 1) := by decide +kernel
theorem d_D_priceBasis_4 : decode b_D_priceBasis 4 = .ok (.if_icmp .ge 68, 3) := by decide +kernel
theorem d_D_priceBasis_7 : decode b_D_priceBasis 7 = .ok (.iconst 0, 1) := by decide +kernel
theorem d_D_priceBasis_8 : decode b_D_priceBasis 8 = .ok (.istore_n 2, 1) := by decide +kernel
theorem d_D_priceBasis_9 : decode b_D_priceBasis 9 = .ok (.iload_n 2, 1) := by decide +kernel
theorem d_D_priceBasis_10 : decode b_D_priceBasis 10 = .ok (.iconst 4, 1) := by decide +kernel
theorem d_D_priceBasis_11 : decode b_D_priceBasis 11 = .ok (.if_icmp .ge 31, 3) := by decide +kernel
theorem d_D_priceBasis_14 : decode b_D_priceBasis 14 = .ok (.aload_n 0, 1) := by decide +kernel
theorem d_D_priceBasis_15 : decode b_D_priceBasis 15 = .ok (.getfield 22, 3) := by decide +kernel
theorem d_D_priceBasis_18 : decode b_D_priceBasis 18 = .ok (.iload_n 1, 1) := by decide +kernel
theorem d_D_priceBasis_19 : decode b_D_priceBasis 19 = .ok (.bipush 6, 2) := by decide +kernel
theorem d_D_priceBasis_21 : decode b_D_priceBasis 21 = .ok (.imul, 1) := by decide +kernel
theorem d_D_priceBasis_22 : decode b_D_priceBasis 22 = .ok (.iload_n 2, 1) := by decide +kernel
theorem d_D_priceBasis_23 : decode b_D_priceBasis 23 = .ok (.iadd, 1) := by decide +kernel
theorem d_D_priceBasis_24 : decode b_D_priceBasis 24 = .ok (.aload_n 0, 1) := by decide +kernel
theorem d_D_priceBasis_25 : decode b_D_priceBasis 25 = .ok (.getfield 19, 3) := by decide +kernel
theorem d_D_priceBasis_28 : decode b_D_priceBasis 28 = .ok (.iload_n 1, 1) := by decide +kernel
theorem d_D_priceBasis_29 : decode b_D_priceBasis 29 = .ok (.iconst 4, 1) := by decide +kernel
theorem d_D_priceBasis_30 : decode b_D_priceBasis 30 = .ok (.imul, 1) := by decide +kernel
theorem d_D_priceBasis_31 : decode b_D_priceBasis 31 = .ok (.iload_n 2, 1) := by decide +kernel
theorem d_D_priceBasis_32 : decode b_D_priceBasis 32 = .ok (.iadd, 1) := by decide +kernel
theorem d_D_priceBasis_33 : decode b_D_priceBasis 33 = .ok (.baload, 1) := by decide +kernel
theorem d_D_priceBasis_34 : decode b_D_priceBasis 34 = .ok (.i2l, 1) := by decide +kernel
theorem d_D_priceBasis_35 : decode b_D_priceBasis 35 = .ok (.lastore, 1) := by decide +kernel
theorem d_D_priceBasis_36 : decode b_D_priceBasis 36 = .ok (.iinc 2 1, 3) := by decide +kernel
theorem d_D_priceBasis_39 : decode b_D_priceBasis 39 = .ok (.goto (-30), 3) := by decide +kernel
theorem d_D_priceBasis_42 : decode b_D_priceBasis 42 = .ok (.aload_n 0, 1) := by decide +kernel
theorem d_D_priceBasis_43 : decode b_D_priceBasis 43 = .ok (.getfield 22, 3) := by decide +kernel
theorem d_D_priceBasis_46 : decode b_D_priceBasis 46 = .ok (.iload_n 1, 1) := by decide +kernel
theorem d_D_priceBasis_47 : decode b_D_priceBasis 47 = .ok (.bipush 6, 2) := by decide +kernel
theorem d_D_priceBasis_49 : decode b_D_priceBasis 49 = .ok (.imul, 1) := by decide +kernel
theorem d_D_priceBasis_50 : decode b_D_priceBasis 50 = .ok (.iconst 4, 1) := by decide +kernel
theorem d_D_priceBasis_51 : decode b_D_priceBasis 51 = .ok (.iadd, 1) := by decide +kernel
theorem d_D_priceBasis_52 : decode b_D_priceBasis 52 = .ok (.lconst 1, 1) := by decide +kernel
theorem d_D_priceBasis_53 : decode b_D_priceBasis 53 = .ok (.lastore, 1) := by decide +kernel
theorem d_D_priceBasis_54 : decode b_D_priceBasis 54 = .ok (.aload_n 0, 1) := by decide +kernel
theorem d_D_priceBasis_55 : decode b_D_priceBasis 55 = .ok (.getfield 22, 3) := by decide +kernel
theorem d_D_priceBasis_58 : decode b_D_priceBasis 58 = .ok (.iload_n 1, 1) := by decide +kernel
theorem d_D_priceBasis_59 : decode b_D_priceBasis 59 = .ok (.bipush 6, 2) := by decide +kernel
theorem d_D_priceBasis_61 : decode b_D_priceBasis 61 = .ok (.imul, 1) := by decide +kernel
theorem d_D_priceBasis_62 : decode b_D_priceBasis 62 = .ok (.iconst 5, 1) := by decide +kernel
theorem d_D_priceBasis_63 : decode b_D_priceBasis 63 = .ok (.iadd, 1) := by decide +kernel
theorem d_D_priceBasis_64 : decode b_D_priceBasis 64 = .ok (.lconst 0, 1) := by decide +kernel
theorem d_D_priceBasis_65 : decode b_D_priceBasis 65 = .ok (.lastore, 1) := by decide +kernel
theorem d_D_priceBasis_66 : decode b_D_priceBasis 66 = .ok (.iinc 1 1, 3) := by decide +kernel
theorem d_D_priceBasis_69 : decode b_D_priceBasis 69 = .ok (.goto (-67), 3) := by decide +kernel
theorem d_D_priceBasis_72 : decode b_D_priceBasis 72 = .ok (.aload_n 0, 1) := by decide +kernel
theorem d_D_priceBasis_73 : decode b_D_priceBasis 73 = .ok (.invokevirtual 83, 3) := by decide +kernel
theorem d_D_priceBasis_76 : decode b_D_priceBasis 76 = .ok (.ifCond .ne 5, 3) := by decide +kernel
theorem d_D_priceBasis_79 : decode b_D_priceBasis 79 = .ok (.iconst 0, 1) := by decide +kernel
theorem d_D_priceBasis_80 : decode b_D_priceBasis 80 = .ok (.ireturn, 1) := by decide +kernel
theorem d_D_priceBasis_81 : decode b_D_priceBasis 81 = .ok (.aload_n 0, 1) := by decide +kernel
theorem d_D_priceBasis_82 : decode b_D_priceBasis 82 = .ok (.aload_n 0, 1) := by decide +kernel
theorem d_D_priceBasis_83 : decode b_D_priceBasis 83 = .ok (.getfield 86, 3) := by decide +kernel
theorem d_D_priceBasis_86 : decode b_D_priceBasis 86 = .ok (.putfield 76, 3) := by decide +kernel
theorem d_D_priceBasis_89 : decode b_D_priceBasis 89 = .ok (.iconst 0, 1) := by decide +kernel
theorem d_D_priceBasis_90 : decode b_D_priceBasis 90 = .ok (.istore_n 1, 1) := by decide +kernel
theorem d_D_priceBasis_91 : decode b_D_priceBasis 91 = .ok (.iload_n 1, 1) := by decide +kernel
theorem d_D_priceBasis_92 : decode b_D_priceBasis 92 = .ok (.iconst 4, 1) := by decide +kernel
theorem d_D_priceBasis_93 : decode b_D_priceBasis 93 = .ok (.if_icmp .ge 26, 3) := by decide +kernel
theorem d_D_priceBasis_96 : decode b_D_priceBasis 96 = .ok (.aload_n 0, 1) := by decide +kernel
theorem d_D_priceBasis_97 : decode b_D_priceBasis 97 = .ok (.getfield 26, 3) := by decide +kernel
theorem d_D_priceBasis_100 : decode b_D_priceBasis 100 = .ok (.iload_n 1, 1) := by decide +kernel
theorem d_D_priceBasis_101 : decode b_D_priceBasis 101 = .ok (.aload_n 0, 1) := by decide +kernel
theorem d_D_priceBasis_102 : decode b_D_priceBasis 102 = .ok (.getfield 22, 3) := by decide +kernel
theorem d_D_priceBasis_105 : decode b_D_priceBasis 105 = .ok (.iload_n 1, 1) := by decide +kernel
theorem d_D_priceBasis_106 : decode b_D_priceBasis 106 = .ok (.bipush 6, 2) := by decide +kernel
theorem d_D_priceBasis_108 : decode b_D_priceBasis 108 = .ok (.imul, 1) := by decide +kernel
theorem d_D_priceBasis_109 : decode b_D_priceBasis 109 = .ok (.iconst 4, 1) := by decide +kernel
theorem d_D_priceBasis_110 : decode b_D_priceBasis 110 = .ok (.iadd, 1) := by decide +kernel
theorem d_D_priceBasis_111 : decode b_D_priceBasis 111 = .ok (.laload, 1) := by decide +kernel
theorem d_D_priceBasis_112 : decode b_D_priceBasis 112 = .ok (.lastore, 1) := by decide +kernel
theorem d_D_priceBasis_113 : decode b_D_priceBasis 113 = .ok (.iinc 1 1, 3) := by decide +kernel
theorem d_D_priceBasis_116 : decode b_D_priceBasis 116 = .ok (.goto (-25), 3) := by decide +kernel
theorem d_D_priceBasis_119 : decode b_D_priceBasis 119 = .ok (.iconst 1, 1) := by decide +kernel
theorem d_D_priceBasis_120 : decode b_D_priceBasis 120 = .ok (.ireturn, 1) := by decide +kernel
theorem d_D_reduce_0 : decode b_D_reduce 0 = .ok (.lconst 1, 1) := by decide +kernel
theorem d_D_reduce_1 : decode b_D_reduce 1 = .ok (.lstore_n 1, 1) := by decide +kernel
theorem d_D_reduce_2 : decode b_D_reduce 2 = .ok (.iconst 0, 1) := by decide +kernel
theorem d_D_reduce_3 : decode b_D_reduce 3 = .ok (.istore_n 3, 1) := by decide +kernel
theorem d_D_reduce_4 : decode b_D_reduce 4 = .ok (.iload_n 3, 1) := by decide +kernel
theorem d_D_reduce_5 : decode b_D_reduce 5 = .ok (.iconst 4, 1) := by decide +kernel
theorem d_D_reduce_6 : decode b_D_reduce 6 = .ok (.if_icmp .ge 103, 3) := by decide +kernel
theorem d_D_reduce_9 : decode b_D_reduce 9 = .ok (.iload_n 3, 1) := by decide +kernel
theorem d_D_reduce_10 : decode b_D_reduce 10 = .ok (.istore 4, 2) := by decide +kernel
theorem d_D_reduce_12 : decode b_D_reduce 12 = .ok (.iload 4, 2) := by decide +kernel
theorem d_D_reduce_14 : decode b_D_reduce 14 = .ok (.iconst 4, 1) := by decide +kernel
theorem d_D_reduce_15 : decode b_D_reduce 15 = .ok (.if_icmp .ge 26, 3) := by decide +kernel
theorem d_D_reduce_18 : decode b_D_reduce 18 = .ok (.aload_n 0, 1) := by decide +kernel
theorem d_D_reduce_19 : decode b_D_reduce 19 = .ok (.getfield 22, 3) := by decide +kernel
theorem d_D_reduce_22 : decode b_D_reduce 22 = .ok (.iload 4, 2) := by decide +kernel
theorem d_D_reduce_24 : decode b_D_reduce 24 = .ok (.bipush 6, 2) := by decide +kernel
theorem d_D_reduce_26 : decode b_D_reduce 26 = .ok (.imul, 1) := by decide +kernel
theorem d_D_reduce_27 : decode b_D_reduce 27 = .ok (.iload_n 3, 1) := by decide +kernel
theorem d_D_reduce_28 : decode b_D_reduce 28 = .ok (.iadd, 1) := by decide +kernel
theorem d_D_reduce_29 : decode b_D_reduce 29 = .ok (.laload, 1) := by decide +kernel
theorem d_D_reduce_30 : decode b_D_reduce 30 = .ok (.lconst 0, 1) := by decide +kernel
theorem d_D_reduce_31 : decode b_D_reduce 31 = .ok (.lcmp, 1) := by decide +kernel
theorem d_D_reduce_32 : decode b_D_reduce 32 = .ok (.ifCond .ne 9, 3) := by decide +kernel
theorem d_D_reduce_35 : decode b_D_reduce 35 = .ok (.iinc 4 1, 3) := by decide +kernel
theorem d_D_reduce_38 : decode b_D_reduce 38 = .ok (.goto (-26), 3) := by decide +kernel
theorem d_D_reduce_41 : decode b_D_reduce 41 = .ok (.iload 4, 2) := by decide +kernel
theorem d_D_reduce_43 : decode b_D_reduce 43 = .ok (.iconst 4, 1) := by decide +kernel
theorem d_D_reduce_44 : decode b_D_reduce 44 = .ok (.if_icmp .ne 5, 3) := by decide +kernel
theorem d_D_reduce_47 : decode b_D_reduce 47 = .ok (.iconst 0, 1) := by decide +kernel
theorem d_D_reduce_48 : decode b_D_reduce 48 = .ok (.ireturn, 1) := by decide +kernel
theorem d_D_reduce_49 : decode b_D_reduce 49 = .ok (.aload_n 0, 1) := by decide +kernel
theorem d_D_reduce_50 : decode b_D_reduce 50 = .ok (.iload 4, 2) := by decide +kernel
theorem d_D_reduce_52 : decode b_D_reduce 52 = .ok (.iload_n 3, 1) := by decide +kernel
theorem d_D_reduce_53 : decode b_D_reduce 53 = .ok (.invokevirtual 89, 3) := by decide +kernel
theorem d_D_reduce_56 : decode b_D_reduce 56 = .ok (.aload_n 0, 1) := by decide +kernel
theorem d_D_reduce_57 : decode b_D_reduce 57 = .ok (.getfield 22, 3) := by decide +kernel
theorem d_D_reduce_60 : decode b_D_reduce 60 = .ok (.iload_n 3, 1) := by decide +kernel
theorem d_D_reduce_61 : decode b_D_reduce 61 = .ok (.bipush 6, 2) := by decide +kernel
theorem d_D_reduce_63 : decode b_D_reduce 63 = .ok (.imul, 1) := by decide +kernel
theorem d_D_reduce_64 : decode b_D_reduce 64 = .ok (.iload_n 3, 1) := by decide +kernel
theorem d_D_reduce_65 : decode b_D_reduce 65 = .ok (.iadd, 1) := by decide +kernel
theorem d_D_reduce_66 : decode b_D_reduce 66 = .ok (.laload, 1) := by decide +kernel
theorem d_D_reduce_67 : decode b_D_reduce 67 = .ok (.lstore 5, 2) := by decide +kernel
theorem d_D_reduce_69 : decode b_D_reduce 69 = .ok (.iconst 0, 1) := by decide +kernel
theorem d_D_reduce_70 : decode b_D_reduce 70 = .ok (.istore 7, 2) := by decide +kernel
theorem d_D_reduce_72 : decode b_D_reduce 72 = .ok (.iload 7, 2) := by decide +kernel
theorem d_D_reduce_74 : decode b_D_reduce 74 = .ok (.iconst 4, 1) := by decide +kernel
theorem d_D_reduce_75 : decode b_D_reduce 75 = .ok (.if_icmp .ge 25, 3) := by decide +kernel
theorem d_D_reduce_78 : decode b_D_reduce 78 = .ok (.iload 7, 2) := by decide +kernel
theorem d_D_reduce_80 : decode b_D_reduce 80 = .ok (.iload_n 3, 1) := by decide +kernel
theorem d_D_reduce_81 : decode b_D_reduce 81 = .ok (.if_icmp .eq 13, 3) := by decide +kernel
theorem d_D_reduce_84 : decode b_D_reduce 84 = .ok (.aload_n 0, 1) := by decide +kernel
theorem d_D_reduce_85 : decode b_D_reduce 85 = .ok (.iload 7, 2) := by decide +kernel
theorem d_D_reduce_87 : decode b_D_reduce 87 = .ok (.iload_n 3, 1) := by decide +kernel
theorem d_D_reduce_88 : decode b_D_reduce 88 = .ok (.lload 5, 2) := by decide +kernel
theorem d_D_reduce_90 : decode b_D_reduce 90 = .ok (.lload_n 1, 1) := by decide +kernel
theorem d_D_reduce_91 : decode b_D_reduce 91 = .ok (.invokevirtual 93, 3) := by decide +kernel
theorem d_D_reduce_94 : decode b_D_reduce 94 = .ok (.iinc 7 1, 3) := by decide +kernel
theorem d_D_reduce_97 : decode b_D_reduce 97 = .ok (.goto (-25), 3) := by decide +kernel
theorem d_D_reduce_100 : decode b_D_reduce 100 = .ok (.lload 5, 2) := by decide +kernel
theorem d_D_reduce_102 : decode b_D_reduce 102 = .ok (.lstore_n 1, 1) := by decide +kernel
theorem d_D_reduce_103 : decode b_D_reduce 103 = .ok (.iinc 3 1, 3) := by decide +kernel
theorem d_D_reduce_106 : decode b_D_reduce 106 = .ok (.goto (-102), 3) := by decide +kernel
theorem d_D_reduce_109 : decode b_D_reduce 109 = .ok (.aload_n 0, 1) := by decide +kernel
theorem d_D_reduce_110 : decode b_D_reduce 110 = .ok (.lload_n 1, 1) := by decide +kernel
theorem d_D_reduce_111 : decode b_D_reduce 111 = .ok (.lconst 0, 1) := by decide +kernel
theorem d_D_reduce_112 : decode b_D_reduce 112 = .ok (.lcmp, 1) := by decide +kernel
theorem d_D_reduce_113 : decode b_D_reduce 113 = .ok (.ifCond .ge 8, 3) := by decide +kernel
theorem d_D_reduce_116 : decode b_D_reduce 116 = .ok (.lload_n 1, 1) := by decide +kernel
theorem d_D_reduce_117 : decode b_D_reduce 117 = .ok (.lneg, 1) := by decide +kernel
theorem d_D_reduce_118 : decode b_D_reduce 118 = .ok (.goto 4, 3) := by decide +kernel
theorem d_D_reduce_121 : decode b_D_reduce 121 = .ok (.lload_n 1, 1) := by decide +kernel
theorem d_D_reduce_122 : decode b_D_reduce 122 = .ok (.putfield 86, 3) := by decide +kernel
theorem d_D_reduce_125 : decode b_D_reduce 125 = .ok (.iconst 0, 1) := by decide +kernel
theorem d_D_reduce_126 : decode b_D_reduce 126 = .ok (.istore_n 3, 1) := by decide +kernel
theorem d_D_reduce_127 : decode b_D_reduce 127 = .ok (.iload_n 3, 1) := by decide +kernel
theorem d_D_reduce_128 : decode b_D_reduce 128 = .ok (.bipush 24, 2) := by decide +kernel
theorem d_D_reduce_130 : decode b_D_reduce 130 = .ok (.if_icmp .ge 28, 3) := by decide +kernel
theorem d_D_reduce_133 : decode b_D_reduce 133 = .ok (.lload_n 1, 1) := by decide +kernel
theorem d_D_reduce_134 : decode b_D_reduce 134 = .ok (.lconst 0, 1) := by decide +kernel
theorem d_D_reduce_135 : decode b_D_reduce 135 = .ok (.lcmp, 1) := by decide +kernel
theorem d_D_reduce_136 : decode b_D_reduce 136 = .ok (.ifCond .ge 22, 3) := by decide +kernel
theorem d_D_reduce_139 : decode b_D_reduce 139 = .ok (.aload_n 0, 1) := by decide +kernel
theorem d_D_reduce_140 : decode b_D_reduce 140 = .ok (.getfield 22, 3) := by decide +kernel
theorem d_D_reduce_143 : decode b_D_reduce 143 = .ok (.iload_n 3, 1) := by decide +kernel
theorem d_D_reduce_144 : decode b_D_reduce 144 = .ok (.aload_n 0, 1) := by decide +kernel
theorem d_D_reduce_145 : decode b_D_reduce 145 = .ok (.getfield 22, 3) := by decide +kernel
theorem d_D_reduce_148 : decode b_D_reduce 148 = .ok (.iload_n 3, 1) := by decide +kernel
theorem d_D_reduce_149 : decode b_D_reduce 149 = .ok (.laload, 1) := by decide +kernel
theorem d_D_reduce_150 : decode b_D_reduce 150 = .ok (.lneg, 1) := by decide +kernel
theorem d_D_reduce_151 : decode b_D_reduce 151 = .ok (.lastore, 1) := by decide +kernel
theorem d_D_reduce_152 : decode b_D_reduce 152 = .ok (.iinc 3 1, 3) := by decide +kernel
theorem d_D_reduce_155 : decode b_D_reduce 155 = .ok (.goto (-28), 3) := by decide +kernel
theorem d_D_reduce_158 : decode b_D_reduce 158 = .ok (.iconst 1, 1) := by decide +kernel
theorem d_D_reduce_159 : decode b_D_reduce 159 = .ok (.ireturn, 1) := by decide +kernel
theorem d_D_roll_0 : decode b_D_roll 0 = .ok (.aload_n 0, 1) := by decide +kernel
theorem d_D_roll_1 : decode b_D_roll 1 = .ok (.getfield 54, 3) := by decide +kernel
theorem d_D_roll_4 : decode b_D_roll 4 = .ok (.ireturn, 1) := by decide +kernel
theorem d_D_search_0 : decode b_D_search 0 = .ok (.iconst 0, 1) := by decide +kernel
theorem d_D_search_1 : decode b_D_search 1 = .ok (.istore_n 2, 1) := by decide +kernel
theorem d_D_search_2 : decode b_D_search 2 = .ok (.aload_n 0, 1) := by decide +kernel
theorem d_D_search_3 : decode b_D_search 3 = .ok (.getfield 50, 3) := by decide +kernel
theorem d_D_search_6 : decode b_D_search 6 = .ok (.iconst 0, 1) := by decide +kernel
theorem d_D_search_7 : decode b_D_search 7 = .ok (.iconst 0, 1) := by decide +kernel
theorem d_D_search_8 : decode b_D_search 8 = .ok (.bastore, 1) := by decide +kernel
theorem d_D_search_9 : decode b_D_search 9 = .ok (.iconst 0, 1) := by decide +kernel
theorem d_D_search_10 : decode b_D_search 10 = .ok (.istore_n 3, 1) := by decide +kernel
theorem d_D_search_11 : decode b_D_search 11 = .ok (.iload_n 3, 1) := by decide +kernel
theorem d_D_search_12 : decode b_D_search 12 = .ok (.ldc 124, 2) := by decide +kernel
theorem d_D_search_14 : decode b_D_search 14 = .ok (.if_icmp .ge 105, 3) := by decide +kernel
theorem d_D_search_17 : decode b_D_search 17 = .ok (.iload_n 2, 1) := by decide +kernel
theorem d_D_search_18 : decode b_D_search 18 = .ok (.ifCond .lt 101, 3) := by decide +kernel
end
section
theorem d_D_search_21 : decode b_D_search 21 = .ok (.aload_n 0, 1) := by decide +kernel
theorem d_D_search_22 : decode b_D_search 22 = .ok (.getfield 104, 3) := by decide +kernel
theorem d_D_search_25 : decode b_D_search 25 = .ok (.iload_n 1, 1) := by decide +kernel
theorem d_D_search_26 : decode b_D_search 26 = .ok (.if_icmp .le 93, 3) := by decide +kernel
theorem d_D_search_29 : decode b_D_search 29 = .ok (.aload_n 0, 1) := by decide +kernel
theorem d_D_search_30 : decode b_D_search 30 = .ok (.iload_n 2, 1) := by decide +kernel
theorem d_D_search_31 : decode b_D_search 31 = .ok (.invokevirtual 125, 3) := by decide +kernel
theorem d_D_search_34 : decode b_D_search 34 = .ok (.ifCond .ne 9, 3) := by decide +kernel
theorem d_D_search_37 : decode b_D_search 37 = .ok (.iinc 2 (-1), 3) := by decide +kernel
theorem d_D_search_40 : decode b_D_search 40 = .ok (.goto 73, 3) := by decide +kernel
theorem d_D_search_43 : decode b_D_search 43 = .ok (.aload_n 0, 1) := by decide +kernel
theorem d_D_search_44 : decode b_D_search 44 = .ok (.iload_n 2, 1) := by decide +kernel
theorem d_D_search_45 : decode b_D_search 45 = .ok (.invokevirtual 121, 3) := by decide +kernel
theorem d_D_search_48 : decode b_D_search 48 = .ok (.aload_n 0, 1) := by decide +kernel
theorem d_D_search_49 : decode b_D_search 49 = .ok (.iload_n 2, 1) := by decide +kernel
theorem d_D_search_50 : decode b_D_search 50 = .ok (.iconst 1, 1) := by decide +kernel
theorem d_D_search_51 : decode b_D_search 51 = .ok (.iadd, 1) := by decide +kernel
theorem d_D_search_52 : decode b_D_search 52 = .ok (.invokevirtual 115, 3) := by decide +kernel
theorem d_D_search_55 : decode b_D_search 55 = .ok (.ifCond .eq 30, 3) := by decide +kernel
theorem d_D_search_58 : decode b_D_search 58 = .ok (.aload_n 0, 1) := by decide +kernel
theorem d_D_search_59 : decode b_D_search 59 = .ok (.iload_n 2, 1) := by decide +kernel
theorem d_D_search_60 : decode b_D_search 60 = .ok (.iconst 1, 1) := by decide +kernel
theorem d_D_search_61 : decode b_D_search 61 = .ok (.iadd, 1) := by decide +kernel
theorem d_D_search_62 : decode b_D_search 62 = .ok (.aload_n 0, 1) := by decide +kernel
theorem d_D_search_63 : decode b_D_search 63 = .ok (.getfield 104, 3) := by decide +kernel
theorem d_D_search_66 : decode b_D_search 66 = .ok (.if_icmp .ge 9, 3) := by decide +kernel
theorem d_D_search_69 : decode b_D_search 69 = .ok (.iload_n 2, 1) := by decide +kernel
theorem d_D_search_70 : decode b_D_search 70 = .ok (.iconst 1, 1) := by decide +kernel
theorem d_D_search_71 : decode b_D_search 71 = .ok (.iadd, 1) := by decide +kernel
theorem d_D_search_72 : decode b_D_search 72 = .ok (.goto 7, 3) := by decide +kernel
theorem d_D_search_75 : decode b_D_search 75 = .ok (.aload_n 0, 1) := by decide +kernel
theorem d_D_search_76 : decode b_D_search 76 = .ok (.getfield 104, 3) := by decide +kernel
theorem d_D_search_79 : decode b_D_search 79 = .ok (.putfield 104, 3) := by decide +kernel
theorem d_D_search_82 : decode b_D_search 82 = .ok (.goto 31, 3) := by decide +kernel
theorem d_D_search_85 : decode b_D_search 85 = .ok (.iload_n 2, 1) := by decide +kernel
theorem d_D_search_86 : decode b_D_search 86 = .ok (.iconst 1, 1) := by decide +kernel
theorem d_D_search_87 : decode b_D_search 87 = .ok (.iadd, 1) := by decide +kernel
theorem d_D_search_88 : decode b_D_search 88 = .ok (.aload_n 0, 1) := by decide +kernel
theorem d_D_search_89 : decode b_D_search 89 = .ok (.iload_n 2, 1) := by decide +kernel
theorem d_D_search_90 : decode b_D_search 90 = .ok (.iconst 1, 1) := by decide +kernel
theorem d_D_search_91 : decode b_D_search 91 = .ok (.iadd, 1) := by decide +kernel
theorem d_D_search_92 : decode b_D_search 92 = .ok (.invokevirtual 107, 3) := by decide +kernel
theorem d_D_search_95 : decode b_D_search 95 = .ok (.iadd, 1) := by decide +kernel
theorem d_D_search_96 : decode b_D_search 96 = .ok (.aload_n 0, 1) := by decide +kernel
theorem d_D_search_97 : decode b_D_search 97 = .ok (.getfield 104, 3) := by decide +kernel
theorem d_D_search_100 : decode b_D_search 100 = .ok (.if_icmp .ge 13, 3) := by decide +kernel
theorem d_D_search_103 : decode b_D_search 103 = .ok (.iinc 2 1, 3) := by decide +kernel
theorem d_D_search_106 : decode b_D_search 106 = .ok (.aload_n 0, 1) := by decide +kernel
theorem d_D_search_107 : decode b_D_search 107 = .ok (.getfield 50, 3) := by decide +kernel
theorem d_D_search_110 : decode b_D_search 110 = .ok (.iload_n 2, 1) := by decide +kernel
theorem d_D_search_111 : decode b_D_search 111 = .ok (.iconst 0, 1) := by decide +kernel
theorem d_D_search_112 : decode b_D_search 112 = .ok (.bastore, 1) := by decide +kernel
theorem d_D_search_113 : decode b_D_search 113 = .ok (.iinc 3 1, 3) := by decide +kernel
theorem d_D_search_116 : decode b_D_search 116 = .ok (.goto (-105), 3) := by decide +kernel
theorem d_D_search_119 : decode b_D_search 119 = .ok (.return_, 1) := by decide +kernel
theorem d_D_served_0 : decode b_D_served 0 = .ok (.iconst 0, 1) := by decide +kernel
theorem d_D_served_1 : decode b_D_served 1 = .ok (.istore_n 2, 1) := by decide +kernel
theorem d_D_served_2 : decode b_D_served 2 = .ok (.iload_n 2, 1) := by decide +kernel
theorem d_D_served_3 : decode b_D_served 3 = .ok (.iconst 4, 1) := by decide +kernel
theorem d_D_served_4 : decode b_D_served 4 = .ok (.if_icmp .ge 24, 3) := by decide +kernel
theorem d_D_served_7 : decode b_D_served 7 = .ok (.aload_n 0, 1) := by decide +kernel
theorem d_D_served_8 : decode b_D_served 8 = .ok (.getfield 44, 3) := by decide +kernel
theorem d_D_served_11 : decode b_D_served 11 = .ok (.iload_n 1, 1) := by decide +kernel
theorem d_D_served_12 : decode b_D_served 12 = .ok (.iconst 4, 1) := by decide +kernel
theorem d_D_served_13 : decode b_D_served 13 = .ok (.imul, 1) := by decide +kernel
theorem d_D_served_14 : decode b_D_served 14 = .ok (.iload_n 2, 1) := by decide +kernel
theorem d_D_served_15 : decode b_D_served 15 = .ok (.iadd, 1) := by decide +kernel
theorem d_D_served_16 : decode b_D_served 16 = .ok (.baload, 1) := by decide +kernel
theorem d_D_served_17 : decode b_D_served 17 = .ok (.ifCond .le 5, 3) := by decide +kernel
theorem d_D_served_20 : decode b_D_served 20 = .ok (.iconst 0, 1) := by decide +kernel
theorem d_D_served_21 : decode b_D_served 21 = .ok (.ireturn, 1) := by decide +kernel
theorem d_D_served_22 : decode b_D_served 22 = .ok (.iinc 2 1, 3) := by decide +kernel
theorem d_D_served_25 : decode b_D_served 25 = .ok (.goto (-23), 3) := by decide +kernel
theorem d_D_served_28 : decode b_D_served 28 = .ok (.iconst 1, 1) := by decide +kernel
theorem d_D_served_29 : decode b_D_served 29 = .ok (.ireturn, 1) := by decide +kernel
theorem d_D_setRoll_0 : decode b_D_setRoll 0 = .ok (.iload_n 1, 1) := by decide +kernel
theorem d_D_setRoll_1 : decode b_D_setRoll 1 = .ok (.iconst 1, 1) := by decide +kernel
theorem d_D_setRoll_2 : decode b_D_setRoll 2 = .ok (.if_icmp .lt 9, 3) := by decide +kernel
theorem d_D_setRoll_5 : decode b_D_setRoll 5 = .ok (.iload_n 1, 1) := by decide +kernel
theorem d_D_setRoll_6 : decode b_D_setRoll 6 = .ok (.bipush 20, 2) := by decide +kernel
theorem d_D_setRoll_8 : decode b_D_setRoll 8 = .ok (.if_icmp .le 5, 3) := by decide +kernel
theorem d_D_setRoll_11 : decode b_D_setRoll 11 = .ok (.iconst 0, 1) := by decide +kernel
theorem d_D_setRoll_12 : decode b_D_setRoll 12 = .ok (.ireturn, 1) := by decide +kernel
theorem d_D_setRoll_13 : decode b_D_setRoll 13 = .ok (.iconst 0, 1) := by decide +kernel
theorem d_D_setRoll_14 : decode b_D_setRoll 14 = .ok (.istore_n 2, 1) := by decide +kernel
theorem d_D_setRoll_15 : decode b_D_setRoll 15 = .ok (.iload_n 2, 1) := by decide +kernel
theorem d_D_setRoll_16 : decode b_D_setRoll 16 = .ok (.iconst 4, 1) := by decide +kernel
theorem d_D_setRoll_17 : decode b_D_setRoll 17 = .ok (.if_icmp .ge 21, 3) := by decide +kernel
theorem d_D_setRoll_20 : decode b_D_setRoll 20 = .ok (.aload_n 0, 1) := by decide +kernel
theorem d_D_setRoll_21 : decode b_D_setRoll 21 = .ok (.getfield 7, 3) := by decide +kernel
theorem d_D_setRoll_24 : decode b_D_setRoll 24 = .ok (.iload_n 2, 1) := by decide +kernel
theorem d_D_setRoll_25 : decode b_D_setRoll 25 = .ok (.baload, 1) := by decide +kernel
theorem d_D_setRoll_26 : decode b_D_setRoll 26 = .ok (.iload_n 1, 1) := by decide +kernel
theorem d_D_setRoll_27 : decode b_D_setRoll 27 = .ok (.if_icmp .le 5, 3) := by decide +kernel
theorem d_D_setRoll_30 : decode b_D_setRoll 30 = .ok (.iconst 0, 1) := by decide +kernel
theorem d_D_setRoll_31 : decode b_D_setRoll 31 = .ok (.ireturn, 1) := by decide +kernel
theorem d_D_setRoll_32 : decode b_D_setRoll 32 = .ok (.iinc 2 1, 3) := by decide +kernel
theorem d_D_setRoll_35 : decode b_D_setRoll 35 = .ok (.goto (-20), 3) := by decide +kernel
theorem d_D_setRoll_38 : decode b_D_setRoll 38 = .ok (.aload_n 0, 1) := by decide +kernel
theorem d_D_setRoll_39 : decode b_D_setRoll 39 = .ok (.iload_n 1, 1) := by decide +kernel
theorem d_D_setRoll_40 : decode b_D_setRoll 40 = .ok (.putfield 54, 3) := by decide +kernel
theorem d_D_setRoll_43 : decode b_D_setRoll 43 = .ok (.iconst 1, 1) := by decide +kernel
theorem d_D_setRoll_44 : decode b_D_setRoll 44 = .ok (.ireturn, 1) := by decide +kernel
theorem d_D_setWidth_0 : decode b_D_setWidth 0 = .ok (.iload_n 1, 1) := by decide +kernel
theorem d_D_setWidth_1 : decode b_D_setWidth 1 = .ok (.invokestatic 58, 3) := by decide +kernel
theorem d_D_setWidth_4 : decode b_D_setWidth 4 = .ok (.ifCond .eq 16, 3) := by decide +kernel
theorem d_D_setWidth_7 : decode b_D_setWidth 7 = .ok (.iload_n 2, 1) := by decide +kernel
theorem d_D_setWidth_8 : decode b_D_setWidth 8 = .ok (.iconst 1, 1) := by decide +kernel
theorem d_D_setWidth_9 : decode b_D_setWidth 9 = .ok (.if_icmp .lt 11, 3) := by decide +kernel
theorem d_D_setWidth_12 : decode b_D_setWidth 12 = .ok (.iload_n 2, 1) := by decide +kernel
theorem d_D_setWidth_13 : decode b_D_setWidth 13 = .ok (.aload_n 0, 1) := by decide +kernel
theorem d_D_setWidth_14 : decode b_D_setWidth 14 = .ok (.getfield 54, 3) := by decide +kernel
theorem d_D_setWidth_17 : decode b_D_setWidth 17 = .ok (.if_icmp .le 5, 3) := by decide +kernel
theorem d_D_setWidth_20 : decode b_D_setWidth 20 = .ok (.iconst 0, 1) := by decide +kernel
theorem d_D_setWidth_21 : decode b_D_setWidth 21 = .ok (.ireturn, 1) := by decide +kernel
theorem d_D_setWidth_22 : decode b_D_setWidth 22 = .ok (.aload_n 0, 1) := by decide +kernel
theorem d_D_setWidth_23 : decode b_D_setWidth 23 = .ok (.getfield 7, 3) := by decide +kernel
theorem d_D_setWidth_26 : decode b_D_setWidth 26 = .ok (.iload_n 1, 1) := by decide +kernel
theorem d_D_setWidth_27 : decode b_D_setWidth 27 = .ok (.iload_n 2, 1) := by decide +kernel
theorem d_D_setWidth_28 : decode b_D_setWidth 28 = .ok (.i2b, 1) := by decide +kernel
theorem d_D_setWidth_29 : decode b_D_setWidth 29 = .ok (.bastore, 1) := by decide +kernel
theorem d_D_setWidth_30 : decode b_D_setWidth 30 = .ok (.iconst 1, 1) := by decide +kernel
theorem d_D_setWidth_31 : decode b_D_setWidth 31 = .ok (.ireturn, 1) := by decide +kernel
theorem d_D_solve_0 : decode b_D_solve 0 = .ok (.iconst 0, 1) := by decide +kernel
theorem d_D_solve_1 : decode b_D_solve 1 = .ok (.istore_n 1, 1) := by decide +kernel
theorem d_D_solve_2 : decode b_D_solve 2 = .ok (.iconst 0, 1) := by decide +kernel
theorem d_D_solve_3 : decode b_D_solve 3 = .ok (.istore_n 2, 1) := by decide +kernel
theorem d_D_solve_4 : decode b_D_solve 4 = .ok (.iload_n 2, 1) := by decide +kernel
theorem d_D_solve_5 : decode b_D_solve 5 = .ok (.iconst 4, 1) := by decide +kernel
theorem d_D_solve_6 : decode b_D_solve 6 = .ok (.if_icmp .ge 30, 3) := by decide +kernel
theorem d_D_solve_9 : decode b_D_solve 9 = .ok (.iload_n 1, 1) := by decide +kernel
theorem d_D_solve_10 : decode b_D_solve 10 = .ok (.aload_n 0, 1) := by decide +kernel
theorem d_D_solve_11 : decode b_D_solve 11 = .ok (.getfield 16, 3) := by decide +kernel
theorem d_D_solve_14 : decode b_D_solve 14 = .ok (.iload_n 2, 1) := by decide +kernel
theorem d_D_solve_15 : decode b_D_solve 15 = .ok (.baload, 1) := by decide +kernel
theorem d_D_solve_16 : decode b_D_solve 16 = .ok (.iadd, 1) := by decide +kernel
theorem d_D_solve_17 : decode b_D_solve 17 = .ok (.istore_n 1, 1) := by decide +kernel
theorem d_D_solve_18 : decode b_D_solve 18 = .ok (.aload_n 0, 1) := by decide +kernel
theorem d_D_solve_19 : decode b_D_solve 19 = .ok (.getfield 44, 3) := by decide +kernel
theorem d_D_solve_22 : decode b_D_solve 22 = .ok (.iload_n 2, 1) := by decide +kernel
theorem d_D_solve_23 : decode b_D_solve 23 = .ok (.aload_n 0, 1) := by decide +kernel
theorem d_D_solve_24 : decode b_D_solve 24 = .ok (.getfield 16, 3) := by decide +kernel
theorem d_D_solve_27 : decode b_D_solve 27 = .ok (.iload_n 2, 1) := by decide +kernel
theorem d_D_solve_28 : decode b_D_solve 28 = .ok (.baload, 1) := by decide +kernel
theorem d_D_solve_29 : decode b_D_solve 29 = .ok (.bastore, 1) := by decide +kernel
theorem d_D_solve_30 : decode b_D_solve 30 = .ok (.iinc 2 1, 3) := by decide +kernel
theorem d_D_solve_33 : decode b_D_solve 33 = .ok (.goto (-29), 3) := by decide +kernel
theorem d_D_solve_36 : decode b_D_solve 36 = .ok (.iload_n 1, 1) := by decide +kernel
theorem d_D_solve_37 : decode b_D_solve 37 = .ok (.ifCond .ne 5, 3) := by decide +kernel
theorem d_D_solve_40 : decode b_D_solve 40 = .ok (.iconst 0, 1) := by decide +kernel
theorem d_D_solve_41 : decode b_D_solve 41 = .ok (.ireturn, 1) := by decide +kernel
theorem d_D_solve_42 : decode b_D_solve 42 = .ok (.aload_n 0, 1) := by decide +kernel
theorem d_D_solve_43 : decode b_D_solve 43 = .ok (.invokevirtual 97, 3) := by decide +kernel
theorem d_D_solve_46 : decode b_D_solve 46 = .ok (.aload_n 0, 1) := by decide +kernel
theorem d_D_solve_47 : decode b_D_solve 47 = .ok (.aload_n 0, 1) := by decide +kernel
theorem d_D_solve_48 : decode b_D_solve 48 = .ok (.invokevirtual 100, 3) := by decide +kernel
theorem d_D_solve_51 : decode b_D_solve 51 = .ok (.putfield 104, 3) := by decide +kernel
theorem d_D_solve_54 : decode b_D_solve 54 = .ok (.aload_n 0, 1) := by decide +kernel
theorem d_D_solve_55 : decode b_D_solve 55 = .ok (.iconst 0, 1) := by decide +kernel
theorem d_D_solve_56 : decode b_D_solve 56 = .ok (.invokevirtual 107, 3) := by decide +kernel
theorem d_D_solve_59 : decode b_D_solve 59 = .ok (.istore_n 2, 1) := by decide +kernel
theorem d_D_solve_60 : decode b_D_solve 60 = .ok (.iload_n 2, 1) := by decide +kernel
theorem d_D_solve_61 : decode b_D_solve 61 = .ok (.aload_n 0, 1) := by decide +kernel
theorem d_D_solve_62 : decode b_D_solve 62 = .ok (.getfield 104, 3) := by decide +kernel
theorem d_D_solve_65 : decode b_D_solve 65 = .ok (.if_icmp .ge 8, 3) := by decide +kernel
theorem d_D_solve_68 : decode b_D_solve 68 = .ok (.aload_n 0, 1) := by decide +kernel
theorem d_D_solve_69 : decode b_D_solve 69 = .ok (.iload_n 2, 1) := by decide +kernel
theorem d_D_solve_70 : decode b_D_solve 70 = .ok (.invokevirtual 111, 3) := by decide +kernel
theorem d_D_solve_73 : decode b_D_solve 73 = .ok (.aload_n 0, 1) := by decide +kernel
theorem d_D_solve_74 : decode b_D_solve 74 = .ok (.getfield 104, 3) := by decide +kernel
theorem d_D_solve_77 : decode b_D_solve 77 = .ok (.ireturn, 1) := by decide +kernel
theorem d_D_sound_0 : decode b_D_sound 0 = .ok (.iconst 0, 1) := by decide +kernel
theorem d_D_sound_1 : decode b_D_sound 1 = .ok (.istore_n 1, 1) := by decide +kernel
theorem d_D_sound_2 : decode b_D_sound 2 = .ok (.iload_n 1, 1) := by decide +kernel
theorem d_D_sound_3 : decode b_D_sound 3 = .ok (.iconst 4, 1) := by decide +kernel
theorem d_D_sound_4 : decode b_D_sound 4 = .ok (.if_icmp .ge 22, 3) := by decide +kernel
theorem d_D_sound_7 : decode b_D_sound 7 = .ok (.aload_n 0, 1) := by decide +kernel
theorem d_D_sound_8 : decode b_D_sound 8 = .ok (.getfield 26, 3) := by decide +kernel
theorem d_D_sound_11 : decode b_D_sound 11 = .ok (.iload_n 1, 1) := by decide +kernel
theorem d_D_sound_12 : decode b_D_sound 12 = .ok (.laload, 1) := by decide +kernel
theorem d_D_sound_13 : decode b_D_sound 13 = .ok (.lconst 0, 1) := by decide +kernel
theorem d_D_sound_14 : decode b_D_sound 14 = .ok (.lcmp, 1) := by decide +kernel
theorem d_D_sound_15 : decode b_D_sound 15 = .ok (.ifCond .ge 5, 3) := by decide +kernel
theorem d_D_sound_18 : decode b_D_sound 18 = .ok (.iconst 0, 1) := by decide +kernel
theorem d_D_sound_19 : decode b_D_sound 19 = .ok (.ireturn, 1) := by decide +kernel
theorem d_D_sound_20 : decode b_D_sound 20 = .ok (.iinc 1 1, 3) := by decide +kernel
theorem d_D_sound_23 : decode b_D_sound 23 = .ok (.goto (-21), 3) := by decide +kernel
theorem d_D_sound_26 : decode b_D_sound 26 = .ok (.aload_n 0, 1) := by decide +kernel
theorem d_D_sound_27 : decode b_D_sound 27 = .ok (.getfield 76, 3) := by decide +kernel
theorem d_D_sound_30 : decode b_D_sound 30 = .ok (.lconst 0, 1) := by decide +kernel
theorem d_D_sound_31 : decode b_D_sound 31 = .ok (.lcmp, 1) := by decide +kernel
theorem d_D_sound_32 : decode b_D_sound 32 = .ok (.ifCond .le 7, 3) := by decide +kernel
theorem d_D_sound_35 : decode b_D_sound 35 = .ok (.iconst 1, 1) := by decide +kernel
theorem d_D_sound_36 : decode b_D_sound 36 = .ok (.goto 4, 3) := by decide +kernel
theorem d_D_sound_39 : decode b_D_sound 39 = .ok (.iconst 0, 1) := by decide +kernel
theorem d_D_sound_40 : decode b_D_sound 40 = .ok (.ireturn, 1) := by decide +kernel
theorem d_D_swapRows_0 : decode b_D_swapRows 0 = .ok (.iconst 0, 1) := by decide +kernel
theorem d_D_swapRows_1 : decode b_D_swapRows 1 = .ok (.istore_n 3, 1) := by decide +kernel
theorem d_D_swapRows_2 : decode b_D_swapRows 2 = .ok (.iload_n 3, 1) := by decide +kernel
theorem d_D_swapRows_3 : decode b_D_swapRows 3 = .ok (.bipush 6, 2) := by decide +kernel
theorem d_D_swapRows_5 : decode b_D_swapRows 5 = .ok (.if_icmp .ge 57, 3) := by decide +kernel
theorem d_D_swapRows_8 : decode b_D_swapRows 8 = .ok (.aload_n 0, 1) := by decide +kernel
theorem d_D_swapRows_9 : decode b_D_swapRows 9 = .ok (.getfield 22, 3) := by decide +kernel
theorem d_D_swapRows_12 : decode b_D_swapRows 12 = .ok (.iload_n 1, 1) := by decide +kernel
theorem d_D_swapRows_13 : decode b_D_swapRows 13 = .ok (.bipush 6, 2) := by decide +kernel
theorem d_D_swapRows_15 : decode b_D_swapRows 15 = .ok (.imul, 1) := by decide +kernel
theorem d_D_swapRows_16 : decode b_D_swapRows 16 = .ok (.iload_n 3, 1) := by decide +kernel
theorem d_D_swapRows_17 : decode b_D_swapRows 17 = .ok (.iadd, 1) := by decide +kernel
theorem d_D_swapRows_18 : decode b_D_swapRows 18 = .ok (.laload, 1) := by decide +kernel
theorem d_D_swapRows_19 : decode b_D_swapRows 19 = .ok (.lstore 4, 2) := by decide +kernel
theorem d_D_swapRows_21 : decode b_D_swapRows 21 = .ok (.aload_n 0, 1) := by decide +kernel
theorem d_D_swapRows_22 : decode b_D_swapRows 22 = .ok (.getfield 22, 3) := by decide +kernel
theorem d_D_swapRows_25 : decode b_D_swapRows 25 = .ok (.iload_n 1, 1) := by decide +kernel
theorem d_D_swapRows_26 : decode b_D_swapRows 26 = .ok (.bipush 6, 2) := by decide +kernel
theorem d_D_swapRows_28 : decode b_D_swapRows 28 = .ok (.imul, 1) := by decide +kernel
theorem d_D_swapRows_29 : decode b_D_swapRows 29 = .ok (.iload_n 3, 1) := by decide +kernel
theorem d_D_swapRows_30 : decode b_D_swapRows 30 = .ok (.iadd, 1) := by decide +kernel
theorem d_D_swapRows_31 : decode b_D_swapRows 31 = .ok (.aload_n 0, 1) := by decide +kernel
theorem d_D_swapRows_32 : decode b_D_swapRows 32 = .ok (.getfield 22, 3) := by decide +kernel
theorem d_D_swapRows_35 : decode b_D_swapRows 35 = .ok (.iload_n 2, 1) := by decide +kernel
theorem d_D_swapRows_36 : decode b_D_swapRows 36 = .ok (.bipush 6, 2) := by decide +kernel
theorem d_D_swapRows_38 : decode b_D_swapRows 38 = .ok (.imul, 1) := by decide +kernel
theorem d_D_swapRows_39 : decode b_D_swapRows 39 = .ok (.iload_n 3, 1) := by decide +kernel
theorem d_D_swapRows_40 : decode b_D_swapRows 40 = .ok (.iadd, 1) := by decide +kernel
theorem d_D_swapRows_41 : decode b_D_swapRows 41 = .ok (.laload, 1) := by decide +kernel
theorem d_D_swapRows_42 : decode b_D_swapRows 42 = .ok (.lastore, 1) := by decide +kernel
theorem d_D_swapRows_43 : decode b_D_swapRows 43 = .ok (.aload_n 0, 1) := by decide +kernel
theorem d_D_swapRows_44 : decode b_D_swapRows 44 = .ok (.getfield 22, 3) := by decide +kernel
theorem d_D_swapRows_47 : decode b_D_swapRows 47 = .ok (.iload_n 2, 1) := by decide +kernel
theorem d_D_swapRows_48 : decode b_D_swapRows 48 = .ok (.bipush 6, 2) := by decide +kernel
theorem d_D_swapRows_50 : decode b_D_swapRows 50 = .ok (.imul, 1) := by decide +kernel
theorem d_D_swapRows_51 : decode b_D_swapRows 51 = .ok (.iload_n 3, 1) := by decide +kernel
theorem d_D_swapRows_52 : decode b_D_swapRows 52 = .ok (.iadd, 1) := by decide +kernel
theorem d_D_swapRows_53 : decode b_D_swapRows 53 = .ok (.lload 4, 2) := by decide +kernel
theorem d_D_swapRows_55 : decode b_D_swapRows 55 = .ok (.lastore, 1) := by decide +kernel
theorem d_D_swapRows_56 : decode b_D_swapRows 56 = .ok (.iinc 3 1, 3) := by decide +kernel
theorem d_D_swapRows_59 : decode b_D_swapRows 59 = .ok (.goto (-57), 3) := by decide +kernel
theorem d_D_swapRows_62 : decode b_D_swapRows 62 = .ok (.return_, 1) := by decide +kernel
theorem d_D_takeOff_0 : decode b_D_takeOff 0 = .ok (.iconst 0, 1) := by decide +kernel
theorem d_D_takeOff_1 : decode b_D_takeOff 1 = .ok (.istore_n 2, 1) := by decide +kernel
theorem d_D_takeOff_2 : decode b_D_takeOff 2 = .ok (.iload_n 2, 1) := by decide +kernel
theorem d_D_takeOff_3 : decode b_D_takeOff 3 = .ok (.iconst 4, 1) := by decide +kernel
theorem d_D_takeOff_4 : decode b_D_takeOff 4 = .ok (.if_icmp .ge 53, 3) := by decide +kernel
theorem d_D_takeOff_7 : decode b_D_takeOff 7 = .ok (.aload_n 0, 1) := by decide +kernel
theorem d_D_takeOff_8 : decode b_D_takeOff 8 = .ok (.getfield 44, 3) := by decide +kernel
theorem d_D_takeOff_11 : decode b_D_takeOff 11 = .ok (.iload_n 1, 1) := by decide +kernel
theorem d_D_takeOff_12 : decode b_D_takeOff 12 = .ok (.iconst 4, 1) := by decide +kernel
theorem d_D_takeOff_13 : decode b_D_takeOff 13 = .ok (.imul, 1) := by decide +kernel
theorem d_D_takeOff_14 : decode b_D_takeOff 14 = .ok (.iload_n 2, 1) := by decide +kernel
theorem d_D_takeOff_15 : decode b_D_takeOff 15 = .ok (.iadd, 1) := by decide +kernel
theorem d_D_takeOff_16 : decode b_D_takeOff 16 = .ok (.baload, 1) := by decide +kernel
theorem d_D_takeOff_17 : decode b_D_takeOff 17 = .ok (.aload_n 0, 1) := by decide +kernel
theorem d_D_takeOff_18 : decode b_D_takeOff 18 = .ok (.getfield 47, 3) := by decide +kernel
theorem d_D_takeOff_21 : decode b_D_takeOff 21 = .ok (.iload_n 1, 1) := by decide +kernel
theorem d_D_takeOff_22 : decode b_D_takeOff 22 = .ok (.iconst 4, 1) := by decide +kernel
theorem d_D_takeOff_23 : decode b_D_takeOff 23 = .ok (.imul, 1) := by decide +kernel
theorem d_D_takeOff_24 : decode b_D_takeOff 24 = .ok (.iload_n 2, 1) := by decide +kernel
theorem d_D_takeOff_25 : decode b_D_takeOff 25 = .ok (.iadd, 1) := by decide +kernel
theorem d_D_takeOff_26 : decode b_D_takeOff 26 = .ok (.baload, 1) := by decide +kernel
theorem d_D_takeOff_27 : decode b_D_takeOff 27 = .ok (.isub, 1) := by decide +kernel
theorem d_D_takeOff_28 : decode b_D_takeOff 28 = .ok (.istore_n 3, 1) := by decide +kernel
theorem d_D_takeOff_29 : decode b_D_takeOff 29 = .ok (.aload_n 0, 1) := by decide +kernel
theorem d_D_takeOff_30 : decode b_D_takeOff 30 = .ok (.getfield 44, 3) := by decide +kernel
theorem d_D_takeOff_33 : decode b_D_takeOff 33 = .ok (.iload_n 1, 1) := by decide +kernel
theorem d_D_takeOff_34 : decode b_D_takeOff 34 = .ok (.iconst 1, 1) := by decide +kernel
theorem d_D_takeOff_35 : decode b_D_takeOff 35 = .ok (.iadd, 1) := by decide +kernel
theorem d_D_takeOff_36 : decode b_D_takeOff 36 = .ok (.iconst 4, 1) := by decide +kernel
theorem d_D_takeOff_37 : decode b_D_takeOff 37 = .ok (.imul, 1) := by decide +kernel
theorem d_D_takeOff_38 : decode b_D_takeOff 38 = .ok (.iload_n 2, 1) := by decide +kernel
theorem d_D_takeOff_39 : decode b_D_takeOff 39 = .ok (.iadd, 1) := by decide +kernel
theorem d_D_takeOff_40 : decode b_D_takeOff 40 = .ok (.iload_n 3, 1) := by decide +kernel
theorem d_D_takeOff_41 : decode b_D_takeOff 41 = .ok (.ifCond .le 7, 3) := by decide +kernel
theorem d_D_takeOff_44 : decode b_D_takeOff 44 = .ok (.iload_n 3, 1) := by decide +kernel
theorem d_D_takeOff_45 : decode b_D_takeOff 45 = .ok (.goto 4, 3) := by decide +kernel
theorem d_D_takeOff_48 : decode b_D_takeOff 48 = .ok (.iconst 0, 1) := by decide +kernel
theorem d_D_takeOff_49 : decode b_D_takeOff 49 = .ok (.i2b, 1) := by decide +kernel
theorem d_D_takeOff_50 : decode b_D_takeOff 50 = .ok (.bastore, 1) := by decide +kernel
theorem d_D_takeOff_51 : decode b_D_takeOff 51 = .ok (.iinc 2 1, 3) := by decide +kernel
theorem d_D_takeOff_54 : decode b_D_takeOff 54 = .ok (.goto (-52), 3) := by decide +kernel
theorem d_D_takeOff_57 : decode b_D_takeOff 57 = .ok (.return_, 1) := by decide +kernel
theorem d_D_widest_0 : decode b_D_widest 0 = .ok (.iconst (-1), 1) := by decide +kernel
theorem d_D_widest_1 : decode b_D_widest 1 = .ok (.istore_n 2, 1) := by decide +kernel
theorem d_D_widest_2 : decode b_D_widest 2 = .ok (.iconst 0, 1) := by decide +kernel
theorem d_D_widest_3 : decode b_D_widest 3 = .ok (.istore_n 3, 1) := by decide +kernel
theorem d_D_widest_4 : decode b_D_widest 4 = .ok (.iload_n 3, 1) := by decide +kernel
theorem d_D_widest_5 : decode b_D_widest 5 = .ok (.iconst 4, 1) := by decide +kernel
theorem d_D_widest_6 : decode b_D_widest 6 = .ok (.if_icmp .ge 43, 3) := by decide +kernel
theorem d_D_widest_9 : decode b_D_widest 9 = .ok (.aload_n 0, 1) := by decide +kernel
theorem d_D_widest_10 : decode b_D_widest 10 = .ok (.getfield 44, 3) := by decide +kernel
theorem d_D_widest_13 : decode b_D_widest 13 = .ok (.iload_n 1, 1) := by decide +kernel
theorem d_D_widest_14 : decode b_D_widest 14 = .ok (.iconst 4, 1) := by decide +kernel
theorem d_D_widest_15 : decode b_D_widest 15 = .ok (.imul, 1) := by decide +kernel
theorem d_D_widest_16 : decode b_D_widest 16 = .ok (.iload_n 3, 1) := by decide +kernel
theorem d_D_widest_17 : decode b_D_widest 17 = .ok (.iadd, 1) := by decide +kernel
theorem d_D_widest_18 : decode b_D_widest 18 = .ok (.baload, 1) := by decide +kernel
theorem d_D_widest_19 : decode b_D_widest 19 = .ok (.ifCond .le 24, 3) := by decide +kernel
theorem d_D_widest_22 : decode b_D_widest 22 = .ok (.iload_n 2, 1) := by decide +kernel
theorem d_D_widest_23 : decode b_D_widest 23 = .ok (.ifCond .lt 18, 3) := by decide +kernel
theorem d_D_widest_26 : decode b_D_widest 26 = .ok (.aload_n 0, 1) := by decide +kernel
theorem d_D_widest_27 : decode b_D_widest 27 = .ok (.getfield 7, 3) := by decide +kernel
theorem d_D_widest_30 : decode b_D_widest 30 = .ok (.iload_n 3, 1) := by decide +kernel
theorem d_D_widest_31 : decode b_D_widest 31 = .ok (.baload, 1) := by decide +kernel
theorem d_D_widest_32 : decode b_D_widest 32 = .ok (.aload_n 0, 1) := by decide +kernel
theorem d_D_widest_33 : decode b_D_widest 33 = .ok (.getfield 7, 3) := by decide +kernel
theorem d_D_widest_36 : decode b_D_widest 36 = .ok (.iload_n 2, 1) := by decide +kernel
theorem d_D_widest_37 : decode b_D_widest 37 = .ok (.baload, 1) := by decide +kernel
theorem d_D_widest_38 : decode b_D_widest 38 = .ok (.if_icmp .le 5, 3) := by decide +kernel
theorem d_D_widest_41 : decode b_D_widest 41 = .ok (.iload_n 3, 1) := by decide +kernel
theorem d_D_widest_42 : decode b_D_widest 42 = .ok (.istore_n 2, 1) := by decide +kernel
theorem d_D_widest_43 : decode b_D_widest 43 = .ok (.iinc 3 1, 3) := by decide +kernel
theorem d_D_widest_46 : decode b_D_widest 46 = .ok (.goto (-42), 3) := by decide +kernel
theorem d_D_widest_49 : decode b_D_widest 49 = .ok (.iload_n 2, 1) := by decide +kernel
theorem d_D_widest_50 : decode b_D_widest 50 = .ok (.ireturn, 1) := by decide +kernel
theorem d_D_width_0 : decode b_D_width 0 = .ok (.iload_n 1, 1) := by decide +kernel
theorem d_D_width_1 : decode b_D_width 1 = .ok (.invokestatic 58, 3) := by decide +kernel
theorem d_D_width_4 : decode b_D_width 4 = .ok (.ifCond .eq 12, 3) := by decide +kernel
theorem d_D_width_7 : decode b_D_width 7 = .ok (.aload_n 0, 1) := by decide +kernel
theorem d_D_width_8 : decode b_D_width 8 = .ok (.getfield 7, 3) := by decide +kernel
theorem d_D_width_11 : decode b_D_width 11 = .ok (.iload_n 1, 1) := by decide +kernel
theorem d_D_width_12 : decode b_D_width 12 = .ok (.baload, 1) := by decide +kernel
theorem d_D_width_13 : decode b_D_width 13 = .ok (.goto 4, 3) := by decide +kernel
theorem d_D_width_16 : decode b_D_width 16 = .ok (.iconst (-1), 1) := by decide +kernel
theorem d_D_width_17 : decode b_D_width 17 = .ok (.ireturn, 1) := by decide +kernel
theorem d_L_cell_0 : decode b_L_cell 0 = .ok (.iload_n 1, 1) := by decide +kernel
theorem d_L_cell_1 : decode b_L_cell 1 = .ok (.aload_n 0, 1) := by decide +kernel
theorem d_L_cell_2 : decode b_L_cell 2 = .ok (.arraylength, 1) := by decide +kernel
theorem d_L_cell_3 : decode b_L_cell 3 = .ok (.if_icmp .ge 9, 3) := by decide +kernel
theorem d_L_cell_6 : decode b_L_cell 6 = .ok (.aload_n 0, 1) := by decide +kernel
theorem d_L_cell_7 : decode b_L_cell 7 = .ok (.iload_n 1, 1) := by decide +kernel
theorem d_L_cell_8 : decode b_L_cell 8 = .ok (.iaload, 1) := by decide +kernel
theorem d_L_cell_9 : decode b_L_cell 9 = .ok (.goto 4, 3) := by decide +kernel
theorem d_L_cell_12 : decode b_L_cell 12 = .ok (.iconst 0, 1) := by decide +kernel
theorem d_L_cell_13 : decode b_L_cell 13 = .ok (.ireturn, 1) := by decide +kernel
theorem d_M_after_0 : decode b_M_after 0 = .ok (.iconst 0, 1) := by decide +kernel
theorem d_M_after_1 : decode b_M_after 1 = .ok (.istore_n 3, 1) := by decide +kernel
theorem d_M_after_2 : decode b_M_after 2 = .ok (.iconst 0, 1) := by decide +kernel
theorem d_M_after_3 : decode b_M_after 3 = .ok (.istore 4, 2) := by decide +kernel
theorem d_M_after_5 : decode b_M_after 5 = .ok (.iload 4, 2) := by decide +kernel
theorem d_M_after_7 : decode b_M_after 7 = .ok (.iconst 4, 1) := by decide +kernel
theorem d_M_after_8 : decode b_M_after 8 = .ok (.if_icmp .ge 45, 3) := by decide +kernel
theorem d_M_after_11 : decode b_M_after 11 = .ok (.aload_n 0, 1) := by decide +kernel
theorem d_M_after_12 : decode b_M_after 12 = .ok (.iload_n 1, 1) := by decide +kernel
theorem d_M_after_13 : decode b_M_after 13 = .ok (.iload 4, 2) := by decide +kernel
theorem d_M_after_15 : decode b_M_after 15 = .ok (.invokevirtual 27, 3) := by decide +kernel
theorem d_M_after_18 : decode b_M_after 18 = .ok (.aload_n 0, 1) := by decide +kernel
theorem d_M_after_19 : decode b_M_after 19 = .ok (.iload_n 2, 1) := by decide +kernel
theorem d_M_after_20 : decode b_M_after 20 = .ok (.iload 4, 2) := by decide +kernel
theorem d_M_after_22 : decode b_M_after 22 = .ok (.invokevirtual 27, 3) := by decide +kernel
theorem d_M_after_25 : decode b_M_after 25 = .ok (.isub, 1) := by decide +kernel
theorem d_M_after_26 : decode b_M_after 26 = .ok (.istore 5, 2) := by decide +kernel
end
section
theorem d_M_after_28 : decode b_M_after 28 = .ok (.iload_n 3, 1) := by decide +kernel
theorem d_M_after_29 : decode b_M_after 29 = .ok (.iload 5, 2) := by decide +kernel
theorem d_M_after_31 : decode b_M_after 31 = .ok (.ifCond .le 8, 3) := by decide +kernel
theorem d_M_after_34 : decode b_M_after 34 = .ok (.iload 5, 2) := by decide +kernel
theorem d_M_after_36 : decode b_M_after 36 = .ok (.goto 4, 3) := by decide +kernel
theorem d_M_after_39 : decode b_M_after 39 = .ok (.iconst 0, 1) := by decide +kernel
theorem d_M_after_40 : decode b_M_after 40 = .ok (.iconst 2, 1) := by decide +kernel
theorem d_M_after_41 : decode b_M_after 41 = .ok (.iload 4, 2) := by decide +kernel
theorem d_M_after_43 : decode b_M_after 43 = .ok (.imul, 1) := by decide +kernel
theorem d_M_after_44 : decode b_M_after 44 = .ok (.ishl, 1) := by decide +kernel
theorem d_M_after_45 : decode b_M_after 45 = .ok (.ior, 1) := by decide +kernel
theorem d_M_after_46 : decode b_M_after 46 = .ok (.istore_n 3, 1) := by decide +kernel
theorem d_M_after_47 : decode b_M_after 47 = .ok (.iinc 4 1, 3) := by decide +kernel
theorem d_M_after_50 : decode b_M_after 50 = .ok (.goto (-45), 3) := by decide +kernel
theorem d_M_after_53 : decode b_M_after 53 = .ok (.iload_n 3, 1) := by decide +kernel
theorem d_M_after_54 : decode b_M_after 54 = .ok (.ireturn, 1) := by decide +kernel
theorem d_M_couldUse_0 : decode b_M_couldUse 0 = .ok (.aload_n 0, 1) := by decide +kernel
theorem d_M_couldUse_1 : decode b_M_couldUse 1 = .ok (.invokevirtual 42, 3) := by decide +kernel
theorem d_M_couldUse_4 : decode b_M_couldUse 4 = .ok (.istore_n 2, 1) := by decide +kernel
theorem d_M_couldUse_5 : decode b_M_couldUse 5 = .ok (.aload_n 0, 1) := by decide +kernel
theorem d_M_couldUse_6 : decode b_M_couldUse 6 = .ok (.invokevirtual 50, 3) := by decide +kernel
theorem d_M_couldUse_9 : decode b_M_couldUse 9 = .ok (.istore_n 3, 1) := by decide +kernel
theorem d_M_couldUse_10 : decode b_M_couldUse 10 = .ok (.iload_n 3, 1) := by decide +kernel
theorem d_M_couldUse_11 : decode b_M_couldUse 11 = .ok (.ifCond .le 32, 3) := by decide +kernel
theorem d_M_couldUse_14 : decode b_M_couldUse 14 = .ok (.aload_n 0, 1) := by decide +kernel
theorem d_M_couldUse_15 : decode b_M_couldUse 15 = .ok (.iload_n 1, 1) := by decide +kernel
theorem d_M_couldUse_16 : decode b_M_couldUse 16 = .ok (.invokevirtual 56, 3) := by decide +kernel
theorem d_M_couldUse_19 : decode b_M_couldUse 19 = .ok (.ifCond .eq 24, 3) := by decide +kernel
theorem d_M_couldUse_22 : decode b_M_couldUse 22 = .ok (.aload_n 0, 1) := by decide +kernel
theorem d_M_couldUse_23 : decode b_M_couldUse 23 = .ok (.getfield 16, 3) := by decide +kernel
theorem d_M_couldUse_26 : decode b_M_couldUse 26 = .ok (.aload_n 0, 1) := by decide +kernel
theorem d_M_couldUse_27 : decode b_M_couldUse 27 = .ok (.iload_n 2, 1) := by decide +kernel
theorem d_M_couldUse_28 : decode b_M_couldUse 28 = .ok (.iload_n 1, 1) := by decide +kernel
theorem d_M_couldUse_29 : decode b_M_couldUse 29 = .ok (.invokevirtual 31, 3) := by decide +kernel
theorem d_M_couldUse_32 : decode b_M_couldUse 32 = .ok (.iaload, 1) := by decide +kernel
theorem d_M_couldUse_33 : decode b_M_couldUse 33 = .ok (.iload_n 3, 1) := by decide +kernel
theorem d_M_couldUse_34 : decode b_M_couldUse 34 = .ok (.iconst 1, 1) := by decide +kernel
theorem d_M_couldUse_35 : decode b_M_couldUse 35 = .ok (.isub, 1) := by decide +kernel
theorem d_M_couldUse_36 : decode b_M_couldUse 36 = .ok (.if_icmp .gt 7, 3) := by decide +kernel
theorem d_M_couldUse_39 : decode b_M_couldUse 39 = .ok (.iconst 1, 1) := by decide +kernel
theorem d_M_couldUse_40 : decode b_M_couldUse 40 = .ok (.goto 4, 3) := by decide +kernel
theorem d_M_couldUse_43 : decode b_M_couldUse 43 = .ok (.iconst 0, 1) := by decide +kernel
theorem d_M_couldUse_44 : decode b_M_couldUse 44 = .ok (.ireturn, 1) := by decide +kernel
theorem d_M_fits_0 : decode b_M_fits 0 = .ok (.iload_n 1, 1) := by decide +kernel
theorem d_M_fits_1 : decode b_M_fits 1 = .ok (.ifCond .lt 26, 3) := by decide +kernel
theorem d_M_fits_4 : decode b_M_fits 4 = .ok (.iload_n 1, 1) := by decide +kernel
theorem d_M_fits_5 : decode b_M_fits 5 = .ok (.sipush 255, 3) := by decide +kernel
theorem d_M_fits_8 : decode b_M_fits 8 = .ok (.if_icmp .gt 19, 3) := by decide +kernel
theorem d_M_fits_11 : decode b_M_fits 11 = .ok (.aload_n 0, 1) := by decide +kernel
theorem d_M_fits_12 : decode b_M_fits 12 = .ok (.iload_n 1, 1) := by decide +kernel
theorem d_M_fits_13 : decode b_M_fits 13 = .ok (.invokevirtual 38, 3) := by decide +kernel
theorem d_M_fits_16 : decode b_M_fits 16 = .ok (.aload_n 0, 1) := by decide +kernel
theorem d_M_fits_17 : decode b_M_fits 17 = .ok (.getfield 19, 3) := by decide +kernel
theorem d_M_fits_20 : decode b_M_fits 20 = .ok (.if_icmp .gt 7, 3) := by decide +kernel
theorem d_M_fits_23 : decode b_M_fits 23 = .ok (.iconst 1, 1) := by decide +kernel
theorem d_M_fits_24 : decode b_M_fits 24 = .ok (.goto 4, 3) := by decide +kernel
theorem d_M_fits_27 : decode b_M_fits 27 = .ok (.iconst 0, 1) := by decide +kernel
theorem d_M_fits_28 : decode b_M_fits 28 = .ok (.ireturn, 1) := by decide +kernel
theorem d_M_freeOrder_0 : decode b_M_freeOrder 0 = .ok (.aload_n 0, 1) := by decide +kernel
theorem d_M_freeOrder_1 : decode b_M_freeOrder 1 = .ok (.iload_n 1, 1) := by decide +kernel
theorem d_M_freeOrder_2 : decode b_M_freeOrder 2 = .ok (.invokevirtual 23, 3) := by decide +kernel
theorem d_M_freeOrder_5 : decode b_M_freeOrder 5 = .ok (.ifCond .ne 5, 3) := by decide +kernel
theorem d_M_freeOrder_8 : decode b_M_freeOrder 8 = .ok (.iconst (-1), 1) := by decide +kernel
theorem d_M_freeOrder_9 : decode b_M_freeOrder 9 = .ok (.ireturn, 1) := by decide +kernel
theorem d_M_freeOrder_10 : decode b_M_freeOrder 10 = .ok (.aload_n 0, 1) := by decide +kernel
theorem d_M_freeOrder_11 : decode b_M_freeOrder 11 = .ok (.invokevirtual 50, 3) := by decide +kernel
theorem d_M_freeOrder_14 : decode b_M_freeOrder 14 = .ok (.istore_n 2, 1) := by decide +kernel
theorem d_M_freeOrder_15 : decode b_M_freeOrder 15 = .ok (.aload_n 0, 1) := by decide +kernel
theorem d_M_freeOrder_16 : decode b_M_freeOrder 16 = .ok (.getfield 13, 3) := by decide +kernel
theorem d_M_freeOrder_19 : decode b_M_freeOrder 19 = .ok (.iload_n 1, 1) := by decide +kernel
theorem d_M_freeOrder_20 : decode b_M_freeOrder 20 = .ok (.iaload, 1) := by decide +kernel
theorem d_M_freeOrder_21 : decode b_M_freeOrder 21 = .ok (.istore_n 3, 1) := by decide +kernel
theorem d_M_freeOrder_22 : decode b_M_freeOrder 22 = .ok (.aload_n 0, 1) := by decide +kernel
theorem d_M_freeOrder_23 : decode b_M_freeOrder 23 = .ok (.getfield 13, 3) := by decide +kernel
theorem d_M_freeOrder_26 : decode b_M_freeOrder 26 = .ok (.iload_n 1, 1) := by decide +kernel
theorem d_M_freeOrder_27 : decode b_M_freeOrder 27 = .ok (.iaload, 1) := by decide +kernel
theorem d_M_freeOrder_28 : decode b_M_freeOrder 28 = .ok (.iconst 1, 1) := by decide +kernel
theorem d_M_freeOrder_29 : decode b_M_freeOrder 29 = .ok (.iadd, 1) := by decide +kernel
theorem d_M_freeOrder_30 : decode b_M_freeOrder 30 = .ok (.istore 4, 2) := by decide +kernel
theorem d_M_freeOrder_32 : decode b_M_freeOrder 32 = .ok (.iload 4, 2) := by decide +kernel
theorem d_M_freeOrder_34 : decode b_M_freeOrder 34 = .ok (.iconst 3, 1) := by decide +kernel
theorem d_M_freeOrder_35 : decode b_M_freeOrder 35 = .ok (.if_icmp .gt 31, 3) := by decide +kernel
theorem d_M_freeOrder_38 : decode b_M_freeOrder 38 = .ok (.aload_n 0, 1) := by decide +kernel
theorem d_M_freeOrder_39 : decode b_M_freeOrder 39 = .ok (.iload_n 1, 1) := by decide +kernel
theorem d_M_freeOrder_40 : decode b_M_freeOrder 40 = .ok (.iload 4, 2) := by decide +kernel
theorem d_M_freeOrder_42 : decode b_M_freeOrder 42 = .ok (.invokevirtual 53, 3) := by decide +kernel
theorem d_M_freeOrder_45 : decode b_M_freeOrder 45 = .ok (.istore 5, 2) := by decide +kernel
theorem d_M_freeOrder_47 : decode b_M_freeOrder 47 = .ok (.iload 5, 2) := by decide +kernel
theorem d_M_freeOrder_49 : decode b_M_freeOrder 49 = .ok (.iload_n 2, 1) := by decide +kernel
theorem d_M_freeOrder_50 : decode b_M_freeOrder 50 = .ok (.if_icmp .gt 8, 3) := by decide +kernel
theorem d_M_freeOrder_53 : decode b_M_freeOrder 53 = .ok (.iload 4, 2) := by decide +kernel
theorem d_M_freeOrder_55 : decode b_M_freeOrder 55 = .ok (.goto 4, 3) := by decide +kernel
theorem d_M_freeOrder_58 : decode b_M_freeOrder 58 = .ok (.iload_n 3, 1) := by decide +kernel
theorem d_M_freeOrder_59 : decode b_M_freeOrder 59 = .ok (.istore_n 3, 1) := by decide +kernel
theorem d_M_freeOrder_60 : decode b_M_freeOrder 60 = .ok (.iinc 4 1, 3) := by decide +kernel
theorem d_M_freeOrder_63 : decode b_M_freeOrder 63 = .ok (.goto (-31), 3) := by decide +kernel
theorem d_M_freeOrder_66 : decode b_M_freeOrder 66 = .ok (.iload_n 3, 1) := by decide +kernel
theorem d_M_freeOrder_67 : decode b_M_freeOrder 67 = .ok (.ireturn, 1) := by decide +kernel
theorem d_M_greatestUse_0 : decode b_M_greatestUse 0 = .ok (.aload_n 0, 1) := by decide +kernel
theorem d_M_greatestUse_1 : decode b_M_greatestUse 1 = .ok (.invokevirtual 42, 3) := by decide +kernel
theorem d_M_greatestUse_4 : decode b_M_greatestUse 4 = .ok (.istore_n 1, 1) := by decide +kernel
theorem d_M_greatestUse_5 : decode b_M_greatestUse 5 = .ok (.aload_n 0, 1) := by decide +kernel
theorem d_M_greatestUse_6 : decode b_M_greatestUse 6 = .ok (.invokevirtual 50, 3) := by decide +kernel
theorem d_M_greatestUse_9 : decode b_M_greatestUse 9 = .ok (.istore_n 2, 1) := by decide +kernel
theorem d_M_greatestUse_10 : decode b_M_greatestUse 10 = .ok (.sipush 255, 3) := by decide +kernel
theorem d_M_greatestUse_13 : decode b_M_greatestUse 13 = .ok (.istore_n 3, 1) := by decide +kernel
theorem d_M_greatestUse_14 : decode b_M_greatestUse 14 = .ok (.iload_n 3, 1) := by decide +kernel
theorem d_M_greatestUse_15 : decode b_M_greatestUse 15 = .ok (.ifCond .lt 40, 3) := by decide +kernel
theorem d_M_greatestUse_18 : decode b_M_greatestUse 18 = .ok (.iload_n 2, 1) := by decide +kernel
theorem d_M_greatestUse_19 : decode b_M_greatestUse 19 = .ok (.ifCond .le 30, 3) := by decide +kernel
theorem d_M_greatestUse_22 : decode b_M_greatestUse 22 = .ok (.aload_n 0, 1) := by decide +kernel
theorem d_M_greatestUse_23 : decode b_M_greatestUse 23 = .ok (.iload_n 3, 1) := by decide +kernel
theorem d_M_greatestUse_24 : decode b_M_greatestUse 24 = .ok (.invokevirtual 56, 3) := by decide +kernel
theorem d_M_greatestUse_27 : decode b_M_greatestUse 27 = .ok (.ifCond .eq 22, 3) := by decide +kernel
theorem d_M_greatestUse_30 : decode b_M_greatestUse 30 = .ok (.aload_n 0, 1) := by decide +kernel
theorem d_M_greatestUse_31 : decode b_M_greatestUse 31 = .ok (.getfield 16, 3) := by decide +kernel
theorem d_M_greatestUse_34 : decode b_M_greatestUse 34 = .ok (.aload_n 0, 1) := by decide +kernel
theorem d_M_greatestUse_35 : decode b_M_greatestUse 35 = .ok (.iload_n 1, 1) := by decide +kernel
theorem d_M_greatestUse_36 : decode b_M_greatestUse 36 = .ok (.iload_n 3, 1) := by decide +kernel
theorem d_M_greatestUse_37 : decode b_M_greatestUse 37 = .ok (.invokevirtual 31, 3) := by decide +kernel
theorem d_M_greatestUse_40 : decode b_M_greatestUse 40 = .ok (.iaload, 1) := by decide +kernel
theorem d_M_greatestUse_41 : decode b_M_greatestUse 41 = .ok (.iload_n 2, 1) := by decide +kernel
theorem d_M_greatestUse_42 : decode b_M_greatestUse 42 = .ok (.iconst 1, 1) := by decide +kernel
theorem d_M_greatestUse_43 : decode b_M_greatestUse 43 = .ok (.isub, 1) := by decide +kernel
theorem d_M_greatestUse_44 : decode b_M_greatestUse 44 = .ok (.if_icmp .gt 5, 3) := by decide +kernel
theorem d_M_greatestUse_47 : decode b_M_greatestUse 47 = .ok (.iload_n 3, 1) := by decide +kernel
theorem d_M_greatestUse_48 : decode b_M_greatestUse 48 = .ok (.ireturn, 1) := by decide +kernel
theorem d_M_greatestUse_49 : decode b_M_greatestUse 49 = .ok (.iinc 3 (-1), 3) := by decide +kernel
theorem d_M_greatestUse_52 : decode b_M_greatestUse 52 = .ok (.goto (-38), 3) := by decide +kernel
theorem d_M_greatestUse_55 : decode b_M_greatestUse 55 = .ok (.iconst (-1), 1) := by decide +kernel
theorem d_M_greatestUse_56 : decode b_M_greatestUse 56 = .ok (.ireturn, 1) := by decide +kernel
theorem d_M_init_0 : decode b_M_init 0 = .ok (.aload_n 0, 1) := by decide +kernel
theorem d_M_init_1 : decode b_M_init 1 = .ok (.invokespecial 1, 3) := by decide +kernel
theorem d_M_init_4 : decode b_M_init 4 = .ok (.aload_n 0, 1) := by decide +kernel
theorem d_M_init_5 : decode b_M_init 5 = .ok (.iconst 4, 1) := by decide +kernel
theorem d_M_init_6 : decode b_M_init 6 = .ok (.newarray .int, 2) := by decide +kernel
theorem d_M_init_8 : decode b_M_init 8 = .ok (.putfield 7, 3) := by decide +kernel
theorem d_M_init_11 : decode b_M_init 11 = .ok (.aload_n 0, 1) := by decide +kernel
theorem d_M_init_12 : decode b_M_init 12 = .ok (.iconst 4, 1) := by decide +kernel
theorem d_M_init_13 : decode b_M_init 13 = .ok (.newarray .int, 2) := by decide +kernel
theorem d_M_init_15 : decode b_M_init 15 = .ok (.putfield 13, 3) := by decide +kernel
theorem d_M_init_18 : decode b_M_init 18 = .ok (.aload_n 0, 1) := by decide +kernel
theorem d_M_init_19 : decode b_M_init 19 = .ok (.sipush 256, 3) := by decide +kernel
theorem d_M_init_22 : decode b_M_init 22 = .ok (.newarray .int, 2) := by decide +kernel
theorem d_M_init_24 : decode b_M_init 24 = .ok (.putfield 16, 3) := by decide +kernel
theorem d_M_init_27 : decode b_M_init 27 = .ok (.aload_n 0, 1) := by decide +kernel
theorem d_M_init_28 : decode b_M_init 28 = .ok (.iload_n 1, 1) := by decide +kernel
theorem d_M_init_29 : decode b_M_init 29 = .ok (.iconst 1, 1) := by decide +kernel
theorem d_M_init_30 : decode b_M_init 30 = .ok (.if_icmp .ge 7, 3) := by decide +kernel
theorem d_M_init_33 : decode b_M_init 33 = .ok (.iconst 1, 1) := by decide +kernel
theorem d_M_init_34 : decode b_M_init 34 = .ok (.goto 15, 3) := by decide +kernel
theorem d_M_init_37 : decode b_M_init 37 = .ok (.iload_n 1, 1) := by decide +kernel
theorem d_M_init_38 : decode b_M_init 38 = .ok (.bipush 20, 2) := by decide +kernel
theorem d_M_init_40 : decode b_M_init 40 = .ok (.if_icmp .le 8, 3) := by decide +kernel
theorem d_M_init_43 : decode b_M_init 43 = .ok (.bipush 20, 2) := by decide +kernel
theorem d_M_init_45 : decode b_M_init 45 = .ok (.goto 4, 3) := by decide +kernel
theorem d_M_init_48 : decode b_M_init 48 = .ok (.iload_n 1, 1) := by decide +kernel
theorem d_M_init_49 : decode b_M_init 49 = .ok (.putfield 19, 3) := by decide +kernel
theorem d_M_init_52 : decode b_M_init 52 = .ok (.iconst 0, 1) := by decide +kernel
theorem d_M_init_53 : decode b_M_init 53 = .ok (.istore_n 2, 1) := by decide +kernel
theorem d_M_init_54 : decode b_M_init 54 = .ok (.iload_n 2, 1) := by decide +kernel
theorem d_M_init_55 : decode b_M_init 55 = .ok (.iconst 4, 1) := by decide +kernel
theorem d_M_init_56 : decode b_M_init 56 = .ok (.if_icmp .ge 16, 3) := by decide +kernel
theorem d_M_init_59 : decode b_M_init 59 = .ok (.aload_n 0, 1) := by decide +kernel
theorem d_M_init_60 : decode b_M_init 60 = .ok (.getfield 7, 3) := by decide +kernel
theorem d_M_init_63 : decode b_M_init 63 = .ok (.iload_n 2, 1) := by decide +kernel
theorem d_M_init_64 : decode b_M_init 64 = .ok (.iconst 1, 1) := by decide +kernel
theorem d_M_init_65 : decode b_M_init 65 = .ok (.iastore, 1) := by decide +kernel
theorem d_M_init_66 : decode b_M_init 66 = .ok (.iinc 2 1, 3) := by decide +kernel
theorem d_M_init_69 : decode b_M_init 69 = .ok (.goto (-15), 3) := by decide +kernel
theorem d_M_init_72 : decode b_M_init 72 = .ok (.return_, 1) := by decide +kernel
theorem d_M_kind_0 : decode b_M_kind 0 = .ok (.iload_n 1, 1) := by decide +kernel
theorem d_M_kind_1 : decode b_M_kind 1 = .ok (.ifCond .lt 12, 3) := by decide +kernel
theorem d_M_kind_4 : decode b_M_kind 4 = .ok (.iload_n 1, 1) := by decide +kernel
theorem d_M_kind_5 : decode b_M_kind 5 = .ok (.iconst 3, 1) := by decide +kernel
theorem d_M_kind_6 : decode b_M_kind 6 = .ok (.if_icmp .gt 7, 3) := by decide +kernel
theorem d_M_kind_9 : decode b_M_kind 9 = .ok (.iconst 1, 1) := by decide +kernel
theorem d_M_kind_10 : decode b_M_kind 10 = .ok (.goto 4, 3) := by decide +kernel
theorem d_M_kind_13 : decode b_M_kind 13 = .ok (.iconst 0, 1) := by decide +kernel
theorem d_M_kind_14 : decode b_M_kind 14 = .ok (.ireturn, 1) := by decide +kernel
theorem d_M_least_0 : decode b_M_least 0 = .ok (.aload_n 0, 1) := by decide +kernel
theorem d_M_least_1 : decode b_M_least 1 = .ok (.invokevirtual 42, 3) := by decide +kernel
theorem d_M_least_4 : decode b_M_least 4 = .ok (.istore_n 1, 1) := by decide +kernel
theorem d_M_least_5 : decode b_M_least 5 = .ok (.aload_n 0, 1) := by decide +kernel
theorem d_M_least_6 : decode b_M_least 6 = .ok (.iload_n 1, 1) := by decide +kernel
theorem d_M_least_7 : decode b_M_least 7 = .ok (.aload_n 0, 1) := by decide +kernel
theorem d_M_least_8 : decode b_M_least 8 = .ok (.getfield 19, 3) := by decide +kernel
theorem d_M_least_11 : decode b_M_least 11 = .ok (.invokevirtual 46, 3) := by decide +kernel
theorem d_M_least_14 : decode b_M_least 14 = .ok (.aload_n 0, 1) := by decide +kernel
theorem d_M_least_15 : decode b_M_least 15 = .ok (.getfield 16, 3) := by decide +kernel
theorem d_M_least_18 : decode b_M_least 18 = .ok (.iload_n 1, 1) := by decide +kernel
theorem d_M_least_19 : decode b_M_least 19 = .ok (.iaload, 1) := by decide +kernel
theorem d_M_least_20 : decode b_M_least 20 = .ok (.ireturn, 1) := by decide +kernel
theorem d_M_leastFor_0 : decode b_M_leastFor 0 = .ok (.iload_n 1, 1) := by decide +kernel
theorem d_M_leastFor_1 : decode b_M_leastFor 1 = .ok (.iconst 1, 1) := by decide +kernel
theorem d_M_leastFor_2 : decode b_M_leastFor 2 = .ok (.if_icmp .lt 9, 3) := by decide +kernel
theorem d_M_leastFor_5 : decode b_M_leastFor 5 = .ok (.iload_n 1, 1) := by decide +kernel
theorem d_M_leastFor_6 : decode b_M_leastFor 6 = .ok (.bipush 40, 2) := by decide +kernel
theorem d_M_leastFor_8 : decode b_M_leastFor 8 = .ok (.if_icmp .le 5, 3) := by decide +kernel
theorem d_M_leastFor_11 : decode b_M_leastFor 11 = .ok (.iconst (-1), 1) := by decide +kernel
theorem d_M_leastFor_12 : decode b_M_leastFor 12 = .ok (.ireturn, 1) := by decide +kernel
theorem d_M_leastFor_13 : decode b_M_leastFor 13 = .ok (.iconst 0, 1) := by decide +kernel
theorem d_M_leastFor_14 : decode b_M_leastFor 14 = .ok (.istore_n 2, 1) := by decide +kernel
theorem d_M_leastFor_15 : decode b_M_leastFor 15 = .ok (.iload_n 2, 1) := by decide +kernel
theorem d_M_leastFor_16 : decode b_M_leastFor 16 = .ok (.iconst 4, 1) := by decide +kernel
theorem d_M_leastFor_17 : decode b_M_leastFor 17 = .ok (.if_icmp .ge 30, 3) := by decide +kernel
theorem d_M_leastFor_20 : decode b_M_leastFor 20 = .ok (.aload_n 0, 1) := by decide +kernel
theorem d_M_leastFor_21 : decode b_M_leastFor 21 = .ok (.getfield 13, 3) := by decide +kernel
theorem d_M_leastFor_24 : decode b_M_leastFor 24 = .ok (.iload_n 2, 1) := by decide +kernel
theorem d_M_leastFor_25 : decode b_M_leastFor 25 = .ok (.iaload, 1) := by decide +kernel
theorem d_M_leastFor_26 : decode b_M_leastFor 26 = .ok (.ifCond .le 15, 3) := by decide +kernel
theorem d_M_leastFor_29 : decode b_M_leastFor 29 = .ok (.aload_n 0, 1) := by decide +kernel
theorem d_M_leastFor_30 : decode b_M_leastFor 30 = .ok (.getfield 7, 3) := by decide +kernel
theorem d_M_leastFor_33 : decode b_M_leastFor 33 = .ok (.iload_n 2, 1) := by decide +kernel
theorem d_M_leastFor_34 : decode b_M_leastFor 34 = .ok (.iaload, 1) := by decide +kernel
theorem d_M_leastFor_35 : decode b_M_leastFor 35 = .ok (.iload_n 1, 1) := by decide +kernel
theorem d_M_leastFor_36 : decode b_M_leastFor 36 = .ok (.if_icmp .le 5, 3) := by decide +kernel
theorem d_M_leastFor_39 : decode b_M_leastFor 39 = .ok (.iconst (-1), 1) := by decide +kernel
theorem d_M_leastFor_40 : decode b_M_leastFor 40 = .ok (.ireturn, 1) := by decide +kernel
theorem d_M_leastFor_41 : decode b_M_leastFor 41 = .ok (.iinc 2 1, 3) := by decide +kernel
theorem d_M_leastFor_44 : decode b_M_leastFor 44 = .ok (.goto (-29), 3) := by decide +kernel
theorem d_M_leastFor_47 : decode b_M_leastFor 47 = .ok (.aload_n 0, 1) := by decide +kernel
theorem d_M_leastFor_48 : decode b_M_leastFor 48 = .ok (.invokevirtual 42, 3) := by decide +kernel
theorem d_M_leastFor_51 : decode b_M_leastFor 51 = .ok (.istore_n 2, 1) := by decide +kernel
theorem d_M_leastFor_52 : decode b_M_leastFor 52 = .ok (.aload_n 0, 1) := by decide +kernel
theorem d_M_leastFor_53 : decode b_M_leastFor 53 = .ok (.iload_n 2, 1) := by decide +kernel
theorem d_M_leastFor_54 : decode b_M_leastFor 54 = .ok (.iload_n 1, 1) := by decide +kernel
theorem d_M_leastFor_55 : decode b_M_leastFor 55 = .ok (.invokevirtual 46, 3) := by decide +kernel
theorem d_M_leastFor_58 : decode b_M_leastFor 58 = .ok (.aload_n 0, 1) := by decide +kernel
theorem d_M_leastFor_59 : decode b_M_leastFor 59 = .ok (.getfield 16, 3) := by decide +kernel
theorem d_M_leastFor_62 : decode b_M_leastFor 62 = .ok (.iload_n 2, 1) := by decide +kernel
theorem d_M_leastFor_63 : decode b_M_leastFor 63 = .ok (.iaload, 1) := by decide +kernel
theorem d_M_leastFor_64 : decode b_M_leastFor 64 = .ok (.ireturn, 1) := by decide +kernel
theorem d_M_leastWith_0 : decode b_M_leastWith 0 = .ok (.aload_n 0, 1) := by decide +kernel
theorem d_M_leastWith_1 : decode b_M_leastWith 1 = .ok (.iload_n 1, 1) := by decide +kernel
theorem d_M_leastWith_2 : decode b_M_leastWith 2 = .ok (.invokevirtual 23, 3) := by decide +kernel
theorem d_M_leastWith_5 : decode b_M_leastWith 5 = .ok (.ifCond .eq 12, 3) := by decide +kernel
theorem d_M_leastWith_8 : decode b_M_leastWith 8 = .ok (.iload_n 2, 1) := by decide +kernel
theorem d_M_leastWith_9 : decode b_M_leastWith 9 = .ok (.ifCond .lt 8, 3) := by decide +kernel
theorem d_M_leastWith_12 : decode b_M_leastWith 12 = .ok (.iload_n 2, 1) := by decide +kernel
theorem d_M_leastWith_13 : decode b_M_leastWith 13 = .ok (.iconst 3, 1) := by decide +kernel
theorem d_M_leastWith_14 : decode b_M_leastWith 14 = .ok (.if_icmp .le 5, 3) := by decide +kernel
theorem d_M_leastWith_17 : decode b_M_leastWith 17 = .ok (.iconst (-1), 1) := by decide +kernel
theorem d_M_leastWith_18 : decode b_M_leastWith 18 = .ok (.ireturn, 1) := by decide +kernel
theorem d_M_leastWith_19 : decode b_M_leastWith 19 = .ok (.aload_n 0, 1) := by decide +kernel
theorem d_M_leastWith_20 : decode b_M_leastWith 20 = .ok (.getfield 13, 3) := by decide +kernel
theorem d_M_leastWith_23 : decode b_M_leastWith 23 = .ok (.iload_n 1, 1) := by decide +kernel
theorem d_M_leastWith_24 : decode b_M_leastWith 24 = .ok (.iaload, 1) := by decide +kernel
theorem d_M_leastWith_25 : decode b_M_leastWith 25 = .ok (.istore_n 3, 1) := by decide +kernel
theorem d_M_leastWith_26 : decode b_M_leastWith 26 = .ok (.aload_n 0, 1) := by decide +kernel
theorem d_M_leastWith_27 : decode b_M_leastWith 27 = .ok (.getfield 13, 3) := by decide +kernel
theorem d_M_leastWith_30 : decode b_M_leastWith 30 = .ok (.iload_n 1, 1) := by decide +kernel
theorem d_M_leastWith_31 : decode b_M_leastWith 31 = .ok (.iload_n 2, 1) := by decide +kernel
theorem d_M_leastWith_32 : decode b_M_leastWith 32 = .ok (.iastore, 1) := by decide +kernel
theorem d_M_leastWith_33 : decode b_M_leastWith 33 = .ok (.aload_n 0, 1) := by decide +kernel
theorem d_M_leastWith_34 : decode b_M_leastWith 34 = .ok (.invokevirtual 50, 3) := by decide +kernel
theorem d_M_leastWith_37 : decode b_M_leastWith 37 = .ok (.istore 4, 2) := by decide +kernel
theorem d_M_leastWith_39 : decode b_M_leastWith 39 = .ok (.aload_n 0, 1) := by decide +kernel
theorem d_M_leastWith_40 : decode b_M_leastWith 40 = .ok (.getfield 13, 3) := by decide +kernel
theorem d_M_leastWith_43 : decode b_M_leastWith 43 = .ok (.iload_n 1, 1) := by decide +kernel
theorem d_M_leastWith_44 : decode b_M_leastWith 44 = .ok (.iload_n 3, 1) := by decide +kernel
theorem d_M_leastWith_45 : decode b_M_leastWith 45 = .ok (.iastore, 1) := by decide +kernel
theorem d_M_leastWith_46 : decode b_M_leastWith 46 = .ok (.iload 4, 2) := by decide +kernel
theorem d_M_leastWith_48 : decode b_M_leastWith 48 = .ok (.ireturn, 1) := by decide +kernel
theorem d_M_length_0 : decode b_M_length 0 = .ok (.iconst 0, 1) := by decide +kernel
theorem d_M_length_1 : decode b_M_length 1 = .ok (.istore_n 2, 1) := by decide +kernel
theorem d_M_length_2 : decode b_M_length 2 = .ok (.iconst 0, 1) := by decide +kernel
theorem d_M_length_3 : decode b_M_length 3 = .ok (.istore_n 3, 1) := by decide +kernel
theorem d_M_length_4 : decode b_M_length 4 = .ok (.iload_n 3, 1) := by decide +kernel
theorem d_M_length_5 : decode b_M_length 5 = .ok (.iconst 4, 1) := by decide +kernel
theorem d_M_length_6 : decode b_M_length 6 = .ok (.if_icmp .ge 25, 3) := by decide +kernel
theorem d_M_length_9 : decode b_M_length 9 = .ok (.iload_n 2, 1) := by decide +kernel
theorem d_M_length_10 : decode b_M_length 10 = .ok (.aload_n 0, 1) := by decide +kernel
theorem d_M_length_11 : decode b_M_length 11 = .ok (.iload_n 1, 1) := by decide +kernel
theorem d_M_length_12 : decode b_M_length 12 = .ok (.iload_n 3, 1) := by decide +kernel
theorem d_M_length_13 : decode b_M_length 13 = .ok (.invokevirtual 27, 3) := by decide +kernel
theorem d_M_length_16 : decode b_M_length 16 = .ok (.aload_n 0, 1) := by decide +kernel
theorem d_M_length_17 : decode b_M_length 17 = .ok (.getfield 7, 3) := by decide +kernel
theorem d_M_length_20 : decode b_M_length 20 = .ok (.iload_n 3, 1) := by decide +kernel
theorem d_M_length_21 : decode b_M_length 21 = .ok (.iaload, 1) := by decide +kernel
theorem d_M_length_22 : decode b_M_length 22 = .ok (.imul, 1) := by decide +kernel
theorem d_M_length_23 : decode b_M_length 23 = .ok (.iadd, 1) := by decide +kernel
theorem d_M_length_24 : decode b_M_length 24 = .ok (.istore_n 2, 1) := by decide +kernel
theorem d_M_length_25 : decode b_M_length 25 = .ok (.iinc 3 1, 3) := by decide +kernel
theorem d_M_length_28 : decode b_M_length 28 = .ok (.goto (-24), 3) := by decide +kernel
theorem d_M_length_31 : decode b_M_length 31 = .ok (.iload_n 2, 1) := by decide +kernel
theorem d_M_length_32 : decode b_M_length 32 = .ok (.ireturn, 1) := by decide +kernel
theorem d_M_order_0 : decode b_M_order 0 = .ok (.aload_n 0, 1) := by decide +kernel
theorem d_M_order_1 : decode b_M_order 1 = .ok (.iload_n 1, 1) := by decide +kernel
theorem d_M_order_2 : decode b_M_order 2 = .ok (.invokevirtual 23, 3) := by decide +kernel
theorem d_M_order_5 : decode b_M_order 5 = .ok (.ifCond .eq 12, 3) := by decide +kernel
theorem d_M_order_8 : decode b_M_order 8 = .ok (.iload_n 2, 1) := by decide +kernel
theorem d_M_order_9 : decode b_M_order 9 = .ok (.ifCond .lt 8, 3) := by decide +kernel
theorem d_M_order_12 : decode b_M_order 12 = .ok (.iload_n 2, 1) := by decide +kernel
theorem d_M_order_13 : decode b_M_order 13 = .ok (.iconst 3, 1) := by decide +kernel
theorem d_M_order_14 : decode b_M_order 14 = .ok (.if_icmp .le 5, 3) := by decide +kernel
theorem d_M_order_17 : decode b_M_order 17 = .ok (.iconst 0, 1) := by decide +kernel
theorem d_M_order_18 : decode b_M_order 18 = .ok (.ireturn, 1) := by decide +kernel
theorem d_M_order_19 : decode b_M_order 19 = .ok (.aload_n 0, 1) := by decide +kernel
theorem d_M_order_20 : decode b_M_order 20 = .ok (.getfield 13, 3) := by decide +kernel
theorem d_M_order_23 : decode b_M_order 23 = .ok (.iload_n 1, 1) := by decide +kernel
theorem d_M_order_24 : decode b_M_order 24 = .ok (.iload_n 2, 1) := by decide +kernel
theorem d_M_order_25 : decode b_M_order 25 = .ok (.iastore, 1) := by decide +kernel
theorem d_M_order_26 : decode b_M_order 26 = .ok (.iconst 1, 1) := by decide +kernel
theorem d_M_order_27 : decode b_M_order 27 = .ok (.ireturn, 1) := by decide +kernel
theorem d_M_ordered_0 : decode b_M_ordered 0 = .ok (.aload_n 0, 1) := by decide +kernel
theorem d_M_ordered_1 : decode b_M_ordered 1 = .ok (.iload_n 1, 1) := by decide +kernel
theorem d_M_ordered_2 : decode b_M_ordered 2 = .ok (.invokevirtual 23, 3) := by decide +kernel
theorem d_M_ordered_5 : decode b_M_ordered 5 = .ok (.ifCond .eq 12, 3) := by decide +kernel
theorem d_M_ordered_8 : decode b_M_ordered 8 = .ok (.aload_n 0, 1) := by decide +kernel
theorem d_M_ordered_9 : decode b_M_ordered 9 = .ok (.getfield 13, 3) := by decide +kernel
theorem d_M_ordered_12 : decode b_M_ordered 12 = .ok (.iload_n 1, 1) := by decide +kernel
theorem d_M_ordered_13 : decode b_M_ordered 13 = .ok (.iaload, 1) := by decide +kernel
theorem d_M_ordered_14 : decode b_M_ordered 14 = .ok (.goto 4, 3) := by decide +kernel
theorem d_M_ordered_17 : decode b_M_ordered 17 = .ok (.iconst (-1), 1) := by decide +kernel
theorem d_M_ordered_18 : decode b_M_ordered 18 = .ok (.ireturn, 1) := by decide +kernel
theorem d_M_part_0 : decode b_M_part 0 = .ok (.iload_n 1, 1) := by decide +kernel
theorem d_M_part_1 : decode b_M_part 1 = .ok (.iconst 2, 1) := by decide +kernel
theorem d_M_part_2 : decode b_M_part 2 = .ok (.iload_n 2, 1) := by decide +kernel
theorem d_M_part_3 : decode b_M_part 3 = .ok (.imul, 1) := by decide +kernel
theorem d_M_part_4 : decode b_M_part 4 = .ok (.ishr, 1) := by decide +kernel
theorem d_M_part_5 : decode b_M_part 5 = .ok (.iconst 3, 1) := by decide +kernel
theorem d_M_part_6 : decode b_M_part 6 = .ok (.iand, 1) := by decide +kernel
theorem d_M_part_7 : decode b_M_part 7 = .ok (.ireturn, 1) := by decide +kernel
theorem d_M_roll_0 : decode b_M_roll 0 = .ok (.aload_n 0, 1) := by decide +kernel
theorem d_M_roll_1 : decode b_M_roll 1 = .ok (.getfield 19, 3) := by decide +kernel
theorem d_M_roll_4 : decode b_M_roll 4 = .ok (.ireturn, 1) := by decide +kernel
theorem d_M_setRoll_0 : decode b_M_setRoll 0 = .ok (.iload_n 1, 1) := by decide +kernel
theorem d_M_setRoll_1 : decode b_M_setRoll 1 = .ok (.iconst 1, 1) := by decide +kernel
theorem d_M_setRoll_2 : decode b_M_setRoll 2 = .ok (.if_icmp .lt 9, 3) := by decide +kernel
theorem d_M_setRoll_5 : decode b_M_setRoll 5 = .ok (.iload_n 1, 1) := by decide +kernel
theorem d_M_setRoll_6 : decode b_M_setRoll 6 = .ok (.bipush 20, 2) := by decide +kernel
theorem d_M_setRoll_8 : decode b_M_setRoll 8 = .ok (.if_icmp .le 5, 3) := by decide +kernel
theorem d_M_setRoll_11 : decode b_M_setRoll 11 = .ok (.iconst 0, 1) := by decide +kernel
theorem d_M_setRoll_12 : decode b_M_setRoll 12 = .ok (.ireturn, 1) := by decide +kernel
theorem d_M_setRoll_13 : decode b_M_setRoll 13 = .ok (.iconst 0, 1) := by decide +kernel
theorem d_M_setRoll_14 : decode b_M_setRoll 14 = .ok (.istore_n 2, 1) := by decide +kernel
theorem d_M_setRoll_15 : decode b_M_setRoll 15 = .ok (.iload_n 2, 1) := by decide +kernel
theorem d_M_setRoll_16 : decode b_M_setRoll 16 = .ok (.iconst 4, 1) := by decide +kernel
theorem d_M_setRoll_17 : decode b_M_setRoll 17 = .ok (.if_icmp .ge 21, 3) := by decide +kernel
theorem d_M_setRoll_20 : decode b_M_setRoll 20 = .ok (.aload_n 0, 1) := by decide +kernel
theorem d_M_setRoll_21 : decode b_M_setRoll 21 = .ok (.getfield 7, 3) := by decide +kernel
theorem d_M_setRoll_24 : decode b_M_setRoll 24 = .ok (.iload_n 2, 1) := by decide +kernel
theorem d_M_setRoll_25 : decode b_M_setRoll 25 = .ok (.iaload, 1) := by decide +kernel
theorem d_M_setRoll_26 : decode b_M_setRoll 26 = .ok (.iload_n 1, 1) := by decide +kernel
theorem d_M_setRoll_27 : decode b_M_setRoll 27 = .ok (.if_icmp .le 5, 3) := by decide +kernel
theorem d_M_setRoll_30 : decode b_M_setRoll 30 = .ok (.iconst 0, 1) := by decide +kernel
theorem d_M_setRoll_31 : decode b_M_setRoll 31 = .ok (.ireturn, 1) := by decide +kernel
theorem d_M_setRoll_32 : decode b_M_setRoll 32 = .ok (.iinc 2 1, 3) := by decide +kernel
theorem d_M_setRoll_35 : decode b_M_setRoll 35 = .ok (.goto (-20), 3) := by decide +kernel
end
section
theorem d_M_setRoll_38 : decode b_M_setRoll 38 = .ok (.aload_n 0, 1) := by decide +kernel
theorem d_M_setRoll_39 : decode b_M_setRoll 39 = .ok (.iload_n 1, 1) := by decide +kernel
theorem d_M_setRoll_40 : decode b_M_setRoll 40 = .ok (.putfield 19, 3) := by decide +kernel
theorem d_M_setRoll_43 : decode b_M_setRoll 43 = .ok (.iconst 1, 1) := by decide +kernel
theorem d_M_setRoll_44 : decode b_M_setRoll 44 = .ok (.ireturn, 1) := by decide +kernel
theorem d_M_setWidth_0 : decode b_M_setWidth 0 = .ok (.aload_n 0, 1) := by decide +kernel
theorem d_M_setWidth_1 : decode b_M_setWidth 1 = .ok (.iload_n 1, 1) := by decide +kernel
theorem d_M_setWidth_2 : decode b_M_setWidth 2 = .ok (.invokevirtual 23, 3) := by decide +kernel
theorem d_M_setWidth_5 : decode b_M_setWidth 5 = .ok (.ifCond .eq 16, 3) := by decide +kernel
theorem d_M_setWidth_8 : decode b_M_setWidth 8 = .ok (.iload_n 2, 1) := by decide +kernel
theorem d_M_setWidth_9 : decode b_M_setWidth 9 = .ok (.iconst 1, 1) := by decide +kernel
theorem d_M_setWidth_10 : decode b_M_setWidth 10 = .ok (.if_icmp .lt 11, 3) := by decide +kernel
theorem d_M_setWidth_13 : decode b_M_setWidth 13 = .ok (.iload_n 2, 1) := by decide +kernel
theorem d_M_setWidth_14 : decode b_M_setWidth 14 = .ok (.aload_n 0, 1) := by decide +kernel
theorem d_M_setWidth_15 : decode b_M_setWidth 15 = .ok (.getfield 19, 3) := by decide +kernel
theorem d_M_setWidth_18 : decode b_M_setWidth 18 = .ok (.if_icmp .le 5, 3) := by decide +kernel
theorem d_M_setWidth_21 : decode b_M_setWidth 21 = .ok (.iconst 0, 1) := by decide +kernel
theorem d_M_setWidth_22 : decode b_M_setWidth 22 = .ok (.ireturn, 1) := by decide +kernel
theorem d_M_setWidth_23 : decode b_M_setWidth 23 = .ok (.aload_n 0, 1) := by decide +kernel
theorem d_M_setWidth_24 : decode b_M_setWidth 24 = .ok (.getfield 7, 3) := by decide +kernel
theorem d_M_setWidth_27 : decode b_M_setWidth 27 = .ok (.iload_n 1, 1) := by decide +kernel
theorem d_M_setWidth_28 : decode b_M_setWidth 28 = .ok (.iload_n 2, 1) := by decide +kernel
theorem d_M_setWidth_29 : decode b_M_setWidth 29 = .ok (.iastore, 1) := by decide +kernel
theorem d_M_setWidth_30 : decode b_M_setWidth 30 = .ok (.iconst 1, 1) := by decide +kernel
theorem d_M_setWidth_31 : decode b_M_setWidth 31 = .ok (.ireturn, 1) := by decide +kernel
theorem d_M_whole_0 : decode b_M_whole 0 = .ok (.iconst 0, 1) := by decide +kernel
theorem d_M_whole_1 : decode b_M_whole 1 = .ok (.istore_n 1, 1) := by decide +kernel
theorem d_M_whole_2 : decode b_M_whole 2 = .ok (.iconst 0, 1) := by decide +kernel
theorem d_M_whole_3 : decode b_M_whole 3 = .ok (.istore_n 2, 1) := by decide +kernel
theorem d_M_whole_4 : decode b_M_whole 4 = .ok (.iload_n 2, 1) := by decide +kernel
theorem d_M_whole_5 : decode b_M_whole 5 = .ok (.iconst 4, 1) := by decide +kernel
theorem d_M_whole_6 : decode b_M_whole 6 = .ok (.if_icmp .ge 22, 3) := by decide +kernel
theorem d_M_whole_9 : decode b_M_whole 9 = .ok (.iload_n 1, 1) := by decide +kernel
theorem d_M_whole_10 : decode b_M_whole 10 = .ok (.aload_n 0, 1) := by decide +kernel
theorem d_M_whole_11 : decode b_M_whole 11 = .ok (.getfield 13, 3) := by decide +kernel
theorem d_M_whole_14 : decode b_M_whole 14 = .ok (.iload_n 2, 1) := by decide +kernel
theorem d_M_whole_15 : decode b_M_whole 15 = .ok (.iaload, 1) := by decide +kernel
theorem d_M_whole_16 : decode b_M_whole 16 = .ok (.iconst 2, 1) := by decide +kernel
theorem d_M_whole_17 : decode b_M_whole 17 = .ok (.iload_n 2, 1) := by decide +kernel
theorem d_M_whole_18 : decode b_M_whole 18 = .ok (.imul, 1) := by decide +kernel
theorem d_M_whole_19 : decode b_M_whole 19 = .ok (.ishl, 1) := by decide +kernel
theorem d_M_whole_20 : decode b_M_whole 20 = .ok (.ior, 1) := by decide +kernel
theorem d_M_whole_21 : decode b_M_whole 21 = .ok (.istore_n 1, 1) := by decide +kernel
theorem d_M_whole_22 : decode b_M_whole 22 = .ok (.iinc 2 1, 3) := by decide +kernel
theorem d_M_whole_25 : decode b_M_whole 25 = .ok (.goto (-21), 3) := by decide +kernel
theorem d_M_whole_28 : decode b_M_whole 28 = .ok (.iload_n 1, 1) := by decide +kernel
theorem d_M_whole_29 : decode b_M_whole 29 = .ok (.ireturn, 1) := by decide +kernel
theorem d_M_width_0 : decode b_M_width 0 = .ok (.aload_n 0, 1) := by decide +kernel
theorem d_M_width_1 : decode b_M_width 1 = .ok (.iload_n 1, 1) := by decide +kernel
theorem d_M_width_2 : decode b_M_width 2 = .ok (.invokevirtual 23, 3) := by decide +kernel
theorem d_M_width_5 : decode b_M_width 5 = .ok (.ifCond .eq 12, 3) := by decide +kernel
theorem d_M_width_8 : decode b_M_width 8 = .ok (.aload_n 0, 1) := by decide +kernel
theorem d_M_width_9 : decode b_M_width 9 = .ok (.getfield 7, 3) := by decide +kernel
theorem d_M_width_12 : decode b_M_width 12 = .ok (.iload_n 1, 1) := by decide +kernel
theorem d_M_width_13 : decode b_M_width 13 = .ok (.iaload, 1) := by decide +kernel
theorem d_M_width_14 : decode b_M_width 14 = .ok (.goto 4, 3) := by decide +kernel
theorem d_M_width_17 : decode b_M_width 17 = .ok (.iconst (-1), 1) := by decide +kernel
theorem d_M_width_18 : decode b_M_width 18 = .ok (.ireturn, 1) := by decide +kernel
theorem d_M_within_0 : decode b_M_within 0 = .ok (.aload_n 0, 1) := by decide +kernel
theorem d_M_within_1 : decode b_M_within 1 = .ok (.iload_n 1, 1) := by decide +kernel
theorem d_M_within_2 : decode b_M_within 2 = .ok (.iload_n 2, 1) := by decide +kernel
theorem d_M_within_3 : decode b_M_within 3 = .ok (.invokevirtual 31, 3) := by decide +kernel
theorem d_M_within_6 : decode b_M_within 6 = .ok (.ifCond .ne 7, 3) := by decide +kernel
theorem d_M_within_9 : decode b_M_within 9 = .ok (.iconst 1, 1) := by decide +kernel
theorem d_M_within_10 : decode b_M_within 10 = .ok (.goto 4, 3) := by decide +kernel
theorem d_M_within_13 : decode b_M_within 13 = .ok (.iconst 0, 1) := by decide +kernel
theorem d_M_within_14 : decode b_M_within 14 = .ok (.ireturn, 1) := by decide +kernel
theorem d_M_work_0 : decode b_M_work 0 = .ok (.aload_n 0, 1) := by decide +kernel
theorem d_M_work_1 : decode b_M_work 1 = .ok (.getfield 16, 3) := by decide +kernel
theorem d_M_work_4 : decode b_M_work 4 = .ok (.iconst 0, 1) := by decide +kernel
theorem d_M_work_5 : decode b_M_work 5 = .ok (.iconst 0, 1) := by decide +kernel
theorem d_M_work_6 : decode b_M_work 6 = .ok (.iastore, 1) := by decide +kernel
theorem d_M_work_7 : decode b_M_work 7 = .ok (.iconst 1, 1) := by decide +kernel
theorem d_M_work_8 : decode b_M_work 8 = .ok (.istore_n 3, 1) := by decide +kernel
theorem d_M_work_9 : decode b_M_work 9 = .ok (.iload_n 3, 1) := by decide +kernel
theorem d_M_work_10 : decode b_M_work 10 = .ok (.sipush 256, 3) := by decide +kernel
theorem d_M_work_13 : decode b_M_work 13 = .ok (.if_icmp .ge 105, 3) := by decide +kernel
theorem d_M_work_16 : decode b_M_work 16 = .ok (.aload_n 0, 1) := by decide +kernel
theorem d_M_work_17 : decode b_M_work 17 = .ok (.getfield 16, 3) := by decide +kernel
theorem d_M_work_20 : decode b_M_work 20 = .ok (.iload_n 3, 1) := by decide +kernel
theorem d_M_work_21 : decode b_M_work 21 = .ok (.bipush 99, 2) := by decide +kernel
theorem d_M_work_23 : decode b_M_work 23 = .ok (.iastore, 1) := by decide +kernel
theorem d_M_work_24 : decode b_M_work 24 = .ok (.aload_n 0, 1) := by decide +kernel
theorem d_M_work_25 : decode b_M_work 25 = .ok (.iload_n 3, 1) := by decide +kernel
theorem d_M_work_26 : decode b_M_work 26 = .ok (.iload_n 1, 1) := by decide +kernel
theorem d_M_work_27 : decode b_M_work 27 = .ok (.invokevirtual 34, 3) := by decide +kernel
theorem d_M_work_30 : decode b_M_work 30 = .ok (.ifCond .eq 82, 3) := by decide +kernel
theorem d_M_work_33 : decode b_M_work 33 = .ok (.iconst 1, 1) := by decide +kernel
theorem d_M_work_34 : decode b_M_work 34 = .ok (.istore 4, 2) := by decide +kernel
theorem d_M_work_36 : decode b_M_work 36 = .ok (.iload 4, 2) := by decide +kernel
theorem d_M_work_38 : decode b_M_work 38 = .ok (.iload_n 3, 1) := by decide +kernel
theorem d_M_work_39 : decode b_M_work 39 = .ok (.if_icmp .gt 73, 3) := by decide +kernel
theorem d_M_work_42 : decode b_M_work 42 = .ok (.aload_n 0, 1) := by decide +kernel
theorem d_M_work_43 : decode b_M_work 43 = .ok (.iload 4, 2) := by decide +kernel
theorem d_M_work_45 : decode b_M_work 45 = .ok (.iload_n 3, 1) := by decide +kernel
theorem d_M_work_46 : decode b_M_work 46 = .ok (.invokevirtual 34, 3) := by decide +kernel
theorem d_M_work_49 : decode b_M_work 49 = .ok (.ifCond .eq 57, 3) := by decide +kernel
theorem d_M_work_52 : decode b_M_work 52 = .ok (.aload_n 0, 1) := by decide +kernel
theorem d_M_work_53 : decode b_M_work 53 = .ok (.iload 4, 2) := by decide +kernel
theorem d_M_work_55 : decode b_M_work 55 = .ok (.invokevirtual 38, 3) := by decide +kernel
theorem d_M_work_58 : decode b_M_work 58 = .ok (.iload_n 2, 1) := by decide +kernel
theorem d_M_work_59 : decode b_M_work 59 = .ok (.if_icmp .gt 47, 3) := by decide +kernel
theorem d_M_work_62 : decode b_M_work 62 = .ok (.aload_n 0, 1) := by decide +kernel
theorem d_M_work_63 : decode b_M_work 63 = .ok (.getfield 16, 3) := by decide +kernel
theorem d_M_work_66 : decode b_M_work 66 = .ok (.aload_n 0, 1) := by decide +kernel
theorem d_M_work_67 : decode b_M_work 67 = .ok (.iload_n 3, 1) := by decide +kernel
theorem d_M_work_68 : decode b_M_work 68 = .ok (.iload 4, 2) := by decide +kernel
theorem d_M_work_70 : decode b_M_work 70 = .ok (.invokevirtual 31, 3) := by decide +kernel
theorem d_M_work_73 : decode b_M_work 73 = .ok (.iaload, 1) := by decide +kernel
theorem d_M_work_74 : decode b_M_work 74 = .ok (.iconst 1, 1) := by decide +kernel
theorem d_M_work_75 : decode b_M_work 75 = .ok (.iadd, 1) := by decide +kernel
theorem d_M_work_76 : decode b_M_work 76 = .ok (.istore 5, 2) := by decide +kernel
theorem d_M_work_78 : decode b_M_work 78 = .ok (.aload_n 0, 1) := by decide +kernel
theorem d_M_work_79 : decode b_M_work 79 = .ok (.getfield 16, 3) := by decide +kernel
theorem d_M_work_82 : decode b_M_work 82 = .ok (.iload_n 3, 1) := by decide +kernel
theorem d_M_work_83 : decode b_M_work 83 = .ok (.iload 5, 2) := by decide +kernel
theorem d_M_work_85 : decode b_M_work 85 = .ok (.aload_n 0, 1) := by decide +kernel
theorem d_M_work_86 : decode b_M_work 86 = .ok (.getfield 16, 3) := by decide +kernel
theorem d_M_work_89 : decode b_M_work 89 = .ok (.iload_n 3, 1) := by decide +kernel
theorem d_M_work_90 : decode b_M_work 90 = .ok (.iaload, 1) := by decide +kernel
theorem d_M_work_91 : decode b_M_work 91 = .ok (.if_icmp .ge 8, 3) := by decide +kernel
theorem d_M_work_94 : decode b_M_work 94 = .ok (.iload 5, 2) := by decide +kernel
theorem d_M_work_96 : decode b_M_work 96 = .ok (.goto 9, 3) := by decide +kernel
theorem d_M_work_99 : decode b_M_work 99 = .ok (.aload_n 0, 1) := by decide +kernel
theorem d_M_work_100 : decode b_M_work 100 = .ok (.getfield 16, 3) := by decide +kernel
theorem d_M_work_103 : decode b_M_work 103 = .ok (.iload_n 3, 1) := by decide +kernel
theorem d_M_work_104 : decode b_M_work 104 = .ok (.iaload, 1) := by decide +kernel
theorem d_M_work_105 : decode b_M_work 105 = .ok (.iastore, 1) := by decide +kernel
theorem d_M_work_106 : decode b_M_work 106 = .ok (.iinc 4 1, 3) := by decide +kernel
theorem d_M_work_109 : decode b_M_work 109 = .ok (.goto (-73), 3) := by decide +kernel
theorem d_M_work_112 : decode b_M_work 112 = .ok (.iinc 3 1, 3) := by decide +kernel
theorem d_M_work_115 : decode b_M_work 115 = .ok (.goto (-106), 3) := by decide +kernel
theorem d_M_work_118 : decode b_M_work 118 = .ok (.return_, 1) := by decide +kernel
theorem d_law_0 : decode code 0 = .ok (.new 7, 3) := by decide +kernel
theorem d_law_3 : decode code 3 = .ok (.dup, 1) := by decide +kernel
theorem d_law_4 : decode code 4 = .ok (.aload_n 0, 1) := by decide +kernel
theorem d_law_5 : decode code 5 = .ok (.iconst 0, 1) := by decide +kernel
theorem d_law_6 : decode code 6 = .ok (.invokestatic 9, 3) := by decide +kernel
theorem d_law_9 : decode code 9 = .ok (.invokespecial 15, 3) := by decide +kernel
theorem d_law_12 : decode code 12 = .ok (.astore_n 1, 1) := by decide +kernel
theorem d_law_13 : decode code 13 = .ok (.new 18, 3) := by decide +kernel
theorem d_law_16 : decode code 16 = .ok (.dup, 1) := by decide +kernel
theorem d_law_17 : decode code 17 = .ok (.aload_n 0, 1) := by decide +kernel
theorem d_law_18 : decode code 18 = .ok (.iconst 0, 1) := by decide +kernel
theorem d_law_19 : decode code 19 = .ok (.invokestatic 9, 3) := by decide +kernel
theorem d_law_22 : decode code 22 = .ok (.invokespecial 20, 3) := by decide +kernel
theorem d_law_25 : decode code 25 = .ok (.astore_n 2, 1) := by decide +kernel
theorem d_law_26 : decode code 26 = .ok (.iconst 1, 1) := by decide +kernel
theorem d_law_27 : decode code 27 = .ok (.istore_n 3, 1) := by decide +kernel
theorem d_law_28 : decode code 28 = .ok (.iload_n 3, 1) := by decide +kernel
theorem d_law_29 : decode code 29 = .ok (.aload_n 0, 1) := by decide +kernel
theorem d_law_30 : decode code 30 = .ok (.arraylength, 1) := by decide +kernel
theorem d_law_31 : decode code 31 = .ok (.iconst 3, 1) := by decide +kernel
theorem d_law_32 : decode code 32 = .ok (.isub, 1) := by decide +kernel
theorem d_law_33 : decode code 33 = .ok (.if_icmp .gt 380, 3) := by decide +kernel
theorem d_law_36 : decode code 36 = .ok (.aload_n 0, 1) := by decide +kernel
theorem d_law_37 : decode code 37 = .ok (.iload_n 3, 1) := by decide +kernel
theorem d_law_38 : decode code 38 = .ok (.iaload, 1) := by decide +kernel
theorem d_law_39 : decode code 39 = .ok (.bipush 15, 2) := by decide +kernel
theorem d_law_41 : decode code 41 = .ok (.iand, 1) := by decide +kernel
theorem d_law_42 : decode code 42 = .ok (.tableswitch 365 0 12 #[66, 99, 132, 155, 168, 191, 214, 227, 260, 283, 306, 329, 352], 66) := by decide +kernel
theorem d_law_108 : decode code 108 = .ok (.aload_n 1, 1) := by decide +kernel
theorem d_law_109 : decode code 109 = .ok (.aload_n 0, 1) := by decide +kernel
theorem d_law_110 : decode code 110 = .ok (.iload_n 3, 1) := by decide +kernel
theorem d_law_111 : decode code 111 = .ok (.iconst 1, 1) := by decide +kernel
theorem d_law_112 : decode code 112 = .ok (.iadd, 1) := by decide +kernel
theorem d_law_113 : decode code 113 = .ok (.iaload, 1) := by decide +kernel
theorem d_law_114 : decode code 114 = .ok (.aload_n 0, 1) := by decide +kernel
theorem d_law_115 : decode code 115 = .ok (.iload_n 3, 1) := by decide +kernel
theorem d_law_116 : decode code 116 = .ok (.iconst 2, 1) := by decide +kernel
theorem d_law_117 : decode code 117 = .ok (.iadd, 1) := by decide +kernel
theorem d_law_118 : decode code 118 = .ok (.iaload, 1) := by decide +kernel
theorem d_law_119 : decode code 119 = .ok (.invokevirtual 21, 3) := by decide +kernel
theorem d_law_122 : decode code 122 = .ok (.aload_n 2, 1) := by decide +kernel
theorem d_law_123 : decode code 123 = .ok (.aload_n 0, 1) := by decide +kernel
theorem d_law_124 : decode code 124 = .ok (.iload_n 3, 1) := by decide +kernel
theorem d_law_125 : decode code 125 = .ok (.iconst 1, 1) := by decide +kernel
theorem d_law_126 : decode code 126 = .ok (.iadd, 1) := by decide +kernel
theorem d_law_127 : decode code 127 = .ok (.iaload, 1) := by decide +kernel
theorem d_law_128 : decode code 128 = .ok (.aload_n 0, 1) := by decide +kernel
theorem d_law_129 : decode code 129 = .ok (.iload_n 3, 1) := by decide +kernel
theorem d_law_130 : decode code 130 = .ok (.iconst 2, 1) := by decide +kernel
theorem d_law_131 : decode code 131 = .ok (.iadd, 1) := by decide +kernel
theorem d_law_132 : decode code 132 = .ok (.iaload, 1) := by decide +kernel
theorem d_law_133 : decode code 133 = .ok (.invokevirtual 25, 3) := by decide +kernel
theorem d_law_136 : decode code 136 = .ok (.if_icmp .eq 271, 3) := by decide +kernel
theorem d_law_139 : decode code 139 = .ok (.iconst 0, 1) := by decide +kernel
theorem d_law_140 : decode code 140 = .ok (.ireturn, 1) := by decide +kernel
theorem d_law_141 : decode code 141 = .ok (.aload_n 1, 1) := by decide +kernel
theorem d_law_142 : decode code 142 = .ok (.aload_n 0, 1) := by decide +kernel
theorem d_law_143 : decode code 143 = .ok (.iload_n 3, 1) := by decide +kernel
theorem d_law_144 : decode code 144 = .ok (.iconst 1, 1) := by decide +kernel
theorem d_law_145 : decode code 145 = .ok (.iadd, 1) := by decide +kernel
theorem d_law_146 : decode code 146 = .ok (.iaload, 1) := by decide +kernel
theorem d_law_147 : decode code 147 = .ok (.aload_n 0, 1) := by decide +kernel
theorem d_law_148 : decode code 148 = .ok (.iload_n 3, 1) := by decide +kernel
theorem d_law_149 : decode code 149 = .ok (.iconst 2, 1) := by decide +kernel
theorem d_law_150 : decode code 150 = .ok (.iadd, 1) := by decide +kernel
theorem d_law_151 : decode code 151 = .ok (.iaload, 1) := by decide +kernel
theorem d_law_152 : decode code 152 = .ok (.invokevirtual 26, 3) := by decide +kernel
theorem d_law_155 : decode code 155 = .ok (.aload_n 2, 1) := by decide +kernel
theorem d_law_156 : decode code 156 = .ok (.aload_n 0, 1) := by decide +kernel
theorem d_law_157 : decode code 157 = .ok (.iload_n 3, 1) := by decide +kernel
theorem d_law_158 : decode code 158 = .ok (.iconst 1, 1) := by decide +kernel
theorem d_law_159 : decode code 159 = .ok (.iadd, 1) := by decide +kernel
theorem d_law_160 : decode code 160 = .ok (.iaload, 1) := by decide +kernel
theorem d_law_161 : decode code 161 = .ok (.aload_n 0, 1) := by decide +kernel
theorem d_law_162 : decode code 162 = .ok (.iload_n 3, 1) := by decide +kernel
theorem d_law_163 : decode code 163 = .ok (.iconst 2, 1) := by decide +kernel
theorem d_law_164 : decode code 164 = .ok (.iadd, 1) := by decide +kernel
theorem d_law_165 : decode code 165 = .ok (.iaload, 1) := by decide +kernel
theorem d_law_166 : decode code 166 = .ok (.invokevirtual 29, 3) := by decide +kernel
theorem d_law_169 : decode code 169 = .ok (.if_icmp .eq 238, 3) := by decide +kernel
theorem d_law_172 : decode code 172 = .ok (.iconst 0, 1) := by decide +kernel
theorem d_law_173 : decode code 173 = .ok (.ireturn, 1) := by decide +kernel
theorem d_law_174 : decode code 174 = .ok (.aload_n 1, 1) := by decide +kernel
theorem d_law_175 : decode code 175 = .ok (.aload_n 0, 1) := by decide +kernel
theorem d_law_176 : decode code 176 = .ok (.iload_n 3, 1) := by decide +kernel
theorem d_law_177 : decode code 177 = .ok (.iconst 1, 1) := by decide +kernel
theorem d_law_178 : decode code 178 = .ok (.iadd, 1) := by decide +kernel
theorem d_law_179 : decode code 179 = .ok (.iaload, 1) := by decide +kernel
theorem d_law_180 : decode code 180 = .ok (.invokevirtual 30, 3) := by decide +kernel
theorem d_law_183 : decode code 183 = .ok (.aload_n 2, 1) := by decide +kernel
theorem d_law_184 : decode code 184 = .ok (.aload_n 0, 1) := by decide +kernel
theorem d_law_185 : decode code 185 = .ok (.iload_n 3, 1) := by decide +kernel
theorem d_law_186 : decode code 186 = .ok (.iconst 1, 1) := by decide +kernel
theorem d_law_187 : decode code 187 = .ok (.iadd, 1) := by decide +kernel
theorem d_law_188 : decode code 188 = .ok (.iaload, 1) := by decide +kernel
theorem d_law_189 : decode code 189 = .ok (.invokevirtual 34, 3) := by decide +kernel
theorem d_law_192 : decode code 192 = .ok (.if_icmp .eq 215, 3) := by decide +kernel
theorem d_law_195 : decode code 195 = .ok (.iconst 0, 1) := by decide +kernel
theorem d_law_196 : decode code 196 = .ok (.ireturn, 1) := by decide +kernel
theorem d_law_197 : decode code 197 = .ok (.aload_n 1, 1) := by decide +kernel
theorem d_law_198 : decode code 198 = .ok (.invokevirtual 35, 3) := by decide +kernel
theorem d_law_201 : decode code 201 = .ok (.aload_n 2, 1) := by decide +kernel
theorem d_law_202 : decode code 202 = .ok (.invokevirtual 39, 3) := by decide +kernel
theorem d_law_205 : decode code 205 = .ok (.if_icmp .eq 202, 3) := by decide +kernel
theorem d_law_208 : decode code 208 = .ok (.iconst 0, 1) := by decide +kernel
theorem d_law_209 : decode code 209 = .ok (.ireturn, 1) := by decide +kernel
theorem d_law_210 : decode code 210 = .ok (.aload_n 1, 1) := by decide +kernel
theorem d_law_211 : decode code 211 = .ok (.aload_n 0, 1) := by decide +kernel
theorem d_law_212 : decode code 212 = .ok (.iload_n 3, 1) := by decide +kernel
theorem d_law_213 : decode code 213 = .ok (.iconst 1, 1) := by decide +kernel
theorem d_law_214 : decode code 214 = .ok (.iadd, 1) := by decide +kernel
theorem d_law_215 : decode code 215 = .ok (.iaload, 1) := by decide +kernel
theorem d_law_216 : decode code 216 = .ok (.invokevirtual 40, 3) := by decide +kernel
theorem d_law_219 : decode code 219 = .ok (.aload_n 2, 1) := by decide +kernel
theorem d_law_220 : decode code 220 = .ok (.aload_n 0, 1) := by decide +kernel
theorem d_law_221 : decode code 221 = .ok (.iload_n 3, 1) := by decide +kernel
theorem d_law_222 : decode code 222 = .ok (.iconst 1, 1) := by decide +kernel
theorem d_law_223 : decode code 223 = .ok (.iadd, 1) := by decide +kernel
theorem d_law_224 : decode code 224 = .ok (.iaload, 1) := by decide +kernel
theorem d_law_225 : decode code 225 = .ok (.invokevirtual 44, 3) := by decide +kernel
theorem d_law_228 : decode code 228 = .ok (.if_icmp .eq 179, 3) := by decide +kernel
theorem d_law_231 : decode code 231 = .ok (.iconst 0, 1) := by decide +kernel
theorem d_law_232 : decode code 232 = .ok (.ireturn, 1) := by decide +kernel
theorem d_law_233 : decode code 233 = .ok (.aload_n 1, 1) := by decide +kernel
theorem d_law_234 : decode code 234 = .ok (.aload_n 0, 1) := by decide +kernel
theorem d_law_235 : decode code 235 = .ok (.iload_n 3, 1) := by decide +kernel
theorem d_law_236 : decode code 236 = .ok (.iconst 1, 1) := by decide +kernel
theorem d_law_237 : decode code 237 = .ok (.iadd, 1) := by decide +kernel
theorem d_law_238 : decode code 238 = .ok (.iaload, 1) := by decide +kernel
theorem d_law_239 : decode code 239 = .ok (.invokevirtual 45, 3) := by decide +kernel
theorem d_law_242 : decode code 242 = .ok (.aload_n 2, 1) := by decide +kernel
theorem d_law_243 : decode code 243 = .ok (.aload_n 0, 1) := by decide +kernel
theorem d_law_244 : decode code 244 = .ok (.iload_n 3, 1) := by decide +kernel
theorem d_law_245 : decode code 245 = .ok (.iconst 1, 1) := by decide +kernel
theorem d_law_246 : decode code 246 = .ok (.iadd, 1) := by decide +kernel
theorem d_law_247 : decode code 247 = .ok (.iaload, 1) := by decide +kernel
theorem d_law_248 : decode code 248 = .ok (.invokevirtual 48, 3) := by decide +kernel
theorem d_law_251 : decode code 251 = .ok (.if_icmp .eq 156, 3) := by decide +kernel
theorem d_law_254 : decode code 254 = .ok (.iconst 0, 1) := by decide +kernel
theorem d_law_255 : decode code 255 = .ok (.ireturn, 1) := by decide +kernel
theorem d_law_256 : decode code 256 = .ok (.aload_n 1, 1) := by decide +kernel
theorem d_law_257 : decode code 257 = .ok (.invokevirtual 49, 3) := by decide +kernel
theorem d_law_260 : decode code 260 = .ok (.aload_n 2, 1) := by decide +kernel
theorem d_law_261 : decode code 261 = .ok (.invokevirtual 52, 3) := by decide +kernel
theorem d_law_264 : decode code 264 = .ok (.if_icmp .eq 143, 3) := by decide +kernel
theorem d_law_267 : decode code 267 = .ok (.iconst 0, 1) := by decide +kernel
theorem d_law_268 : decode code 268 = .ok (.ireturn, 1) := by decide +kernel
theorem d_law_269 : decode code 269 = .ok (.aload_n 1, 1) := by decide +kernel
theorem d_law_270 : decode code 270 = .ok (.aload_n 0, 1) := by decide +kernel
theorem d_law_271 : decode code 271 = .ok (.iload_n 3, 1) := by decide +kernel
theorem d_law_272 : decode code 272 = .ok (.iconst 1, 1) := by decide +kernel
theorem d_law_273 : decode code 273 = .ok (.iadd, 1) := by decide +kernel
theorem d_law_274 : decode code 274 = .ok (.iaload, 1) := by decide +kernel
theorem d_law_275 : decode code 275 = .ok (.aload_n 0, 1) := by decide +kernel
theorem d_law_276 : decode code 276 = .ok (.iload_n 3, 1) := by decide +kernel
theorem d_law_277 : decode code 277 = .ok (.iconst 2, 1) := by decide +kernel
theorem d_law_278 : decode code 278 = .ok (.iadd, 1) := by decide +kernel
theorem d_law_279 : decode code 279 = .ok (.iaload, 1) := by decide +kernel
theorem d_law_280 : decode code 280 = .ok (.invokevirtual 53, 3) := by decide +kernel
theorem d_law_283 : decode code 283 = .ok (.aload_n 2, 1) := by decide +kernel
theorem d_law_284 : decode code 284 = .ok (.aload_n 0, 1) := by decide +kernel
theorem d_law_285 : decode code 285 = .ok (.iload_n 3, 1) := by decide +kernel
theorem d_law_286 : decode code 286 = .ok (.iconst 1, 1) := by decide +kernel
theorem d_law_287 : decode code 287 = .ok (.iadd, 1) := by decide +kernel
theorem d_law_288 : decode code 288 = .ok (.iaload, 1) := by decide +kernel
theorem d_law_289 : decode code 289 = .ok (.aload_n 0, 1) := by decide +kernel
theorem d_law_290 : decode code 290 = .ok (.iload_n 3, 1) := by decide +kernel
theorem d_law_291 : decode code 291 = .ok (.iconst 2, 1) := by decide +kernel
theorem d_law_292 : decode code 292 = .ok (.iadd, 1) := by decide +kernel
theorem d_law_293 : decode code 293 = .ok (.iaload, 1) := by decide +kernel
theorem d_law_294 : decode code 294 = .ok (.invokevirtual 57, 3) := by decide +kernel
theorem d_law_297 : decode code 297 = .ok (.if_icmp .eq 110, 3) := by decide +kernel
theorem d_law_300 : decode code 300 = .ok (.iconst 0, 1) := by decide +kernel
theorem d_law_301 : decode code 301 = .ok (.ireturn, 1) := by decide +kernel
theorem d_law_302 : decode code 302 = .ok (.aload_n 1, 1) := by decide +kernel
theorem d_law_303 : decode code 303 = .ok (.aload_n 0, 1) := by decide +kernel
theorem d_law_304 : decode code 304 = .ok (.iload_n 3, 1) := by decide +kernel
theorem d_law_305 : decode code 305 = .ok (.iconst 1, 1) := by decide +kernel
theorem d_law_306 : decode code 306 = .ok (.iadd, 1) := by decide +kernel
theorem d_law_307 : decode code 307 = .ok (.iaload, 1) := by decide +kernel
theorem d_law_308 : decode code 308 = .ok (.invokevirtual 58, 3) := by decide +kernel
theorem d_law_311 : decode code 311 = .ok (.aload_n 2, 1) := by decide +kernel
theorem d_law_312 : decode code 312 = .ok (.aload_n 0, 1) := by decide +kernel
theorem d_law_313 : decode code 313 = .ok (.iload_n 3, 1) := by decide +kernel
theorem d_law_314 : decode code 314 = .ok (.iconst 1, 1) := by decide +kernel
theorem d_law_315 : decode code 315 = .ok (.iadd, 1) := by decide +kernel
theorem d_law_316 : decode code 316 = .ok (.iaload, 1) := by decide +kernel
theorem d_law_317 : decode code 317 = .ok (.invokevirtual 61, 3) := by decide +kernel
theorem d_law_320 : decode code 320 = .ok (.if_icmp .eq 87, 3) := by decide +kernel
theorem d_law_323 : decode code 323 = .ok (.iconst 0, 1) := by decide +kernel
theorem d_law_324 : decode code 324 = .ok (.ireturn, 1) := by decide +kernel
theorem d_law_325 : decode code 325 = .ok (.aload_n 1, 1) := by decide +kernel
theorem d_law_326 : decode code 326 = .ok (.aload_n 0, 1) := by decide +kernel
theorem d_law_327 : decode code 327 = .ok (.iload_n 3, 1) := by decide +kernel
theorem d_law_328 : decode code 328 = .ok (.iconst 1, 1) := by decide +kernel
theorem d_law_329 : decode code 329 = .ok (.iadd, 1) := by decide +kernel
theorem d_law_330 : decode code 330 = .ok (.iaload, 1) := by decide +kernel
theorem d_law_331 : decode code 331 = .ok (.invokevirtual 62, 3) := by decide +kernel
theorem d_law_334 : decode code 334 = .ok (.aload_n 2, 1) := by decide +kernel
theorem d_law_335 : decode code 335 = .ok (.aload_n 0, 1) := by decide +kernel
theorem d_law_336 : decode code 336 = .ok (.iload_n 3, 1) := by decide +kernel
theorem d_law_337 : decode code 337 = .ok (.iconst 1, 1) := by decide +kernel
theorem d_law_338 : decode code 338 = .ok (.iadd, 1) := by decide +kernel
theorem d_law_339 : decode code 339 = .ok (.iaload, 1) := by decide +kernel
theorem d_law_340 : decode code 340 = .ok (.invokevirtual 65, 3) := by decide +kernel
theorem d_law_343 : decode code 343 = .ok (.if_icmp .eq 64, 3) := by decide +kernel
theorem d_law_346 : decode code 346 = .ok (.iconst 0, 1) := by decide +kernel
theorem d_law_347 : decode code 347 = .ok (.ireturn, 1) := by decide +kernel
theorem d_law_348 : decode code 348 = .ok (.aload_n 1, 1) := by decide +kernel
theorem d_law_349 : decode code 349 = .ok (.aload_n 0, 1) := by decide +kernel
theorem d_law_350 : decode code 350 = .ok (.iload_n 3, 1) := by decide +kernel
theorem d_law_351 : decode code 351 = .ok (.iconst 1, 1) := by decide +kernel
theorem d_law_352 : decode code 352 = .ok (.iadd, 1) := by decide +kernel
theorem d_law_353 : decode code 353 = .ok (.iaload, 1) := by decide +kernel
theorem d_law_354 : decode code 354 = .ok (.invokevirtual 66, 3) := by decide +kernel
theorem d_law_357 : decode code 357 = .ok (.aload_n 2, 1) := by decide +kernel
theorem d_law_358 : decode code 358 = .ok (.aload_n 0, 1) := by decide +kernel
end
section
theorem d_law_359 : decode code 359 = .ok (.iload_n 3, 1) := by decide +kernel
theorem d_law_360 : decode code 360 = .ok (.iconst 1, 1) := by decide +kernel
theorem d_law_361 : decode code 361 = .ok (.iadd, 1) := by decide +kernel
theorem d_law_362 : decode code 362 = .ok (.iaload, 1) := by decide +kernel
theorem d_law_363 : decode code 363 = .ok (.invokevirtual 69, 3) := by decide +kernel
theorem d_law_366 : decode code 366 = .ok (.if_icmp .eq 41, 3) := by decide +kernel
theorem d_law_369 : decode code 369 = .ok (.iconst 0, 1) := by decide +kernel
theorem d_law_370 : decode code 370 = .ok (.ireturn, 1) := by decide +kernel
theorem d_law_371 : decode code 371 = .ok (.aload_n 1, 1) := by decide +kernel
theorem d_law_372 : decode code 372 = .ok (.aload_n 0, 1) := by decide +kernel
theorem d_law_373 : decode code 373 = .ok (.iload_n 3, 1) := by decide +kernel
theorem d_law_374 : decode code 374 = .ok (.iconst 1, 1) := by decide +kernel
theorem d_law_375 : decode code 375 = .ok (.iadd, 1) := by decide +kernel
theorem d_law_376 : decode code 376 = .ok (.iaload, 1) := by decide +kernel
theorem d_law_377 : decode code 377 = .ok (.invokevirtual 70, 3) := by decide +kernel
theorem d_law_380 : decode code 380 = .ok (.aload_n 2, 1) := by decide +kernel
theorem d_law_381 : decode code 381 = .ok (.aload_n 0, 1) := by decide +kernel
theorem d_law_382 : decode code 382 = .ok (.iload_n 3, 1) := by decide +kernel
theorem d_law_383 : decode code 383 = .ok (.iconst 1, 1) := by decide +kernel
theorem d_law_384 : decode code 384 = .ok (.iadd, 1) := by decide +kernel
theorem d_law_385 : decode code 385 = .ok (.iaload, 1) := by decide +kernel
theorem d_law_386 : decode code 386 = .ok (.invokevirtual 73, 3) := by decide +kernel
theorem d_law_389 : decode code 389 = .ok (.if_icmp .eq 18, 3) := by decide +kernel
theorem d_law_392 : decode code 392 = .ok (.iconst 0, 1) := by decide +kernel
theorem d_law_393 : decode code 393 = .ok (.ireturn, 1) := by decide +kernel
theorem d_law_394 : decode code 394 = .ok (.aload_n 1, 1) := by decide +kernel
theorem d_law_395 : decode code 395 = .ok (.invokevirtual 74, 3) := by decide +kernel
theorem d_law_398 : decode code 398 = .ok (.aload_n 2, 1) := by decide +kernel
theorem d_law_399 : decode code 399 = .ok (.invokevirtual 77, 3) := by decide +kernel
theorem d_law_402 : decode code 402 = .ok (.if_icmp .eq 5, 3) := by decide +kernel
theorem d_law_405 : decode code 405 = .ok (.iconst 0, 1) := by decide +kernel
theorem d_law_406 : decode code 406 = .ok (.ireturn, 1) := by decide +kernel
theorem d_law_407 : decode code 407 = .ok (.iinc 3 3, 3) := by decide +kernel
theorem d_law_410 : decode code 410 = .ok (.goto (-382), 3) := by decide +kernel
theorem d_law_413 : decode code 413 = .ok (.iconst 1, 1) := by decide +kernel
theorem d_law_414 : decode code 414 = .ok (.ireturn, 1) := by decide +kernel
end
section
-- integers as the abstract values: zI, zL; a state is zS: cell number, index -> integer
abbrev zS : Type := Nat → Int → Int
def zI (z : Int) : Int32 := Int32.ofInt z
def zL (z : Int) : Int64 := Int64.ofInt z
def vI (z : Int) : Value := .int (zI z)
def vL (z : Int) : Value := .long (zL z)
def wL (z : Int) : Int := (zL z).toInt
def up (σ : zS) (i : Nat) (z x : Int) : zS := fun a b => if a = i then (if b = z then x else σ a b) else σ a b
theorem up_eq (σ : zS) (i : Nat) (z x : Int) : up σ i z x i z = x := by simp [up]
theorem up_ne {σ : zS} {i j : Nat} {z x w : Int} (h : w ≠ z) : up σ i z x j w = σ j w := by simp [up, h]
theorem up_nc {σ : zS} {i j : Nat} {z x w : Int} (h : j ≠ i) : up σ i z x j w = σ j w := by simp [up, h]
theorem up_if (σ : zS) (i : Nat) (z x w : Int) : up σ i z x i w = if w = z then x else σ i w := by simp [up]
theorem zI_toInt {z : Int} (h : -2147483648 ≤ z ∧ z < 2147483648) : (zI z).toInt = z := Int32.toInt_ofInt_of_le (by omega) (by omega)
theorem zL_toInt {z : Int} (h : -9223372036854775808 ≤ z ∧ z < 9223372036854775808) : (zL z).toInt = z := Int64.toInt_ofInt_of_le (by omega) (by omega)
theorem wL_eq {z : Int} (h : -9223372036854775808 ≤ z ∧ z < 9223372036854775808) : wL z = z := zL_toInt h
theorem wL_rng (z : Int) : -9223372036854775808 ≤ wL z ∧ wL z < 9223372036854775808 := by
  have h1 := Int64.le_toInt (zL z)
  have h2 := Int64.toInt_lt (zL z)
  unfold wL
  omega
theorem zL_wL (z : Int) : zL (wL z) = zL z := Int64.ofInt_toInt _
theorem zI_of (x : Int32) : zI x.toInt = x := Int32.ofInt_toInt x
theorem vI_of (x : Int32) : Value.int x = vI x.toInt := by rw [vI, zI_of]
theorem zI_rng (x : Int32) : -2147483648 ≤ x.toInt ∧ x.toInt < 2147483648 := by
  have h1 := Int32.le_toInt x
  have h2 := Int32.toInt_lt x
  omega
theorem zI_add (a b : Int) : zI a + zI b = zI (a + b) := (Int32.ofInt_add a b).symm
theorem zI_sub (a b : Int) : zI a - zI b = zI (a - b) := (Int32.ofInt_sub a b).symm
theorem zI_mul (a b : Int) : zI a * zI b = zI (a * b) := (Int32.ofInt_mul a b).symm
theorem zL_add (a b : Int) : zL a + zL b = zL (a + b) := (Int64.ofInt_add a b).symm
theorem zL_sub (a b : Int) : zL a - zL b = zL (a - b) := (Int64.ofInt_sub a b).symm
theorem zL_mul (a b : Int) : zL a * zL b = zL (a * b) := (Int64.ofInt_mul a b).symm
theorem zL_neg (a : Int) : -zL a = zL (-a) := (Int64.ofInt_neg a).symm
theorem zI_lt {a b : Int} (ha : -2147483648 ≤ a ∧ a < 2147483648) (hb : -2147483648 ≤ b ∧ b < 2147483648) : zI a < zI b ↔ a < b := by
  rw [Int32.lt_iff_toInt_lt, zI_toInt ha, zI_toInt hb]
theorem zI_le {a b : Int} (ha : -2147483648 ≤ a ∧ a < 2147483648) (hb : -2147483648 ≤ b ∧ b < 2147483648) : zI a ≤ zI b ↔ a ≤ b := by
  rw [Int32.le_iff_toInt_le, zI_toInt ha, zI_toInt hb]
theorem zI_eq {a b : Int} (ha : -2147483648 ≤ a ∧ a < 2147483648) (hb : -2147483648 ≤ b ∧ b < 2147483648) : zI a = zI b ↔ a = b := by
  rw [← Int32.toInt_inj, zI_toInt ha, zI_toInt hb]
theorem zI_0 : zI 0 = 0 := rfl
theorem vI_inj {a b : Int} (ha : -2147483648 ≤ a ∧ a < 2147483648) (hb : -2147483648 ≤ b ∧ b < 2147483648) (h : vI a = vI b) : a = b := by
  unfold vI at h
  injection h with h
  exact (zI_eq ha hb).mp h
theorem zI_div {a b : Int} (ha : 0 ≤ a ∧ a < 2147483648) (hb : 0 < b ∧ b < 2147483648) : zI a / zI b = zI (a / b) := by
  have h := Int32.ofInt_tdiv (a := a) (b := b) (by rw [Int32.toInt_minValue]; omega) (by rw [Int32.toInt_maxValue]; omega) (by rw [Int32.toInt_minValue]; omega) (by rw [Int32.toInt_maxValue]; omega)
  rw [Int.tdiv_eq_ediv_of_nonneg ha.1] at h
  exact h.symm
theorem zL_divN {a b : Int} (ha : 0 ≤ a ∧ a < 9223372036854775808) (hb : 0 < b ∧ b < 9223372036854775808) : zL a / zL b = zL (a / b) := by
  have h := Int64.ofInt_tdiv (a := a) (b := b) (by rw [Int64.toInt_minValue]; omega) (by rw [Int64.toInt_maxValue]; omega) (by rw [Int64.toInt_minValue]; omega) (by rw [Int64.toInt_maxValue]; omega)
  rw [Int.tdiv_eq_ediv_of_nonneg ha.1] at h
  exact h.symm
theorem zL_divT (a b : Int) : zL a / zL b = zL ((wL a).tdiv (wL b)) := by
  have ra := wL_rng a
  have rb := wL_rng b
  have h := Int64.ofInt_tdiv (a := wL a) (b := wL b) (by rw [Int64.toInt_minValue]; omega) (by rw [Int64.toInt_maxValue]; omega) (by rw [Int64.toInt_minValue]; omega) (by rw [Int64.toInt_maxValue]; omega)
  show _ = Int64.ofInt _
  rw [h]
  show _ = zL (wL a) / zL (wL b)
  rw [zL_wL, zL_wL]
theorem zI_l {a : Int} (ha : -2147483648 ≤ a ∧ a < 2147483648) : (zI a).toInt64 = zL a := Int32.toInt64_ofInt (by rw [Int32.toInt_minValue]; omega) (by rw [Int32.toInt_maxValue]; omega)
theorem zL_i (a : Int) : (zL a).toInt32 = zI a := Int64.toInt32_ofInt
theorem zI_b {a : Int} (ha : -128 ≤ a ∧ a < 128) : (zI a).toInt8.toInt32 = zI a := by
  show ((Int32.ofInt a).toInt8).toInt32 = _
  rw [Int32.toInt8_ofInt, Int8.toInt32_ofInt (by rw [Int8.toInt_minValue]; omega) (by rw [Int8.toInt_maxValue]; omega)]
  rfl
theorem zI_clamp {z : Int} (h : 0 ≤ z ∧ z < 2147483648) : (zI z).toNatClampNeg = z.toNat := by
  rw [Int32.toNatClampNeg, zI_toInt (by omega)]
theorem zI_in {z : Int} {n : Nat} (h : 0 ≤ z ∧ z < n) (hn : n < 2147483648) : vp_in (zI z) n := by
  rw [vp_in_iff, zI_toInt (by omega)]
  exact h
theorem nar_b {x : Int} (h : -128 ≤ x ∧ x < 128) : vp_nar .byte (zI x) = zI x := by
  rw [vp_nar_byte, zI_b h]
theorem nar_z {x : Int} (h : x = 0 ∨ x = 1) : vp_nar .boolean (zI x) = zI x := by
  rcases h with rfl | rfl <;> rfl
theorem nar_zr {x : Int} (h : x = 0 ∨ x = 1) : narrow .boolean (.int (zI x)) = .int (zI x) := by
  rcases h with rfl | rfl <;> rfl
theorem up_I (σ : zS) (i : Nat) {z x : Int} (hz : 0 ≤ z) : upd (fun j : Nat => zI (σ i j)) z.toNat (zI x) = fun j : Nat => zI (up σ i z x i j) := by
  funext j
  unfold upd up
  by_cases h : j = z.toNat
  · have h2 : (j : Int) = z := by omega
    simp only [h, h2, if_true]
    have h3 : ((z.toNat : Nat) : Int) = z := by omega
    simp [h3]
  · have h2 : ¬ (j : Int) = z := by omega
    simp [h, h2]
theorem up_L (σ : zS) (i : Nat) {z x : Int} (hz : 0 ≤ z) : vp_updL (fun j : Nat => zL (σ i j)) z.toNat (zL x) = fun j : Nat => zL (up σ i z x i j) := by
  funext j
  unfold vp_updL up
  by_cases h : j = z.toNat
  · have h3 : ((z.toNat : Nat) : Int) = z := by omega
    simp [h, h3]
  · have h2 : ¬ (j : Int) = z := by omega
    simp [h, h2]
-- bits
theorem zI_and3 (a : Int) : zI a &&& zI 3 = zI (a % 4) := by
  rw [pk_and _ (m := zI 3) 2 rfl]
  unfold nI zI
  rw [← Int32.ofInt_eq_ofNat]
  congr 1
  have h1 : (Int32.ofInt a).toBitVec = BitVec.ofInt 32 a := rfl
  rw [h1, BitVec.toNat_ofInt]
  omega
theorem zI_and15 (a : Int) : zI a &&& zI 15 = zI (a % 16) := by
  rw [pk_and _ (m := zI 15) 4 rfl]
  unfold nI zI
  rw [← Int32.ofInt_eq_ofNat]
  congr 1
  have h1 : (Int32.ofInt a).toBitVec = BitVec.ofInt 32 a := rfl
  rw [h1, BitVec.toNat_ofInt]
  omega
theorem zI_nI {a : Int} (h : 0 ≤ a) : zI a = nI a.toNat := by
  unfold zI nI
  rw [← Int32.ofInt_eq_ofNat]
  congr 1
  omega
theorem zI_shr {a : Int} (k : Nat) (s : Int32) (hs : ((s &&& 31).toBitVec.smod 32).toNat = k) (h : 0 ≤ a ∧ a < 2147483648) : zI a >>> (s &&& 31) = zI (a / 2 ^ k) := by
  rw [zI_nI h.1, pk_shrN (by omega) _ k hs, zI_nI (Int.ediv_nonneg h.1 (by exact Int.le_of_lt (Int.pow_pos (by decide))))]
  congr 1
  have : a = (a.toNat : Int) := by omega
  generalize a.toNat = n at this
  subst this
  have h2 : ((n : Int) / 2 ^ k) = ((n / 2 ^ k : Nat) : Int) := by push_cast; rfl
  rw [h2]
  rfl
theorem zI_shl {a : Int} (k : Nat) (s : Int32) (hs : ((s &&& 31).toBitVec.smod 32).toNat = k) (h : 0 ≤ a ∧ a * 2 ^ k < 2147483648) : zI a <<< (s &&& 31) = zI (a * 2 ^ k) := by
  have : a = (a.toNat : Int) := by omega
  generalize a.toNat = n at this
  subst this
  have h0 : ((n : Int) * 2 ^ k) = ((n * 2 ^ k : Nat) : Int) := by push_cast; rfl
  rw [h0] at h ⊢
  rw [zI_nI (by omega), pk_shlN _ k hs (by simp; omega), zI_nI (by omega)]
  rfl
end
section
-- THE JUDGEMENT (printed by judge.py): G Γ lv σ pc st: from pc, with locals lv, stack st and the world wd σ, the method comes to an end with its Post
abbrev Cx0 : Type := Program × Launch × Env × Room × State × MethodId × Array Value × List Frame × Method × Code × va_G × List (ClassId × FieldType) × (Nat → Prop) × (zS → va_W) × (Option Value → zS → Prop) × Nat × Nat × Nat × (State → Prop)
def okRet (r : Option FieldType) : Prop := r = none ∨ r = some .int ∨ r = some .boolean ∨ r = some .long
def qG (D : va_G) (wd : zS → va_W) (Post : Option Value → zS → Prop) (A : Nat → Prop) : Array Value → State → Outcome → State → Prop := fun _ st oc t => (∃ (v : Option Value) (σ' : zS), oc = .returned v ∧ Post v σ' ∧ va_P D classes (wd σ') t.heap) ∧ va_F A st t
def G (Γ : Cx0) (lv : List (Nat × Value)) (σ : zS) (pc : Nat) (st : List Value) : Prop := match Γ with
  | (p, l, e, R, s, m, args, below, meth, c, D, _, A, wd, _, nL, nc, ns, Q) => ∀ (H : Heap) (locs : List Loc) (ls : Array Slot), va_P D classes (wd σ) H → va_D A (wd σ) → va_S A s.heap H locs → lv_has ls nL lv → W p l e R s m args below meth c H locs nc ns Q (F0 m pc ls st)
def Cx (Γ : Cx0) (own : String) (cc : ByteArray) (ret : Option FieldType) (nL fr lo : Nat) (wd : zS → va_W) (Post : Option Value → zS → Prop) (l : Launch) (D : va_G) (tys : List (ClassId × FieldType)) : Prop := match Γ with
  | (p, l', _, R, s, m, args, below, meth, c, D', tys', A, wd', Post', nL', nc, ns, Q) => p.tables.exec = Jvm.exec ∧ c.code = cc ∧ (okRet ret → meth.sig.returnType = ret ∧ Q = MQ below (qG D wd Post A) args s nc ns A) ∧ c.maxLocals = nL ∧ nL' = nL ∧ meth.locks = false ∧ s.vm.findClass own = some m.cls ∧ (∀ w ∈ tb, w.before args s = true) ∧ va_K D classes tys s ∧ (∀ q, s.heap.size ≤ q → A q) ∧ R.frames = fr ∧ R.locals = lo ∧ (∀ σ σ', (wd σ).map Prod.fst = (wd σ').map Prod.fst) ∧ (nc ≤ R.cells ∧ ns ≤ R.slots) ∧ wd' = wd ∧ Post' = Post ∧ l' = l ∧ D' = D ∧ tys' = tys
def lget : List (Nat × Value) → Nat → Option Value
  | [], _ => none
  | (j, v) :: r, i => cond (Nat.beq j i) (some v) (lget r i)
def lins (x : Nat × Value) : List (Nat × Value) → List (Nat × Value)
  | [] => [x]
  | y :: r => cond (Nat.blt x.1 y.1) (x :: y :: r) (y :: lins x r)
def lsI (lv : List (Nat × Value)) (i : Nat) (v : Value) : List (Nat × Value) := lins (i, v) (lv.filter (fun q => !(q.1 == i) && !(q.1 + 1 == i && q.2.category == 2)))
def lsL (lv : List (Nat × Value)) (i : Nat) (v : Value) : List (Nat × Value) := lins (i, v) (lv.filter (fun q => !(q.1 == i) && (!(q.1 == i + 1) && !(q.1 + 1 == i && q.2.category == 2))))
theorem lget_mem {lv : List (Nat × Value)} {i : Nat} {v : Value} (h : lget lv i = some v) : (i, v) ∈ lv := by
  induction lv with
  | nil => cases h
  | cons y r ih =>
    obtain ⟨j, w⟩ := y
    unfold lget at h
    cases hb : Nat.beq j i with
    | true =>
      rw [hb] at h
      have h : some w = some v := h
      cases h
      rw [Nat.eq_of_beq_eq_true hb]
      exact List.mem_cons_self
    | false =>
      rw [hb] at h
      exact List.mem_cons_of_mem _ (ih h)
theorem lins_mem {x q : Nat × Value} {l : List (Nat × Value)} (h : q ∈ lins x l) : q ∈ x :: l := by
  induction l with
  | nil => exact h
  | cons y r ih =>
    unfold lins at h
    cases hb : Nat.blt x.1 y.1 with
    | true => rw [hb] at h; exact h
    | false =>
      rw [hb] at h
      rcases List.mem_cons.mp h with h | h
      · exact List.mem_cons_of_mem _ (h ▸ List.mem_cons_self)
      · rcases List.mem_cons.mp (ih h) with h | h
        · exact h ▸ List.mem_cons_self
        · exact List.mem_cons_of_mem _ (List.mem_cons_of_mem _ h)
theorem lv_less {ls : Array Slot} {nL : Nat} {l l' : List (Nat × Value)} (h : lv_has ls nL l) (hs : ∀ q ∈ l', q ∈ l) : lv_has ls nL l' := ⟨h.1, h.2.1, fun q hq => h.2.2 q (hs q hq)⟩
theorem lv_get {ls : Array Slot} {nL : Nat} {l : List (Nat × Value)} {i : Nat} {v : Value} (h : lv_has ls nL l) (hg : lget l i = some v) : ls[i]? = some (.val v) := h.2.2 (i, v) (lget_mem hg)
/-- fewer locals -/
theorem lget_at {l : List (Nat × Value)} {i : Nat} {v : Value} (hg : lget l i = some v) : ∃ k : Nat, l[k]? = some (i, v) := List.getElem?_of_mem (lget_mem hg)
section JU
variable {Γ : Cx0} {own : String} {cc : ByteArray} {ret : Option FieldType} {nL fr lo : Nat} {wd : zS → va_W} {Post : Option Value → zS → Prop} {l : Launch} {D : va_G} {tys : List (ClassId × FieldType)}
variable {lv : List (Nat × Value)} {σ : zS} {pc : Nat} {st : List Value} {a b : Int}
theorem g_lv {lv' : List (Nat × Value)} (hs : ∀ q ∈ lv', q ∈ lv) (k : G Γ lv' σ pc st) : G Γ lv σ pc st := by
  obtain ⟨p, l', e, R, s, m, args, below, meth, c, D', tys', A, wd', Post', nL', nc, ns, Q⟩ := Γ
  intro H locs ls hP hD hS hl
  exact k H locs ls hP hD hS (lv_less hl hs)
theorem g_sub (ks : List Nat) {lv' : List (Nat × Value)} (hs : lv_pick lv ks = lv') (k : G Γ lv' σ pc st) : G Γ lv σ pc st := by
  refine g_lv (fun q hq => ?_) k
  rw [← hs] at hq
  obtain ⟨k, -, hk⟩ := List.mem_filterMap.mp hq
  exact List.mem_of_getElem? hk
theorem g_topI {a' : Int} (h : a = a') (k : G Γ lv σ pc (vI a' :: st)) : G Γ lv σ pc (vI a :: st) := h ▸ k
theorem g_topL {a' : Int} (h : zL a = zL a') (k : G Γ lv σ pc (vL a' :: st)) : G Γ lv σ pc (vL a :: st) := by
  have e : vL a = vL a' := by unfold vL; rw [h]
  rw [e]; exact k
theorem g_nameI (k : ∀ a', a' = a → G Γ lv σ pc (vI a' :: st)) : G Γ lv σ pc (vI a :: st) := k a rfl
theorem g_nameL (k : ∀ a', a' = a → G Γ lv σ pc (vL a' :: st)) : G Γ lv σ pc (vL a :: st) := k a rfl

theorem g_iconst (X : Cx Γ own cc ret nL fr lo wd Post l D tys) {n : Int} (hd : decode cc pc = .ok (.iconst n, 1)) (k : G Γ lv σ (pc + 1) (vI n :: st)) : G Γ lv σ pc st := by
  obtain ⟨p, l', e, R, s, m, args, below, meth, c, D', tys', A, wd', Post', nL', nc, ns, Q⟩ := Γ
  obtain ⟨hx, hb, hr, hml, rfl, hlk, hown, hts, hK, hA, hfr, hlo, had, hcs, rfl, rfl, rfl, rfl, rfl⟩ := X
  intro H locs ls hP hD hS hl
  exact lv_iconst hx hb hd rfl (k H locs ls hP hD hS hl)
theorem g_bipush (X : Cx Γ own cc ret nL fr lo wd Post l D tys) {n : Int} (hd : decode cc pc = .ok (.bipush n, 2)) (hn : -128 ≤ n ∧ n < 128) (k : G Γ lv σ (pc + 2) (vI n :: st)) : G Γ lv σ pc st := by
  obtain ⟨p, l', e, R, s, m, args, below, meth, c, D', tys', A, wd', Post', nL', nc, ns, Q⟩ := Γ
  obtain ⟨hx, hb, hr, hml, rfl, hlk, hown, hts, hK, hA, hfr, hlo, had, hcs, rfl, rfl, rfl, rfl, rfl⟩ := X
  intro H locs ls hP hD hS hl
  exact lv_bipush hx hb hd (Int8.toInt32_ofInt (by rw [Int8.toInt_minValue]; omega) (by rw [Int8.toInt_maxValue]; omega)) (k H locs ls hP hD hS hl)
theorem g_sipush (X : Cx Γ own cc ret nL fr lo wd Post l D tys) {n : Int} (hd : decode cc pc = .ok (.sipush n, 3)) (hn : (Int16.ofInt n).toInt32 = zI n) (k : G Γ lv σ (pc + 3) (vI n :: st)) : G Γ lv σ pc st := by
  obtain ⟨p, l', e, R, s, m, args, below, meth, c, D', tys', A, wd', Post', nL', nc, ns, Q⟩ := Γ
  obtain ⟨hx, hb, hr, hml, rfl, hlk, hown, hts, hK, hA, hfr, hlo, had, hcs, rfl, rfl, rfl, rfl, rfl⟩ := X
  intro H locs ls hP hD hS hl
  exact lv_sipush hx hb hd hn (k H locs ls hP hD hS hl)
theorem g_lconst (X : Cx Γ own cc ret nL fr lo wd Post l D tys) {n : Fin 2} (hd : decode cc pc = .ok (.lconst n, 1)) (hn : Int64.ofNat (n : Nat) = zL a) (k : G Γ lv σ (pc + 1) (vL a :: st)) : G Γ lv σ pc st := by
  obtain ⟨p, l', e, R, s, m, args, below, meth, c, D', tys', A, wd', Post', nL', nc, ns, Q⟩ := Γ
  obtain ⟨hx, hb, hr, hml, rfl, hlk, hown, hts, hK, hA, hfr, hlo, had, hcs, rfl, rfl, rfl, rfl, rfl⟩ := X
  intro H locs ls hP hD hS hl
  exact lv_lconst hx hb hd hn (k H locs ls hP hD hS hl)
theorem g_ldc (X : Cx Γ own cc ret nL fr lo wd Post l D tys) {ix : Nat} {v : Int32} (hd : decode cc pc = .ok (.ldc ix, 2)) (hl0 : Cond.constant own ix v ∈ tb) (hv : v = zI a) (k : G Γ lv σ (pc + 2) (vI a :: st)) : G Γ lv σ pc st := by
  obtain ⟨p, l', e, R, s, m, args, below, meth, c, D', tys', A, wd', Post', nL', nc, ns, Q⟩ := Γ
  obtain ⟨hx, hb, hr, hml, rfl, hlk, hown, hts, hK, hA, hfr, hlo, had, hcs, rfl, rfl, rfl, rfl, rfl⟩ := X
  intro H locs ls hP hD hS hl
  subst hv
  exact lv_ldc hx hb hown (hts _ hl0) hd (k H locs ls hP hD hS hl)
theorem g_iload_n (X : Cx Γ own cc ret nL fr lo wd Post l D tys) {n : Fin 4} (i : Nat) (hd : decode cc pc = .ok (.iload_n n, 1)) (hi : (n : Nat) = i) (hg : lget lv i = some (vI a)) (k : G Γ lv σ (pc + 1) (vI a :: st)) : G Γ lv σ pc st := by
  obtain ⟨p, l', e, R, s, m, args, below, meth, c, D', tys', A, wd', Post', nL', nc, ns, Q⟩ := Γ
  obtain ⟨hx, hb, hr, hml, rfl, hlk, hown, hts, hK, hA, hfr, hlo, had, hcs, rfl, rfl, rfl, rfl, rfl⟩ := X
  intro H locs ls hP hD hS hl
  exact lv_iload_n hx hb hd hi (lv_get hl hg) (k H locs ls hP hD hS hl)
theorem g_iload (X : Cx Γ own cc ret nL fr lo wd Post l D tys) {i : Nat} (hd : decode cc pc = .ok (.iload i, 2)) (hg : lget lv i = some (vI a)) (k : G Γ lv σ (pc + 2) (vI a :: st)) : G Γ lv σ pc st := by
  obtain ⟨p, l', e, R, s, m, args, below, meth, c, D', tys', A, wd', Post', nL', nc, ns, Q⟩ := Γ
  obtain ⟨hx, hb, hr, hml, rfl, hlk, hown, hts, hK, hA, hfr, hlo, had, hcs, rfl, rfl, rfl, rfl, rfl⟩ := X
  intro H locs ls hP hD hS hl
  exact lv_iload hx hb hd (lv_get hl hg) (k H locs ls hP hD hS hl)
theorem g_lload_n (X : Cx Γ own cc ret nL fr lo wd Post l D tys) {n : Fin 4} (i : Nat) (hd : decode cc pc = .ok (.lload_n n, 1)) (hi : (n : Nat) = i) (hg : lget lv i = some (vL a)) (k : G Γ lv σ (pc + 1) (vL a :: st)) : G Γ lv σ pc st := by
  obtain ⟨p, l', e, R, s, m, args, below, meth, c, D', tys', A, wd', Post', nL', nc, ns, Q⟩ := Γ
  obtain ⟨hx, hb, hr, hml, rfl, hlk, hown, hts, hK, hA, hfr, hlo, had, hcs, rfl, rfl, rfl, rfl, rfl⟩ := X
  intro H locs ls hP hD hS hl
  exact lv_lload_n hx hb hd hi (lv_get hl hg) (k H locs ls hP hD hS hl)
theorem g_lload (X : Cx Γ own cc ret nL fr lo wd Post l D tys) {i : Nat} (hd : decode cc pc = .ok (.lload i, 2)) (hg : lget lv i = some (vL a)) (k : G Γ lv σ (pc + 2) (vL a :: st)) : G Γ lv σ pc st := by
  obtain ⟨p, l', e, R, s, m, args, below, meth, c, D', tys', A, wd', Post', nL', nc, ns, Q⟩ := Γ
  obtain ⟨hx, hb, hr, hml, rfl, hlk, hown, hts, hK, hA, hfr, hlo, had, hcs, rfl, rfl, rfl, rfl, rfl⟩ := X
  intro H locs ls hP hD hS hl
  exact lv_lload hx hb hd (lv_get hl hg) (k H locs ls hP hD hS hl)
theorem g_aload_n (X : Cx Γ own cc ret nL fr lo wd Post l D tys) {n : Fin 4} {r : Nat} (i : Nat) (hd : decode cc pc = .ok (.aload_n n, 1)) (hi : (n : Nat) = i) (hg : lget lv i = some (.ref r)) (k : G Γ lv σ (pc + 1) (.ref r :: st)) : G Γ lv σ pc st := by
  obtain ⟨p, l', e, R, s, m, args, below, meth, c, D', tys', A, wd', Post', nL', nc, ns, Q⟩ := Γ
  obtain ⟨hx, hb, hr, hml, rfl, hlk, hown, hts, hK, hA, hfr, hlo, had, hcs, rfl, rfl, rfl, rfl, rfl⟩ := X
  intro H locs ls hP hD hS hl
  exact lv_aload_n hx hb hd hi (lv_get hl hg) (k H locs ls hP hD hS hl)
theorem g_aload (X : Cx Γ own cc ret nL fr lo wd Post l D tys) {r : Nat} {i : Nat} (hd : decode cc pc = .ok (.aload i, 2)) (hg : lget lv i = some (.ref r)) (k : G Γ lv σ (pc + 2) (.ref r :: st)) : G Γ lv σ pc st := by
  obtain ⟨p, l', e, R, s, m, args, below, meth, c, D', tys', A, wd', Post', nL', nc, ns, Q⟩ := Γ
  obtain ⟨hx, hb, hr, hml, rfl, hlk, hown, hts, hK, hA, hfr, hlo, had, hcs, rfl, rfl, rfl, rfl, rfl⟩ := X
  intro H locs ls hP hD hS hl
  exact lv_aload hx hb hd (lv_get hl hg) (k H locs ls hP hD hS hl)
theorem g_istore_n (X : Cx Γ own cc ret nL fr lo wd Post l D tys) {n : Fin 4} (i : Nat) (hd : decode cc pc = .ok (.istore_n n, 1)) (hi : (n : Nat) = i) (hn : i < nL) (k : G Γ (lsI lv i (vI a)) σ (pc + 1) st) : G Γ lv σ pc (vI a :: st) := by
  obtain ⟨p, l', e, R, s, m, args, below, meth, c, D', tys', A, wd', Post', nL', nc, ns, Q⟩ := Γ
  obtain ⟨hx, hb, hr, hml, rfl, hlk, hown, hts, hK, hA, hfr, hlo, had, hcs, rfl, rfl, rfl, rfl, rfl⟩ := X
  intro H locs ls hP hD hS hl
  exact lv_istore_n hx hb hd hi hl hn rfl (fun ls2 hl2 => k H locs ls2 hP hD hS (lv_less hl2 (fun q hq => lins_mem hq)))
theorem g_istore (X : Cx Γ own cc ret nL fr lo wd Post l D tys) {i : Nat} (hd : decode cc pc = .ok (.istore i, 2)) (hn : i < nL) (k : G Γ (lsI lv i (vI a)) σ (pc + 2) st) : G Γ lv σ pc (vI a :: st) := by
  obtain ⟨p, l', e, R, s, m, args, below, meth, c, D', tys', A, wd', Post', nL', nc, ns, Q⟩ := Γ
  obtain ⟨hx, hb, hr, hml, rfl, hlk, hown, hts, hK, hA, hfr, hlo, had, hcs, rfl, rfl, rfl, rfl, rfl⟩ := X
  intro H locs ls hP hD hS hl
  exact lv_istore hx hb hd hl hn rfl (fun ls2 hl2 => k H locs ls2 hP hD hS (lv_less hl2 (fun q hq => lins_mem hq)))
theorem g_lstore_n (X : Cx Γ own cc ret nL fr lo wd Post l D tys) {n : Fin 4} (i : Nat) (hd : decode cc pc = .ok (.lstore_n n, 1)) (hi : (n : Nat) = i) (hn : i + 1 < nL) (k : G Γ (lsL lv i (vL a)) σ (pc + 1) st) : G Γ lv σ pc (vL a :: st) := by
  obtain ⟨p, l', e, R, s, m, args, below, meth, c, D', tys', A, wd', Post', nL', nc, ns, Q⟩ := Γ
  obtain ⟨hx, hb, hr, hml, rfl, hlk, hown, hts, hK, hA, hfr, hlo, had, hcs, rfl, rfl, rfl, rfl, rfl⟩ := X
  intro H locs ls hP hD hS hl
  exact lv_lstore_n hx hb hd hi hl hn rfl (fun ls2 hl2 => k H locs ls2 hP hD hS (lv_less hl2 (fun q hq => lins_mem hq)))
theorem g_lstore (X : Cx Γ own cc ret nL fr lo wd Post l D tys) {i : Nat} (hd : decode cc pc = .ok (.lstore i, 2)) (hn : i + 1 < nL) (k : G Γ (lsL lv i (vL a)) σ (pc + 2) st) : G Γ lv σ pc (vL a :: st) := by
  obtain ⟨p, l', e, R, s, m, args, below, meth, c, D', tys', A, wd', Post', nL', nc, ns, Q⟩ := Γ
  obtain ⟨hx, hb, hr, hml, rfl, hlk, hown, hts, hK, hA, hfr, hlo, had, hcs, rfl, rfl, rfl, rfl, rfl⟩ := X
  intro H locs ls hP hD hS hl
  exact lv_lstore hx hb hd hl hn rfl (fun ls2 hl2 => k H locs ls2 hP hD hS (lv_less hl2 (fun q hq => lins_mem hq)))
theorem g_iinc (X : Cx Γ own cc ret nL fr lo wd Post l D tys) {i : Nat} {n : Int} (hd : decode cc pc = .ok (.iinc i n, 3)) (hg : lget lv i = some (vI a)) (hn : i < nL) (k : G Γ (lsI lv i (vI (a + n))) σ (pc + 3) st) : G Γ lv σ pc st := by
  obtain ⟨p, l', e, R, s, m, args, below, meth, c, D', tys', A, wd', Post', nL', nc, ns, Q⟩ := Γ
  obtain ⟨hx, hb, hr, hml, rfl, hlk, hown, hts, hK, hA, hfr, hlo, had, hcs, rfl, rfl, rfl, rfl, rfl⟩ := X
  intro H locs ls hP hD hS hl
  obtain ⟨j, hj⟩ := lget_at hg
  exact lv_iinc hx hb hd hl hj (zI_add a n) hn rfl (fun ls2 hl2 => k H locs ls2 hP hD hS (lv_less hl2 (fun q hq => lins_mem hq)))
theorem g_iadd (X : Cx Γ own cc ret nL fr lo wd Post l D tys) (hd : decode cc pc = .ok (.iadd, 1)) (k : G Γ lv σ (pc + 1) (vI (a + b) :: st)) : G Γ lv σ pc (vI b :: vI a :: st) := by
  obtain ⟨p, l', e, R, s, m, args, below, meth, c, D', tys', A, wd', Post', nL', nc, ns, Q⟩ := Γ
  obtain ⟨hx, hb, hr, hml, rfl, hlk, hown, hts, hK, hA, hfr, hlo, had, hcs, rfl, rfl, rfl, rfl, rfl⟩ := X
  intro H locs ls hP hD hS hl
  have k := k H locs ls hP hD hS hl
  rw [show vI (a + b) = Value.int (zI a + zI b) from by unfold vI; rw [zI_add]] at k
  exact lv_iadd hx hb hd k
theorem g_isub (X : Cx Γ own cc ret nL fr lo wd Post l D tys) (hd : decode cc pc = .ok (.isub, 1)) (k : G Γ lv σ (pc + 1) (vI (a - b) :: st)) : G Γ lv σ pc (vI b :: vI a :: st) := by
  obtain ⟨p, l', e, R, s, m, args, below, meth, c, D', tys', A, wd', Post', nL', nc, ns, Q⟩ := Γ
  obtain ⟨hx, hb, hr, hml, rfl, hlk, hown, hts, hK, hA, hfr, hlo, had, hcs, rfl, rfl, rfl, rfl, rfl⟩ := X
  intro H locs ls hP hD hS hl
  have k := k H locs ls hP hD hS hl
  rw [show vI (a - b) = Value.int (zI a - zI b) from by unfold vI; rw [zI_sub]] at k
  exact lv_isub hx hb hd k
theorem g_imul (X : Cx Γ own cc ret nL fr lo wd Post l D tys) (hd : decode cc pc = .ok (.imul, 1)) (k : G Γ lv σ (pc + 1) (vI (a * b) :: st)) : G Γ lv σ pc (vI b :: vI a :: st) := by
  obtain ⟨p, l', e, R, s, m, args, below, meth, c, D', tys', A, wd', Post', nL', nc, ns, Q⟩ := Γ
  obtain ⟨hx, hb, hr, hml, rfl, hlk, hown, hts, hK, hA, hfr, hlo, had, hcs, rfl, rfl, rfl, rfl, rfl⟩ := X
  intro H locs ls hP hD hS hl
  have k := k H locs ls hP hD hS hl
  rw [show vI (a * b) = Value.int (zI a * zI b) from by unfold vI; rw [zI_mul]] at k
  exact lv_imul hx hb hd k
theorem g_ladd (X : Cx Γ own cc ret nL fr lo wd Post l D tys) (hd : decode cc pc = .ok (.ladd, 1)) (k : G Γ lv σ (pc + 1) (vL (a + b) :: st)) : G Γ lv σ pc (vL b :: vL a :: st) := by
  obtain ⟨p, l', e, R, s, m, args, below, meth, c, D', tys', A, wd', Post', nL', nc, ns, Q⟩ := Γ
  obtain ⟨hx, hb, hr, hml, rfl, hlk, hown, hts, hK, hA, hfr, hlo, had, hcs, rfl, rfl, rfl, rfl, rfl⟩ := X
  intro H locs ls hP hD hS hl
  have k := k H locs ls hP hD hS hl
  rw [show vL (a + b) = Value.long (zL a + zL b) from by unfold vL; rw [zL_add]] at k
  exact lv_ladd hx hb hd k
theorem g_lsub (X : Cx Γ own cc ret nL fr lo wd Post l D tys) (hd : decode cc pc = .ok (.lsub, 1)) (k : G Γ lv σ (pc + 1) (vL (a - b) :: st)) : G Γ lv σ pc (vL b :: vL a :: st) := by
  obtain ⟨p, l', e, R, s, m, args, below, meth, c, D', tys', A, wd', Post', nL', nc, ns, Q⟩ := Γ
  obtain ⟨hx, hb, hr, hml, rfl, hlk, hown, hts, hK, hA, hfr, hlo, had, hcs, rfl, rfl, rfl, rfl, rfl⟩ := X
  intro H locs ls hP hD hS hl
  have k := k H locs ls hP hD hS hl
  rw [show vL (a - b) = Value.long (zL a - zL b) from by unfold vL; rw [zL_sub]] at k
  exact lv_lsub hx hb hd k
theorem g_lmul (X : Cx Γ own cc ret nL fr lo wd Post l D tys) (hd : decode cc pc = .ok (.lmul, 1)) (k : G Γ lv σ (pc + 1) (vL (a * b) :: st)) : G Γ lv σ pc (vL b :: vL a :: st) := by
  obtain ⟨p, l', e, R, s, m, args, below, meth, c, D', tys', A, wd', Post', nL', nc, ns, Q⟩ := Γ
  obtain ⟨hx, hb, hr, hml, rfl, hlk, hown, hts, hK, hA, hfr, hlo, had, hcs, rfl, rfl, rfl, rfl, rfl⟩ := X
  intro H locs ls hP hD hS hl
  have k := k H locs ls hP hD hS hl
  rw [show vL (a * b) = Value.long (zL a * zL b) from by unfold vL; rw [zL_mul]] at k
  exact lv_lmul hx hb hd k
theorem g_lneg (X : Cx Γ own cc ret nL fr lo wd Post l D tys) (hd : decode cc pc = .ok (.lneg, 1)) (k : G Γ lv σ (pc + 1) (vL (-a) :: st)) : G Γ lv σ pc (vL a :: st) := by
  obtain ⟨p, l', e, R, s, m, args, below, meth, c, D', tys', A, wd', Post', nL', nc, ns, Q⟩ := Γ
  obtain ⟨hx, hb, hr, hml, rfl, hlk, hown, hts, hK, hA, hfr, hlo, had, hcs, rfl, rfl, rfl, rfl, rfl⟩ := X
  intro H locs ls hP hD hS hl
  have k := k H locs ls hP hD hS hl
  rw [show vL (-a) = Value.long (-zL a) from by unfold vL; rw [zL_neg]] at k
  exact lv_lneg hx hb hd k
theorem g_idiv (X : Cx Γ own cc ret nL fr lo wd Post l D tys) (hd : decode cc pc = .ok (.idiv, 1)) (ha : 0 ≤ a ∧ a < 2147483648) (hb0 : 0 < b ∧ b < 2147483648) (k : G Γ lv σ (pc + 1) (vI (a / b) :: st)) : G Γ lv σ pc (vI b :: vI a :: st) := by
  obtain ⟨p, l', e, R, s, m, args, below, meth, c, D', tys', A, wd', Post', nL', nc, ns, Q⟩ := Γ
  obtain ⟨hx, hb, hr, hml, rfl, hlk, hown, hts, hK, hA, hfr, hlo, had, hcs, rfl, rfl, rfl, rfl, rfl⟩ := X
  intro H locs ls hP hD hS hl
  have k := k H locs ls hP hD hS hl
  rw [show vI (a / b) = Value.int (zI a / zI b) from by unfold vI; rw [zI_div ha hb0]] at k
  exact lv_idiv hx hb hd (fun h => absurd ((zI_eq (b := 0) (by omega) (by omega)).mp h) (by omega)) k
theorem g_ldivN (X : Cx Γ own cc ret nL fr lo wd Post l D tys) (hd : decode cc pc = .ok (.ldiv, 1)) (ha : 0 ≤ a ∧ a < 9223372036854775808) (hb0 : 0 < b ∧ b < 9223372036854775808) (k : G Γ lv σ (pc + 1) (vL (a / b) :: st)) : G Γ lv σ pc (vL b :: vL a :: st) := by
  obtain ⟨p, l', e, R, s, m, args, below, meth, c, D', tys', A, wd', Post', nL', nc, ns, Q⟩ := Γ
  obtain ⟨hx, hb, hr, hml, rfl, hlk, hown, hts, hK, hA, hfr, hlo, had, hcs, rfl, rfl, rfl, rfl, rfl⟩ := X
  intro H locs ls hP hD hS hl
  have k := k H locs ls hP hD hS hl
  rw [show vL (a / b) = Value.long (zL a / zL b) from by unfold vL; rw [zL_divN ha hb0]] at k
  exact lv_ldiv hx hb hd (fun h => by have h2 : wL b = 0 := congrArg Int64.toInt h; rw [wL_eq (by omega)] at h2; omega) k
theorem g_ldivT (X : Cx Γ own cc ret nL fr lo wd Post l D tys) (hd : decode cc pc = .ok (.ldiv, 1)) (hb0 : wL b ≠ 0) (k : G Γ lv σ (pc + 1) (vL ((wL a).tdiv (wL b)) :: st)) : G Γ lv σ pc (vL b :: vL a :: st) := by
  obtain ⟨p, l', e, R, s, m, args, below, meth, c, D', tys', A, wd', Post', nL', nc, ns, Q⟩ := Γ
  obtain ⟨hx, hb, hr, hml, rfl, hlk, hown, hts, hK, hA, hfr, hlo, had, hcs, rfl, rfl, rfl, rfl, rfl⟩ := X
  intro H locs ls hP hD hS hl
  have k := k H locs ls hP hD hS hl
  rw [show vL ((wL a).tdiv (wL b)) = Value.long (zL a / zL b) from by unfold vL; rw [zL_divT]] at k
  exact lv_ldiv hx hb hd (fun h => hb0 (congrArg Int64.toInt h)) k
theorem g_and3 (X : Cx Γ own cc ret nL fr lo wd Post l D tys) (hd : decode cc pc = .ok (.iand, 1)) (k : G Γ lv σ (pc + 1) (vI (a % 4) :: st)) : G Γ lv σ pc (vI 3 :: vI a :: st) := by
  obtain ⟨p, l', e, R, s, m, args, below, meth, c, D', tys', A, wd', Post', nL', nc, ns, Q⟩ := Γ
  obtain ⟨hx, hb, hr, hml, rfl, hlk, hown, hts, hK, hA, hfr, hlo, had, hcs, rfl, rfl, rfl, rfl, rfl⟩ := X
  intro H locs ls hP hD hS hl
  have k := k H locs ls hP hD hS hl
  rw [show vI (a % 4) = Value.int (zI a &&& zI 3) from by unfold vI; rw [zI_and3]] at k
  exact lv_iand hx hb hd k
theorem g_shr (X : Cx Γ own cc ret nL fr lo wd Post l D tys) (n : Nat) (hd : decode cc pc = .ok (.ishr, 1)) (hs : ((zI b &&& 31).toBitVec.smod 32).toNat = n) (ha : 0 ≤ a ∧ a < 2147483648) (k : G Γ lv σ (pc + 1) (vI (a / 2 ^ n) :: st)) : G Γ lv σ pc (vI b :: vI a :: st) := by
  obtain ⟨p, l', e, R, s, m, args, below, meth, c, D', tys', A, wd', Post', nL', nc, ns, Q⟩ := Γ
  obtain ⟨hx, hb, hr, hml, rfl, hlk, hown, hts, hK, hA, hfr, hlo, had, hcs, rfl, rfl, rfl, rfl, rfl⟩ := X
  intro H locs ls hP hD hS hl
  have k := k H locs ls hP hD hS hl
  rw [show vI (a / 2 ^ n) = Value.int (zI a >>> (zI b &&& 31)) from by unfold vI; rw [zI_shr n (zI b) hs ha]] at k
  exact lv_ishr hx hb hd k
theorem g_shl (X : Cx Γ own cc ret nL fr lo wd Post l D tys) (n : Nat) (hd : decode cc pc = .ok (.ishl, 1)) (hs : ((zI b &&& 31).toBitVec.smod 32).toNat = n) (ha : 0 ≤ a ∧ a * 2 ^ n < 2147483648) (k : G Γ lv σ (pc + 1) (vI (a * 2 ^ n) :: st)) : G Γ lv σ pc (vI b :: vI a :: st) := by
  obtain ⟨p, l', e, R, s, m, args, below, meth, c, D', tys', A, wd', Post', nL', nc, ns, Q⟩ := Γ
  obtain ⟨hx, hb, hr, hml, rfl, hlk, hown, hts, hK, hA, hfr, hlo, had, hcs, rfl, rfl, rfl, rfl, rfl⟩ := X
  intro H locs ls hP hD hS hl
  have k := k H locs ls hP hD hS hl
  rw [show vI (a * 2 ^ n) = Value.int (zI a <<< (zI b &&& 31)) from by unfold vI; rw [zI_shl n (zI b) hs ha]] at k
  exact lv_ishl hx hb hd k
theorem g_ior (X : Cx Γ own cc ret nL fr lo wd Post l D tys) {z : Int} (hd : decode cc pc = .ok (.ior, 1)) (hz : zI a ||| zI b = zI z) (k : G Γ lv σ (pc + 1) (vI z :: st)) : G Γ lv σ pc (vI b :: vI a :: st) := by
  obtain ⟨p, l', e, R, s, m, args, below, meth, c, D', tys', A, wd', Post', nL', nc, ns, Q⟩ := Γ
  obtain ⟨hx, hb, hr, hml, rfl, hlk, hown, hts, hK, hA, hfr, hlo, had, hcs, rfl, rfl, rfl, rfl, rfl⟩ := X
  intro H locs ls hP hD hS hl
  have k := k H locs ls hP hD hS hl
  rw [show vI z = Value.int (zI a ||| zI b) from by unfold vI; rw [hz]] at k
  exact lv_ior hx hb hd k
theorem g_i2l (X : Cx Γ own cc ret nL fr lo wd Post l D tys) (hd : decode cc pc = .ok (.i2l, 1)) (ha : -2147483648 ≤ a ∧ a < 2147483648) (k : G Γ lv σ (pc + 1) (vL a :: st)) : G Γ lv σ pc (vI a :: st) := by
  obtain ⟨p, l', e, R, s, m, args, below, meth, c, D', tys', A, wd', Post', nL', nc, ns, Q⟩ := Γ
  obtain ⟨hx, hb, hr, hml, rfl, hlk, hown, hts, hK, hA, hfr, hlo, had, hcs, rfl, rfl, rfl, rfl, rfl⟩ := X
  intro H locs ls hP hD hS hl
  exact lv_i2l hx hb hd (zI_l ha) (k H locs ls hP hD hS hl)
theorem g_l2i (X : Cx Γ own cc ret nL fr lo wd Post l D tys) (hd : decode cc pc = .ok (.l2i, 1)) (k : G Γ lv σ (pc + 1) (vI a :: st)) : G Γ lv σ pc (vL a :: st) := by
  obtain ⟨p, l', e, R, s, m, args, below, meth, c, D', tys', A, wd', Post', nL', nc, ns, Q⟩ := Γ
  obtain ⟨hx, hb, hr, hml, rfl, hlk, hown, hts, hK, hA, hfr, hlo, had, hcs, rfl, rfl, rfl, rfl, rfl⟩ := X
  intro H locs ls hP hD hS hl
  exact lv_l2i hx hb hd (zL_i a) (k H locs ls hP hD hS hl)
theorem g_i2b (X : Cx Γ own cc ret nL fr lo wd Post l D tys) (hd : decode cc pc = .ok (.i2b, 1)) (ha : -128 ≤ a ∧ a < 128) (k : G Γ lv σ (pc + 1) (vI a :: st)) : G Γ lv σ pc (vI a :: st) := by
  obtain ⟨p, l', e, R, s, m, args, below, meth, c, D', tys', A, wd', Post', nL', nc, ns, Q⟩ := Γ
  obtain ⟨hx, hb, hr, hml, rfl, hlk, hown, hts, hK, hA, hfr, hlo, had, hcs, rfl, rfl, rfl, rfl, rfl⟩ := X
  intro H locs ls hP hD hS hl
  exact lv_i2b hx hb hd (zI_b ha) (k H locs ls hP hD hS hl)
theorem g_dup (X : Cx Γ own cc ret nL fr lo wd Post l D tys) {v : Value} (hd : decode cc pc = .ok (.dup, 1)) (hv : v.category = 1) (k : G Γ lv σ (pc + 1) (v :: v :: st)) : G Γ lv σ pc (v :: st) := by
  obtain ⟨p, l', e, R, s, m, args, below, meth, c, D', tys', A, wd', Post', nL', nc, ns, Q⟩ := Γ
  obtain ⟨hx, hb, hr, hml, rfl, hlk, hown, hts, hK, hA, hfr, hlo, had, hcs, rfl, rfl, rfl, rfl, rfl⟩ := X
  intro H locs ls hP hD hS hl
  exact lv_dup hx hb hd hv (k H locs ls hP hD hS hl)
theorem g_dup2 (X : Cx Γ own cc ret nL fr lo wd Post l D tys) {v w : Value} (hd : decode cc pc = .ok (.dup2, 1)) (hv : v.category = 1) (hw : w.category = 1) (k : G Γ lv σ (pc + 1) (v :: w :: v :: w :: st)) : G Γ lv σ pc (v :: w :: st) := by
  obtain ⟨p, l', e, R, s, m, args, below, meth, c, D', tys', A, wd', Post', nL', nc, ns, Q⟩ := Γ
  obtain ⟨hx, hb, hr, hml, rfl, hlk, hown, hts, hK, hA, hfr, hlo, had, hcs, rfl, rfl, rfl, rfl, rfl⟩ := X
  intro H locs ls hP hD hS hl
  exact lv_dup2_11 hx hb hd hv hw (k H locs ls hP hD hS hl)
theorem g_icmp_eq (X : Cx Γ own cc ret nL fr lo wd Post l D tys) {off : Int} {tgt : Nat} (hd : decode cc pc = .ok (.if_icmp .eq off, 3)) (ht : (pc : Int) + off = (tgt : Int)) (ra : -2147483648 ≤ a ∧ a < 2147483648) (rb : -2147483648 ≤ b ∧ b < 2147483648) (kt : a = b → G Γ lv σ tgt st) (kf : ¬ (a = b) → G Γ lv σ (pc + 3) st) : G Γ lv σ pc (vI b :: vI a :: st) := by
  obtain ⟨p, l', e, R, s, m, args, below, meth, c, D', tys', A, wd', Post', nL', nc, ns, Q⟩ := Γ
  obtain ⟨hx, hb, hr, hml, rfl, hlk, hown, hts, hK, hA, hfr, hlo, had, hcs, rfl, rfl, rfl, rfl, rfl⟩ := X
  intro H locs ls hP hD hS hl
  exact lv_icmp_eq hx hb hd ht (fun h => kt ((zI_eq ra rb).mp h) H locs ls hP hD hS hl) (fun h => kf (fun h2 => h ((zI_eq ra rb).mpr h2)) H locs ls hP hD hS hl)
theorem g_if_eq (X : Cx Γ own cc ret nL fr lo wd Post l D tys) {off : Int} {tgt : Nat} (hd : decode cc pc = .ok (.ifCond .eq off, 3)) (ht : (pc : Int) + off = (tgt : Int)) (ra : -2147483648 ≤ a ∧ a < 2147483648) (kt : a = 0 → G Γ lv σ tgt st) (kf : ¬ (a = 0) → G Γ lv σ (pc + 3) st) : G Γ lv σ pc (vI a :: st) := by
  have r0 : -2147483648 ≤ (0 : Int) ∧ (0 : Int) < 2147483648 := by decide
  obtain ⟨p, l', e, R, s, m, args, below, meth, c, D', tys', A, wd', Post', nL', nc, ns, Q⟩ := Γ
  obtain ⟨hx, hb, hr, hml, rfl, hlk, hown, hts, hK, hA, hfr, hlo, had, hcs, rfl, rfl, rfl, rfl, rfl⟩ := X
  intro H locs ls hP hD hS hl
  exact lv_if_eq hx hb hd ht (fun h => kt ((zI_eq ra r0).mp h) H locs ls hP hD hS hl) (fun h => kf (fun h2 => h ((zI_eq ra r0).mpr h2)) H locs ls hP hD hS hl)
theorem g_icmp_ne (X : Cx Γ own cc ret nL fr lo wd Post l D tys) {off : Int} {tgt : Nat} (hd : decode cc pc = .ok (.if_icmp .ne off, 3)) (ht : (pc : Int) + off = (tgt : Int)) (ra : -2147483648 ≤ a ∧ a < 2147483648) (rb : -2147483648 ≤ b ∧ b < 2147483648) (kt : a ≠ b → G Γ lv σ tgt st) (kf : a = b → G Γ lv σ (pc + 3) st) : G Γ lv σ pc (vI b :: vI a :: st) := by
  obtain ⟨p, l', e, R, s, m, args, below, meth, c, D', tys', A, wd', Post', nL', nc, ns, Q⟩ := Γ
  obtain ⟨hx, hb, hr, hml, rfl, hlk, hown, hts, hK, hA, hfr, hlo, had, hcs, rfl, rfl, rfl, rfl, rfl⟩ := X
  intro H locs ls hP hD hS hl
  exact lv_icmp_ne hx hb hd ht (fun h => kt (fun h2 => h ((zI_eq ra rb).mpr h2)) H locs ls hP hD hS hl) (fun h => kf ((zI_eq ra rb).mp h) H locs ls hP hD hS hl)
theorem g_if_ne (X : Cx Γ own cc ret nL fr lo wd Post l D tys) {off : Int} {tgt : Nat} (hd : decode cc pc = .ok (.ifCond .ne off, 3)) (ht : (pc : Int) + off = (tgt : Int)) (ra : -2147483648 ≤ a ∧ a < 2147483648) (kt : a ≠ 0 → G Γ lv σ tgt st) (kf : a = 0 → G Γ lv σ (pc + 3) st) : G Γ lv σ pc (vI a :: st) := by
  have r0 : -2147483648 ≤ (0 : Int) ∧ (0 : Int) < 2147483648 := by decide
  obtain ⟨p, l', e, R, s, m, args, below, meth, c, D', tys', A, wd', Post', nL', nc, ns, Q⟩ := Γ
  obtain ⟨hx, hb, hr, hml, rfl, hlk, hown, hts, hK, hA, hfr, hlo, had, hcs, rfl, rfl, rfl, rfl, rfl⟩ := X
  intro H locs ls hP hD hS hl
  exact lv_if_ne hx hb hd ht (fun h => kt (fun h2 => h ((zI_eq ra r0).mpr h2)) H locs ls hP hD hS hl) (fun h => kf ((zI_eq ra r0).mp h) H locs ls hP hD hS hl)
theorem g_icmp_lt (X : Cx Γ own cc ret nL fr lo wd Post l D tys) {off : Int} {tgt : Nat} (hd : decode cc pc = .ok (.if_icmp .lt off, 3)) (ht : (pc : Int) + off = (tgt : Int)) (ra : -2147483648 ≤ a ∧ a < 2147483648) (rb : -2147483648 ≤ b ∧ b < 2147483648) (kt : a < b → G Γ lv σ tgt st) (kf : ¬ (a < b) → G Γ lv σ (pc + 3) st) : G Γ lv σ pc (vI b :: vI a :: st) := by
  obtain ⟨p, l', e, R, s, m, args, below, meth, c, D', tys', A, wd', Post', nL', nc, ns, Q⟩ := Γ
  obtain ⟨hx, hb, hr, hml, rfl, hlk, hown, hts, hK, hA, hfr, hlo, had, hcs, rfl, rfl, rfl, rfl, rfl⟩ := X
  intro H locs ls hP hD hS hl
  exact lv_icmp_lt hx hb hd ht (fun h => kt ((zI_lt ra rb).mp h) H locs ls hP hD hS hl) (fun h => kf (fun h2 => h ((zI_lt ra rb).mpr h2)) H locs ls hP hD hS hl)
theorem g_if_lt (X : Cx Γ own cc ret nL fr lo wd Post l D tys) {off : Int} {tgt : Nat} (hd : decode cc pc = .ok (.ifCond .lt off, 3)) (ht : (pc : Int) + off = (tgt : Int)) (ra : -2147483648 ≤ a ∧ a < 2147483648) (kt : a < 0 → G Γ lv σ tgt st) (kf : ¬ (a < 0) → G Γ lv σ (pc + 3) st) : G Γ lv σ pc (vI a :: st) := by
  have r0 : -2147483648 ≤ (0 : Int) ∧ (0 : Int) < 2147483648 := by decide
  obtain ⟨p, l', e, R, s, m, args, below, meth, c, D', tys', A, wd', Post', nL', nc, ns, Q⟩ := Γ
  obtain ⟨hx, hb, hr, hml, rfl, hlk, hown, hts, hK, hA, hfr, hlo, had, hcs, rfl, rfl, rfl, rfl, rfl⟩ := X
  intro H locs ls hP hD hS hl
  exact lv_if_lt hx hb hd ht (fun h => kt ((zI_lt ra r0).mp h) H locs ls hP hD hS hl) (fun h => kf (fun h2 => h ((zI_lt ra r0).mpr h2)) H locs ls hP hD hS hl)
theorem g_icmp_ge (X : Cx Γ own cc ret nL fr lo wd Post l D tys) {off : Int} {tgt : Nat} (hd : decode cc pc = .ok (.if_icmp .ge off, 3)) (ht : (pc : Int) + off = (tgt : Int)) (ra : -2147483648 ≤ a ∧ a < 2147483648) (rb : -2147483648 ≤ b ∧ b < 2147483648) (kt : b ≤ a → G Γ lv σ tgt st) (kf : ¬ (b ≤ a) → G Γ lv σ (pc + 3) st) : G Γ lv σ pc (vI b :: vI a :: st) := by
  obtain ⟨p, l', e, R, s, m, args, below, meth, c, D', tys', A, wd', Post', nL', nc, ns, Q⟩ := Γ
  obtain ⟨hx, hb, hr, hml, rfl, hlk, hown, hts, hK, hA, hfr, hlo, had, hcs, rfl, rfl, rfl, rfl, rfl⟩ := X
  intro H locs ls hP hD hS hl
  exact lv_icmp_ge hx hb hd ht (fun h => kt ((zI_le rb ra).mp h) H locs ls hP hD hS hl) (fun h => kf (fun h2 => h ((zI_le rb ra).mpr h2)) H locs ls hP hD hS hl)
theorem g_if_ge (X : Cx Γ own cc ret nL fr lo wd Post l D tys) {off : Int} {tgt : Nat} (hd : decode cc pc = .ok (.ifCond .ge off, 3)) (ht : (pc : Int) + off = (tgt : Int)) (ra : -2147483648 ≤ a ∧ a < 2147483648) (kt : 0 ≤ a → G Γ lv σ tgt st) (kf : ¬ (0 ≤ a) → G Γ lv σ (pc + 3) st) : G Γ lv σ pc (vI a :: st) := by
  have r0 : -2147483648 ≤ (0 : Int) ∧ (0 : Int) < 2147483648 := by decide
  obtain ⟨p, l', e, R, s, m, args, below, meth, c, D', tys', A, wd', Post', nL', nc, ns, Q⟩ := Γ
  obtain ⟨hx, hb, hr, hml, rfl, hlk, hown, hts, hK, hA, hfr, hlo, had, hcs, rfl, rfl, rfl, rfl, rfl⟩ := X
  intro H locs ls hP hD hS hl
  exact lv_if_ge hx hb hd ht (fun h => kt ((zI_le r0 ra).mp h) H locs ls hP hD hS hl) (fun h => kf (fun h2 => h ((zI_le r0 ra).mpr h2)) H locs ls hP hD hS hl)
theorem g_icmp_gt (X : Cx Γ own cc ret nL fr lo wd Post l D tys) {off : Int} {tgt : Nat} (hd : decode cc pc = .ok (.if_icmp .gt off, 3)) (ht : (pc : Int) + off = (tgt : Int)) (ra : -2147483648 ≤ a ∧ a < 2147483648) (rb : -2147483648 ≤ b ∧ b < 2147483648) (kt : b < a → G Γ lv σ tgt st) (kf : ¬ (b < a) → G Γ lv σ (pc + 3) st) : G Γ lv σ pc (vI b :: vI a :: st) := by
  obtain ⟨p, l', e, R, s, m, args, below, meth, c, D', tys', A, wd', Post', nL', nc, ns, Q⟩ := Γ
  obtain ⟨hx, hb, hr, hml, rfl, hlk, hown, hts, hK, hA, hfr, hlo, had, hcs, rfl, rfl, rfl, rfl, rfl⟩ := X
  intro H locs ls hP hD hS hl
  exact lv_icmp_gt hx hb hd ht (fun h => kt ((zI_lt rb ra).mp h) H locs ls hP hD hS hl) (fun h => kf (fun h2 => h ((zI_lt rb ra).mpr h2)) H locs ls hP hD hS hl)
theorem g_if_gt (X : Cx Γ own cc ret nL fr lo wd Post l D tys) {off : Int} {tgt : Nat} (hd : decode cc pc = .ok (.ifCond .gt off, 3)) (ht : (pc : Int) + off = (tgt : Int)) (ra : -2147483648 ≤ a ∧ a < 2147483648) (kt : 0 < a → G Γ lv σ tgt st) (kf : ¬ (0 < a) → G Γ lv σ (pc + 3) st) : G Γ lv σ pc (vI a :: st) := by
  have r0 : -2147483648 ≤ (0 : Int) ∧ (0 : Int) < 2147483648 := by decide
  obtain ⟨p, l', e, R, s, m, args, below, meth, c, D', tys', A, wd', Post', nL', nc, ns, Q⟩ := Γ
  obtain ⟨hx, hb, hr, hml, rfl, hlk, hown, hts, hK, hA, hfr, hlo, had, hcs, rfl, rfl, rfl, rfl, rfl⟩ := X
  intro H locs ls hP hD hS hl
  exact lv_if_gt hx hb hd ht (fun h => kt ((zI_lt r0 ra).mp h) H locs ls hP hD hS hl) (fun h => kf (fun h2 => h ((zI_lt r0 ra).mpr h2)) H locs ls hP hD hS hl)
theorem g_icmp_le (X : Cx Γ own cc ret nL fr lo wd Post l D tys) {off : Int} {tgt : Nat} (hd : decode cc pc = .ok (.if_icmp .le off, 3)) (ht : (pc : Int) + off = (tgt : Int)) (ra : -2147483648 ≤ a ∧ a < 2147483648) (rb : -2147483648 ≤ b ∧ b < 2147483648) (kt : a ≤ b → G Γ lv σ tgt st) (kf : ¬ (a ≤ b) → G Γ lv σ (pc + 3) st) : G Γ lv σ pc (vI b :: vI a :: st) := by
  obtain ⟨p, l', e, R, s, m, args, below, meth, c, D', tys', A, wd', Post', nL', nc, ns, Q⟩ := Γ
  obtain ⟨hx, hb, hr, hml, rfl, hlk, hown, hts, hK, hA, hfr, hlo, had, hcs, rfl, rfl, rfl, rfl, rfl⟩ := X
  intro H locs ls hP hD hS hl
  exact lv_icmp_le hx hb hd ht (fun h => kt ((zI_le ra rb).mp h) H locs ls hP hD hS hl) (fun h => kf (fun h2 => h ((zI_le ra rb).mpr h2)) H locs ls hP hD hS hl)
theorem g_if_le (X : Cx Γ own cc ret nL fr lo wd Post l D tys) {off : Int} {tgt : Nat} (hd : decode cc pc = .ok (.ifCond .le off, 3)) (ht : (pc : Int) + off = (tgt : Int)) (ra : -2147483648 ≤ a ∧ a < 2147483648) (kt : a ≤ 0 → G Γ lv σ tgt st) (kf : ¬ (a ≤ 0) → G Γ lv σ (pc + 3) st) : G Γ lv σ pc (vI a :: st) := by
  have r0 : -2147483648 ≤ (0 : Int) ∧ (0 : Int) < 2147483648 := by decide
  obtain ⟨p, l', e, R, s, m, args, below, meth, c, D', tys', A, wd', Post', nL', nc, ns, Q⟩ := Γ
  obtain ⟨hx, hb, hr, hml, rfl, hlk, hown, hts, hK, hA, hfr, hlo, had, hcs, rfl, rfl, rfl, rfl, rfl⟩ := X
  intro H locs ls hP hD hS hl
  exact lv_if_le hx hb hd ht (fun h => kt ((zI_le ra r0).mp h) H locs ls hP hD hS hl) (fun h => kf (fun h2 => h ((zI_le ra r0).mpr h2)) H locs ls hP hD hS hl)
theorem g_goto (X : Cx Γ own cc ret nL fr lo wd Post l D tys) {off : Int} {tgt : Nat} (hd : decode cc pc = .ok (.goto off, 3)) (ht : (pc : Int) + off = (tgt : Int)) (k : G Γ lv σ tgt st) : G Γ lv σ pc st := by
  obtain ⟨p, l', e, R, s, m, args, below, meth, c, D', tys', A, wd', Post', nL', nc, ns, Q⟩ := Γ
  obtain ⟨hx, hb, hr, hml, rfl, hlk, hown, hts, hK, hA, hfr, hlo, had, hcs, rfl, rfl, rfl, rfl, rfl⟩ := X
  intro H locs ls hP hD hS hl
  exact lv_goto hx hb hd ht (k H locs ls hP hD hS hl)
def cmpL (a b : Int) : Int := if wL b < wL a then 1 else if wL a = wL b then 0 else -1
theorem lg_cmpL (a b : Int) : lg_cmp (zL a) (zL b) = zI (cmpL a b) := by
  unfold lg_cmp cmpL wL
  simp only [gt_iff_lt, Int64.lt_iff_toInt_lt, ← Int64.toInt_inj]
  repeat' split
  all_goals rfl
theorem cmpL_rng (a b : Int) : -2147483648 ≤ cmpL a b ∧ cmpL a b < 2147483648 := by
  unfold cmpL
  repeat' split
  all_goals decide
theorem cmpL_gt (a b : Int) : 0 < cmpL a b ↔ wL b < wL a := by unfold cmpL; repeat' split
                                                               all_goals omega
theorem cmpL_le (a b : Int) : cmpL a b ≤ 0 ↔ wL a ≤ wL b := by unfold cmpL; repeat' split
                                                               all_goals omega
theorem cmpL_lt (a b : Int) : cmpL a b < 0 ↔ wL a < wL b := by unfold cmpL; repeat' split
                                                               all_goals omega
theorem cmpL_ge (a b : Int) : 0 ≤ cmpL a b ↔ wL b ≤ wL a := by unfold cmpL; repeat' split
                                                               all_goals omega
theorem cmpL_eq (a b : Int) : cmpL a b = 0 ↔ wL a = wL b := by unfold cmpL; repeat' split
                                                               all_goals omega
theorem g_lcmp (X : Cx Γ own cc ret nL fr lo wd Post l D tys) (hd : decode cc pc = .ok (.lcmp, 1)) (k : G Γ lv σ (pc + 1) (vI (cmpL a b) :: st)) : G Γ lv σ pc (vL b :: vL a :: st) := by
  obtain ⟨p, l', e, R, s, m, args, below, meth, c, D', tys', A, wd', Post', nL', nc, ns, Q⟩ := Γ
  obtain ⟨hx, hb, hr, hml, rfl, hlk, hown, hts, hK, hA, hfr, hlo, had, hcs, rfl, rfl, rfl, rfl, rfl⟩ := X
  intro H locs ls hP hD hS hl
  have k := k H locs ls hP hD hS hl
  rw [show vI (cmpL a b) = Value.int (lg_cmp (zL a) (zL b)) from by unfold vI; rw [lg_cmpL]] at k
  exact W.lcmp hx hb hd k
theorem g_iret (X : Cx Γ own cc ret nL fr lo wd Post l D tys) (hd : decode cc pc = .ok (.ireturn, 1)) (hret : ret = some .int) (hp : Post (some (vI a)) σ) : G Γ lv σ pc [vI a] := by
  obtain ⟨p, l', e, R, s, m, args, below, meth, c, D', tys', A, wd', Post', nL', nc, ns, Q⟩ := Γ
  obtain ⟨hx, hb, hr, hml, rfl, hlk, hown, hts, hK, hA, hfr, hlo, had, hcs, rfl, rfl, rfl, rfl, rfl⟩ := X
  intro H locs ls hP hD hS hl
  obtain ⟨hr1, hQ⟩ := hr (by rw [hret]; unfold okRet; simp)
  subst hQ
  exact W.iret hx hb (hr1.trans hret) (fun t ht hW => ⟨⟨_, σ, rfl, hp, by rw [ht]; exact hP⟩, hS.F ht⟩) hS.2.2 hd hlk
theorem g_zret (X : Cx Γ own cc ret nL fr lo wd Post l D tys) (hd : decode cc pc = .ok (.ireturn, 1)) (hret : ret = some .boolean) (hv : a = 0 ∨ a = 1) (hp : Post (some (vI a)) σ) : G Γ lv σ pc [vI a] := by
  obtain ⟨p, l', e, R, s, m, args, below, meth, c, D', tys', A, wd', Post', nL', nc, ns, Q⟩ := Γ
  obtain ⟨hx, hb, hr, hml, rfl, hlk, hown, hts, hK, hA, hfr, hlo, had, hcs, rfl, rfl, rfl, rfl, rfl⟩ := X
  intro H locs ls hP hD hS hl
  obtain ⟨hr1, hQ⟩ := hr (by rw [hret]; unfold okRet; simp)
  subst hQ
  exact W.zret hx hb (hr1.trans hret) (nar_zr hv) (fun t ht hW => ⟨⟨_, σ, rfl, hp, by rw [ht]; exact hP⟩, hS.F ht⟩) hS.2.2 hd hlk
theorem g_lret (X : Cx Γ own cc ret nL fr lo wd Post l D tys) (hd : decode cc pc = .ok (.lreturn, 1)) (hret : ret = some .long) (hp : Post (some (vL a)) σ) : G Γ lv σ pc [vL a] := by
  obtain ⟨p, l', e, R, s, m, args, below, meth, c, D', tys', A, wd', Post', nL', nc, ns, Q⟩ := Γ
  obtain ⟨hx, hb, hr, hml, rfl, hlk, hown, hts, hK, hA, hfr, hlo, had, hcs, rfl, rfl, rfl, rfl, rfl⟩ := X
  intro H locs ls hP hD hS hl
  obtain ⟨hr1, hQ⟩ := hr (by rw [hret]; unfold okRet; simp)
  subst hQ
  exact W.lret hx hb (hr1.trans hret) (fun t ht hW => ⟨⟨_, σ, rfl, hp, by rw [ht]; exact hP⟩, hS.F ht⟩) hS.2.2 hd hlk
theorem g_vret (X : Cx Γ own cc ret nL fr lo wd Post l D tys) (hd : decode cc pc = .ok (.return_, 1)) (hret : ret = none) (hp : Post none σ) : G Γ lv σ pc [] := by
  obtain ⟨p, l', e, R, s, m, args, below, meth, c, D', tys', A, wd', Post', nL', nc, ns, Q⟩ := Γ
  obtain ⟨hx, hb, hr, hml, rfl, hlk, hown, hts, hK, hA, hfr, hlo, had, hcs, rfl, rfl, rfl, rfl, rfl⟩ := X
  intro H locs ls hP hD hS hl
  obtain ⟨hr1, hQ⟩ := hr (by rw [hret]; unfold okRet; simp)
  subst hQ
  exact W.vret hx hb (hr1.trans hret) (fun t ht hW => ⟨⟨_, σ, rfl, hp, by rw [ht]; exact hP⟩, hS.F ht⟩) hS.2.2 hd hlk
end JU
end
section
-- WORLDS AND CALLS (printed by worlds.py)
def tysA (a : Nat → ClassId) : List (ClassId × FieldType) := [(a 0, .byte), (a 1, .boolean), (a 2, .long), (a 3, .int)]
def fsD (q : Nat → Nat) (σ : zS) : List Value := [vI (σ 0 0), .ref (q 1), .ref (q 2), vI (σ 0 3), .ref (q 3), .ref (q 4), .ref (q 5), vL (σ 0 7), .ref (q 6), vL (σ 0 9), .ref (q 7), .ref (q 8), .ref (q 9), .ref (q 10), .ref (q 11), .ref (q 12), .ref (q 13), .ref (q 14), vI (σ 0 18)]
def dw (a : Nat → ClassId) (q : Nat → Nat) (σ : zS) : va_W := [(q 0, .inr (0, fsD q σ)), (q 1, .inl (a 0, 4, .inl (fun j : Nat => zI (σ 1 j)))), (q 2, .inl (a 0, 4, .inl (fun j : Nat => zI (σ 2 j)))), (q 3, .inl (a 0, 4, .inl (fun j : Nat => zI (σ 3 j)))), (q 4, .inl (a 0, 16, .inl (fun j : Nat => zI (σ 4 j)))), (q 5, .inl (a 2, 24, .inr (.inl (fun j : Nat => zL (σ 5 j))))), (q 6, .inl (a 2, 4, .inr (.inl (fun j : Nat => zL (σ 6 j))))), (q 7, .inl (a 2, 4, .inr (.inl (fun j : Nat => zL (σ 7 j))))), (q 8, .inl (a 2, 4, .inr (.inl (fun j : Nat => zL (σ 8 j))))), (q 9, .inl (a 2, 41, .inr (.inl (fun j : Nat => zL (σ 9 j))))), (q 10, .inl (a 0, 41, .inl (fun j : Nat => zI (σ 10 j)))), (q 11, .inl (a 0, 4, .inl (fun j : Nat => zI (σ 11 j)))), (q 12, .inl (a 0, 56, .inl (fun j : Nat => zI (σ 12 j)))), (q 13, .inl (a 0, 56, .inl (fun j : Nat => zI (σ 13 j)))), (q 14, .inl (a 1, 14, .inl (fun j : Nat => zI (σ 14 j))))]
theorem dw_ad (a : Nat → ClassId) (q : Nat → Nat) (σ σ2 : zS) : (dw a q σ).map Prod.fst = (dw a q σ2).map Prod.fst := rfl
def fsM (q : Nat → Nat) (σ : zS) : List Value := [vI (σ 0 0), .ref (q 1), .ref (q 2), .ref (q 3)]
def mw (a : Nat → ClassId) (q : Nat → Nat) (σ : zS) : va_W := [(q 0, .inr (1, fsM q σ)), (q 1, .inl (a 3, 4, .inl (fun j : Nat => zI (σ 1 j)))), (q 2, .inl (a 3, 4, .inl (fun j : Nat => zI (σ 2 j)))), (q 3, .inl (a 3, 256, .inl (fun j : Nat => zI (σ 3 j))))]
theorem mw_ad (a : Nat → ClassId) (q : Nat → Nat) (σ σ2 : zS) : (mw a q σ).map Prod.fst = (mw a q σ2).map Prod.fst := rfl
theorem va_D_ad {A : Nat → Prop} {w1 w2 : va_W} (h : w1.map Prod.fst = w2.map Prod.fst) (hD : va_D A w1) : va_D A w2 := by
  have key : ∀ (k : Nat) (q : Nat × va_E), w2[k]? = some q → ∃ p, w1[k]? = some p ∧ p.1 = q.1 := by
    intro k q hq
    have h1 : (w2.map Prod.fst)[k]? = some q.1 := by rw [List.getElem?_map, hq]; rfl
    rw [← h, List.getElem?_map] at h1
    cases hw : w1[k]? with
    | none => rw [hw] at h1; cases h1
    | some p => rw [hw] at h1; exact ⟨p, rfl, Option.some.inj h1⟩
  refine ⟨fun i j p q hi hj e => ?_, fun k q hk => ?_⟩
  · obtain ⟨p', h1, e1⟩ := key i p hi
    obtain ⟨q', h2, e2⟩ := key j q hj
    exact hD.1 i j p' q' h1 h2 (by rw [e1, e2, e])
  · obtain ⟨p', h1, e1⟩ := key k q hk
    rw [← e1]
    exact hD.2 k p' h1
def Con (l : Launch) (D : va_G) (tys : List (ClassId × FieldType)) (y : MethodName) (b : ByteArray) (maxL : Nat) (ret : Option FieldType) (fr lo : Nat) (wd : zS → va_W) (as : List Value) (σ : zS) (Post : Option Value → zS → Prop) : Prop :=
  ∀ sz : Nat, Met l y (Cond.code y b maxL ret :: tb) { frames := fr, cells := 0, slots := 0, locals := lo } (va_Pc as (fun U => U.heap.size = sz ∧ va_P D classes (wd σ) U.heap ∧ va_K D classes tys U ∧ va_D (fun _ => True) (wd σ))) (qG D wd Post (va_A (wd σ) sz)) 0 0 (va_A (wd σ) sz)
theorem Con.of {l : Launch} {D : va_G} {tys : List (ClassId × FieldType)} {y : MethodName} {b : ByteArray} {maxL : Nat} {ret : Option FieldType} {fr lo : Nat} {wd : zS → va_W} {as : List Value} {σ : zS} {Post : Option Value → zS → Prop} (hy : plainName y.cls = true) (had : ∀ σ σ', (wd σ).map Prod.fst = (wd σ').map Prod.fst) (hlen : (lg_sl as).length ≤ maxL)
    (h : ∀ Γ : Cx0, Cx Γ y.cls b ret maxL fr lo wd Post l D tys → G Γ (lv_args 0 as) σ 0 []) : Con l D tys y b maxL ret fr lo wd as σ Post := by
  intro sz
  refine Met.ofW (cc := b) (maxL := maxL) (ret := ret) hy rfl ?_
  intro p e s m args below meth c s₁ B hml hv
  obtain ⟨rfl, hsz, hP, hK, hD0⟩ := hv
  have hx := B.exec
  have hb := B.bytes
  have hr := B.returns
  have hts := atoms_spec (ws := Cond.code y b maxL ret :: tb) B.pre
  have hown : s.vm.findClass y.cls = some m.cls := findClass_of_methodNamed B.named
  have hlocks := B.notSynchronized
  subst hsz
  have hD := hD0.self (sz := s.heap.size)
  have hA : ∀ q : Nat, s.heap.size ≤ q → va_A (wd σ) s.heap.size q := fun q h => Or.inr h
  have hS : va_S (va_A (wd σ) s.heap.size) s.heap s.heap [] := va_S.rf
  have hl := lv_entry as (n := maxL) hlen
  rw [lg_entry_eq]
  exact h (p, l, e, _, s, m, as.toArray, below, meth, c, D, tys, va_A (wd σ) s.heap.size, wd, Post, maxL, 0, 0, _) ⟨hx, hb, fun _ => ⟨hr, rfl⟩, hml, rfl, hlocks, hown, fun w hw => hts w (List.mem_cons_of_mem _ hw), hK, hA, rfl, rfl, had, ⟨Nat.zero_le _, Nat.zero_le _⟩, rfl, rfl, rfl, rfl, rfl⟩ s.heap [] _ hP hD hS hl
theorem Con.weaken {l : Launch} {D : va_G} {tys : List (ClassId × FieldType)} {y : MethodName} {b : ByteArray} {maxL : Nat} {ret : Option FieldType} {fr lo : Nat} {wd : zS → va_W} {as : List Value} {σ : zS} {Post : Option Value → zS → Prop} (h : Con l D tys y b maxL ret fr lo wd as σ Post) : Con l D tys y b maxL ret fr lo wd as σ Post := h
section CALL
variable {Γ : Cx0} {own : String} {cc : ByteArray} {ret : Option FieldType} {nL fr lo : Nat} {wd : zS → va_W} {Post : Option Value → zS → Prop} {l : Launch} {D : va_G} {tys : List (ClassId × FieldType)}
variable {lv : List (Nat × Value)} {σ : zS} {pc : Nat} {st stk : List Value}
theorem tb_goodV {idx : Nat} {C : String} {y : MethodName} {b : ByteArray} {maxL : Nat} {r : Option FieldType} (h1 : Cond.methodLink own idx y ∈ tb) (h2 : Cond.instanceMethod y ∈ tb) (h3 : Cond.selects C y y ∈ tb) (h4 : Cond.initialized C ∈ tb) (h5 : Cond.code y b maxL r ∈ tb) : GoodIn tb (wsV own idx C y (Cond.code y b maxL r :: tb)) := by
  intro w hw
  refine tb_good w ?_
  rcases List.mem_append.mp hw with hw | hw
  · rcases List.mem_cons.mp hw with rfl | hw
    · exact h1
    rcases List.mem_cons.mp hw with rfl | hw
    · exact h2
    rcases List.mem_cons.mp hw with rfl | hw
    · exact h3
    rcases List.mem_cons.mp hw with rfl | hw
    · exact h4
    exact absurd hw List.not_mem_nil
  · rcases List.mem_cons.mp hw with rfl | hw
    · exact h5
    · exact hw
theorem tb_goodS {idx : Nat} {y : MethodName} {b : ByteArray} {maxL : Nat} {r : Option FieldType} (h1 : Cond.methodLink own idx y ∈ tb) (h2 : Cond.static y ∈ tb) (h4 : Cond.initialized own ∈ tb) (h5 : Cond.code y b maxL r ∈ tb) : GoodIn tb (wsS own idx y (Cond.code y b maxL r :: tb)) := by
  intro w hw
  refine tb_good w ?_
  rcases List.mem_append.mp hw with hw | hw
  · rcases List.mem_cons.mp hw with rfl | hw
    · exact h1
    rcases List.mem_cons.mp hw with rfl | hw
    · exact h2
    rcases List.mem_cons.mp hw with rfl | hw
    · exact h4
    exact absurd hw List.not_mem_nil
  · rcases List.mem_cons.mp hw with rfl | hw
    · exact h5
    · exact hw
def mOk (y : MethodName) (C : String) (n : Nat) : Prop := y.cls = C ∧ y.cls ≠ "java/lang/invoke/MethodHandle" ∧ y.cls ≠ "java/lang/invoke/VarHandle" ∧ (parseMethodDescriptor y.desc).map (fun d => d.parameters.length) = some n
theorem con_blind {D : va_G} {tys : List (ClassId × FieldType)} {wd : zS → va_W} {as : List Value} {σ : zS} {sz : Nat} : FrameBlind (va_Pc as (fun U => U.heap.size = sz ∧ va_P D classes (wd σ) U.heap ∧ va_K D classes tys U ∧ va_D (fun _ => True) (wd σ))) := fun a U g mk q => by
  obtain ⟨q0, q1, qP, qK, qD⟩ := q
  exact ⟨q0, q1, qP, va_K.moved (u := U) (U := U.calling g mk a) (Vm.Alike.refl U.vm) qK, qD⟩
/-- what is behind a call -/
theorem g_back {p : Program} {e : Env} {R : Room} {s : State} {m : MethodId} {args a : Array Value} {below : List Frame} {meth : Method} {c : Code} {A : Nat → Prop} {H : Heap} {locs : List Loc} {ls : Array Slot} {st0 rest : List Value} {Post2 : Option Value → zS → Prop} {nL' nc ns : Nat} {Q : State → Prop} {tys' : List (ClassId × FieldType)}
    (had : ∀ σ σ', (wd σ).map Prod.fst = (wd σ').map Prod.fst) (hD : va_D A (wd σ)) (hS : va_S A s.heap H locs) (hA : ∀ q, s.heap.size ≤ q → A q) (hl : lv_has ls nL' lv)
    (hr : va_Run p l e R s m args below meth c H locs nc ns 0 0 (F0 m pc ls st0) rest (qG D wd Post2 (va_A (wd σ) H.size) a) (va_A (wd σ) H.size))
    (kk : ∀ (v : Option Value) (σ' : zS), Post2 v σ' → G (p, l, e, R, s, m, args, below, meth, c, D, tys', A, wd, Post, nL', nc, ns, Q) lv σ' (pc + 3) (v.toList ++ rest)) :
    W p l e R s m args below meth c H locs nc ns Q (F0 m pc ls st0) := by
  intro T hT X
  obtain ⟨v, st₀, t, T', L, h0, X', hL, e1, e2, ⟨⟨v', σ', hv, hp, hP'⟩, hz, hk⟩, stp⟩ := hr T hT X
  cases hv
  rw [h0] at hz hk
  have hf : ∀ q, va_A (wd σ) H.size q → A q := by
    intro q h
    rcases h with ⟨k, e, h⟩ | h
    · exact hD.2 k _ h
    · exact hA q (Nat.le_trans hS.1 h)
  obtain ⟨t2, a1, b1⟩ := kk v σ' hp T'.heap (locs ++ L) ls (by rw [e1]; exact hP') (va_D_ad (had σ σ') hD)
    ⟨Nat.le_trans hS.1 (by rw [e1]; exact hz), fun q h1 h2 => by rw [e1, hk q (Nat.lt_of_lt_of_le h1 hS.1) (fun z => h2 (hf q z))]; exact hS.2.1 q h1 h2, fun q hq => by
      rcases List.mem_append.mp hq with h | h
      · exact hS.2.2 q h
      · exact hf _ (hL q h)⟩ hl T' rfl X'
  exact ⟨t2, stp t2 a1, b1⟩
theorem g_callV (X : Cx Γ own cc ret nL fr lo wd Post l D tys) {idx n maxL fr2 lo2 ci q0 : Nat} {C : String} {y : MethodName} {b : ByteArray} {ret2 : Option FieldType} {r : Nat} {as fs : List Value} {qc : vw_C} {Post2 : Option Value → zS → Prop} (hM : Con l D tys y b maxL ret2 fr2 lo2 wd (.ref r :: as) σ Post2) (hd : decode cc pc = .ok (.invokevirtual idx, 3)) (h1 : Cond.methodLink own idx y ∈ tb) (h2 : Cond.instanceMethod y ∈ tb) (h3 : Cond.selects C y y ∈ tb) (h4 : Cond.initialized C ∈ tb) (h5 : Cond.code y b maxL ret2 ∈ tb) (hy : mOk y C n)
    (hc : classes[ci]? = some qc) (hqc : qc.1 = C) (he : (wd σ)[q0]? = some (r, .inr (ci, fs))) (hn : as.length = n) (hR : fr2 + 1 ≤ fr ∧ 8 + (maxL + 11) + lo2 ≤ lo) (hs : stk = as.reverse ++ .ref r :: st) (hst : (st.map fun v => v.category).sum ≤ 8)
    (kk : ∀ (v : Option Value) (σ' : zS), Post2 v σ' → G Γ lv σ' (pc + 3) (v.toList ++ st)) : G Γ lv σ pc stk := by
  obtain ⟨p, l', e, R, s, m, args, below, meth, c, D', tys', A, wd', Post', nL', nc, ns, Q⟩ := Γ
  obtain ⟨hx, hb, hr, hml, rfl, hlk, hown, hts, hK, hA, hfr, hlo, had, hcs, rfl, rfl, rfl, rfl, rfl⟩ := X
  intro H locs ls hP hD hS hl
  subst hqc
  have hcw : CallW R s args own qc.1 idx y b maxL ret2 (Cond.code y b maxL ret2 :: tb) { frames := fr2, cells := 0, slots := 0, locals := lo2 } 0 0 n := cwV n hts (tb_goodV h1 h2 h3 h4 h5) rfl rfl rfl hy ⟨by rw [hfr]; exact hR.1, by rw [hlo]; exact hR.2⟩
  exact g_back had hD hS hA hl (va_runV (As := as) (rest := st) ⟨hx, hb, hml, hown, hts⟩ (hM H.size) hcw ⟨con_blind, va_recv hK hP hc he, fun U hU hW => ⟨rfl, by rw [hU], by rw [hU]; exact hP, va_K.moved hW.alike hK, hD.weaken (fun _ _ _ _ => trivial)⟩⟩ rfl hn hl.1 hs (lv_room hst) hd hcs) kk
theorem g_callS (X : Cx Γ own cc ret nL fr lo wd Post l D tys) {idx n maxL fr2 lo2 : Nat} {y : MethodName} {b : ByteArray} {ret2 : Option FieldType} {as : List Value} {Post2 : Option Value → zS → Prop} (hM : Con l D tys y b maxL ret2 fr2 lo2 wd as σ Post2) (hd : decode cc pc = .ok (.invokestatic idx, 3)) (h1 : Cond.methodLink own idx y ∈ tb) (h2 : Cond.static y ∈ tb) (h4 : Cond.initialized own ∈ tb) (h5 : Cond.code y b maxL ret2 ∈ tb) (hy : mOk y own n)
    (hn : as.length = n) (hR : fr2 + 1 ≤ fr ∧ 8 + (maxL + 11) + lo2 ≤ lo) (hs : stk = as.reverse ++ st) (hst : (st.map fun v => v.category).sum ≤ 8)
    (kk : ∀ (v : Option Value) (σ' : zS), Post2 v σ' → G Γ lv σ' (pc + 3) (v.toList ++ st)) : G Γ lv σ pc stk := by
  obtain ⟨p, l', e, R, s, m, args, below, meth, c, D', tys', A, wd', Post', nL', nc, ns, Q⟩ := Γ
  obtain ⟨hx, hb, hr, hml, rfl, hlk, hown, hts, hK, hA, hfr, hlo, had, hcs, rfl, rfl, rfl, rfl, rfl⟩ := X
  intro H locs ls hP hD hS hl
  have hcw := cwS (own := own) (R := R) (s := s) (args := args) (rm := { frames := fr2, cells := 0, slots := 0, locals := lo2 }) (mc := 0) (ms := 0) n hts (tb_goodS h1 h2 h4 h5) rfl rfl rfl hy ⟨by rw [hfr]; exact hR.1, by rw [hlo]; exact hR.2⟩
  exact g_back had hD hS hA hl (va_runS (As := as) (rest := st) ⟨hx, hb, hml, hown, hts⟩ (hM H.size) hcw ⟨con_blind, fun U hU hW => ⟨rfl, by rw [hU], by rw [hU]; exact hP, va_K.moved hW.alike hK, hD.weaken (fun _ _ _ _ => trivial)⟩⟩ rfl hn hl.1 hs (lv_room hst) hd hcs) kk
end CALL
section ROWD
variable {Γ : Cx0} {own : String} {cc : ByteArray} {ret : Option FieldType} {nL fr lo : Nat} {a : Nat → ClassId} {q : Nat → Nat} {Post : Option Value → zS → Prop} {l : Launch} {D : va_G}
variable {lv : List (Nat × Value)} {σ : zS} {pc : Nat} {st stk : List Value}
theorem d_get (X : Cx Γ own cc ret nL fr lo (dw a q) Post l D (tysA a)) {ix : Nat} (k0 : Nat) {v : Value} (hd : decode cc pc = .ok (.getfield ix, 3)) (hlk : Cond.fieldLink own ix R_D (F_D k0).2.1 (F_D k0).2.2.1 ∈ tb) (hk : k0 < 19) (hd2 : (F_D k0).1 = R_D) (hv : (fsD q σ)[k0]? = some v) (k : G Γ lv σ (pc + 3) (v :: st)) : G Γ lv σ pc (.ref (q 0) :: st) := by
  have hlk0 := hlk
  obtain ⟨p, l', e, R, s, m, args, below, meth, c, D', tys', A, wd', Post', nL', nc, ns, Q⟩ := Γ
  obtain ⟨hx, hb, hr, hml, rfl, hlk, hown, hts, hK, hA, hfr, hlo, had, hcs, rfl, rfl, rfl, rfl, rfl⟩ := X
  intro H locs ls hP hD hS hl
  exact va_get (D := D') (ci := 0) (v := v) (C := R_D) (T := F_D) (N := 19) hx hb hts i_D hown hK hP 0 rfl rfl k0 hk (hts _ hlk0) (fun _ h9 => by rw [hd2] at h9; exact h9) hv hd (k H locs ls hP hD hS hl)
theorem d_putI (X : Cx Γ own cc ret nL fr lo (dw a q) Post l D (tysA a)) {ix : Nat} (k0 : Nat) {x : Int} {z : Int} (hd : decode cc pc = .ok (.putfield ix, 3)) (hlk : Cond.fieldLink own ix R_D (F_D k0).2.1 (F_D k0).2.2.1 ∈ tb) (hk : k0 < 19) (hd2 : (F_D k0).1 = R_D) (hfin : (F_D k0).2.2.2 = false) (hty : parseFieldDescriptor (F_D k0).2.2.1 = some .int) (hset : (dw a q σ).set 0 (q 0, .inr (0, (fsD q σ).set k0 (vI x))) = dw a q (up σ 0 z x)) (k : G Γ lv (up σ 0 z x) (pc + 3) st) : G Γ lv σ pc (vI x :: .ref (q 0) :: st) := by
  have hlk0 := hlk
  obtain ⟨p, l', e, R, s, m, args, below, meth, c, D', tys', A, wd', Post', nL', nc, ns, Q⟩ := Γ
  obtain ⟨hx, hb, hr, hml, rfl, hlk, hown, hts, hK, hA, hfr, hlo, had, hcs, rfl, rfl, rfl, rfl, rfl⟩ := X
  intro H locs ls hP hD hS hl
  exact va_put (D := D') (ci := 0) (v := vI x) (ty := .int) (C := R_D) (T := F_D) (N := 19) hx hb hts i_D t_D t_D_ok n_D hown hK hP hD hS 0 rfl rfl k0 hk (hts _ hlk0) (fun _ h9 => by rw [hd2] at h9; exact h9) hfin hty rfl rfl hk hd (fun H1 locs1 hP1 hD1 hS1 => k H1 locs1 ls (by rw [← hset]; exact hP1) (by rw [← hset]; exact hD1) hS1 hl)
theorem d_putL (X : Cx Γ own cc ret nL fr lo (dw a q) Post l D (tysA a)) {ix : Nat} (k0 : Nat) {x : Int} {z : Int} (hd : decode cc pc = .ok (.putfield ix, 3)) (hlk : Cond.fieldLink own ix R_D (F_D k0).2.1 (F_D k0).2.2.1 ∈ tb) (hk : k0 < 19) (hd2 : (F_D k0).1 = R_D) (hfin : (F_D k0).2.2.2 = false) (hty : parseFieldDescriptor (F_D k0).2.2.1 = some .long) (hset : (dw a q σ).set 0 (q 0, .inr (0, (fsD q σ).set k0 (vL x))) = dw a q (up σ 0 z x)) (k : G Γ lv (up σ 0 z x) (pc + 3) st) : G Γ lv σ pc (vL x :: .ref (q 0) :: st) := by
  have hlk0 := hlk
  obtain ⟨p, l', e, R, s, m, args, below, meth, c, D', tys', A, wd', Post', nL', nc, ns, Q⟩ := Γ
  obtain ⟨hx, hb, hr, hml, rfl, hlk, hown, hts, hK, hA, hfr, hlo, had, hcs, rfl, rfl, rfl, rfl, rfl⟩ := X
  intro H locs ls hP hD hS hl
  exact va_put (D := D') (ci := 0) (v := vL x) (ty := .long) (C := R_D) (T := F_D) (N := 19) hx hb hts i_D t_D t_D_ok n_D hown hK hP hD hS 0 rfl rfl k0 hk (hts _ hlk0) (fun _ h9 => by rw [hd2] at h9; exact h9) hfin hty rfl rfl hk hd (fun H1 locs1 hP1 hD1 hS1 => k H1 locs1 ls (by rw [← hset]; exact hP1) (by rw [← hset]; exact hD1) hS1 hl)
theorem d_bald (X : Cx Γ own cc ret nL fr lo (dw a q) Post l D (tysA a)) {i n : Nat} {z : Int} (hd : decode cc pc = .ok (.baload, 1)) (ha : (dw a q σ)[i]? = some (q i, .inl (a 0, n, .inl (fun j : Nat => zI (σ i j))))) (hz : 0 ≤ z ∧ z < n) (hn : n < 2147483648) (k : G Γ lv σ (pc + 1) (vI (σ i z) :: st)) : G Γ lv σ pc (vI z :: .ref (q i) :: st) := by
  have hc : (zI z).toNatClampNeg = z.toNat := zI_clamp (by omega)
  have hi : ((z.toNat : Nat) : Int) = z := by omega
  obtain ⟨p, l', e, R, s, m, args, below, meth, c, D', tys', A, wd', Post', nL', nc, ns, Q⟩ := Γ
  obtain ⟨hx, hb, hr, hml, rfl, hlk, hown, hts, hK, hA, hfr, hlo, had, hcs, rfl, rfl, rfl, rfl, rfl⟩ := X
  intro H locs ls hP hD hS hl
  refine va_bald hx hb hK hP i 0 ha rfl (zI_in hz hn) hd ?_
  have k := k H locs ls hP hD hS hl
  rw [hc]
  rw [hi]
  exact k
theorem d_bast (X : Cx Γ own cc ret nL fr lo (dw a q) Post l D (tysA a)) {i n : Nat} {z x : Int} (hd : decode cc pc = .ok (.bastore, 1)) (ha : (dw a q σ)[i]? = some (q i, .inl (a 0, n, .inl (fun j : Nat => zI (σ i j))))) (hset : (dw a q σ).set i (q i, .inl (a 0, n, .inl (fun j : Nat => zI (up σ i z x i j)))) = dw a q (up σ i z x)) (hz : 0 ≤ z ∧ z < n) (hn : n < 2147483648) (hx0 : -128 ≤ x ∧ x < 128) (k : G Γ lv (up σ i z x) (pc + 1) st) : G Γ lv σ pc (vI x :: vI z :: .ref (q i) :: st) := by
  have hc : (zI z).toNatClampNeg = z.toNat := zI_clamp (by omega)
  obtain ⟨p, l', e, R, s, m, args, below, meth, c, D', tys', A, wd', Post', nL', nc, ns, Q⟩ := Γ
  obtain ⟨hx, hb, hr, hml, rfl, hlk, hown, hts, hK, hA, hfr, hlo, had, hcs, rfl, rfl, rfl, rfl, rfl⟩ := X
  intro H locs ls hP hD hS hl
  refine va_bast hx hb hK hP hD hS i 0 ha rfl (zI_in hz hn) hd (fun H1 locs1 hP1 hD1 hS1 => ?_)
  rw [hc, nar_b hx0, up_I σ i hz.1, hset] at hP1 hD1
  exact k H1 locs1 ls hP1 hD1 hS1 hl
theorem d_zald (X : Cx Γ own cc ret nL fr lo (dw a q) Post l D (tysA a)) {i n : Nat} {z : Int} (hd : decode cc pc = .ok (.baload, 1)) (ha : (dw a q σ)[i]? = some (q i, .inl (a 1, n, .inl (fun j : Nat => zI (σ i j))))) (hz : 0 ≤ z ∧ z < n) (hn : n < 2147483648) (k : G Γ lv σ (pc + 1) (vI (σ i z) :: st)) : G Γ lv σ pc (vI z :: .ref (q i) :: st) := by
  have hc : (zI z).toNatClampNeg = z.toNat := zI_clamp (by omega)
  have hi : ((z.toNat : Nat) : Int) = z := by omega
  obtain ⟨p, l', e, R, s, m, args, below, meth, c, D', tys', A, wd', Post', nL', nc, ns, Q⟩ := Γ
  obtain ⟨hx, hb, hr, hml, rfl, hlk, hown, hts, hK, hA, hfr, hlo, had, hcs, rfl, rfl, rfl, rfl, rfl⟩ := X
  intro H locs ls hP hD hS hl
  refine va_zald hx hb hK hP i 1 ha rfl (zI_in hz hn) hd ?_
  have k := k H locs ls hP hD hS hl
  rw [hc]
  rw [hi]
  exact k
theorem d_zast (X : Cx Γ own cc ret nL fr lo (dw a q) Post l D (tysA a)) {i n : Nat} {z x : Int} (hd : decode cc pc = .ok (.bastore, 1)) (ha : (dw a q σ)[i]? = some (q i, .inl (a 1, n, .inl (fun j : Nat => zI (σ i j))))) (hset : (dw a q σ).set i (q i, .inl (a 1, n, .inl (fun j : Nat => zI (up σ i z x i j)))) = dw a q (up σ i z x)) (hz : 0 ≤ z ∧ z < n) (hn : n < 2147483648) (hx0 : x = 0 ∨ x = 1) (k : G Γ lv (up σ i z x) (pc + 1) st) : G Γ lv σ pc (vI x :: vI z :: .ref (q i) :: st) := by
  have hc : (zI z).toNatClampNeg = z.toNat := zI_clamp (by omega)
  obtain ⟨p, l', e, R, s, m, args, below, meth, c, D', tys', A, wd', Post', nL', nc, ns, Q⟩ := Γ
  obtain ⟨hx, hb, hr, hml, rfl, hlk, hown, hts, hK, hA, hfr, hlo, had, hcs, rfl, rfl, rfl, rfl, rfl⟩ := X
  intro H locs ls hP hD hS hl
  refine va_zast hx hb hK hP hD hS i 1 ha rfl (zI_in hz hn) hd (fun H1 locs1 hP1 hD1 hS1 => ?_)
  rw [hc, nar_z hx0, up_I σ i hz.1, hset] at hP1 hD1
  exact k H1 locs1 ls hP1 hD1 hS1 hl
theorem d_lald (X : Cx Γ own cc ret nL fr lo (dw a q) Post l D (tysA a)) {i n : Nat} {z : Int} (hd : decode cc pc = .ok (.laload, 1)) (ha : (dw a q σ)[i]? = some (q i, .inl (a 2, n, .inr (.inl (fun j : Nat => zL (σ i j)))))) (hz : 0 ≤ z ∧ z < n) (hn : n < 2147483648) (k : G Γ lv σ (pc + 1) (vL (σ i z) :: st)) : G Γ lv σ pc (vI z :: .ref (q i) :: st) := by
  have hc : (zI z).toNatClampNeg = z.toNat := zI_clamp (by omega)
  have hi : ((z.toNat : Nat) : Int) = z := by omega
  obtain ⟨p, l', e, R, s, m, args, below, meth, c, D', tys', A, wd', Post', nL', nc, ns, Q⟩ := Γ
  obtain ⟨hx, hb, hr, hml, rfl, hlk, hown, hts, hK, hA, hfr, hlo, had, hcs, rfl, rfl, rfl, rfl, rfl⟩ := X
  intro H locs ls hP hD hS hl
  refine va_lald hx hb hK hP i 2 ha rfl (zI_in hz hn) hd ?_
  have k := k H locs ls hP hD hS hl
  rw [hc]
  rw [hi]
  exact k
theorem d_last (X : Cx Γ own cc ret nL fr lo (dw a q) Post l D (tysA a)) {i n : Nat} {z x : Int} (hd : decode cc pc = .ok (.lastore, 1)) (ha : (dw a q σ)[i]? = some (q i, .inl (a 2, n, .inr (.inl (fun j : Nat => zL (σ i j)))))) (hset : (dw a q σ).set i (q i, .inl (a 2, n, .inr (.inl (fun j : Nat => zL (up σ i z x i j))))) = dw a q (up σ i z x)) (hz : 0 ≤ z ∧ z < n) (hn : n < 2147483648) (k : G Γ lv (up σ i z x) (pc + 1) st) : G Γ lv σ pc (vL x :: vI z :: .ref (q i) :: st) := by
  have hc : (zI z).toNatClampNeg = z.toNat := zI_clamp (by omega)
  obtain ⟨p, l', e, R, s, m, args, below, meth, c, D', tys', A, wd', Post', nL', nc, ns, Q⟩ := Γ
  obtain ⟨hx, hb, hr, hml, rfl, hlk, hown, hts, hK, hA, hfr, hlo, had, hcs, rfl, rfl, rfl, rfl, rfl⟩ := X
  intro H locs ls hP hD hS hl
  refine va_last hx hb hK hP hD hS i 2 ha rfl (zI_in hz hn) hd (fun H1 locs1 hP1 hD1 hS1 => ?_)
  rw [hc, up_L σ i hz.1, hset] at hP1 hD1
  exact k H1 locs1 ls hP1 hD1 hS1 hl
theorem d_callV (X : Cx Γ own cc ret nL fr lo (dw a q) Post l D (tysA a)) {idx n maxL fr2 lo2 : Nat} {y : MethodName} {b : ByteArray} {ret2 : Option FieldType} {as : List Value} {Post2 : Option Value → zS → Prop} (hM : Con l D (tysA a) y b maxL ret2 fr2 lo2 (dw a q) (.ref (q 0) :: as) σ Post2) (hd : decode cc pc = .ok (.invokevirtual idx, 3)) (h1 : Cond.methodLink own idx y ∈ tb) (h2 : Cond.instanceMethod y ∈ tb) (h3 : Cond.selects R_D y y ∈ tb) (h5 : Cond.code y b maxL ret2 ∈ tb) (hy : mOk y R_D n)
    (hn : as.length = n) (hR : fr2 + 1 ≤ fr ∧ 8 + (maxL + 11) + lo2 ≤ lo) (hs : stk = as.reverse ++ .ref (q 0) :: st) (hst : (st.map fun v => v.category).sum ≤ 8)
    (kk : ∀ (v : Option Value) (σ' : zS), Post2 v σ' → G Γ lv σ' (pc + 3) (v.toList ++ st)) : G Γ lv σ pc stk :=
  g_callV X hM hd h1 h2 h3 in_D h5 hy (ci := 0) (q0 := 0) rfl rfl rfl hn hR hs hst kk
end ROWD
section ROWM
variable {Γ : Cx0} {own : String} {cc : ByteArray} {ret : Option FieldType} {nL fr lo : Nat} {a : Nat → ClassId} {q : Nat → Nat} {Post : Option Value → zS → Prop} {l : Launch} {D : va_G}
variable {lv : List (Nat × Value)} {σ : zS} {pc : Nat} {st stk : List Value}
theorem m_get (X : Cx Γ own cc ret nL fr lo (mw a q) Post l D (tysA a)) {ix : Nat} (k0 : Nat) {v : Value} (hd : decode cc pc = .ok (.getfield ix, 3)) (hlk : Cond.fieldLink own ix R_M (F_M k0).2.1 (F_M k0).2.2.1 ∈ tb) (hk : k0 < 4) (hd2 : (F_M k0).1 = R_M) (hv : (fsM q σ)[k0]? = some v) (k : G Γ lv σ (pc + 3) (v :: st)) : G Γ lv σ pc (.ref (q 0) :: st) := by
  have hlk0 := hlk
  obtain ⟨p, l', e, R, s, m, args, below, meth, c, D', tys', A, wd', Post', nL', nc, ns, Q⟩ := Γ
  obtain ⟨hx, hb, hr, hml, rfl, hlk, hown, hts, hK, hA, hfr, hlo, had, hcs, rfl, rfl, rfl, rfl, rfl⟩ := X
  intro H locs ls hP hD hS hl
  exact va_get (D := D') (ci := 1) (v := v) (C := R_M) (T := F_M) (N := 4) hx hb hts i_M hown hK hP 0 rfl rfl k0 hk (hts _ hlk0) (fun _ h9 => by rw [hd2] at h9; exact h9) hv hd (k H locs ls hP hD hS hl)
theorem m_putI (X : Cx Γ own cc ret nL fr lo (mw a q) Post l D (tysA a)) {ix : Nat} (k0 : Nat) {x : Int} {z : Int} (hd : decode cc pc = .ok (.putfield ix, 3)) (hlk : Cond.fieldLink own ix R_M (F_M k0).2.1 (F_M k0).2.2.1 ∈ tb) (hk : k0 < 4) (hd2 : (F_M k0).1 = R_M) (hfin : (F_M k0).2.2.2 = false) (hty : parseFieldDescriptor (F_M k0).2.2.1 = some .int) (hset : (mw a q σ).set 0 (q 0, .inr (1, (fsM q σ).set k0 (vI x))) = mw a q (up σ 0 z x)) (k : G Γ lv (up σ 0 z x) (pc + 3) st) : G Γ lv σ pc (vI x :: .ref (q 0) :: st) := by
  have hlk0 := hlk
  obtain ⟨p, l', e, R, s, m, args, below, meth, c, D', tys', A, wd', Post', nL', nc, ns, Q⟩ := Γ
  obtain ⟨hx, hb, hr, hml, rfl, hlk, hown, hts, hK, hA, hfr, hlo, had, hcs, rfl, rfl, rfl, rfl, rfl⟩ := X
  intro H locs ls hP hD hS hl
  exact va_put (D := D') (ci := 1) (v := vI x) (ty := .int) (C := R_M) (T := F_M) (N := 4) hx hb hts i_M t_M t_M_ok n_M hown hK hP hD hS 0 rfl rfl k0 hk (hts _ hlk0) (fun _ h9 => by rw [hd2] at h9; exact h9) hfin hty rfl rfl hk hd (fun H1 locs1 hP1 hD1 hS1 => k H1 locs1 ls (by rw [← hset]; exact hP1) (by rw [← hset]; exact hD1) hS1 hl)
theorem m_putL (X : Cx Γ own cc ret nL fr lo (mw a q) Post l D (tysA a)) {ix : Nat} (k0 : Nat) {x : Int} {z : Int} (hd : decode cc pc = .ok (.putfield ix, 3)) (hlk : Cond.fieldLink own ix R_M (F_M k0).2.1 (F_M k0).2.2.1 ∈ tb) (hk : k0 < 4) (hd2 : (F_M k0).1 = R_M) (hfin : (F_M k0).2.2.2 = false) (hty : parseFieldDescriptor (F_M k0).2.2.1 = some .long) (hset : (mw a q σ).set 0 (q 0, .inr (1, (fsM q σ).set k0 (vL x))) = mw a q (up σ 0 z x)) (k : G Γ lv (up σ 0 z x) (pc + 3) st) : G Γ lv σ pc (vL x :: .ref (q 0) :: st) := by
  have hlk0 := hlk
  obtain ⟨p, l', e, R, s, m, args, below, meth, c, D', tys', A, wd', Post', nL', nc, ns, Q⟩ := Γ
  obtain ⟨hx, hb, hr, hml, rfl, hlk, hown, hts, hK, hA, hfr, hlo, had, hcs, rfl, rfl, rfl, rfl, rfl⟩ := X
  intro H locs ls hP hD hS hl
  exact va_put (D := D') (ci := 1) (v := vL x) (ty := .long) (C := R_M) (T := F_M) (N := 4) hx hb hts i_M t_M t_M_ok n_M hown hK hP hD hS 0 rfl rfl k0 hk (hts _ hlk0) (fun _ h9 => by rw [hd2] at h9; exact h9) hfin hty rfl rfl hk hd (fun H1 locs1 hP1 hD1 hS1 => k H1 locs1 ls (by rw [← hset]; exact hP1) (by rw [← hset]; exact hD1) hS1 hl)
theorem m_iald (X : Cx Γ own cc ret nL fr lo (mw a q) Post l D (tysA a)) {i n : Nat} {z : Int} (hd : decode cc pc = .ok (.iaload, 1)) (ha : (mw a q σ)[i]? = some (q i, .inl (a 3, n, .inl (fun j : Nat => zI (σ i j))))) (hz : 0 ≤ z ∧ z < n) (hn : n < 2147483648) (k : G Γ lv σ (pc + 1) (vI (σ i z) :: st)) : G Γ lv σ pc (vI z :: .ref (q i) :: st) := by
  have hc : (zI z).toNatClampNeg = z.toNat := zI_clamp (by omega)
  have hi : ((z.toNat : Nat) : Int) = z := by omega
  obtain ⟨p, l', e, R, s, m, args, below, meth, c, D', tys', A, wd', Post', nL', nc, ns, Q⟩ := Γ
  obtain ⟨hx, hb, hr, hml, rfl, hlk, hown, hts, hK, hA, hfr, hlo, had, hcs, rfl, rfl, rfl, rfl, rfl⟩ := X
  intro H locs ls hP hD hS hl
  refine va_iald hx hb hK hP i 3 ha rfl (zI_in hz hn) hd ?_
  have k := k H locs ls hP hD hS hl
  rw [hc]
  rw [hi]
  exact k
theorem m_iast (X : Cx Γ own cc ret nL fr lo (mw a q) Post l D (tysA a)) {i n : Nat} {z x : Int} (hd : decode cc pc = .ok (.iastore, 1)) (ha : (mw a q σ)[i]? = some (q i, .inl (a 3, n, .inl (fun j : Nat => zI (σ i j))))) (hset : (mw a q σ).set i (q i, .inl (a 3, n, .inl (fun j : Nat => zI (up σ i z x i j)))) = mw a q (up σ i z x)) (hz : 0 ≤ z ∧ z < n) (hn : n < 2147483648) (k : G Γ lv (up σ i z x) (pc + 1) st) : G Γ lv σ pc (vI x :: vI z :: .ref (q i) :: st) := by
  have hc : (zI z).toNatClampNeg = z.toNat := zI_clamp (by omega)
  obtain ⟨p, l', e, R, s, m, args, below, meth, c, D', tys', A, wd', Post', nL', nc, ns, Q⟩ := Γ
  obtain ⟨hx, hb, hr, hml, rfl, hlk, hown, hts, hK, hA, hfr, hlo, had, hcs, rfl, rfl, rfl, rfl, rfl⟩ := X
  intro H locs ls hP hD hS hl
  refine va_iast hx hb hK hP hD hS i 3 ha rfl (zI_in hz hn) hd (fun H1 locs1 hP1 hD1 hS1 => ?_)
  rw [hc, up_I σ i hz.1, hset] at hP1 hD1
  exact k H1 locs1 ls hP1 hD1 hS1 hl
theorem m_callV (X : Cx Γ own cc ret nL fr lo (mw a q) Post l D (tysA a)) {idx n maxL fr2 lo2 : Nat} {y : MethodName} {b : ByteArray} {ret2 : Option FieldType} {as : List Value} {Post2 : Option Value → zS → Prop} (hM : Con l D (tysA a) y b maxL ret2 fr2 lo2 (mw a q) (.ref (q 0) :: as) σ Post2) (hd : decode cc pc = .ok (.invokevirtual idx, 3)) (h1 : Cond.methodLink own idx y ∈ tb) (h2 : Cond.instanceMethod y ∈ tb) (h3 : Cond.selects R_M y y ∈ tb) (h5 : Cond.code y b maxL ret2 ∈ tb) (hy : mOk y R_M n)
    (hn : as.length = n) (hR : fr2 + 1 ≤ fr ∧ 8 + (maxL + 11) + lo2 ≤ lo) (hs : stk = as.reverse ++ .ref (q 0) :: st) (hst : (st.map fun v => v.category).sum ≤ 8)
    (kk : ∀ (v : Option Value) (σ' : zS), Post2 v σ' → G Γ lv σ' (pc + 3) (v.toList ++ st)) : G Γ lv σ pc stk :=
  g_callV X hM hd h1 h2 h3 in_M h5 hy (ci := 1) (q0 := 0) rfl rfl rfl hn hR hs hst kk
end ROWM
theorem ok_D_askPlainly : mOk y_D_askPlainly "CutDesk" 0 := by unfold mOk; decide +kernel
theorem ok_D_boundAt : mOk y_D_boundAt "CutDesk" 1 := by unfold mOk; decide +kernel
theorem ok_D_byFallingWidths : mOk y_D_byFallingWidths "CutDesk" 0 := by unfold mOk; decide +kernel
theorem ok_D_combine : mOk y_D_combine "CutDesk" 4 := by unfold mOk; decide +kernel
theorem ok_D_couldUse : mOk y_D_couldUse "CutDesk" 1 := by unfold mOk; decide +kernel
theorem ok_D_fillFrom : mOk y_D_fillFrom "CutDesk" 2 := by unfold mOk; decide +kernel
theorem ok_D_fillWidest : mOk y_D_fillWidest "CutDesk" 1 := by unfold mOk; decide +kernel
theorem ok_D_findPrices : mOk y_D_findPrices "CutDesk" 0 := by unfold mOk; decide +kernel
theorem ok_D_firstPattern : mOk y_D_firstPattern "CutDesk" 1 := by unfold mOk; decide +kernel
theorem ok_D_fits : mOk y_D_fits "CutDesk" 1 := by unfold mOk; decide +kernel
theorem ok_D_freeOrder : mOk y_D_freeOrder "CutDesk" 1 := by unfold mOk; decide +kernel
theorem ok_D_greatestUse : mOk y_D_greatestUse "CutDesk" 0 := by unfold mOk; decide +kernel
theorem ok_D_init : mOk y_D_init "CutDesk" 1 := by unfold mOk; decide +kernel
theorem ok_D_isKind : mOk y_D_isKind "CutDesk" 1 := by unfold mOk; decide +kernel
theorem ok_D_least : mOk y_D_least "CutDesk" 0 := by unfold mOk; decide +kernel
theorem ok_D_leastFor : mOk y_D_leastFor "CutDesk" 1 := by unfold mOk; decide +kernel
theorem ok_D_leastWith : mOk y_D_leastWith "CutDesk" 2 := by unfold mOk; decide +kernel
theorem ok_D_leavesOneLess : mOk y_D_leavesOneLess "CutDesk" 2 := by unfold mOk; decide +kernel
theorem ok_D_mostValuable : mOk y_D_mostValuable "CutDesk" 0 := by unfold mOk; decide +kernel
theorem ok_D_nextPattern : mOk y_D_nextPattern "CutDesk" 1 := by unfold mOk; decide +kernel
theorem ok_D_order : mOk y_D_order "CutDesk" 2 := by unfold mOk; decide +kernel
theorem ok_D_ordered : mOk y_D_ordered "CutDesk" 1 := by unfold mOk; decide +kernel
theorem ok_D_pivot : mOk y_D_pivot "CutDesk" 0 := by unfold mOk; decide +kernel
theorem ok_D_priceBasis : mOk y_D_priceBasis "CutDesk" 0 := by unfold mOk; decide +kernel
theorem ok_D_reduce : mOk y_D_reduce "CutDesk" 0 := by unfold mOk; decide +kernel
theorem ok_D_roll : mOk y_D_roll "CutDesk" 0 := by unfold mOk; decide +kernel
theorem ok_D_search : mOk y_D_search "CutDesk" 1 := by unfold mOk; decide +kernel
theorem ok_D_served : mOk y_D_served "CutDesk" 1 := by unfold mOk; decide +kernel
theorem ok_D_setRoll : mOk y_D_setRoll "CutDesk" 1 := by unfold mOk; decide +kernel
theorem ok_D_setWidth : mOk y_D_setWidth "CutDesk" 2 := by unfold mOk; decide +kernel
theorem ok_D_solve : mOk y_D_solve "CutDesk" 0 := by unfold mOk; decide +kernel
theorem ok_D_sound : mOk y_D_sound "CutDesk" 0 := by unfold mOk; decide +kernel
theorem ok_D_swapRows : mOk y_D_swapRows "CutDesk" 2 := by unfold mOk; decide +kernel
theorem ok_D_takeOff : mOk y_D_takeOff "CutDesk" 1 := by unfold mOk; decide +kernel
theorem ok_D_widest : mOk y_D_widest "CutDesk" 1 := by unfold mOk; decide +kernel
theorem ok_D_width : mOk y_D_width "CutDesk" 1 := by unfold mOk; decide +kernel
theorem ok_M_after : mOk y_M_after "CutDeskModel" 2 := by unfold mOk; decide +kernel
theorem ok_M_couldUse : mOk y_M_couldUse "CutDeskModel" 1 := by unfold mOk; decide +kernel
theorem ok_M_fits : mOk y_M_fits "CutDeskModel" 1 := by unfold mOk; decide +kernel
theorem ok_M_freeOrder : mOk y_M_freeOrder "CutDeskModel" 1 := by unfold mOk; decide +kernel
theorem ok_M_greatestUse : mOk y_M_greatestUse "CutDeskModel" 0 := by unfold mOk; decide +kernel
theorem ok_M_init : mOk y_M_init "CutDeskModel" 1 := by unfold mOk; decide +kernel
theorem ok_M_kind : mOk y_M_kind "CutDeskModel" 1 := by unfold mOk; decide +kernel
theorem ok_M_least : mOk y_M_least "CutDeskModel" 0 := by unfold mOk; decide +kernel
theorem ok_M_leastFor : mOk y_M_leastFor "CutDeskModel" 1 := by unfold mOk; decide +kernel
theorem ok_M_leastWith : mOk y_M_leastWith "CutDeskModel" 2 := by unfold mOk; decide +kernel
theorem ok_M_length : mOk y_M_length "CutDeskModel" 1 := by unfold mOk; decide +kernel
theorem ok_M_order : mOk y_M_order "CutDeskModel" 2 := by unfold mOk; decide +kernel
theorem ok_M_ordered : mOk y_M_ordered "CutDeskModel" 1 := by unfold mOk; decide +kernel
theorem ok_M_part : mOk y_M_part "CutDeskModel" 2 := by unfold mOk; decide +kernel
theorem ok_M_roll : mOk y_M_roll "CutDeskModel" 0 := by unfold mOk; decide +kernel
theorem ok_M_setRoll : mOk y_M_setRoll "CutDeskModel" 1 := by unfold mOk; decide +kernel
theorem ok_M_setWidth : mOk y_M_setWidth "CutDeskModel" 2 := by unfold mOk; decide +kernel
theorem ok_M_whole : mOk y_M_whole "CutDeskModel" 0 := by unfold mOk; decide +kernel
theorem ok_M_width : mOk y_M_width "CutDeskModel" 1 := by unfold mOk; decide +kernel
theorem ok_M_within : mOk y_M_within "CutDeskModel" 2 := by unfold mOk; decide +kernel
theorem ok_M_work : mOk y_M_work "CutDeskModel" 2 := by unfold mOk; decide +kernel
end
section
-- contracts by name (printed by kdefs.py)
abbrev K_D_askPlainly (l : Launch) (D : va_G) (a : Nat → ClassId) (q : Nat → Nat) (as : List Value) (σ : zS) (Post : Option Value → zS → Prop) : Prop := Con l D (tysA a) y_D_askPlainly b_D_askPlainly 2 none 0 0 (dw a q) as σ Post
abbrev K_D_boundAt (l : Launch) (D : va_G) (a : Nat → ClassId) (q : Nat → Nat) (as : List Value) (σ : zS) (Post : Option Value → zS → Prop) : Prop := Con l D (tysA a) y_D_boundAt b_D_boundAt 6 (some .int) 0 0 (dw a q) as σ Post
abbrev K_D_byFallingWidths (l : Launch) (D : va_G) (a : Nat → ClassId) (q : Nat → Nat) (as : List Value) (σ : zS) (Post : Option Value → zS → Prop) : Prop := Con l D (tysA a) y_D_byFallingWidths b_D_byFallingWidths 3 (some .int) 1 26 (dw a q) as σ Post
abbrev K_D_combine (l : Launch) (D : va_G) (a : Nat → ClassId) (q : Nat → Nat) (as : List Value) (σ : zS) (Post : Option Value → zS → Prop) : Prop := Con l D (tysA a) y_D_combine b_D_combine 12 none 0 0 (dw a q) as σ Post
abbrev K_D_couldUse (l : Launch) (D : va_G) (a : Nat → ClassId) (q : Nat → Nat) (as : List Value) (σ : zS) (Post : Option Value → zS → Prop) : Prop := Con l D (tysA a) y_D_couldUse b_D_couldUse 3 (some .boolean) 7 167 (dw a q) as σ Post
abbrev K_D_fillFrom (l : Launch) (D : va_G) (a : Nat → ClassId) (q : Nat → Nat) (as : List Value) (σ : zS) (Post : Option Value → zS → Prop) : Prop := Con l D (tysA a) y_D_fillFrom b_D_fillFrom 9 none 1 23 (dw a q) as σ Post
abbrev K_D_fillWidest (l : Launch) (D : va_G) (a : Nat → ClassId) (q : Nat → Nat) (as : List Value) (σ : zS) (Post : Option Value → zS → Prop) : Prop := Con l D (tysA a) y_D_fillWidest b_D_fillWidest 7 none 0 0 (dw a q) as σ Post
abbrev K_D_findPrices (l : Launch) (D : va_G) (a : Nat → ClassId) (q : Nat → Nat) (as : List Value) (σ : zS) (Post : Option Value → zS → Prop) : Prop := Con l D (tysA a) y_D_findPrices b_D_findPrices 3 none 3 80 (dw a q) as σ Post
abbrev K_D_firstPattern (l : Launch) (D : va_G) (a : Nat → ClassId) (q : Nat → Nat) (as : List Value) (σ : zS) (Post : Option Value → zS → Prop) : Prop := Con l D (tysA a) y_D_firstPattern b_D_firstPattern 4 (some .boolean) 2 51 (dw a q) as σ Post
abbrev K_D_fits (l : Launch) (D : va_G) (a : Nat → ClassId) (q : Nat → Nat) (as : List Value) (σ : zS) (Post : Option Value → zS → Prop) : Prop := Con l D (tysA a) y_D_fits b_D_fits 4 (some .boolean) 0 0 (dw a q) as σ Post
abbrev K_D_freeOrder (l : Launch) (D : va_G) (a : Nat → ClassId) (q : Nat → Nat) (as : List Value) (σ : zS) (Post : Option Value → zS → Prop) : Prop := Con l D (tysA a) y_D_freeOrder b_D_freeOrder 6 (some .int) 7 165 (dw a q) as σ Post
abbrev K_D_greatestUse (l : Launch) (D : va_G) (a : Nat → ClassId) (q : Nat → Nat) (as : List Value) (σ : zS) (Post : Option Value → zS → Prop) : Prop := Con l D (tysA a) y_D_greatestUse b_D_greatestUse 3 (some .int) 7 167 (dw a q) as σ Post
abbrev K_D_isKind (l : Launch) (D : va_G) (a : Nat → ClassId) (q : Nat → Nat) (as : List Value) (σ : zS) (Post : Option Value → zS → Prop) : Prop := Con l D (tysA a) y_D_isKind b_D_isKind 1 (some .boolean) 0 0 (dw a q) as σ Post
abbrev K_D_least (l : Launch) (D : va_G) (a : Nat → ClassId) (q : Nat → Nat) (as : List Value) (σ : zS) (Post : Option Value → zS → Prop) : Prop := Con l D (tysA a) y_D_least b_D_least 1 (some .int) 6 143 (dw a q) as σ Post
abbrev K_D_leastFor (l : Launch) (D : va_G) (a : Nat → ClassId) (q : Nat → Nat) (as : List Value) (σ : zS) (Post : Option Value → zS → Prop) : Prop := Con l D (tysA a) y_D_leastFor b_D_leastFor 3 (some .int) 6 143 (dw a q) as σ Post
abbrev K_D_leastWith (l : Launch) (D : va_G) (a : Nat → ClassId) (q : Nat → Nat) (as : List Value) (σ : zS) (Post : Option Value → zS → Prop) : Prop := Con l D (tysA a) y_D_leastWith b_D_leastWith 3 (some .int) 6 143 (dw a q) as σ Post
abbrev K_D_leavesOneLess (l : Launch) (D : va_G) (a : Nat → ClassId) (q : Nat → Nat) (as : List Value) (σ : zS) (Post : Option Value → zS → Prop) : Prop := Con l D (tysA a) y_D_leavesOneLess b_D_leavesOneLess 5 (some .boolean) 6 143 (dw a q) as σ Post
abbrev K_D_mostValuable (l : Launch) (D : va_G) (a : Nat → ClassId) (q : Nat → Nat) (as : List Value) (σ : zS) (Post : Option Value → zS → Prop) : Prop := Con l D (tysA a) y_D_mostValuable b_D_mostValuable 4 (some .long) 0 0 (dw a q) as σ Post
abbrev K_D_nextPattern (l : Launch) (D : va_G) (a : Nat → ClassId) (q : Nat → Nat) (as : List Value) (σ : zS) (Post : Option Value → zS → Prop) : Prop := Con l D (tysA a) y_D_nextPattern b_D_nextPattern 5 (some .boolean) 3 74 (dw a q) as σ Post
abbrev K_D_order (l : Launch) (D : va_G) (a : Nat → ClassId) (q : Nat → Nat) (as : List Value) (σ : zS) (Post : Option Value → zS → Prop) : Prop := Con l D (tysA a) y_D_order b_D_order 3 (some .boolean) 1 20 (dw a q) as σ Post
abbrev K_D_ordered (l : Launch) (D : va_G) (a : Nat → ClassId) (q : Nat → Nat) (as : List Value) (σ : zS) (Post : Option Value → zS → Prop) : Prop := Con l D (tysA a) y_D_ordered b_D_ordered 2 (some .int) 1 20 (dw a q) as σ Post
abbrev K_D_pivot (l : Launch) (D : va_G) (a : Nat → ClassId) (q : Nat → Nat) (as : List Value) (σ : zS) (Post : Option Value → zS → Prop) : Prop := Con l D (tysA a) y_D_pivot b_D_pivot 3 (some .boolean) 2 58 (dw a q) as σ Post
abbrev K_D_priceBasis (l : Launch) (D : va_G) (a : Nat → ClassId) (q : Nat → Nat) (as : List Value) (σ : zS) (Post : Option Value → zS → Prop) : Prop := Con l D (tysA a) y_D_priceBasis b_D_priceBasis 3 (some .boolean) 2 58 (dw a q) as σ Post
abbrev K_D_reduce (l : Launch) (D : va_G) (a : Nat → ClassId) (q : Nat → Nat) (as : List Value) (σ : zS) (Post : Option Value → zS → Prop) : Prop := Con l D (tysA a) y_D_reduce b_D_reduce 8 (some .boolean) 1 31 (dw a q) as σ Post
abbrev K_D_roll (l : Launch) (D : va_G) (a : Nat → ClassId) (q : Nat → Nat) (as : List Value) (σ : zS) (Post : Option Value → zS → Prop) : Prop := Con l D (tysA a) y_D_roll b_D_roll 1 (some .int) 0 0 (dw a q) as σ Post
abbrev K_D_search (l : Launch) (D : va_G) (a : Nat → ClassId) (q : Nat → Nat) (as : List Value) (σ : zS) (Post : Option Value → zS → Prop) : Prop := Con l D (tysA a) y_D_search b_D_search 4 none 4 98 (dw a q) as σ Post
abbrev K_D_served (l : Launch) (D : va_G) (a : Nat → ClassId) (q : Nat → Nat) (as : List Value) (σ : zS) (Post : Option Value → zS → Prop) : Prop := Con l D (tysA a) y_D_served b_D_served 3 (some .boolean) 0 0 (dw a q) as σ Post
abbrev K_D_setRoll (l : Launch) (D : va_G) (a : Nat → ClassId) (q : Nat → Nat) (as : List Value) (σ : zS) (Post : Option Value → zS → Prop) : Prop := Con l D (tysA a) y_D_setRoll b_D_setRoll 3 (some .boolean) 0 0 (dw a q) as σ Post
abbrev K_D_setWidth (l : Launch) (D : va_G) (a : Nat → ClassId) (q : Nat → Nat) (as : List Value) (σ : zS) (Post : Option Value → zS → Prop) : Prop := Con l D (tysA a) y_D_setWidth b_D_setWidth 3 (some .boolean) 1 20 (dw a q) as σ Post
abbrev K_D_solve (l : Launch) (D : va_G) (a : Nat → ClassId) (q : Nat → Nat) (as : List Value) (σ : zS) (Post : Option Value → zS → Prop) : Prop := Con l D (tysA a) y_D_solve b_D_solve 3 (some .int) 5 121 (dw a q) as σ Post
abbrev K_D_sound (l : Launch) (D : va_G) (a : Nat → ClassId) (q : Nat → Nat) (as : List Value) (σ : zS) (Post : Option Value → zS → Prop) : Prop := Con l D (tysA a) y_D_sound b_D_sound 2 (some .boolean) 0 0 (dw a q) as σ Post
abbrev K_D_swapRows (l : Launch) (D : va_G) (a : Nat → ClassId) (q : Nat → Nat) (as : List Value) (σ : zS) (Post : Option Value → zS → Prop) : Prop := Con l D (tysA a) y_D_swapRows b_D_swapRows 6 none 0 0 (dw a q) as σ Post
abbrev K_D_takeOff (l : Launch) (D : va_G) (a : Nat → ClassId) (q : Nat → Nat) (as : List Value) (σ : zS) (Post : Option Value → zS → Prop) : Prop := Con l D (tysA a) y_D_takeOff b_D_takeOff 4 none 0 0 (dw a q) as σ Post
abbrev K_D_widest (l : Launch) (D : va_G) (a : Nat → ClassId) (q : Nat → Nat) (as : List Value) (σ : zS) (Post : Option Value → zS → Prop) : Prop := Con l D (tysA a) y_D_widest b_D_widest 4 (some .int) 0 0 (dw a q) as σ Post
abbrev K_D_width (l : Launch) (D : va_G) (a : Nat → ClassId) (q : Nat → Nat) (as : List Value) (σ : zS) (Post : Option Value → zS → Prop) : Prop := Con l D (tysA a) y_D_width b_D_width 2 (some .int) 1 20 (dw a q) as σ Post
abbrev K_M_after (l : Launch) (D : va_G) (a : Nat → ClassId) (q : Nat → Nat) (as : List Value) (σ : zS) (Post : Option Value → zS → Prop) : Prop := Con l D (tysA a) y_M_after b_M_after 6 (some .int) 1 22 (mw a q) as σ Post
abbrev K_M_couldUse (l : Launch) (D : va_G) (a : Nat → ClassId) (q : Nat → Nat) (as : List Value) (σ : zS) (Post : Option Value → zS → Prop) : Prop := Con l D (tysA a) y_M_couldUse b_M_couldUse 4 (some .boolean) 5 115 (mw a q) as σ Post
abbrev K_M_fits (l : Launch) (D : va_G) (a : Nat → ClassId) (q : Nat → Nat) (as : List Value) (σ : zS) (Post : Option Value → zS → Prop) : Prop := Con l D (tysA a) y_M_fits b_M_fits 2 (some .boolean) 2 45 (mw a q) as σ Post
abbrev K_M_freeOrder (l : Launch) (D : va_G) (a : Nat → ClassId) (q : Nat → Nat) (as : List Value) (σ : zS) (Post : Option Value → zS → Prop) : Prop := Con l D (tysA a) y_M_freeOrder b_M_freeOrder 6 (some .int) 6 139 (mw a q) as σ Post
abbrev K_M_greatestUse (l : Launch) (D : va_G) (a : Nat → ClassId) (q : Nat → Nat) (as : List Value) (σ : zS) (Post : Option Value → zS → Prop) : Prop := Con l D (tysA a) y_M_greatestUse b_M_greatestUse 4 (some .int) 5 115 (mw a q) as σ Post
abbrev K_M_kind (l : Launch) (D : va_G) (a : Nat → ClassId) (q : Nat → Nat) (as : List Value) (σ : zS) (Post : Option Value → zS → Prop) : Prop := Con l D (tysA a) y_M_kind b_M_kind 2 (some .boolean) 0 0 (mw a q) as σ Post
abbrev K_M_least (l : Launch) (D : va_G) (a : Nat → ClassId) (q : Nat → Nat) (as : List Value) (σ : zS) (Post : Option Value → zS → Prop) : Prop := Con l D (tysA a) y_M_least b_M_least 2 (some .int) 4 94 (mw a q) as σ Post
abbrev K_M_leastFor (l : Launch) (D : va_G) (a : Nat → ClassId) (q : Nat → Nat) (as : List Value) (σ : zS) (Post : Option Value → zS → Prop) : Prop := Con l D (tysA a) y_M_leastFor b_M_leastFor 3 (some .int) 4 94 (mw a q) as σ Post
abbrev K_M_leastWith (l : Launch) (D : va_G) (a : Nat → ClassId) (q : Nat → Nat) (as : List Value) (σ : zS) (Post : Option Value → zS → Prop) : Prop := Con l D (tysA a) y_M_leastWith b_M_leastWith 5 (some .int) 5 115 (mw a q) as σ Post
abbrev K_M_length (l : Launch) (D : va_G) (a : Nat → ClassId) (q : Nat → Nat) (as : List Value) (σ : zS) (Post : Option Value → zS → Prop) : Prop := Con l D (tysA a) y_M_length b_M_length 4 (some .int) 1 22 (mw a q) as σ Post
abbrev K_M_order (l : Launch) (D : va_G) (a : Nat → ClassId) (q : Nat → Nat) (as : List Value) (σ : zS) (Post : Option Value → zS → Prop) : Prop := Con l D (tysA a) y_M_order b_M_order 3 (some .boolean) 1 21 (mw a q) as σ Post
abbrev K_M_ordered (l : Launch) (D : va_G) (a : Nat → ClassId) (q : Nat → Nat) (as : List Value) (σ : zS) (Post : Option Value → zS → Prop) : Prop := Con l D (tysA a) y_M_ordered b_M_ordered 2 (some .int) 1 21 (mw a q) as σ Post
abbrev K_M_part (l : Launch) (D : va_G) (a : Nat → ClassId) (q : Nat → Nat) (as : List Value) (σ : zS) (Post : Option Value → zS → Prop) : Prop := Con l D (tysA a) y_M_part b_M_part 3 (some .int) 0 0 (mw a q) as σ Post
abbrev K_M_roll (l : Launch) (D : va_G) (a : Nat → ClassId) (q : Nat → Nat) (as : List Value) (σ : zS) (Post : Option Value → zS → Prop) : Prop := Con l D (tysA a) y_M_roll b_M_roll 1 (some .int) 0 0 (mw a q) as σ Post
abbrev K_M_setRoll (l : Launch) (D : va_G) (a : Nat → ClassId) (q : Nat → Nat) (as : List Value) (σ : zS) (Post : Option Value → zS → Prop) : Prop := Con l D (tysA a) y_M_setRoll b_M_setRoll 3 (some .boolean) 0 0 (mw a q) as σ Post
abbrev K_M_setWidth (l : Launch) (D : va_G) (a : Nat → ClassId) (q : Nat → Nat) (as : List Value) (σ : zS) (Post : Option Value → zS → Prop) : Prop := Con l D (tysA a) y_M_setWidth b_M_setWidth 3 (some .boolean) 1 21 (mw a q) as σ Post
abbrev K_M_whole (l : Launch) (D : va_G) (a : Nat → ClassId) (q : Nat → Nat) (as : List Value) (σ : zS) (Post : Option Value → zS → Prop) : Prop := Con l D (tysA a) y_M_whole b_M_whole 3 (some .int) 0 0 (mw a q) as σ Post
abbrev K_M_width (l : Launch) (D : va_G) (a : Nat → ClassId) (q : Nat → Nat) (as : List Value) (σ : zS) (Post : Option Value → zS → Prop) : Prop := Con l D (tysA a) y_M_width b_M_width 2 (some .int) 1 21 (mw a q) as σ Post
abbrev K_M_within (l : Launch) (D : va_G) (a : Nat → ClassId) (q : Nat → Nat) (as : List Value) (σ : zS) (Post : Option Value → zS → Prop) : Prop := Con l D (tysA a) y_M_within b_M_within 3 (some .boolean) 2 47 (mw a q) as σ Post
abbrev K_M_work (l : Launch) (D : va_G) (a : Nat → ClassId) (q : Nat → Nat) (as : List Value) (σ : zS) (Post : Option Value → zS → Prop) : Prop := Con l D (tysA a) y_M_work b_M_work 6 none 3 69 (mw a q) as σ Post
end
section
-- THE PLAIN LAW: covers of a demand by patterns
theorem four {k : Int} (h0 : 0 ≤ k) (h4 : k < 4) : k = 0 ∨ k = 1 ∨ k = 2 ∨ k = 3 := by omega
def dot (p w : Int → Int) : Int := p 0 * w 0 + p 1 * w 1 + p 2 * w 2 + p 3 * w 3
def Cov (w : Int → Int) (R : Int) : Nat → (Int → Int) → Prop
  | 0, s => ∀ k, 0 ≤ k → k < 4 → s k ≤ 0
  | n + 1, s => ∃ p : Int → Int, (∀ k, 0 ≤ k → k < 4 → 0 ≤ p k) ∧ dot p w ≤ R ∧ Cov w R n (fun k => s k - p k)
theorem dot_mono {p p2 w : Int → Int} (hw : ∀ k, 0 ≤ k → k < 4 → 0 ≤ w k) (h : ∀ k, 0 ≤ k → k < 4 → p k ≤ p2 k) : dot p w ≤ dot p2 w := by
  have e0 := Int.mul_le_mul_of_nonneg_right (h 0 (by decide) (by decide)) (hw 0 (by decide) (by decide))
  have e1 := Int.mul_le_mul_of_nonneg_right (h 1 (by decide) (by decide)) (hw 1 (by decide) (by decide))
  have e2 := Int.mul_le_mul_of_nonneg_right (h 2 (by decide) (by decide)) (hw 2 (by decide) (by decide))
  have e3 := Int.mul_le_mul_of_nonneg_right (h 3 (by decide) (by decide)) (hw 3 (by decide) (by decide))
  unfold dot
  omega
theorem dot_congr {p p2 w w2 : Int → Int} (hp : ∀ k, 0 ≤ k → k < 4 → p k = p2 k) (hw : ∀ k, 0 ≤ k → k < 4 → w k = w2 k) : dot p w = dot p2 w2 := by
  unfold dot
  rw [hp 0 (by decide) (by decide), hp 1 (by decide) (by decide), hp 2 (by decide) (by decide), hp 3 (by decide) (by decide), hw 0 (by decide) (by decide), hw 1 (by decide) (by decide), hw 2 (by decide) (by decide), hw 3 (by decide) (by decide)]
theorem Cov_mono {w : Int → Int} {R : Int} : ∀ (n : Nat) (s s2 : Int → Int), (∀ k, 0 ≤ k → k < 4 → s2 k ≤ s k ∨ s2 k ≤ 0) → Cov w R n s → Cov w R n s2 := by
  intro n
  induction n with
  | zero =>
    intro s s2 h hc k h0 h4
    have := hc k h0 h4
    have := h k h0 h4
    omega
  | succ n ih =>
    intro s s2 h hc
    obtain ⟨p, hp, hd, hn⟩ := hc
    refine ⟨p, hp, hd, ih _ _ (fun k h0 h4 => ?_) hn⟩
    have := h k h0 h4
    have := hp k h0 h4
    omega
theorem Cov_congr {w w2 : Int → Int} {R : Int} (hw : ∀ k, 0 ≤ k → k < 4 → w k = w2 k) : ∀ (n : Nat) (s s2 : Int → Int), (∀ k, 0 ≤ k → k < 4 → s k = s2 k) → Cov w R n s → Cov w2 R n s2 := by
  intro n
  induction n with
  | zero =>
    intro s s2 h hc k h0 h4
    have := hc k h0 h4
    have := h k h0 h4
    omega
  | succ n ih =>
    intro s s2 h hc
    obtain ⟨p, hp, hd, hn⟩ := hc
    refine ⟨p, hp, by rw [← dot_congr (fun k _ _ => rfl) hw]; exact hd, ih _ _ (fun k h0 h4 => ?_) hn⟩
    have := h k h0 h4
    show s k - p k = s2 k - p k
    omega
theorem Cov_trim {w : Int → Int} {R : Int} (hw : ∀ k, 0 ≤ k → k < 4 → 0 ≤ w k) {n : Nat} {s : Int → Int} (h : Cov w R (n + 1) s) : ∃ p : Int → Int, (∀ k, 0 ≤ k → k < 4 → 0 ≤ p k ∧ (p k ≤ s k ∨ p k = 0)) ∧ dot p w ≤ R ∧ Cov w R n (fun k => s k - p k) := by
  obtain ⟨p, hp, hd, hn⟩ := h
  refine ⟨fun k => if p k ≤ s k then p k else if 0 ≤ s k then s k else 0, fun k h0 h4 => ?_, Int.le_trans (dot_mono hw (fun k h0 h4 => ?_)) hd, Cov_mono n _ _ (fun k h0 h4 => ?_) hn⟩
  · have := hp k h0 h4
    try dsimp only
    split
    · omega
    · split <;> omega
  · have := hp k h0 h4
    try dsimp only
    split
    · omega
    · split <;> omega
  · have := hp k h0 h4
    try dsimp only
    split
    · omega
    · split <;> omega
theorem Cov_must {w : Int → Int} {R : Int} (hw : ∀ k, 0 ≤ k → k < 4 → 0 ≤ w k) : ∀ (n : Nat) (s : Int → Int) (m : Int), 0 ≤ m → m < 4 → 0 < s m → Cov w R n s → ∃ n2 : Nat, n = n2 + 1 ∧ ∃ p : Int → Int, (∀ k, 0 ≤ k → k < 4 → 0 ≤ p k ∧ (p k ≤ s k ∨ p k = 0)) ∧ 1 ≤ p m ∧ dot p w ≤ R ∧ Cov w R n2 (fun k => s k - p k) := by
  intro n
  induction n with
  | zero =>
    intro s m h0 h4 hm hc
    have := hc m h0 h4
    omega
  | succ n ih =>
    intro s m h0 h4 hm hc
    obtain ⟨p, hp, hd, hn⟩ := Cov_trim hw hc
    by_cases h1 : 1 ≤ p m
    · exact ⟨n, rfl, p, hp, h1, hd, hn⟩
    · have hpm := hp m h0 h4
      obtain ⟨n2, e2, p2, hp2, hm2, hd2, hn2⟩ := ih (fun k => s k - p k) m h0 h4 (by show 0 < s m - p m; omega) hn
      refine ⟨n, rfl, p2, fun k a1 a2 => ?_, hm2, hd2, ?_⟩
      · have q1 := hp2 k a1 a2
        have q2 := hp k a1 a2
        try dsimp only at q1
        omega
      · rw [e2]
        refine ⟨p, fun k a1 a2 => (hp k a1 a2).1, hd, ?_⟩
        have e : (fun k => s k - p2 k - p k) = (fun k => (fun k => s k - p k) k - p2 k) := by funext k; (try dsimp only); omega
        rw [e]
        exact hn2
def unit (m : Int) : Int → Int := fun k => if k = m then 1 else 0
theorem dot_unit {w : Int → Int} {m : Int} (h0 : 0 ≤ m) (h4 : m < 4) : dot (unit m) w = w m := by
  rcases four h0 h4 with rfl | rfl | rfl | rfl <;> simp [dot, unit]
theorem Cov_exists {w : Int → Int} {R : Int} (hR : 0 ≤ R) : ∀ (n : Nat) (s : Int → Int), (∀ k, 0 ≤ k → k < 4 → 0 ≤ s k) → (∀ k, 0 ≤ k → k < 4 → 0 < s k → w k ≤ R) → s 0 + s 1 + s 2 + s 3 ≤ n → Cov w R n s := by
  intro n
  induction n with
  | zero =>
    intro s h0 hw hs k a1 a2
    have q0 := h0 0 (by decide) (by decide)
    have q1 := h0 1 (by decide) (by decide)
    have q2 := h0 2 (by decide) (by decide)
    have q3 := h0 3 (by decide) (by decide)
    rcases four a1 a2 with rfl | rfl | rfl | rfl <;> omega
  | succ n ih =>
    intro s h0 hw hs
    by_cases hz : ∃ m, 0 ≤ m ∧ m < 4 ∧ 0 < s m
    · obtain ⟨m, m0, m4, hm⟩ := hz
      refine ⟨unit m, fun k _ _ => by unfold unit; split <;> omega, by rw [dot_unit m0 m4]; exact hw m m0 m4 hm, ih _ (fun k a1 a2 => ?_) (fun k a1 a2 a3 => ?_) ?_⟩
      · have := h0 k a1 a2
        unfold unit
        by_cases e : k = m
        · subst e; simp; omega
        · simp [e]; omega
      · refine hw k a1 a2 ?_
        unfold unit at a3
        split at a3 <;> omega
      · rcases four m0 m4 with rfl | rfl | rfl | rfl <;> simp [unit] <;> omega
    · refine ⟨fun _ => 0, fun _ _ _ => Int.le_refl 0, by simp [dot]; exact hR, ih _ (fun k a1 a2 => by have := h0 k a1 a2; simp; omega) (fun k a1 a2 a3 => hw k a1 a2 (by simp at a3; omega)) ?_⟩
      have e : ∀ k, 0 ≤ k → k < 4 → s k = 0 := fun k a1 a2 => by
        have := h0 k a1 a2
        by_cases q : 0 < s k
        · exact absurd ⟨k, a1, a2, q⟩ hz
        · omega
      simp [e 0 (by decide) (by decide), e 1 (by decide) (by decide), e 2 (by decide) (by decide), e 3 (by decide) (by decide)]
/-- the least number of rolls -/
def Opt (w : Int → Int) (R : Int) (s : Int → Int) (n : Int) : Prop := ∃ m : Nat, n = m ∧ Cov w R m s ∧ ∀ j : Nat, Cov w R j s → m ≤ j
theorem Opt_uniq {w : Int → Int} {R : Int} {s : Int → Int} {n n2 : Int} (h : Opt w R s n) (h2 : Opt w R s n2) : n = n2 := by
  obtain ⟨m, rfl, hm, lm⟩ := h
  obtain ⟨m2, rfl, hm2, lm2⟩ := h2
  have := lm m2 hm2
  have := lm2 m hm
  omega
theorem Opt_congr {w w2 : Int → Int} {R : Int} {s s2 : Int → Int} {n : Int} (hw : ∀ k, 0 ≤ k → k < 4 → w k = w2 k) (hs : ∀ k, 0 ≤ k → k < 4 → s k = s2 k) (h : Opt w R s n) : Opt w2 R s2 n := by
  obtain ⟨m, rfl, hm, lm⟩ := h
  exact ⟨m, rfl, Cov_congr hw m s s2 hs hm, fun j hj => lm j (Cov_congr (fun k a1 a2 => (hw k a1 a2).symm) j s2 s (fun k a1 a2 => (hs k a1 a2).symm) hj)⟩
theorem Opt_mono {w : Int → Int} {R : Int} {s s2 : Int → Int} {n n2 : Int} (hs : ∀ k, 0 ≤ k → k < 4 → s k ≤ s2 k ∨ s k ≤ 0) (h : Opt w R s n) (h2 : Opt w R s2 n2) : n ≤ n2 := by
  obtain ⟨m, rfl, hm, lm⟩ := h
  obtain ⟨m2, rfl, hm2, lm2⟩ := h2
  have := lm m2 (Cov_mono m2 s2 s hs hm2)
  omega
theorem Opt_step {w : Int → Int} {R : Int} {s s2 p : Int → Int} {n n2 : Int} (hp : ∀ k, 0 ≤ k → k < 4 → 0 ≤ p k) (hd : dot p w ≤ R) (hs : ∀ k, 0 ≤ k → k < 4 → s k - p k ≤ s2 k ∨ s k - p k ≤ 0) (h : Opt w R s n) (h2 : Opt w R s2 n2) : n ≤ n2 + 1 := by
  obtain ⟨m, rfl, hm, lm⟩ := h
  obtain ⟨m2, rfl, hm2, lm2⟩ := h2
  have := lm (m2 + 1) ⟨p, hp, hd, Cov_mono m2 s2 _ hs hm2⟩
  omega
theorem Opt_nonneg {w : Int → Int} {R : Int} {s : Int → Int} {n : Int} (h : Opt w R s n) : 0 ≤ n := by
  obtain ⟨m, rfl, -⟩ := h
  omega
theorem Opt_le {w : Int → Int} {R : Int} {s : Int → Int} {n : Int} (h : Opt w R s n) (m : Nat) (hm : Cov w R m s) : n ≤ m := by
  obtain ⟨m, rfl, -, hl⟩ := h
  have := hl _ hm
  omega
theorem Opt_zero {w : Int → Int} {R : Int} {s : Int → Int} (h : ∀ k, 0 ≤ k → k < 4 → s k ≤ 0) : Opt w R s 0 := ⟨0, rfl, h, fun _ _ => Nat.zero_le _⟩
/-- prices at which no pattern is worth more than d bound a cover from below -/
theorem price_bound {w c : Int → Int} {R d : Int} (hw : ∀ k, 0 ≤ k → k < 4 → 0 ≤ w k) (PV : ∀ p : Int → Int, (∀ k, 0 ≤ k → k < 4 → 0 ≤ p k) → (∀ k, 0 ≤ k → k < 4 → R < w k → p k = 0) → dot p w ≤ R → dot p c ≤ d) :
    ∀ (n : Nat) (s : Int → Int), (∀ k, 0 ≤ k → k < 4 → 0 ≤ s k) → (∀ k, 0 ≤ k → k < 4 → R < w k → s k = 0) → Cov w R n s → dot s c ≤ n * d := by
  intro n
  induction n with
  | zero =>
    intro s h0 hz hc
    have e : ∀ k, 0 ≤ k → k < 4 → s k = 0 := fun k a1 a2 => by
      have := h0 k a1 a2
      have := hc k a1 a2
      omega
    simp [dot, e 0 (by decide) (by decide), e 1 (by decide) (by decide), e 2 (by decide) (by decide), e 3 (by decide) (by decide)]
  | succ n ih =>
    intro s h0 hz hc
    obtain ⟨p, hp, hd, hn⟩ := Cov_trim hw hc
    have hps : ∀ k, 0 ≤ k → k < 4 → 0 ≤ p k ∧ p k ≤ s k := fun k a1 a2 => by
      have := hp k a1 a2
      have := h0 k a1 a2
      omega
    have e1 := PV p (fun k a1 a2 => (hps k a1 a2).1) (fun k a1 a2 a3 => by have := hps k a1 a2; have := hz k a1 a2 a3; omega) hd
    have e2 := ih (fun k => s k - p k) (fun k a1 a2 => by have := hps k a1 a2; (try dsimp only); omega) (fun k a1 a2 a3 => by have := hps k a1 a2; have := hz k a1 a2 a3; (try dsimp only); omega) hn
    have e3 : dot s c = dot p c + dot (fun k => s k - p k) c := by
      unfold dot
      simp only [Int.sub_mul]
      omega
    have e4 : ((n + 1 : Nat) : Int) * d = n * d + d := by
      rw [Int.natCast_add, Int.add_mul]
      simp
    omega
theorem worth_bound {w c : Int → Int} {R : Int} {F : Int → Int} (hw : ∀ k, 0 ≤ k → k < 4 → 1 ≤ w k) (f0 : 0 ≤ F 0) (h1 : ∀ x, 1 ≤ x → x ≤ R → F (x - 1) ≤ F x) (h2 : ∀ x k, 1 ≤ x → x ≤ R → 0 ≤ k → k < 4 → w k ≤ x → F (x - w k) + c k ≤ F x) :
    ∀ (N : Nat) (p : Int → Int) (x : Int), (∀ k, 0 ≤ k → k < 4 → 0 ≤ p k) → p 0 + p 1 + p 2 + p 3 = N → 0 ≤ x → x ≤ R → dot p w ≤ x → dot p c ≤ F x := by
  have pos : ∀ (n : Nat), (n : Int) ≤ R → 0 ≤ F n := by
    intro n
    induction n with
    | zero => intro _; exact f0
    | succ n ih =>
      intro h
      have := ih (by omega)
      have := h1 (n + 1 : Nat) (by omega) h
      rw [show ((n + 1 : Nat) : Int) - 1 = n by omega] at this
      omega
  intro N
  induction N with
  | zero =>
    intro p x h0 hs x0 xR hd
    have q0 := h0 0 (by decide) (by decide)
    have q1 := h0 1 (by decide) (by decide)
    have q2 := h0 2 (by decide) (by decide)
    have q3 := h0 3 (by decide) (by decide)
    have e0 : p 0 = 0 := by omega
    have e1 : p 1 = 0 := by omega
    have e2 : p 2 = 0 := by omega
    have e3 : p 3 = 0 := by omega
    have := pos x.toNat (by omega)
    rw [show ((x.toNat : Nat) : Int) = x by omega] at this
    simp [dot, e0, e1, e2, e3]
    exact this
  | succ N ih =>
    intro p x h0 hs x0 xR hd
    have q0 := h0 0 (by decide) (by decide)
    have q1 := h0 1 (by decide) (by decide)
    have q2 := h0 2 (by decide) (by decide)
    have q3 := h0 3 (by decide) (by decide)
    obtain ⟨m, m0, m4, hm⟩ : ∃ m, 0 ≤ m ∧ m < 4 ∧ 1 ≤ p m := by
      by_cases a0 : 1 ≤ p 0
      · exact ⟨0, by decide, by decide, a0⟩
      by_cases a1 : 1 ≤ p 1
      · exact ⟨1, by decide, by decide, a1⟩
      by_cases a2 : 1 ≤ p 2
      · exact ⟨2, by decide, by decide, a2⟩
      · exact ⟨3, by decide, by decide, by omega⟩
    have key : ∀ c : Int → Int, dot p c = dot (fun k => p k - unit m k) c + c m := by
      intro c
      rw [← dot_unit (w := c) m0 m4]
      unfold dot
      simp only [Int.sub_mul]
      omega
    have kw := key w
    have kc := key c
    have nn : ∀ k, 0 ≤ k → k < 4 → 0 ≤ p k - unit m k := fun k a1 a2 => by
      have := h0 k a1 a2
      unfold unit
      by_cases e : k = m
      · subst e; simp; omega
      · simp [e]; omega
    have dnn : 0 ≤ dot (fun k => p k - unit m k) w := by
      have := dot_mono (p := fun _ => 0) (p2 := fun k => p k - unit m k) (w := w) (fun k a1 a2 => by have := hw k a1 a2; omega) nn
      simp [dot] at this ⊢
      exact this
    have wm := hw m m0 m4
    have := ih (fun k => p k - unit m k) (x - w m) nn (by rcases four m0 m4 with rfl | rfl | rfl | rfl <;> simp [unit] <;> omega) (by omega) (by omega) (by omega)
    have := h2 x m (by omega) xR m0 m4 (by omega)
    omega
end
section
-- demands written as numbers of four digits, base 4
def vec (e : Int) : Int → Int := fun k => if k = 0 then e % 4 else if k = 1 then e / 4 % 4 else if k = 2 then e / 16 % 4 else e / 64 % 4
def enc (p : Int → Int) : Int := p 0 + 4 * p 1 + 16 * p 2 + 64 * p 3
theorem vec_rng (e k : Int) : 0 ≤ vec e k ∧ vec e k ≤ 3 := by
  unfold vec
  split
  · omega
  split
  · omega
  split <;> omega
theorem vec0 (e : Int) : vec e 0 = e % 4 := rfl
theorem vec1 (e : Int) : vec e 1 = e / 4 % 4 := rfl
theorem vec2 (e : Int) : vec e 2 = e / 16 % 4 := rfl
theorem vec3 (e : Int) : vec e 3 = e / 64 % 4 := rfl
theorem enc_rng {p : Int → Int} (h : ∀ k, 0 ≤ k → k < 4 → 0 ≤ p k ∧ p k ≤ 3) : 0 ≤ enc p ∧ enc p < 256 := by
  have h0 := h 0 (by decide) (by decide)
  have h1 := h 1 (by decide) (by decide)
  have h2 := h 2 (by decide) (by decide)
  have h3 := h 3 (by decide) (by decide)
  unfold enc
  omega
theorem vec_enc {p : Int → Int} (h : ∀ k, 0 ≤ k → k < 4 → 0 ≤ p k ∧ p k ≤ 3) : ∀ k, 0 ≤ k → k < 4 → vec (enc p) k = p k := by
  have h0 := h 0 (by decide) (by decide)
  have h1 := h 1 (by decide) (by decide)
  have h2 := h 2 (by decide) (by decide)
  have h3 := h 3 (by decide) (by decide)
  intro k a1 a2
  rcases four a1 a2 with rfl | rfl | rfl | rfl
  · rw [vec0]; unfold enc; omega
  · rw [vec1]; unfold enc; omega
  · rw [vec2]; unfold enc; omega
  · rw [vec3]; unfold enc; omega
theorem enc_vec {e : Int} (h : 0 ≤ e ∧ e < 256) : enc (vec e) = e := by
  unfold enc
  rw [vec0, vec1, vec2, vec3]
  omega
theorem enc_congr {p p2 : Int → Int} (h : ∀ k, 0 ≤ k → k < 4 → p k = p2 k) : enc p = enc p2 := by
  unfold enc
  rw [h 0 (by decide) (by decide), h 1 (by decide) (by decide), h 2 (by decide) (by decide), h 3 (by decide) (by decide)]
theorem vec_sub {e p : Int} (he : 0 ≤ e ∧ e < 256) (hp : 0 ≤ p ∧ p < 256) (h : ∀ k, 0 ≤ k → k < 4 → vec p k ≤ vec e k) : (∀ k, 0 ≤ k → k < 4 → vec (e - p) k = vec e k - vec p k) ∧ p ≤ e := by
  have e1 := enc_vec he
  have e2 := enc_vec hp
  have hr : ∀ k, 0 ≤ k → k < 4 → 0 ≤ (fun k => vec e k - vec p k) k ∧ (fun k => vec e k - vec p k) k ≤ 3 := fun k a1 a2 => by
    have := h k a1 a2
    have := vec_rng e k
    have := vec_rng p k
    dsimp only
    omega
  have e3 : enc (fun k => vec e k - vec p k) = e - p := by
    unfold enc at e1 e2 ⊢
    dsimp only
    omega
  have h2 := vec_enc hr
  have h3 := enc_rng hr
  rw [e3] at h2 h3
  exact ⟨h2, by omega⟩
def mx0 (z : Int) : Int := if 0 < z then z else 0
/-- what a pattern leaves of a rest, as a number -/
def sbv (e p : Int) : Int → Int := fun k => mx0 (vec e k - vec p k)
theorem sbv_rng (e p k : Int) : 0 ≤ sbv e p k ∧ sbv e p k ≤ 3 := by
  have := vec_rng e k
  have := vec_rng p k
  unfold sbv mx0
  split <;> omega
theorem sbv_sub {e p : Int} (he : 0 ≤ e ∧ e < 256) (hp : 0 ≤ p ∧ p < 256) (h : ∀ k, 0 ≤ k → k < 4 → vec p k ≤ vec e k) : enc (sbv e p) = e - p := by
  have e1 := enc_vec he
  have e2 := enc_vec hp
  have : enc (sbv e p) = enc (fun k => vec e k - vec p k) := enc_congr (fun k a1 a2 => by
    have := h k a1 a2
    unfold sbv mx0
    split <;> omega)
  rw [this]
  unfold enc at e1 e2 ⊢
  dsimp only
  omega
theorem sbv_zero {e p : Int} : enc (sbv e p) = 0 ↔ ∀ k, 0 ≤ k → k < 4 → vec e k ≤ vec p k := by
  have r := sbv_rng e p
  have r0 := r 0
  have r1 := r 1
  have r2 := r 2
  have r3 := r 3
  constructor
  · intro h k a1 a2
    have hk : sbv e p k = 0 := by
      unfold enc at h
      rcases four a1 a2 with rfl | rfl | rfl | rfl <;> omega
    unfold sbv mx0 at hk
    split at hk <;> omega
  · intro h
    have hk : ∀ k, 0 ≤ k → k < 4 → sbv e p k = (fun _ => 0) k := fun k a1 a2 => by
      have := h k a1 a2
      show mx0 (vec e k - vec p k) = 0
      unfold mx0
      split <;> omega
    rw [enc_congr hk]
    rfl
def ps (f : Int → Int) (k : Int) : Int := if k ≤ 0 then 0 else if k = 1 then f 0 else if k = 2 then f 0 + f 1 else if k = 3 then f 0 + f 1 + f 2 else f 0 + f 1 + f 2 + f 3
theorem ps_0 (f : Int → Int) : ps f 0 = 0 := rfl
theorem ps_4 (f : Int → Int) : ps f 4 = f 0 + f 1 + f 2 + f 3 := rfl
theorem ps_s (f : Int → Int) {k : Int} (h0 : 0 ≤ k) (h4 : k < 4) : ps f (k + 1) = ps f k + f k := by
  rcases four h0 h4 with rfl | rfl | rfl | rfl <;> simp [ps]
theorem dot_ps (p w : Int → Int) : ps (fun k => p k * w k) 4 = dot p w := rfl
theorem mul_bnd {x y A B : Int} (hx : 0 ≤ x ∧ x ≤ A) (hy : 0 ≤ y ∧ y ≤ B) : 0 ≤ x * y ∧ x * y ≤ A * B := by
  refine ⟨Int.mul_nonneg hx.1 hy.1, Int.le_trans (Int.mul_le_mul_of_nonneg_right hx.2 hy.1) (Int.mul_le_mul_of_nonneg_left hy.2 (by omega))⟩
theorem dot_vec_rng {e : Int} {w : Int → Int} (hw : ∀ k, 0 ≤ k → k < 4 → 1 ≤ w k ∧ w k ≤ 20) : 0 ≤ dot (vec e) w ∧ dot (vec e) w ≤ 240 := by
  have b : ∀ k, 0 ≤ k → k < 4 → 0 ≤ vec e k * w k ∧ vec e k * w k ≤ 60 := fun k a1 a2 => by
    have := hw k a1 a2
    exact mul_bnd (A := 3) (B := 20) (vec_rng e k) (by omega)
  have b0 := b 0 (by decide) (by decide)
  have b1 := b 1 (by decide) (by decide)
  have b2 := b 2 (by decide) (by decide)
  have b3 := b 3 (by decide) (by decide)
  unfold dot
  omega
theorem sh_ok {k : Int} (h0 : 0 ≤ k) (h4 : k < 4) : ((zI (2 * k) &&& 31).toBitVec.smod 32).toNat = (2 * k).toNat := by
  rcases four h0 h4 with rfl | rfl | rfl | rfl <;> decide
theorem shr_vec {p k : Int} (h0 : 0 ≤ k) (h4 : k < 4) : p / 2 ^ (2 * k).toNat % 4 = vec p k := by
  rcases four h0 h4 with rfl | rfl | rfl | rfl <;> simp [vec]
def p4 (k : Int) : Int := if k ≤ 0 then 1 else if k = 1 then 4 else if k = 2 then 16 else 64
theorem p4_ok {k : Int} (h0 : 0 ≤ k) (h4 : k < 4) : (2 : Int) ^ (2 * k).toNat = p4 k := by
  rcases four h0 h4 with rfl | rfl | rfl | rfl <;> decide
theorem or_0 : ∀ n : Nat, n < 4 → zI 0 ||| zI ((n : Int) * 1) = zI (0 + (n : Int) * 1) := by decide +kernel
theorem or_1 : ∀ a : Nat, a < 4 → ∀ n : Nat, n < 4 → zI (a : Int) ||| zI ((n : Int) * 4) = zI ((a : Int) + (n : Int) * 4) := by decide +kernel
theorem or_2 : ∀ a : Nat, a < 16 → ∀ n : Nat, n < 4 → zI (a : Int) ||| zI ((n : Int) * 16) = zI ((a : Int) + (n : Int) * 16) := by decide +kernel
theorem or_3 : ∀ a : Nat, a < 64 → ∀ n : Nat, n < 4 → zI (a : Int) ||| zI ((n : Int) * 64) = zI ((a : Int) + (n : Int) * 64) := by decide +kernel
theorem or_ok {a n k : Int} (h0 : 0 ≤ k) (h4 : k < 4) (ha : 0 ≤ a ∧ a < p4 k) (hn : 0 ≤ n ∧ n ≤ 3) : zI a ||| zI (n * 2 ^ (2 * k).toNat) = zI (a + n * p4 k) := by
  rw [p4_ok h0 h4]
  have ea : a = (a.toNat : Int) := by omega
  have en : n = (n.toNat : Int) := by omega
  generalize a.toNat = x at ea
  generalize n.toNat = y at en
  subst ea en
  rcases four h0 h4 with rfl | rfl | rfl | rfl
  · have e : x = 0 := by simp [p4] at ha; omega
    subst e
    exact or_0 y (by omega)
  · exact or_1 x (by simp [p4] at ha; omega) y (by omega)
  · exact or_2 x (by simp [p4] at ha; omega) y (by omega)
  · exact or_3 x (by simp [p4] at ha; omega) y (by omega)
/-- partial numbers stay below the next digit -/
theorem ps_p4 {f : Int → Int} (hf : ∀ k, 0 ≤ k → k < 4 → 0 ≤ f k ∧ f k ≤ 3) {k : Int} (h0 : 0 ≤ k) (h4 : k < 4) : 0 ≤ ps (fun k => f k * p4 k) k ∧ ps (fun k => f k * p4 k) k < p4 k := by
  have f0 := hf 0 (by decide) (by decide)
  have f1 := hf 1 (by decide) (by decide)
  have f2 := hf 2 (by decide) (by decide)
  rcases four h0 h4 with rfl | rfl | rfl | rfl <;> simp [ps, p4] <;> omega
theorem ps_enc (f : Int → Int) : ps (fun k => f k * p4 k) 4 = enc f := by
  simp [ps, p4, enc]
  omega
/-- the reference's step: the best over all patterns within a rest is the least number -/
theorem dp_opt {w : Int → Int} {R : Int} {N : Int → Int} {e order v : Int} (hw : ∀ k, 0 ≤ k → k < 4 → 1 ≤ w k) (hR : 0 ≤ R) (he : 1 ≤ e ∧ e < 256) (hin : ∀ k, 0 ≤ k → k < 4 → vec e k ≤ vec order k) (hfit : ∀ k, 0 ≤ k → k < 4 → 0 < vec order k → w k ≤ R)
    (hN : ∀ e2, 0 ≤ e2 → e2 < e → (∀ k, 0 ≤ k → k < 4 → vec e2 k ≤ vec order k) → Opt w R (vec e2) (N e2)) (hv : v = 99 ∨ ∃ m : Nat, v = m ∧ Cov w R m (vec e))
    (hmin : ∀ p, 1 ≤ p → p ≤ e → (∀ k, 0 ≤ k → k < 4 → vec p k ≤ vec e k) → dot (vec p) w ≤ R → v ≤ N (e - p) + 1) : Opt w R (vec e) v := by
  have hw0 : ∀ k, 0 ≤ k → k < 4 → 0 ≤ w k := fun k a1 a2 => by have := hw k a1 a2; omega
  obtain ⟨m0, b1, b2, hm⟩ : ∃ m, 0 ≤ m ∧ m < 4 ∧ 0 < vec e m := by
    by_cases a0 : 0 < vec e 0
    · exact ⟨0, by decide, by decide, a0⟩
    by_cases a1 : 0 < vec e 1
    · exact ⟨1, by decide, by decide, a1⟩
    by_cases a2 : 0 < vec e 2
    · exact ⟨2, by decide, by decide, a2⟩
    refine ⟨3, by decide, by decide, ?_⟩
    have := enc_vec (e := e) (by omega)
    have := vec_rng e 0
    have := vec_rng e 1
    have := vec_rng e 2
    unfold enc at *
    omega
  have low : ∀ j : Nat, Cov w R j (vec e) → v ≤ j := by
    intro j hj
    obtain ⟨j2, rfl, p, hp, hpm, hd, hc⟩ := Cov_must hw0 j (vec e) m0 b1 b2 hm hj
    have hp3 : ∀ k, 0 ≤ k → k < 4 → 0 ≤ p k ∧ p k ≤ 3 := fun k a1 a2 => by
      have := hp k a1 a2
      have := vec_rng e k
      omega
    have hve := vec_enc hp3
    have her := enc_rng hp3
    have hle : ∀ k, 0 ≤ k → k < 4 → vec (enc p) k ≤ vec e k := fun k a1 a2 => by
      rw [hve k a1 a2]
      have := hp k a1 a2
      have := vec_rng e k
      omega
    obtain ⟨hs, hpe⟩ := vec_sub (e := e) (p := enc p) (by omega) her hle
    have he1 : 1 ≤ enc p := by
      have := hp3 0 (by decide) (by decide)
      have := hp3 1 (by decide) (by decide)
      have := hp3 2 (by decide) (by decide)
      have := hp3 3 (by decide) (by decide)
      unfold enc
      rcases four b1 b2 with rfl | rfl | rfl | rfl <;> omega
    have hd2 : dot (vec (enc p)) w ≤ R := by rw [dot_congr hve (fun _ _ _ => rfl)]; exact hd
    have hO := hN (e - enc p) (by omega) (by omega) (fun k a1 a2 => by rw [hs k a1 a2]; have := hin k a1 a2; have := vec_rng (enc p) k; omega)
    have h1 := Opt_le hO j2 (Cov_congr (fun _ _ _ => rfl) j2 _ _ (fun k a1 a2 => by rw [hs k a1 a2, hve k a1 a2]) hc)
    have h2 := hmin (enc p) he1 hpe hle hd2
    omega
  have h12 : v ≤ 12 := low 12 (Cov_exists hR 12 (vec e) (fun k _ _ => (vec_rng e k).1) (fun k a1 a2 a3 => hfit k a1 a2 (by have := hin k a1 a2; omega)) (by
    have := vec_rng e 0
    have := vec_rng e 1
    have := vec_rng e 2
    have := vec_rng e 3
    omega))
  rcases hv with rfl | ⟨m, rfl, hm⟩
  · omega
  · exact ⟨m, rfl, hm, fun j hj => by have := low j hj; omega⟩
end
section
section S10
variable (l : Launch) (D : va_G) (a : Nat → ClassId) (q : Nat → Nat) (σ : zS)
theorem c_M_kind (k : Int) (hk : -2147483648 ≤ k ∧ k < 2147483648) :
    K_M_kind l D a q [.ref (q 0), vI k] σ (fun v τ => τ = σ ∧ ((v = some (vI 1) ∧ 0 ≤ k ∧ k < 4) ∨ (v = some (vI 0) ∧ ¬ (0 ≤ k ∧ k < 4)))) := by
  refine Con.of (by decide) (mw_ad a q) (Nat.le_of_ble_eq_true rfl) (fun Γ X => ?_)
  have X : Cx Γ "CutDeskModel" b_M_kind (some .boolean) 2 0 0 (mw a q) _ l D (tysA a) := X
  show G Γ [(0, .ref (q 0)), (1, vI k)] σ 0 []
  refine g_iload_n X 1 d_M_kind_0 rfl rfl ?_
  refine g_if_lt X (tgt := 13) d_M_kind_1 (by decide) (by omega) (fun h1 => ?_) (fun h1 => ?_)
  · refine g_iconst X d_M_kind_13 ?_
    refine g_zret X d_M_kind_14 rfl (by decide) ?_
    exact ⟨rfl, Or.inr ⟨rfl, by omega⟩⟩
  · refine g_iload_n X 1 d_M_kind_4 rfl rfl ?_
    refine g_iconst X d_M_kind_5 ?_
    refine g_icmp_gt X (tgt := 13) d_M_kind_6 (by decide) (by omega) (by omega) (fun h6 => ?_) (fun h6 => ?_)
    · refine g_iconst X d_M_kind_13 ?_
      refine g_zret X d_M_kind_14 rfl (by decide) ?_
      exact ⟨rfl, Or.inr ⟨rfl, by omega⟩⟩
    · refine g_iconst X d_M_kind_9 ?_
      refine g_goto X (tgt := 14) d_M_kind_10 (by decide) ?_
      refine g_zret X d_M_kind_14 rfl (by decide) ?_
      exact ⟨rfl, Or.inl ⟨rfl, by omega, by omega⟩⟩
theorem c_M_part (p k : Int) (hp : 0 ≤ p ∧ p < 256) (hk : 0 ≤ k ∧ k < 4) :
    K_M_part l D a q [.ref (q 0), vI p, vI k] σ (fun v τ => τ = σ ∧ v = some (vI (vec p k))) := by
  refine Con.of (by decide) (mw_ad a q) (Nat.le_of_ble_eq_true rfl) (fun Γ X => ?_)
  have X : Cx Γ "CutDeskModel" b_M_part (some .int) 3 0 0 (mw a q) _ l D (tysA a) := X
  show G Γ [(0, .ref (q 0)), (1, vI p), (2, vI k)] σ 0 []
  refine g_iload_n X 1 d_M_part_0 rfl rfl ?_
  refine g_iconst X d_M_part_1 ?_
  refine g_iload_n X 2 d_M_part_2 rfl rfl ?_
  refine g_imul X d_M_part_3 ?_
  refine g_shr X ((2 * k).toNat) d_M_part_4 (sh_ok hk.1 hk.2) (by omega) ?_
  refine g_iconst X d_M_part_5 ?_
  refine g_and3 X d_M_part_6 ?_
  refine g_iret X d_M_part_7 rfl ?_
  exact ⟨rfl, by rw [shr_vec hk.1 hk.2]⟩
theorem c_M_length (p : Int) (hp : 0 ≤ p ∧ p < 256) :
    K_M_length l D a q [.ref (q 0), vI p] σ (fun v τ => τ = σ ∧ v = some (vI (dot (vec p) (σ 1)))) := by
  refine Con.of (by decide) (mw_ad a q) (Nat.le_of_ble_eq_true rfl) (fun Γ X => ?_)
  have X : Cx Γ "CutDeskModel" b_M_length (some .int) 4 1 22 (mw a q) _ l D (tysA a) := X
  show G Γ [(0, .ref (q 0)), (1, vI p)] σ 0 []
  have L : ∀ (n : Nat) (k : Int), k + n = 4 → 0 ≤ k → G Γ [(0, .ref (q 0)), (1, vI p), (2, vI (ps (fun k => vec p k * σ 1 k) k)), (3, vI k)] σ 4 [] := by
    intro n
    induction n with
    | zero =>
      intro k hk h0
      refine g_iload_n X 3 d_M_length_4 rfl rfl ?_
      refine g_iconst X d_M_length_5 ?_
      refine g_icmp_ge X (tgt := 31) d_M_length_6 (by decide) (by omega) (by omega) (fun h6 => ?_) (fun h6 => ?_)
      · refine g_iload_n X 2 d_M_length_31 rfl rfl ?_
        refine g_iret X d_M_length_32 rfl ?_
        have e : k = 4 := by omega
        subst e
        exact ⟨rfl, rfl⟩
      · omega
    | succ n ih =>
      intro k hk h0
      refine g_iload_n X 3 d_M_length_4 rfl rfl ?_
      refine g_iconst X d_M_length_5 ?_
      refine g_icmp_ge X (tgt := 31) d_M_length_6 (by decide) (by omega) (by omega) (fun h6 => ?_) (fun h6 => ?_)
      · omega
      · refine g_iload_n X 2 d_M_length_9 rfl rfl ?_
        refine g_aload_n X 0 d_M_length_10 rfl rfl ?_
        refine g_iload_n X 1 d_M_length_11 rfl rfl ?_
        refine g_iload_n X 3 d_M_length_12 rfl rfl ?_
        refine m_callV X (c_M_part l D a q σ p k hp ⟨h0, by omega⟩) d_M_length_13 lk_M_27 im_M_part sl_M_part k_M_part ok_M_part rfl (by decide) rfl (Nat.le_of_ble_eq_true rfl) (fun v2 σ2 hp2 => ?_)
        obtain ⟨rfl, rfl⟩ := hp2
        refine g_aload_n X 0 d_M_length_16 rfl rfl ?_
        refine m_get X 1 d_M_length_17 lk_M_7 (by decide) rfl rfl ?_
        refine g_iload_n X 3 d_M_length_20 rfl rfl ?_
        refine m_iald X d_M_length_21 (by rfl) (by omega) (by decide) ?_
        refine g_imul X d_M_length_22 ?_
        refine g_iadd X d_M_length_23 ?_
        refine g_istore_n X 2 d_M_length_24 rfl (by decide) ?_
        refine g_iinc X d_M_length_25 rfl (by decide) ?_
        refine g_goto X (tgt := 4) d_M_length_28 (by decide) ?_
        have := ih (k + 1) (by omega) (by omega)
        rw [ps_s _ h0 (by omega)] at this
        exact this
  refine g_iconst X d_M_length_0 ?_
  refine g_istore_n X 2 d_M_length_1 rfl (by decide) ?_
  refine g_iconst X d_M_length_2 ?_
  refine g_istore_n X 3 d_M_length_3 rfl (by decide) ?_
  exact L 4 0 (by omega) (by omega)
theorem c_M_after (e p : Int) (he : 0 ≤ e ∧ e < 256) (hp : 0 ≤ p ∧ p < 256) :
    K_M_after l D a q [.ref (q 0), vI e, vI p] σ (fun v τ => τ = σ ∧ v = some (vI (enc (sbv e p)))) := by
  refine Con.of (by decide) (mw_ad a q) (Nat.le_of_ble_eq_true rfl) (fun Γ X => ?_)
  have X : Cx Γ "CutDeskModel" b_M_after (some .int) 6 1 22 (mw a q) _ l D (tysA a) := X
  show G Γ [(0, .ref (q 0)), (1, vI e), (2, vI p)] σ 0 []
  have hsb : ∀ k, 0 ≤ k → k < 4 → 0 ≤ sbv e p k ∧ sbv e p k ≤ 3 := fun k _ _ => sbv_rng e p k
  have L : ∀ (n : Nat) (k : Int), k + n = 4 → 0 ≤ k → G Γ [(0, .ref (q 0)), (1, vI e), (2, vI p), (3, vI (ps (fun k => sbv e p k * p4 k) k)), (4, vI k)] σ 5 [] := by
    intro n
    induction n with
    | zero =>
      intro k hk h0
      refine g_iload X d_M_after_5 rfl ?_
      refine g_iconst X d_M_after_7 ?_
      refine g_icmp_ge X (tgt := 53) d_M_after_8 (by decide) (by omega) (by omega) (fun h8 => ?_) (fun h8 => ?_)
      · refine g_iload_n X 3 d_M_after_53 rfl rfl ?_
        refine g_iret X d_M_after_54 rfl ?_
        have e : k = 4 := by omega
        subst e
        rw [ps_enc]
        exact ⟨rfl, rfl⟩
      · omega
    | succ n ih =>
      intro k hk h0
      have h4 : k < 4 := by omega
      have J : G Γ [(0, .ref (q 0)), (1, vI e), (2, vI p), (3, vI (ps (fun k => sbv e p k * p4 k) k)), (4, vI k)] σ 40 [vI (sbv e p k), vI (ps (fun k => sbv e p k * p4 k) k)] := by
        have hr := hsb k h0 h4
        have hb := ps_p4 hsb h0 h4
        have h3 : sbv e p k * 2 ^ (2 * k).toNat < 2147483648 := by
          rw [p4_ok h0 h4]
          have := mul_bnd (A := 3) (B := 64) hr (y := p4 k) (by unfold p4; split <;> (try split) <;> (try split) <;> omega)
          omega
        refine g_iconst X d_M_after_40 ?_
        refine g_iload X d_M_after_41 rfl ?_
        refine g_imul X d_M_after_43 ?_
        refine g_shl X ((2 * k).toNat) d_M_after_44 (sh_ok h0 h4) (by exact ⟨hr.1, h3⟩) ?_
        refine g_ior X (z := ps (fun k => sbv e p k * p4 k) (k + 1)) d_M_after_45 ((or_ok h0 h4 hb hr).trans (by rw [ps_s _ h0 h4])) ?_
        refine g_istore_n X 3 d_M_after_46 rfl (by decide) ?_
        refine g_iinc X d_M_after_47 rfl (by decide) ?_
        refine g_goto X (tgt := 5) d_M_after_50 (by decide) ?_
        exact ih (k + 1) (by omega) (by omega)
      refine g_iload X d_M_after_5 rfl ?_
      refine g_iconst X d_M_after_7 ?_
      refine g_icmp_ge X (tgt := 53) d_M_after_8 (by decide) (by omega) (by omega) (fun h8 => ?_) (fun h8 => ?_)
      · omega
      · have hv1 := vec_rng e k
        have hv2 := vec_rng p k
        refine g_aload_n X 0 d_M_after_11 rfl rfl ?_
        refine g_iload_n X 1 d_M_after_12 rfl rfl ?_
        refine g_iload X d_M_after_13 rfl ?_
        refine m_callV X (c_M_part l D a q σ e k he ⟨h0, h4⟩) d_M_after_15 lk_M_27 im_M_part sl_M_part k_M_part ok_M_part rfl (by decide) rfl (Nat.le_of_ble_eq_true rfl) (fun v2 σ2 hp2 => ?_)
        obtain ⟨rfl, rfl⟩ := hp2
        refine g_aload_n X 0 d_M_after_18 rfl rfl ?_
        refine g_iload_n X 2 d_M_after_19 rfl rfl ?_
        refine g_iload X d_M_after_20 rfl ?_
        refine m_callV X (c_M_part l D a q σ2 p k hp ⟨h0, h4⟩) d_M_after_22 lk_M_27 im_M_part sl_M_part k_M_part ok_M_part rfl (by decide) rfl (Nat.le_of_ble_eq_true rfl) (fun v3 σ3 hp3 => ?_)
        obtain ⟨rfl, rfl⟩ := hp3
        refine g_isub X d_M_after_25 ?_
        refine g_istore X d_M_after_26 (by decide) ?_
        refine g_iload_n X 3 d_M_after_28 rfl rfl ?_
        refine g_iload X d_M_after_29 rfl ?_
        refine g_if_le X (tgt := 39) d_M_after_31 (by decide) (by omega) (fun h31 => ?_) (fun h31 => ?_)
        · refine g_iconst X d_M_after_39 ?_
          refine g_sub [0, 1, 2, 3, 4] rfl ?_
          have e0 : sbv e p k = 0 := by unfold sbv mx0; split <;> omega
          rw [e0] at J
          exact J
        · refine g_iload X d_M_after_34 rfl ?_
          refine g_goto X (tgt := 40) d_M_after_36 (by decide) ?_
          refine g_sub [0, 1, 2, 3, 4] rfl ?_
          have e0 : sbv e p k = vec e k - vec p k := by unfold sbv mx0; split <;> omega
          rw [e0] at J
          exact J
  refine g_iconst X d_M_after_0 ?_
  refine g_istore_n X 3 d_M_after_1 rfl (by decide) ?_
  refine g_iconst X d_M_after_2 ?_
  refine g_istore X d_M_after_3 (by decide) ?_
  exact L 4 0 (by omega) (by omega)
theorem c_M_within (e p : Int) (he : 0 ≤ e ∧ e < 256) (hp : 0 ≤ p ∧ p < 256) :
    K_M_within l D a q [.ref (q 0), vI e, vI p] σ (fun v τ => τ = σ ∧ ((v = some (vI 1) ∧ ∀ k, 0 ≤ k → k < 4 → vec e k ≤ vec p k) ∨ (v = some (vI 0) ∧ ¬ ∀ k, 0 ≤ k → k < 4 → vec e k ≤ vec p k))) := by
  refine Con.of (by decide) (mw_ad a q) (Nat.le_of_ble_eq_true rfl) (fun Γ X => ?_)
  have X : Cx Γ "CutDeskModel" b_M_within (some .boolean) 3 2 47 (mw a q) _ l D (tysA a) := X
  show G Γ [(0, .ref (q 0)), (1, vI e), (2, vI p)] σ 0 []
  have hr := enc_rng (p := sbv e p) (fun k _ _ => sbv_rng e p k)
  refine g_aload_n X 0 d_M_within_0 rfl rfl ?_
  refine g_iload_n X 1 d_M_within_1 rfl rfl ?_
  refine g_iload_n X 2 d_M_within_2 rfl rfl ?_
  refine m_callV X (c_M_after l D a q σ e p he hp) d_M_within_3 lk_M_31 im_M_after sl_M_after k_M_after ok_M_after rfl (by decide) rfl (Nat.le_of_ble_eq_true rfl) (fun v2 σ2 hp2 => ?_)
  obtain ⟨rfl, rfl⟩ := hp2
  refine g_if_ne X (tgt := 13) d_M_within_6 (by decide) (by omega) (fun h6 => ?_) (fun h6 => ?_)
  · refine g_iconst X d_M_within_13 ?_
    refine g_zret X d_M_within_14 rfl (by decide) ?_
    exact ⟨rfl, Or.inr ⟨rfl, fun h => h6 (sbv_zero.mpr h)⟩⟩
  · refine g_iconst X d_M_within_9 ?_
    refine g_goto X (tgt := 14) d_M_within_10 (by decide) ?_
    refine g_zret X d_M_within_14 rfl (by decide) ?_
    exact ⟨rfl, Or.inl ⟨rfl, sbv_zero.mp h6⟩⟩
theorem c_M_whole (ho : ∀ k, 0 ≤ k → k < 4 → 0 ≤ σ 2 k ∧ σ 2 k ≤ 3) :
    K_M_whole l D a q [.ref (q 0)] σ (fun v τ => τ = σ ∧ v = some (vI (enc (σ 2)))) := by
  refine Con.of (by decide) (mw_ad a q) (Nat.le_of_ble_eq_true rfl) (fun Γ X => ?_)
  have X : Cx Γ "CutDeskModel" b_M_whole (some .int) 3 0 0 (mw a q) _ l D (tysA a) := X
  show G Γ [(0, .ref (q 0))] σ 0 []
  have L : ∀ (n : Nat) (k : Int), k + n = 4 → 0 ≤ k → G Γ [(0, .ref (q 0)), (1, vI (ps (fun k => σ 2 k * p4 k) k)), (2, vI k)] σ 4 [] := by
    intro n
    induction n with
    | zero =>
      intro k hk h0
      refine g_iload_n X 2 d_M_whole_4 rfl rfl ?_
      refine g_iconst X d_M_whole_5 ?_
      refine g_icmp_ge X (tgt := 28) d_M_whole_6 (by decide) (by omega) (by omega) (fun h6 => ?_) (fun h6 => ?_)
      · refine g_iload_n X 1 d_M_whole_28 rfl rfl ?_
        refine g_iret X d_M_whole_29 rfl ?_
        have e : k = 4 := by omega
        subst e
        rw [ps_enc]
        exact ⟨rfl, rfl⟩
      · omega
    | succ n ih =>
      intro k hk h0
      have h4 : k < 4 := by omega
      have hr := ho k h0 h4
      have hb := ps_p4 ho h0 h4
      have h3 : σ 2 k * 2 ^ (2 * k).toNat < 2147483648 := by
        rw [p4_ok h0 h4]
        have := mul_bnd (A := 3) (B := 64) hr (y := p4 k) (by unfold p4; split <;> (try split) <;> (try split) <;> omega)
        omega
      refine g_iload_n X 2 d_M_whole_4 rfl rfl ?_
      refine g_iconst X d_M_whole_5 ?_
      refine g_icmp_ge X (tgt := 28) d_M_whole_6 (by decide) (by omega) (by omega) (fun h6 => ?_) (fun h6 => ?_)
      · omega
      · refine g_iload_n X 1 d_M_whole_9 rfl rfl ?_
        refine g_aload_n X 0 d_M_whole_10 rfl rfl ?_
        refine m_get X 2 d_M_whole_11 lk_M_13 (by decide) rfl rfl ?_
        refine g_iload_n X 2 d_M_whole_14 rfl rfl ?_
        refine m_iald X d_M_whole_15 (by rfl) (by omega) (by decide) ?_
        refine g_iconst X d_M_whole_16 ?_
        refine g_iload_n X 2 d_M_whole_17 rfl rfl ?_
        refine g_imul X d_M_whole_18 ?_
        refine g_shl X ((2 * k).toNat) d_M_whole_19 (sh_ok h0 h4) (by exact ⟨hr.1, h3⟩) ?_
        refine g_ior X (z := ps (fun k => σ 2 k * p4 k) (k + 1)) d_M_whole_20 ((or_ok h0 h4 hb hr).trans (by rw [ps_s _ h0 h4])) ?_
        refine g_istore_n X 1 d_M_whole_21 rfl (by decide) ?_
        refine g_iinc X d_M_whole_22 rfl (by decide) ?_
        refine g_goto X (tgt := 4) d_M_whole_25 (by decide) ?_
        exact ih (k + 1) (by omega) (by omega)
  refine g_iconst X d_M_whole_0 ?_
  refine g_istore_n X 1 d_M_whole_1 rfl (by decide) ?_
  refine g_iconst X d_M_whole_2 ?_
  refine g_istore_n X 2 d_M_whole_3 rfl (by decide) ?_
  exact L 4 0 (by omega) (by omega)
end S10
end
section
-- the common meaning of both sides' answers, over roll width R, widths w, orders o
def setv (o : Int → Int) (k n : Int) : Int → Int := fun j => if j = k then n else o j
def sbo (o : Int → Int) (p : Int) : Int → Int := fun k => mx0 (o k - vec p k)
def FT (w : Int → Int) (R p : Int) : Prop := 0 ≤ p ∧ p ≤ 255 ∧ dot (vec p) w ≤ R
def CU (w : Int → Int) (R : Int) (o : Int → Int) (p : Int) : Prop := FT w R p ∧ ∃ c, 0 < c ∧ Opt w R o c ∧ Opt w R (sbo o p) (c - 1)
def GU (w : Int → Int) (R : Int) (o : Int → Int) (x : Int) : Prop := (x = -1 ∧ ∀ p, 1 ≤ p → p ≤ 255 → ¬ CU w R o p) ∨ (1 ≤ x ∧ x ≤ 255 ∧ CU w R o x ∧ ∀ p, x < p → p ≤ 255 → ¬ CU w R o p)
def FE (w : Int → Int) (R : Int) (o : Int → Int) (k n : Int) : Prop := ∃ c, Opt w R o c ∧ Opt w R (setv o k n) c
def FO (w : Int → Int) (R : Int) (o : Int → Int) (k x : Int) : Prop := (x = o k ∨ (o k < x ∧ x ≤ 3 ∧ FE w R o k x)) ∧ ∀ n, x < n → n ≤ 3 → o k < n → ¬ FE w R o k n
def LB (w : Int → Int) (o : Int → Int) (W : Int) : Prop := ¬ (1 ≤ W ∧ W ≤ 40) ∨ ∃ k, 0 ≤ k ∧ k < 4 ∧ 0 < o k ∧ W < w k
def SI (σ : zS) : Prop := (1 ≤ σ 0 0 ∧ σ 0 0 ≤ 20) ∧ (∀ k, 0 ≤ k → k < 4 → 1 ≤ σ 1 k ∧ σ 1 k ≤ σ 0 0) ∧ ∀ k, 0 ≤ k → k < 4 → 0 ≤ σ 2 k ∧ σ 2 k ≤ 3
theorem SI.w20 {σ : zS} (h : SI σ) : ∀ k, 0 ≤ k → k < 4 → 1 ≤ σ 1 k ∧ σ 1 k ≤ 20 := fun k a1 a2 => by
  have := h.2.1 k a1 a2
  have := h.1
  omega
theorem GU_uniq {w : Int → Int} {R : Int} {o : Int → Int} {x y : Int} (hx : GU w R o x) (hy : GU w R o y) : x = y := by
  rcases hx with ⟨rfl, hx⟩ | ⟨x1, x2, x3, x4⟩ <;> rcases hy with ⟨rfl, hy⟩ | ⟨y1, y2, y3, y4⟩
  · rfl
  · exact absurd y3 (hx y y1 y2)
  · exact absurd x3 (hy x x1 x2)
  · rcases Int.lt_trichotomy x y with h | h | h
    · exact absurd y3 (x4 y h y2)
    · exact h
    · exact absurd x3 (y4 x h x2)
theorem FO_uniq {w : Int → Int} {R : Int} {o : Int → Int} {k x y : Int} (hx : FO w R o k x) (hy : FO w R o k y) : x = y := by
  obtain ⟨x1, x2⟩ := hx
  obtain ⟨y1, y2⟩ := hy
  rcases Int.lt_trichotomy x y with h | h | h
  · rcases y1 with y1 | ⟨a1, a2, a3⟩
    · rcases x1 with x1 | x1 <;> omega
    · exact absurd a3 (x2 y h a2 a1)
  · exact h
  · rcases x1 with x1 | ⟨a1, a2, a3⟩
    · rcases y1 with y1 | y1 <;> omega
    · exact absurd a3 (y2 x h a2 a1)
theorem FT_congr {w w2 : Int → Int} {R p : Int} (hw : ∀ k, 0 ≤ k → k < 4 → w k = w2 k) : FT w R p ↔ FT w2 R p := by
  unfold FT
  rw [dot_congr (p := vec p) (fun _ _ _ => rfl) hw]
theorem CU_congr' {w w2 o o2 : Int → Int} {R p : Int} (hw : ∀ k, 0 ≤ k → k < 4 → w k = w2 k) (ho : ∀ k, 0 ≤ k → k < 4 → o k = o2 k) (h : CU w R o p) : CU w2 R o2 p := by
  obtain ⟨h1, c, h2, h3, h4⟩ := h
  exact ⟨(FT_congr hw).mp h1, c, h2, Opt_congr hw ho h3, Opt_congr hw (fun k a1 a2 => by unfold sbo; rw [ho k a1 a2]) h4⟩
theorem CU_congr {w w2 o o2 : Int → Int} {R p : Int} (hw : ∀ k, 0 ≤ k → k < 4 → w k = w2 k) (ho : ∀ k, 0 ≤ k → k < 4 → o k = o2 k) : CU w R o p ↔ CU w2 R o2 p :=
  ⟨CU_congr' hw ho, CU_congr' (fun k a1 a2 => (hw k a1 a2).symm) (fun k a1 a2 => (ho k a1 a2).symm)⟩
theorem GU_congr {w w2 o o2 : Int → Int} {R x : Int} (hw : ∀ k, 0 ≤ k → k < 4 → w k = w2 k) (ho : ∀ k, 0 ≤ k → k < 4 → o k = o2 k) (h : GU w R o x) : GU w2 R o2 x := by
  rcases h with ⟨h1, h2⟩ | ⟨h1, h2, h3, h4⟩
  · exact Or.inl ⟨h1, fun p a1 a2 hc => h2 p a1 a2 ((CU_congr hw ho).mpr hc)⟩
  · exact Or.inr ⟨h1, h2, (CU_congr hw ho).mp h3, fun p a1 a2 hc => h4 p a1 a2 ((CU_congr hw ho).mpr hc)⟩
theorem FE_congr' {w w2 o o2 : Int → Int} {R k n : Int} (hw : ∀ k, 0 ≤ k → k < 4 → w k = w2 k) (ho : ∀ k, 0 ≤ k → k < 4 → o k = o2 k) (h : FE w R o k n) : FE w2 R o2 k n := by
  obtain ⟨c, h1, h2⟩ := h
  exact ⟨c, Opt_congr hw ho h1, Opt_congr hw (fun j a1 a2 => by unfold setv; split; rfl; exact ho j a1 a2) h2⟩
theorem FE_congr {w w2 o o2 : Int → Int} {R k n : Int} (hw : ∀ k, 0 ≤ k → k < 4 → w k = w2 k) (ho : ∀ k, 0 ≤ k → k < 4 → o k = o2 k) : FE w R o k n ↔ FE w2 R o2 k n :=
  ⟨FE_congr' hw ho, FE_congr' (fun k a1 a2 => (hw k a1 a2).symm) (fun k a1 a2 => (ho k a1 a2).symm)⟩
theorem FO_congr {w w2 o o2 : Int → Int} {R k x : Int} (hk : 0 ≤ k ∧ k < 4) (hw : ∀ k, 0 ≤ k → k < 4 → w k = w2 k) (ho : ∀ k, 0 ≤ k → k < 4 → o k = o2 k) (h : FO w R o k x) : FO w2 R o2 k x := by
  obtain ⟨h1, h2⟩ := h
  have e := ho k hk.1 hk.2
  refine ⟨?_, fun n a1 a2 a3 hc => h2 n a1 a2 (by omega) ((FE_congr hw ho).mpr hc)⟩
  rcases h1 with h1 | ⟨a1, a2, a3⟩
  · exact Or.inl (by omega)
  · exact Or.inr ⟨by omega, a2, (FE_congr hw ho).mp a3⟩
theorem LB_congr {w w2 o o2 : Int → Int} {W : Int} (hw : ∀ k, 0 ≤ k → k < 4 → w k = w2 k) (ho : ∀ k, 0 ≤ k → k < 4 → o k = o2 k) (h : LB w o W) : LB w2 o2 W := by
  rcases h with h | ⟨k, a1, a2, a3, a4⟩
  · exact Or.inl h
  · exact Or.inr ⟨k, a1, a2, by rw [← ho k a1 a2]; exact a3, by rw [← hw k a1 a2]; exact a4⟩
theorem Opt_12 {w o : Int → Int} {R n : Int} (hR : 0 ≤ R) (ho : ∀ k, 0 ≤ k → k < 4 → 0 ≤ o k ∧ o k ≤ 3) (hf : ∀ k, 0 ≤ k → k < 4 → 0 < o k → w k ≤ R) (h : Opt w R o n) : 0 ≤ n ∧ n ≤ 12 := by
  refine ⟨Opt_nonneg h, Opt_le h 12 (Cov_exists hR 12 o (fun k a1 a2 => (ho k a1 a2).1) hf ?_)⟩
  have := ho 0 (by decide) (by decide)
  have := ho 1 (by decide) (by decide)
  have := ho 2 (by decide) (by decide)
  have := ho 3 (by decide) (by decide)
  omega
/-- CU decided by the answers: one roll less suffices iff the rest's number is at most one less -/
theorem CU_iff {w o : Int → Int} {R p now n2 : Int} (hf : FT w R p) (h1 : Opt w R o now) (h2 : Opt w R (sbo o p) n2) : CU w R o p ↔ 0 < now ∧ n2 ≤ now - 1 := by
  constructor
  · rintro ⟨-, c, c0, c1, c2⟩
    have e1 := Opt_uniq h1 c1
    have e2 := Opt_uniq h2 c2
    omega
  · rintro ⟨a1, a2⟩
    have := Opt_step (p := vec p) (fun k _ _ => (vec_rng p k).1) hf.2.2 (s2 := sbo o p) (fun k _ _ => by unfold sbo mx0; split <;> omega) h1 h2
    have e : n2 = now - 1 := by omega
    exact ⟨hf, now, a1, h1, e ▸ h2⟩
theorem FE_iff {w o : Int → Int} {R k n now n2 : Int} (hn : o k ≤ n) (h1 : Opt w R o now) (h2 : Opt w R (setv o k n) n2) : (FE w R o k n ↔ n2 ≤ now) ∧ (FE w R o k n ↔ n2 = now) := by
  have hm := Opt_mono (s := o) (s2 := setv o k n) (fun j _ _ => by unfold setv; split; (rename_i e; subst e; omega); omega) h1 h2
  have hu : FE w R o k n ↔ n2 = now := by
    constructor
    · rintro ⟨c, c1, c2⟩
      have := Opt_uniq h1 c1
      have := Opt_uniq h2 c2
      omega
    · rintro rfl
      exact ⟨n2, h1, h2⟩
  exact ⟨by rw [hu]; omega, hu⟩
end
section
section S12
variable (l : Launch) (D : va_G) (a : Nat → ClassId) (q : Nat → Nat) (σ : zS)
/-- work(order, width): the table holds the least numbers of all rests within the order -/
theorem c_M_work (od R : Int) (hod : 0 ≤ od ∧ od < 256) (hR : 1 ≤ R ∧ R ≤ 40) (hw : ∀ k, 0 ≤ k → k < 4 → 1 ≤ σ 1 k ∧ σ 1 k ≤ 20) (hf : ∀ k, 0 ≤ k → k < 4 → 0 < vec od k → σ 1 k ≤ R) :
    K_M_work l D a q [.ref (q 0), vI od, vI R] σ (fun v τ => v = none ∧ (∀ i, i ≠ 3 → τ i = σ i) ∧ ∀ e, 0 ≤ e → e < 256 → (∀ k, 0 ≤ k → k < 4 → vec e k ≤ vec od k) → Opt (σ 1) R (vec e) (τ 3 e)) := by
  refine Con.of (by decide) (mw_ad a q) (Nat.le_of_ble_eq_true rfl) (fun Γ X => ?_)
  have X : Cx Γ "CutDeskModel" b_M_work none 6 3 69 (mw a q) _ l D (tysA a) := X
  show G Γ [(0, .ref (q 0)), (1, vI od), (2, vI R)] σ 0 []
  have hw1 : ∀ k, 0 ≤ k → k < 4 → 1 ≤ σ 1 k := fun k a1 a2 => (hw k a1 a2).1
  have bnd : ∀ (e : Int) (n : Int), (∀ k, 0 ≤ k → k < 4 → vec e k ≤ vec od k) → Opt (σ 1) R (vec e) n → 0 ≤ n ∧ n ≤ 12 := fun e n h1 h2 =>
    Opt_12 (by omega) (fun k _ _ => vec_rng e k) (fun k a1 a2 a3 => hf k a1 a2 (by have := h1 k a1 a2; omega)) h2
  -- the inner loop, by what is left of it
  have I : ∀ (e : Int), 1 ≤ e → e < 256 → (∀ k, 0 ≤ k → k < 4 → vec e k ≤ vec od k) →
      (∀ (ρ : zS), (∀ i, i ≠ 3 → ρ i = σ i) → (∀ e2, 0 ≤ e2 → e2 < e + 1 → (∀ k, 0 ≤ k → k < 4 → vec e2 k ≤ vec od k) → Opt (σ 1) R (vec e2) (ρ 3 e2)) → G Γ [(0, .ref (q 0)), (1, vI od), (2, vI R), (3, vI e)] ρ 112 []) →
      ∀ (n : Nat) (p : Int) (τ : zS), p + n = e + 1 → 1 ≤ p → (∀ i, i ≠ 3 → τ i = σ i) → (∀ e2, 0 ≤ e2 → e2 < e → (∀ k, 0 ≤ k → k < 4 → vec e2 k ≤ vec od k) → Opt (σ 1) R (vec e2) (τ 3 e2)) →
        (0 ≤ τ 3 e ∧ τ 3 e ≤ 99) → (τ 3 e = 99 ∨ ∃ m : Nat, τ 3 e = m ∧ Cov (σ 1) R m (vec e)) → (∀ p2, 1 ≤ p2 → p2 < p → (∀ k, 0 ≤ k → k < 4 → vec p2 k ≤ vec e k) → dot (vec p2) (σ 1) ≤ R → τ 3 e ≤ τ 3 (e - p2) + 1) →
        G Γ [(0, .ref (q 0)), (1, vI od), (2, vI R), (3, vI e), (4, vI p)] τ 36 [] := by
    intro e he1 he2 hin hout n
    induction n with
    | zero =>
      intro p τ hp hp1 hfr hN hv1 hv2 hmin
      refine g_iload X d_M_work_36 rfl ?_
      refine g_iload_n X 3 d_M_work_38 rfl rfl ?_
      refine g_icmp_gt X (tgt := 112) d_M_work_39 (by decide) (by omega) (by omega) (fun h39 => ?_) (fun h39 => ?_)
      · refine g_sub [0, 1, 2, 3] rfl ?_
        refine hout τ hfr (fun e2 a1 a2 a3 => ?_)
        by_cases h : e2 = e
        · subst h
          exact dp_opt hw1 (by omega) ⟨he1, he2⟩ hin hf hN hv2 (fun p2 b1 b2 b3 b4 => hmin p2 b1 (by omega) b3 b4)
        · exact hN e2 a1 (by omega) a3
      · omega
    | succ n ih =>
      intro p τ hp hp1 hfr hN hv1 hv2 hmin
      have hl := dot_vec_rng (e := p) hw
      have t1 : τ 1 = σ 1 := hfr 1 (by decide)
      -- going on without a change
      have skip : (∀ k, 0 ≤ k → k < 4 → vec p k ≤ vec e k) ∧ dot (vec p) (σ 1) ≤ R → False ∨ True := fun _ => Or.inr trivial
      have next : ∀ ρ : zS, (∀ i, i ≠ 3 → ρ i = σ i) → (∀ e2, e2 ≠ e → ρ 3 e2 = τ 3 e2) → (0 ≤ ρ 3 e ∧ ρ 3 e ≤ τ 3 e) → (ρ 3 e = 99 ∨ ∃ m : Nat, ρ 3 e = m ∧ Cov (σ 1) R m (vec e)) →
          ((∀ k, 0 ≤ k → k < 4 → vec p k ≤ vec e k) → dot (vec p) (σ 1) ≤ R → ρ 3 e ≤ τ 3 (e - p) + 1) → G Γ [(0, .ref (q 0)), (1, vI od), (2, vI R), (3, vI e), (4, vI p)] ρ 106 [] := by
        intro ρ r1 r2 r3 r4 r5
        refine g_iinc X d_M_work_106 rfl (by decide) ?_
        refine g_goto X (tgt := 36) d_M_work_109 (by decide) ?_
        refine ih (p + 1) ρ (by omega) (by omega) r1 (fun e2 a1 a2 a3 => by rw [r2 e2 (by omega)]; exact hN e2 a1 a2 a3) (by omega) r4 (fun p2 b1 b2 b3 b4 => ?_)
        by_cases h : p2 = p
        · subst h
          rw [r2 (e - p2) (by omega)]
          exact r5 b3 b4
        · rw [r2 (e - p2) (by omega)]
          have := hmin p2 b1 (by omega) b3 b4
          omega
      refine g_iload X d_M_work_36 rfl ?_
      refine g_iload_n X 3 d_M_work_38 rfl rfl ?_
      refine g_icmp_gt X (tgt := 112) d_M_work_39 (by decide) (by omega) (by omega) (fun h39 => ?_) (fun h39 => ?_)
      · omega
      · refine g_aload_n X 0 d_M_work_42 rfl rfl ?_
        refine g_iload X d_M_work_43 rfl ?_
        refine g_iload_n X 3 d_M_work_45 rfl rfl ?_
        refine m_callV X (c_M_within l D a q τ p e (by omega) (by omega)) d_M_work_46 lk_M_34 im_M_within sl_M_within k_M_within ok_M_within rfl (by decide) rfl (Nat.le_of_ble_eq_true rfl) (fun v2 σ2 hp2 => ?_)
        obtain ⟨rfl, hp2⟩ := hp2
        rcases hp2 with ⟨rfl, hwi⟩ | ⟨rfl, hwi⟩
        · refine g_if_eq X (tgt := 106) d_M_work_49 (by decide) (by omega) (fun h49 => ?_) (fun h49 => ?_)
          · omega
          · refine g_aload_n X 0 d_M_work_52 rfl rfl ?_
            refine g_iload X d_M_work_53 rfl ?_
            refine m_callV X (c_M_length l D a q σ2 p (by omega)) d_M_work_55 lk_M_38 im_M_length sl_M_length k_M_length ok_M_length rfl (by decide) rfl (Nat.le_of_ble_eq_true rfl) (fun v3 σ3 hp3 => ?_)
            obtain ⟨rfl, rfl⟩ := hp3
            rw [t1]
            refine g_iload_n X 2 d_M_work_58 rfl rfl ?_
            refine g_icmp_gt X (tgt := 106) d_M_work_59 (by decide) (by omega) (by omega) (fun h59 => ?_) (fun h59 => ?_)
            · exact next σ3 hfr (fun _ _ => rfl) ⟨hv1.1, Int.le_refl _⟩ hv2 (fun _ b2 => by omega)
            · refine g_aload_n X 0 d_M_work_62 rfl rfl ?_
              refine m_get X 3 d_M_work_63 lk_M_16 (by decide) rfl rfl ?_
              refine g_aload_n X 0 d_M_work_66 rfl rfl ?_
              refine g_iload_n X 3 d_M_work_67 rfl rfl ?_
              refine g_iload X d_M_work_68 rfl ?_
              obtain ⟨hsub, hpe⟩ := vec_sub (e := e) (p := p) (by omega) (by omega) hwi
              have hO := hN (e - p) (by omega) (by omega) (fun k a1 a2 => by rw [hsub k a1 a2]; have := hin k a1 a2; have := vec_rng p k; omega)
              have hOb := bnd (e - p) _ (fun k a1 a2 => by rw [hsub k a1 a2]; have := hin k a1 a2; have := vec_rng p k; omega) hO
              refine m_callV X (c_M_after l D a q σ3 e p (by omega) (by omega)) d_M_work_70 lk_M_31 im_M_after sl_M_after k_M_after ok_M_after rfl (by decide) rfl (Nat.le_of_ble_eq_true rfl) (fun v4 σ4 hp4 => ?_)
              obtain ⟨rfl, rfl⟩ := hp4
              rw [sbv_sub (by omega) (by omega) hwi]
              refine m_iald X d_M_work_73 (by rfl) (by omega) (by decide) ?_
              refine g_iconst X d_M_work_74 ?_
              refine g_iadd X d_M_work_75 ?_
              refine g_istore X d_M_work_76 (by decide) ?_
              refine g_aload_n X 0 d_M_work_78 rfl rfl ?_
              refine m_get X 3 d_M_work_79 lk_M_16 (by decide) rfl rfl ?_
              refine g_iload_n X 3 d_M_work_82 rfl rfl ?_
              refine g_iload X d_M_work_83 rfl ?_
              refine g_aload_n X 0 d_M_work_85 rfl rfl ?_
              refine m_get X 3 d_M_work_86 lk_M_16 (by decide) rfl rfl ?_
              refine g_iload_n X 3 d_M_work_89 rfl rfl ?_
              refine m_iald X d_M_work_90 (by rfl) (by omega) (by decide) ?_
              refine g_icmp_ge X (tgt := 99) d_M_work_91 (by decide) (by omega) (by omega) (fun h91 => ?_) (fun h91 => ?_)
              · refine g_aload_n X 0 d_M_work_99 rfl rfl ?_
                refine m_get X 3 d_M_work_100 lk_M_16 (by decide) rfl rfl ?_
                refine g_iload_n X 3 d_M_work_103 rfl rfl ?_
                refine m_iald X d_M_work_104 (by rfl) (by omega) (by decide) ?_
                refine m_iast X d_M_work_105 (by rfl) (by rfl) (by omega) (by decide) ?_
                refine g_sub [0, 1, 2, 3, 4] rfl ?_
                refine next _ (fun i hi => ?_) (fun e2 h2 => up_ne h2) ?_ ?_ (fun _ _ => ?_)
                · rw [← hfr i hi]; funext z; exact up_nc hi
                · rw [up_eq]; omega
                · rw [up_eq]; exact hv2
                · rw [up_eq]; omega
              · refine g_iload X d_M_work_94 rfl ?_
                refine g_goto X (tgt := 105) d_M_work_96 (by decide) ?_
                refine m_iast X d_M_work_105 (by rfl) (by rfl) (by omega) (by decide) ?_
                refine g_sub [0, 1, 2, 3, 4] rfl ?_
                refine next _ (fun i hi => ?_) (fun e2 h2 => up_ne h2) ?_ ?_ (fun _ _ => ?_)
                · rw [← hfr i hi]; funext z; exact up_nc hi
                · rw [up_eq]; omega
                · rw [up_eq]
                  right
                  obtain ⟨m, em, hm, -⟩ := hO
                  refine ⟨m + 1, by omega, vec p, fun k _ _ => (vec_rng p k).1, by omega, ?_⟩
                  exact Cov_congr (fun _ _ _ => rfl) m _ _ (fun k a1 a2 => hsub k a1 a2) hm
                · rw [up_eq]; omega
        · refine g_if_eq X (tgt := 106) d_M_work_49 (by decide) (by omega) (fun h49 => ?_) (fun h49 => ?_)
          · exact next σ2 hfr (fun _ _ => rfl) ⟨hv1.1, Int.le_refl _⟩ hv2 (fun b1 _ => absurd b1 hwi)
          · omega
  -- the outer loop
  have L : ∀ (n : Nat) (e : Int) (τ : zS), e + n = 256 → 1 ≤ e → (∀ i, i ≠ 3 → τ i = σ i) → (∀ e2, 0 ≤ e2 → e2 < e → (∀ k, 0 ≤ k → k < 4 → vec e2 k ≤ vec od k) → Opt (σ 1) R (vec e2) (τ 3 e2)) → G Γ [(0, .ref (q 0)), (1, vI od), (2, vI R), (3, vI e)] τ 9 [] := by
    intro n
    induction n with
    | zero =>
      intro e τ he he1 hfr hN
      refine g_iload_n X 3 d_M_work_9 rfl rfl ?_
      refine g_sipush X d_M_work_10 (by decide) ?_
      refine g_icmp_ge X (tgt := 118) d_M_work_13 (by decide) (by omega) (by omega) (fun h13 => ?_) (fun h13 => ?_)
      · refine g_vret X d_M_work_118 rfl ?_
        exact ⟨rfl, hfr, fun e2 a1 a2 a3 => hN e2 a1 (by omega) a3⟩
      · omega
    | succ n ih =>
      intro e τ he he1 hfr hN
      have out : ∀ (ρ : zS), (∀ i, i ≠ 3 → ρ i = σ i) → (∀ e2, 0 ≤ e2 → e2 < e + 1 → (∀ k, 0 ≤ k → k < 4 → vec e2 k ≤ vec od k) → Opt (σ 1) R (vec e2) (ρ 3 e2)) → G Γ [(0, .ref (q 0)), (1, vI od), (2, vI R), (3, vI e)] ρ 112 [] := by
        intro ρ r1 r2
        refine g_iinc X d_M_work_112 rfl (by decide) ?_
        refine g_goto X (tgt := 9) d_M_work_115 (by decide) ?_
        exact ih (e + 1) ρ (by omega) (by omega) r1 r2
      have fr1 : ∀ i, i ≠ 3 → up τ 3 e 99 i = σ i := fun i hi => by rw [← hfr i hi]; funext z; exact up_nc hi
      have nn : ∀ e2, 0 ≤ e2 → e2 < e → (∀ k, 0 ≤ k → k < 4 → vec e2 k ≤ vec od k) → Opt (σ 1) R (vec e2) (up τ 3 e 99 3 e2) := fun e2 a1 a2 a3 => by
        rw [up_ne (by omega)]
        exact hN e2 a1 a2 a3
      refine g_iload_n X 3 d_M_work_9 rfl rfl ?_
      refine g_sipush X d_M_work_10 (by decide) ?_
      refine g_icmp_ge X (tgt := 118) d_M_work_13 (by decide) (by omega) (by omega) (fun h13 => ?_) (fun h13 => ?_)
      · omega
      · refine g_aload_n X 0 d_M_work_16 rfl rfl ?_
        refine m_get X 3 d_M_work_17 lk_M_16 (by decide) rfl rfl ?_
        refine g_iload_n X 3 d_M_work_20 rfl rfl ?_
        refine g_bipush X d_M_work_21 (by decide) ?_
        refine m_iast X d_M_work_23 (by rfl) (by rfl) (by omega) (by decide) ?_
        refine g_aload_n X 0 d_M_work_24 rfl rfl ?_
        refine g_iload_n X 3 d_M_work_25 rfl rfl ?_
        refine g_iload_n X 1 d_M_work_26 rfl rfl ?_
        refine m_callV X (c_M_within l D a q (up τ 3 e 99) e od (by omega) hod) d_M_work_27 lk_M_34 im_M_within sl_M_within k_M_within ok_M_within rfl (by decide) rfl (Nat.le_of_ble_eq_true rfl) (fun v2 σ2 hp2 => ?_)
        obtain ⟨rfl, hp2⟩ := hp2
        rcases hp2 with ⟨rfl, hwi⟩ | ⟨rfl, hwi⟩
        · refine g_if_eq X (tgt := 112) d_M_work_30 (by decide) (by omega) (fun h30 => ?_) (fun h30 => ?_)
          · omega
          · refine g_iconst X d_M_work_33 ?_
            refine g_istore X d_M_work_34 (by decide) ?_
            exact I e he1 (by omega) hwi out e.toNat 1 (up τ 3 e 99) (by omega) (by omega) fr1 nn (by rw [up_eq]; omega) (by rw [up_eq]; exact Or.inl rfl) (fun p2 b1 b2 => by omega)
        · refine g_if_eq X (tgt := 112) d_M_work_30 (by decide) (by omega) (fun h30 => ?_) (fun h30 => ?_)
          · refine out _ fr1 (fun e2 a1 a2 a3 => ?_)
            by_cases h : e2 = e
            · subst h; exact absurd a3 hwi
            · exact nn e2 a1 (by omega) a3
          · omega
  refine g_aload_n X 0 d_M_work_0 rfl rfl ?_
  refine m_get X 3 d_M_work_1 lk_M_16 (by decide) rfl rfl ?_
  refine g_iconst X d_M_work_4 ?_
  refine g_iconst X d_M_work_5 ?_
  refine m_iast X d_M_work_6 (by rfl) (by rfl) (by omega) (by decide) ?_
  refine g_iconst X d_M_work_7 ?_
  refine g_istore_n X 3 d_M_work_8 rfl (by decide) ?_
  refine L 255 1 _ (by omega) (by omega) (fun i hi => ?_) (fun e2 a1 a2 a3 => ?_)
  · funext z; exact up_nc hi
  · have e0 : e2 = 0 := by omega
    subst e0
    rw [up_eq]
    exact Opt_zero (fun k a1 a2 => by rcases four a1 a2 with rfl | rfl | rfl | rfl <;> decide)
end S12
end
section
section S13
variable (l : Launch) (D : va_G) (a : Nat → ClassId) (q : Nat → Nat) (σ : zS)
theorem c_M_roll : K_M_roll l D a q [.ref (q 0)] σ (fun v τ => τ = σ ∧ v = some (vI (σ 0 0))) := by
  refine Con.of (by decide) (mw_ad a q) (Nat.le_of_ble_eq_true rfl) (fun Γ X => ?_)
  have X : Cx Γ "CutDeskModel" b_M_roll (some .int) 1 0 0 (mw a q) _ l D (tysA a) := X
  show G Γ [(0, .ref (q 0))] σ 0 []
  refine g_aload_n X 0 d_M_roll_0 rfl rfl ?_
  refine m_get X 0 d_M_roll_1 lk_M_19 (by decide) rfl rfl ?_
  refine g_iret X d_M_roll_4 rfl ?_
  exact ⟨rfl, rfl⟩
theorem c_M_setWidth (k w : Int) (hk : -2147483648 ≤ k ∧ k < 2147483648) (hw : -2147483648 ≤ w ∧ w < 2147483648) (hS : SI σ) :
    K_M_setWidth l D a q [.ref (q 0), vI k, vI w] σ (fun v τ => (v = some (vI 1) ∧ ((0 ≤ k ∧ k < 4) ∧ 1 ≤ w ∧ w ≤ σ 0 0) ∧ τ = up σ 1 k w) ∨ (v = some (vI 0) ∧ ¬ ((0 ≤ k ∧ k < 4) ∧ 1 ≤ w ∧ w ≤ σ 0 0) ∧ τ = σ)) := by
  refine Con.of (by decide) (mw_ad a q) (Nat.le_of_ble_eq_true rfl) (fun Γ X => ?_)
  have X : Cx Γ "CutDeskModel" b_M_setWidth (some .boolean) 3 1 21 (mw a q) _ l D (tysA a) := X
  show G Γ [(0, .ref (q 0)), (1, vI k), (2, vI w)] σ 0 []
  have hr := hS.1
  have F : ¬ ((0 ≤ k ∧ k < 4) ∧ 1 ≤ w ∧ w ≤ σ 0 0) → G Γ [(0, .ref (q 0)), (1, vI k), (2, vI w)] σ 21 [] := by
    intro h
    refine g_iconst X d_M_setWidth_21 ?_
    refine g_zret X d_M_setWidth_22 rfl (by decide) ?_
    exact Or.inr ⟨rfl, h, rfl⟩
  refine g_aload_n X 0 d_M_setWidth_0 rfl rfl ?_
  refine g_iload_n X 1 d_M_setWidth_1 rfl rfl ?_
  refine m_callV X (c_M_kind l D a q σ k hk) d_M_setWidth_2 lk_M_23 im_M_kind sl_M_kind k_M_kind ok_M_kind rfl (by decide) rfl (Nat.le_of_ble_eq_true rfl) (fun v2 σ2 hp2 => ?_)
  obtain ⟨rfl, hp2⟩ := hp2
  rcases hp2 with ⟨rfl, hk1⟩ | ⟨rfl, hk1⟩
  · refine g_if_eq X (tgt := 21) d_M_setWidth_5 (by decide) (by omega) (fun h5 => ?_) (fun h5 => ?_)
    · omega
    · refine g_iload_n X 2 d_M_setWidth_8 rfl rfl ?_
      refine g_iconst X d_M_setWidth_9 ?_
      refine g_icmp_lt X (tgt := 21) d_M_setWidth_10 (by decide) (by omega) (by omega) (fun h10 => ?_) (fun h10 => ?_)
      · exact F (by omega)
      · refine g_iload_n X 2 d_M_setWidth_13 rfl rfl ?_
        refine g_aload_n X 0 d_M_setWidth_14 rfl rfl ?_
        refine m_get X 0 d_M_setWidth_15 lk_M_19 (by decide) rfl rfl ?_
        refine g_icmp_le X (tgt := 23) d_M_setWidth_18 (by decide) (by omega) (by omega) (fun h18 => ?_) (fun h18 => ?_)
        · refine g_aload_n X 0 d_M_setWidth_23 rfl rfl ?_
          refine m_get X 1 d_M_setWidth_24 lk_M_7 (by decide) rfl rfl ?_
          refine g_iload_n X 1 d_M_setWidth_27 rfl rfl ?_
          refine g_iload_n X 2 d_M_setWidth_28 rfl rfl ?_
          refine m_iast X d_M_setWidth_29 (by rfl) (by rfl) (by omega) (by decide) ?_
          refine g_iconst X d_M_setWidth_30 ?_
          refine g_zret X d_M_setWidth_31 rfl (by decide) ?_
          exact Or.inl ⟨rfl, by omega, rfl⟩
        · exact F (by omega)
  · refine g_if_eq X (tgt := 21) d_M_setWidth_5 (by decide) (by omega) (fun h5 => ?_) (fun h5 => ?_)
    · exact F (by omega)
    · omega
theorem c_M_order (k n : Int) (hk : -2147483648 ≤ k ∧ k < 2147483648) (hn : -2147483648 ≤ n ∧ n < 2147483648) :
    K_M_order l D a q [.ref (q 0), vI k, vI n] σ (fun v τ => (v = some (vI 1) ∧ ((0 ≤ k ∧ k < 4) ∧ 0 ≤ n ∧ n ≤ 3) ∧ τ = up σ 2 k n) ∨ (v = some (vI 0) ∧ ¬ ((0 ≤ k ∧ k < 4) ∧ 0 ≤ n ∧ n ≤ 3) ∧ τ = σ)) := by
  refine Con.of (by decide) (mw_ad a q) (Nat.le_of_ble_eq_true rfl) (fun Γ X => ?_)
  have X : Cx Γ "CutDeskModel" b_M_order (some .boolean) 3 1 21 (mw a q) _ l D (tysA a) := X
  show G Γ [(0, .ref (q 0)), (1, vI k), (2, vI n)] σ 0 []
  have F : ¬ ((0 ≤ k ∧ k < 4) ∧ 0 ≤ n ∧ n ≤ 3) → G Γ [(0, .ref (q 0)), (1, vI k), (2, vI n)] σ 17 [] := by
    intro h
    refine g_iconst X d_M_order_17 ?_
    refine g_zret X d_M_order_18 rfl (by decide) ?_
    exact Or.inr ⟨rfl, h, rfl⟩
  refine g_aload_n X 0 d_M_order_0 rfl rfl ?_
  refine g_iload_n X 1 d_M_order_1 rfl rfl ?_
  refine m_callV X (c_M_kind l D a q σ k hk) d_M_order_2 lk_M_23 im_M_kind sl_M_kind k_M_kind ok_M_kind rfl (by decide) rfl (Nat.le_of_ble_eq_true rfl) (fun v2 σ2 hp2 => ?_)
  obtain ⟨rfl, hp2⟩ := hp2
  rcases hp2 with ⟨rfl, hk1⟩ | ⟨rfl, hk1⟩
  · refine g_if_eq X (tgt := 17) d_M_order_5 (by decide) (by omega) (fun h5 => ?_) (fun h5 => ?_)
    · omega
    · refine g_iload_n X 2 d_M_order_8 rfl rfl ?_
      refine g_if_lt X (tgt := 17) d_M_order_9 (by decide) (by omega) (fun h9 => ?_) (fun h9 => ?_)
      · exact F (by omega)
      · refine g_iload_n X 2 d_M_order_12 rfl rfl ?_
        refine g_iconst X d_M_order_13 ?_
        refine g_icmp_le X (tgt := 19) d_M_order_14 (by decide) (by omega) (by omega) (fun h14 => ?_) (fun h14 => ?_)
        · refine g_aload_n X 0 d_M_order_19 rfl rfl ?_
          refine m_get X 2 d_M_order_20 lk_M_13 (by decide) rfl rfl ?_
          refine g_iload_n X 1 d_M_order_23 rfl rfl ?_
          refine g_iload_n X 2 d_M_order_24 rfl rfl ?_
          refine m_iast X d_M_order_25 (by rfl) (by rfl) (by omega) (by decide) ?_
          refine g_iconst X d_M_order_26 ?_
          refine g_zret X d_M_order_27 rfl (by decide) ?_
          exact Or.inl ⟨rfl, by omega, rfl⟩
        · exact F (by omega)
  · refine g_if_eq X (tgt := 17) d_M_order_5 (by decide) (by omega) (fun h5 => ?_) (fun h5 => ?_)
    · exact F (by omega)
    · omega
theorem c_M_setRoll (w : Int) (hw : -2147483648 ≤ w ∧ w < 2147483648) (hS : SI σ) :
    K_M_setRoll l D a q [.ref (q 0), vI w] σ (fun v τ => (v = some (vI 1) ∧ ((1 ≤ w ∧ w ≤ 20) ∧ ∀ k, 0 ≤ k → k < 4 → σ 1 k ≤ w) ∧ τ = up σ 0 0 w) ∨ (v = some (vI 0) ∧ ¬ ((1 ≤ w ∧ w ≤ 20) ∧ ∀ k, 0 ≤ k → k < 4 → σ 1 k ≤ w) ∧ τ = σ)) := by
  refine Con.of (by decide) (mw_ad a q) (Nat.le_of_ble_eq_true rfl) (fun Γ X => ?_)
  have X : Cx Γ "CutDeskModel" b_M_setRoll (some .boolean) 3 0 0 (mw a q) _ l D (tysA a) := X
  show G Γ [(0, .ref (q 0)), (1, vI w)] σ 0 []
  have hw20 := hS.w20
  have F : ¬ ((1 ≤ w ∧ w ≤ 20) ∧ ∀ k, 0 ≤ k → k < 4 → σ 1 k ≤ w) → G Γ [(0, .ref (q 0)), (1, vI w)] σ 11 [] := by
    intro h
    refine g_iconst X d_M_setRoll_11 ?_
    refine g_zret X d_M_setRoll_12 rfl (by decide) ?_
    exact Or.inr ⟨rfl, h, rfl⟩
  have L : ∀ (n : Nat) (k : Int), k + n = 4 → 0 ≤ k → 1 ≤ w ∧ w ≤ 20 → (∀ j, 0 ≤ j → j < k → σ 1 j ≤ w) → G Γ [(0, .ref (q 0)), (1, vI w), (2, vI k)] σ 15 [] := by
    intro n
    induction n with
    | zero =>
      intro k hk h0 hr hj
      refine g_iload_n X 2 d_M_setRoll_15 rfl rfl ?_
      refine g_iconst X d_M_setRoll_16 ?_
      refine g_icmp_ge X (tgt := 38) d_M_setRoll_17 (by decide) (by omega) (by omega) (fun h17 => ?_) (fun h17 => ?_)
      · refine g_aload_n X 0 d_M_setRoll_38 rfl rfl ?_
        refine g_iload_n X 1 d_M_setRoll_39 rfl rfl ?_
        refine m_putI X (z := 0) 0 d_M_setRoll_40 lk_M_19 (by decide) rfl rfl rfl (by rfl) ?_
        refine g_iconst X d_M_setRoll_43 ?_
        refine g_zret X d_M_setRoll_44 rfl (by decide) ?_
        exact Or.inl ⟨rfl, ⟨hr, fun j a1 a2 => hj j a1 (by omega)⟩, rfl⟩
      · omega
    | succ n ih =>
      intro k hk h0 hr hj
      have hb := hw20 k h0 (by omega)
      refine g_iload_n X 2 d_M_setRoll_15 rfl rfl ?_
      refine g_iconst X d_M_setRoll_16 ?_
      refine g_icmp_ge X (tgt := 38) d_M_setRoll_17 (by decide) (by omega) (by omega) (fun h17 => ?_) (fun h17 => ?_)
      · omega
      · refine g_aload_n X 0 d_M_setRoll_20 rfl rfl ?_
        refine m_get X 1 d_M_setRoll_21 lk_M_7 (by decide) rfl rfl ?_
        refine g_iload_n X 2 d_M_setRoll_24 rfl rfl ?_
        refine m_iald X d_M_setRoll_25 (by rfl) (by omega) (by decide) ?_
        refine g_iload_n X 1 d_M_setRoll_26 rfl rfl ?_
        refine g_icmp_le X (tgt := 32) d_M_setRoll_27 (by decide) (by omega) (by omega) (fun h27 => ?_) (fun h27 => ?_)
        · refine g_iinc X d_M_setRoll_32 rfl (by decide) ?_
          refine g_goto X (tgt := 15) d_M_setRoll_35 (by decide) ?_
          refine ih (k + 1) (by omega) (by omega) hr (fun j a1 a2 => ?_)
          by_cases e : j = k
          · subst e; exact h27
          · exact hj j a1 (by omega)
        · refine g_iconst X d_M_setRoll_30 ?_
          refine g_zret X d_M_setRoll_31 rfl (by decide) ?_
          exact Or.inr ⟨rfl, fun h => h27 (h.2 k h0 (by omega)), rfl⟩
  refine g_iload_n X 1 d_M_setRoll_0 rfl rfl ?_
  refine g_iconst X d_M_setRoll_1 ?_
  refine g_icmp_lt X (tgt := 11) d_M_setRoll_2 (by decide) (by omega) (by omega) (fun h2 => ?_) (fun h2 => ?_)
  · exact F (by omega)
  · refine g_iload_n X 1 d_M_setRoll_5 rfl rfl ?_
    refine g_bipush X d_M_setRoll_6 (by decide) ?_
    refine g_icmp_le X (tgt := 13) d_M_setRoll_8 (by decide) (by omega) (by omega) (fun h8 => ?_) (fun h8 => ?_)
    · refine g_iconst X d_M_setRoll_13 ?_
      refine g_istore_n X 2 d_M_setRoll_14 rfl (by decide) ?_
      exact L 4 0 (by omega) (by omega) (by omega) (fun j a1 a2 => by omega)
    · exact F (by omega)
theorem c_M_width (k : Int) (hk : -2147483648 ≤ k ∧ k < 2147483648) :
    K_M_width l D a q [.ref (q 0), vI k] σ (fun v τ => τ = σ ∧ ((v = some (vI (σ 1 k)) ∧ 0 ≤ k ∧ k < 4) ∨ (v = some (vI (-1)) ∧ ¬ (0 ≤ k ∧ k < 4)))) := by
  refine Con.of (by decide) (mw_ad a q) (Nat.le_of_ble_eq_true rfl) (fun Γ X => ?_)
  have X : Cx Γ "CutDeskModel" b_M_width (some .int) 2 1 21 (mw a q) _ l D (tysA a) := X
  show G Γ [(0, .ref (q 0)), (1, vI k)] σ 0 []
  refine g_aload_n X 0 d_M_width_0 rfl rfl ?_
  refine g_iload_n X 1 d_M_width_1 rfl rfl ?_
  refine m_callV X (c_M_kind l D a q σ k hk) d_M_width_2 lk_M_23 im_M_kind sl_M_kind k_M_kind ok_M_kind rfl (by decide) rfl (Nat.le_of_ble_eq_true rfl) (fun v2 σ2 hp2 => ?_)
  obtain ⟨rfl, hp2⟩ := hp2
  rcases hp2 with ⟨rfl, hk1⟩ | ⟨rfl, hk1⟩
  · refine g_if_eq X (tgt := 17) d_M_width_5 (by decide) (by omega) (fun h5 => ?_) (fun h5 => ?_)
    · omega
    · refine g_aload_n X 0 d_M_width_8 rfl rfl ?_
      refine m_get X 1 d_M_width_9 lk_M_7 (by decide) rfl rfl ?_
      refine g_iload_n X 1 d_M_width_12 rfl rfl ?_
      refine m_iald X d_M_width_13 (by rfl) (by omega) (by decide) ?_
      refine g_goto X (tgt := 18) d_M_width_14 (by decide) ?_
      refine g_iret X d_M_width_18 rfl ?_
      exact ⟨rfl, Or.inl ⟨rfl, hk1⟩⟩
  · refine g_if_eq X (tgt := 17) d_M_width_5 (by decide) (by omega) (fun h5 => ?_) (fun h5 => ?_)
    · refine g_iconst X d_M_width_17 ?_
      refine g_iret X d_M_width_18 rfl ?_
      exact ⟨rfl, Or.inr ⟨rfl, hk1⟩⟩
    · omega
theorem c_M_ordered (k : Int) (hk : -2147483648 ≤ k ∧ k < 2147483648) :
    K_M_ordered l D a q [.ref (q 0), vI k] σ (fun v τ => τ = σ ∧ ((v = some (vI (σ 2 k)) ∧ 0 ≤ k ∧ k < 4) ∨ (v = some (vI (-1)) ∧ ¬ (0 ≤ k ∧ k < 4)))) := by
  refine Con.of (by decide) (mw_ad a q) (Nat.le_of_ble_eq_true rfl) (fun Γ X => ?_)
  have X : Cx Γ "CutDeskModel" b_M_ordered (some .int) 2 1 21 (mw a q) _ l D (tysA a) := X
  show G Γ [(0, .ref (q 0)), (1, vI k)] σ 0 []
  refine g_aload_n X 0 d_M_ordered_0 rfl rfl ?_
  refine g_iload_n X 1 d_M_ordered_1 rfl rfl ?_
  refine m_callV X (c_M_kind l D a q σ k hk) d_M_ordered_2 lk_M_23 im_M_kind sl_M_kind k_M_kind ok_M_kind rfl (by decide) rfl (Nat.le_of_ble_eq_true rfl) (fun v2 σ2 hp2 => ?_)
  obtain ⟨rfl, hp2⟩ := hp2
  rcases hp2 with ⟨rfl, hk1⟩ | ⟨rfl, hk1⟩
  · refine g_if_eq X (tgt := 17) d_M_ordered_5 (by decide) (by omega) (fun h5 => ?_) (fun h5 => ?_)
    · omega
    · refine g_aload_n X 0 d_M_ordered_8 rfl rfl ?_
      refine m_get X 2 d_M_ordered_9 lk_M_13 (by decide) rfl rfl ?_
      refine g_iload_n X 1 d_M_ordered_12 rfl rfl ?_
      refine m_iald X d_M_ordered_13 (by rfl) (by omega) (by decide) ?_
      refine g_goto X (tgt := 18) d_M_ordered_14 (by decide) ?_
      refine g_iret X d_M_ordered_18 rfl ?_
      exact ⟨rfl, Or.inl ⟨rfl, hk1⟩⟩
  · refine g_if_eq X (tgt := 17) d_M_ordered_5 (by decide) (by omega) (fun h5 => ?_) (fun h5 => ?_)
    · refine g_iconst X d_M_ordered_17 ?_
      refine g_iret X d_M_ordered_18 rfl ?_
      exact ⟨rfl, Or.inr ⟨rfl, hk1⟩⟩
    · omega
theorem c_M_fits (p : Int) (hp : -2147483648 ≤ p ∧ p < 2147483648) (hS : SI σ) :
    K_M_fits l D a q [.ref (q 0), vI p] σ (fun v τ => τ = σ ∧ ((v = some (vI 1) ∧ FT (σ 1) (σ 0 0) p) ∨ (v = some (vI 0) ∧ ¬ FT (σ 1) (σ 0 0) p))) := by
  refine Con.of (by decide) (mw_ad a q) (Nat.le_of_ble_eq_true rfl) (fun Γ X => ?_)
  have X : Cx Γ "CutDeskModel" b_M_fits (some .boolean) 2 2 45 (mw a q) _ l D (tysA a) := X
  show G Γ [(0, .ref (q 0)), (1, vI p)] σ 0 []
  have hr := hS.1
  have hd := dot_vec_rng (e := p) hS.w20
  have F : ¬ FT (σ 1) (σ 0 0) p → G Γ [(0, .ref (q 0)), (1, vI p)] σ 27 [] := by
    intro h
    refine g_iconst X d_M_fits_27 ?_
    refine g_zret X d_M_fits_28 rfl (by decide) ?_
    exact ⟨rfl, Or.inr ⟨rfl, h⟩⟩
  refine g_iload_n X 1 d_M_fits_0 rfl rfl ?_
  refine g_if_lt X (tgt := 27) d_M_fits_1 (by decide) (by omega) (fun h1 => ?_) (fun h1 => ?_)
  · exact F (fun h => by have := h.1; omega)
  · refine g_iload_n X 1 d_M_fits_4 rfl rfl ?_
    refine g_sipush X d_M_fits_5 (by decide) ?_
    refine g_icmp_gt X (tgt := 27) d_M_fits_8 (by decide) (by omega) (by omega) (fun h8 => ?_) (fun h8 => ?_)
    · exact F (fun h => by have := h.2.1; omega)
    · refine g_aload_n X 0 d_M_fits_11 rfl rfl ?_
      refine g_iload_n X 1 d_M_fits_12 rfl rfl ?_
      refine m_callV X (c_M_length l D a q σ p (by omega)) d_M_fits_13 lk_M_38 im_M_length sl_M_length k_M_length ok_M_length rfl (by decide) rfl (Nat.le_of_ble_eq_true rfl) (fun v2 σ2 hp2 => ?_)
      obtain ⟨rfl, rfl⟩ := hp2
      refine g_aload_n X 0 d_M_fits_16 rfl rfl ?_
      refine m_get X 0 d_M_fits_17 lk_M_19 (by decide) rfl rfl ?_
      refine g_icmp_gt X (tgt := 27) d_M_fits_20 (by decide) (by omega) (by omega) (fun h20 => ?_) (fun h20 => ?_)
      · exact F (fun h => by have := h.2.2; omega)
      · refine g_iconst X d_M_fits_23 ?_
        refine g_goto X (tgt := 28) d_M_fits_24 (by decide) ?_
        refine g_zret X d_M_fits_28 rfl (by decide) ?_
        exact ⟨rfl, Or.inl ⟨rfl, by omega, by omega, by omega⟩⟩
/-- what a question of the reference leaves: the table of the least numbers, all else unchanged -/
def MT (σ τ : zS) (o : Int → Int) (R : Int) : Prop := (∀ i, i ≠ 3 → τ i = σ i) ∧ ∀ e, 0 ≤ e → e < 256 → (∀ k, 0 ≤ k → k < 4 → vec e k ≤ o k) → Opt (σ 1) R (vec e) (τ 3 e)
theorem c_M_least (hR : 1 ≤ σ 0 0 ∧ σ 0 0 ≤ 20) (hw : ∀ k, 0 ≤ k → k < 4 → 1 ≤ σ 1 k ∧ σ 1 k ≤ σ 0 0) (ho : ∀ k, 0 ≤ k → k < 4 → 0 ≤ σ 2 k ∧ σ 2 k ≤ 3) :
    K_M_least l D a q [.ref (q 0)] σ (fun v τ => ∃ n, v = some (vI n) ∧ Opt (σ 1) (σ 0 0) (σ 2) n ∧ MT σ τ (σ 2) (σ 0 0)) := by
  refine Con.of (by decide) (mw_ad a q) (Nat.le_of_ble_eq_true rfl) (fun Γ X => ?_)
  have X : Cx Γ "CutDeskModel" b_M_least (some .int) 2 4 94 (mw a q) _ l D (tysA a) := X
  show G Γ [(0, .ref (q 0))] σ 0 []
  have hve := vec_enc ho
  have her := enc_rng ho
  refine g_aload_n X 0 d_M_least_0 rfl rfl ?_
  refine m_callV X (c_M_whole l D a q σ ho) d_M_least_1 lk_M_42 im_M_whole sl_M_whole k_M_whole ok_M_whole rfl (by decide) rfl (Nat.le_of_ble_eq_true rfl) (fun v2 σ2 hp2 => ?_)
  obtain ⟨rfl, rfl⟩ := hp2
  refine g_istore_n X 1 d_M_least_4 rfl (by decide) ?_
  refine g_aload_n X 0 d_M_least_5 rfl rfl ?_
  refine g_iload_n X 1 d_M_least_6 rfl rfl ?_
  refine g_aload_n X 0 d_M_least_7 rfl rfl ?_
  refine m_get X 0 d_M_least_8 lk_M_19 (by decide) rfl rfl ?_
  refine m_callV X (c_M_work l D a q σ2 (enc (σ2 2)) (σ2 0 0) her (by omega) (fun k a1 a2 => by have := hw k a1 a2; omega) (fun k a1 a2 _ => (hw k a1 a2).2)) d_M_least_11 lk_M_46 im_M_work sl_M_work k_M_work ok_M_work rfl (by decide) rfl (Nat.le_of_ble_eq_true rfl) (fun v3 σ3 hp3 => ?_)
  obtain ⟨rfl, hfr, hN⟩ := hp3
  have hN2 : ∀ e, 0 ≤ e → e < 256 → (∀ k, 0 ≤ k → k < 4 → vec e k ≤ σ2 2 k) → Opt (σ2 1) (σ2 0 0) (vec e) (σ3 3 e) := fun e a1 a2 a3 => hN e a1 a2 (fun k b1 b2 => by rw [hve k b1 b2]; exact a3 k b1 b2)
  refine g_aload_n X 0 d_M_least_14 rfl rfl ?_
  refine m_get X 3 d_M_least_15 lk_M_16 (by decide) rfl rfl ?_
  refine g_iload_n X 1 d_M_least_18 rfl rfl ?_
  refine m_iald X d_M_least_19 (by rfl) (by omega) (by decide) ?_
  refine g_iret X d_M_least_20 rfl ?_
  exact ⟨_, rfl, Opt_congr (fun _ _ _ => rfl) hve (hN _ her.1 her.2 (fun _ _ _ => Int.le_refl _)), hfr, hN2⟩
theorem c_M_leastWith (k n : Int) (hk : -2147483648 ≤ k ∧ k < 2147483648) (hn : -2147483648 ≤ n ∧ n < 2147483648) (hS : SI σ) :
    K_M_leastWith l D a q [.ref (q 0), vI k, vI n] σ (fun v τ => (∀ i, i ≠ 3 → τ i = σ i) ∧ ((((0 ≤ k ∧ k < 4) ∧ 0 ≤ n ∧ n ≤ 3) ∧ ∃ m, v = some (vI m) ∧ Opt (σ 1) (σ 0 0) (setv (σ 2) k n) m) ∨ (¬ ((0 ≤ k ∧ k < 4) ∧ 0 ≤ n ∧ n ≤ 3) ∧ v = some (vI (-1))))) := by
  refine Con.of (by decide) (mw_ad a q) (Nat.le_of_ble_eq_true rfl) (fun Γ X => ?_)
  have X : Cx Γ "CutDeskModel" b_M_leastWith (some .int) 5 5 115 (mw a q) _ l D (tysA a) := X
  show G Γ [(0, .ref (q 0)), (1, vI k), (2, vI n)] σ 0 []
  obtain ⟨hR, hw, ho⟩ := hS
  have F : ¬ ((0 ≤ k ∧ k < 4) ∧ 0 ≤ n ∧ n ≤ 3) → G Γ [(0, .ref (q 0)), (1, vI k), (2, vI n)] σ 17 [] := by
    intro h
    refine g_iconst X d_M_leastWith_17 ?_
    refine g_iret X d_M_leastWith_18 rfl ?_
    exact ⟨fun _ _ => rfl, Or.inr ⟨h, rfl⟩⟩
  refine g_aload_n X 0 d_M_leastWith_0 rfl rfl ?_
  refine g_iload_n X 1 d_M_leastWith_1 rfl rfl ?_
  refine m_callV X (c_M_kind l D a q σ k hk) d_M_leastWith_2 lk_M_23 im_M_kind sl_M_kind k_M_kind ok_M_kind rfl (by decide) rfl (Nat.le_of_ble_eq_true rfl) (fun v2 σ2 hp2 => ?_)
  obtain ⟨rfl, hp2⟩ := hp2
  rcases hp2 with ⟨rfl, hk1⟩ | ⟨rfl, hk1⟩
  · refine g_if_eq X (tgt := 17) d_M_leastWith_5 (by decide) (by omega) (fun h5 => ?_) (fun h5 => ?_)
    · omega
    · refine g_iload_n X 2 d_M_leastWith_8 rfl rfl ?_
      refine g_if_lt X (tgt := 17) d_M_leastWith_9 (by decide) (by omega) (fun h9 => ?_) (fun h9 => ?_)
      · exact F (by omega)
      · refine g_iload_n X 2 d_M_leastWith_12 rfl rfl ?_
        refine g_iconst X d_M_leastWith_13 ?_
        refine g_icmp_le X (tgt := 19) d_M_leastWith_14 (by decide) (by omega) (by omega) (fun h14 => ?_) (fun h14 => ?_)
        · refine g_aload_n X 0 d_M_leastWith_19 rfl rfl ?_
          refine m_get X 2 d_M_leastWith_20 lk_M_13 (by decide) rfl rfl ?_
          refine g_iload_n X 1 d_M_leastWith_23 rfl rfl ?_
          refine m_iald X d_M_leastWith_24 (by rfl) (by omega) (by decide) ?_
          refine g_istore_n X 3 d_M_leastWith_25 rfl (by decide) ?_
          refine g_aload_n X 0 d_M_leastWith_26 rfl rfl ?_
          refine m_get X 2 d_M_leastWith_27 lk_M_13 (by decide) rfl rfl ?_
          refine g_iload_n X 1 d_M_leastWith_30 rfl rfl ?_
          refine g_iload_n X 2 d_M_leastWith_31 rfl rfl ?_
          refine m_iast X d_M_leastWith_32 (by rfl) (by rfl) (by omega) (by decide) ?_
          refine g_aload_n X 0 d_M_leastWith_33 rfl rfl ?_
          have e2 : up σ2 2 k n 2 = setv (σ2 2) k n := by funext j; rw [up_if]; rfl
          have ho2 : ∀ j, 0 ≤ j → j < 4 → 0 ≤ up σ2 2 k n 2 j ∧ up σ2 2 k n 2 j ≤ 3 := fun j a1 a2 => by
            have := ho j a1 a2
            rw [up_if]
            split <;> omega
          refine m_callV X (c_M_least l D a q (up σ2 2 k n) hR hw ho2) d_M_leastWith_34 lk_M_50 im_M_least sl_M_least k_M_least ok_M_least rfl (by decide) rfl (Nat.le_of_ble_eq_true rfl) (fun v3 σ3 hp3 => ?_)
          obtain ⟨m, rfl, hm, hfr, -⟩ := hp3
          refine g_istore X d_M_leastWith_37 (by decide) ?_
          refine g_aload_n X 0 d_M_leastWith_39 rfl rfl ?_
          refine m_get X 2 d_M_leastWith_40 lk_M_13 (by decide) rfl rfl ?_
          refine g_iload_n X 1 d_M_leastWith_43 rfl rfl ?_
          refine g_iload_n X 3 d_M_leastWith_44 rfl rfl ?_
          refine m_iast X d_M_leastWith_45 (by rfl) (by rfl) (by omega) (by decide) ?_
          refine g_iload X d_M_leastWith_46 rfl ?_
          refine g_iret X d_M_leastWith_48 rfl ?_
          refine ⟨fun i hi => ?_, Or.inl ⟨by omega, m, rfl, ?_⟩⟩
          · funext z
            by_cases h2 : i = 2
            · subst h2
              rw [up_if]
              split
              · rename_i e; subst e; rfl
              · rename_i e
                rw [hfr 2 (by decide)]
                exact up_ne e
            · rw [up_nc h2, hfr i hi]
              exact up_nc h2
          · rw [e2] at hm
            exact hm
        · exact F (by omega)
  · refine g_if_eq X (tgt := 17) d_M_leastWith_5 (by decide) (by omega) (fun h5 => ?_) (fun h5 => ?_)
    · exact F (by omega)
    · omega
theorem c_M_leastFor (W : Int) (hW : -2147483648 ≤ W ∧ W < 2147483648) (hS : SI σ) :
    K_M_leastFor l D a q [.ref (q 0), vI W] σ (fun v τ => (∀ i, i ≠ 3 → τ i = σ i) ∧ ((LB (σ 1) (σ 2) W ∧ v = some (vI (-1))) ∨ (¬ LB (σ 1) (σ 2) W ∧ ∃ n, v = some (vI n) ∧ Opt (σ 1) W (σ 2) n))) := by
  refine Con.of (by decide) (mw_ad a q) (Nat.le_of_ble_eq_true rfl) (fun Γ X => ?_)
  have X : Cx Γ "CutDeskModel" b_M_leastFor (some .int) 3 4 94 (mw a q) _ l D (tysA a) := X
  show G Γ [(0, .ref (q 0)), (1, vI W)] σ 0 []
  obtain ⟨hR, hw, ho⟩ := id hS
  have hw20 := hS.w20
  have hve := vec_enc ho
  have her := enc_rng ho
  have F : LB (σ 1) (σ 2) W → G Γ [(0, .ref (q 0)), (1, vI W)] σ 11 [] := by
    intro h
    refine g_iconst X d_M_leastFor_11 ?_
    refine g_iret X d_M_leastFor_12 rfl ?_
    exact ⟨fun _ _ => rfl, Or.inl ⟨h, rfl⟩⟩
  have L : ∀ (n : Nat) (k : Int), k + n = 4 → 0 ≤ k → 1 ≤ W ∧ W ≤ 40 → (∀ j, 0 ≤ j → j < k → 0 < σ 2 j → σ 1 j ≤ W) → G Γ [(0, .ref (q 0)), (1, vI W), (2, vI k)] σ 15 [] := by
    intro n
    induction n with
    | zero =>
      intro k hk h0 hr hj
      have hfit : ∀ j, 0 ≤ j → j < 4 → 0 < σ 2 j → σ 1 j ≤ W := fun j a1 a2 a3 => hj j a1 (by omega) a3
      have nlb : ¬ LB (σ 1) (σ 2) W := by
        rintro (h | ⟨j, a1, a2, a3, a4⟩)
        · exact h hr
        · have := hfit j a1 a2 a3
          omega
      refine g_iload_n X 2 d_M_leastFor_15 rfl rfl ?_
      refine g_iconst X d_M_leastFor_16 ?_
      refine g_icmp_ge X (tgt := 47) d_M_leastFor_17 (by decide) (by omega) (by omega) (fun h17 => ?_) (fun h17 => ?_)
      · refine g_aload_n X 0 d_M_leastFor_47 rfl rfl ?_
        refine m_callV X (c_M_whole l D a q σ ho) d_M_leastFor_48 lk_M_42 im_M_whole sl_M_whole k_M_whole ok_M_whole rfl (by decide) rfl (Nat.le_of_ble_eq_true rfl) (fun v2 σ2 hp2 => ?_)
        obtain ⟨rfl, rfl⟩ := hp2
        refine g_istore_n X 2 d_M_leastFor_51 rfl (by decide) ?_
        refine g_aload_n X 0 d_M_leastFor_52 rfl rfl ?_
        refine g_iload_n X 2 d_M_leastFor_53 rfl rfl ?_
        refine g_iload_n X 1 d_M_leastFor_54 rfl rfl ?_
        refine m_callV X (c_M_work l D a q σ2 (enc (σ2 2)) W her hr hw20 (fun k a1 a2 a3 => hfit k a1 a2 (by rw [hve k a1 a2] at a3; exact a3))) d_M_leastFor_55 lk_M_46 im_M_work sl_M_work k_M_work ok_M_work rfl (by decide) rfl (Nat.le_of_ble_eq_true rfl) (fun v3 σ3 hp3 => ?_)
        obtain ⟨rfl, hfr, hN⟩ := hp3
        refine g_aload_n X 0 d_M_leastFor_58 rfl rfl ?_
        refine m_get X 3 d_M_leastFor_59 lk_M_16 (by decide) rfl rfl ?_
        refine g_iload_n X 2 d_M_leastFor_62 rfl rfl ?_
        refine m_iald X d_M_leastFor_63 (by rfl) (by omega) (by decide) ?_
        refine g_iret X d_M_leastFor_64 rfl ?_
        exact ⟨hfr, Or.inr ⟨nlb, _, rfl, Opt_congr (fun _ _ _ => rfl) hve (hN _ her.1 her.2 (fun _ _ _ => Int.le_refl _))⟩⟩
      · omega
    | succ n ih =>
      intro k hk h0 hr hj
      have hb := hw20 k h0 (by omega)
      have hc := ho k h0 (by omega)
      have go : (0 < σ 2 k → σ 1 k ≤ W) → G Γ [(0, .ref (q 0)), (1, vI W), (2, vI k)] σ 41 [] := by
        intro h
        refine g_iinc X d_M_leastFor_41 rfl (by decide) ?_
        refine g_goto X (tgt := 15) d_M_leastFor_44 (by decide) ?_
        refine ih (k + 1) (by omega) (by omega) hr (fun j a1 a2 a3 => ?_)
        by_cases e : j = k
        · subst e; exact h a3
        · exact hj j a1 (by omega) a3
      refine g_iload_n X 2 d_M_leastFor_15 rfl rfl ?_
      refine g_iconst X d_M_leastFor_16 ?_
      refine g_icmp_ge X (tgt := 47) d_M_leastFor_17 (by decide) (by omega) (by omega) (fun h17 => ?_) (fun h17 => ?_)
      · omega
      · refine g_aload_n X 0 d_M_leastFor_20 rfl rfl ?_
        refine m_get X 2 d_M_leastFor_21 lk_M_13 (by decide) rfl rfl ?_
        refine g_iload_n X 2 d_M_leastFor_24 rfl rfl ?_
        refine m_iald X d_M_leastFor_25 (by rfl) (by omega) (by decide) ?_
        refine g_if_le X (tgt := 41) d_M_leastFor_26 (by decide) (by omega) (fun h26 => ?_) (fun h26 => ?_)
        · exact go (fun h => by omega)
        · refine g_aload_n X 0 d_M_leastFor_29 rfl rfl ?_
          refine m_get X 1 d_M_leastFor_30 lk_M_7 (by decide) rfl rfl ?_
          refine g_iload_n X 2 d_M_leastFor_33 rfl rfl ?_
          refine m_iald X d_M_leastFor_34 (by rfl) (by omega) (by decide) ?_
          refine g_iload_n X 1 d_M_leastFor_35 rfl rfl ?_
          refine g_icmp_le X (tgt := 41) d_M_leastFor_36 (by decide) (by omega) (by omega) (fun h36 => ?_) (fun h36 => ?_)
          · exact go (fun _ => h36)
          · refine g_iconst X d_M_leastFor_39 ?_
            refine g_iret X d_M_leastFor_40 rfl ?_
            exact ⟨fun _ _ => rfl, Or.inl ⟨Or.inr ⟨k, h0, by omega, by omega, by omega⟩, rfl⟩⟩
  refine g_iload_n X 1 d_M_leastFor_0 rfl rfl ?_
  refine g_iconst X d_M_leastFor_1 ?_
  refine g_icmp_lt X (tgt := 11) d_M_leastFor_2 (by decide) (by omega) (by omega) (fun h2 => ?_) (fun h2 => ?_)
  · exact F (Or.inl (by omega))
  · refine g_iload_n X 1 d_M_leastFor_5 rfl rfl ?_
    refine g_bipush X d_M_leastFor_6 (by decide) ?_
    refine g_icmp_le X (tgt := 13) d_M_leastFor_8 (by decide) (by omega) (by omega) (fun h8 => ?_) (fun h8 => ?_)
    · refine g_iconst X d_M_leastFor_13 ?_
      refine g_istore_n X 2 d_M_leastFor_14 rfl (by decide) ?_
      exact L 4 0 (by omega) (by omega) (by omega) (fun j a1 a2 => by omega)
    · exact F (Or.inl (by omega))
theorem c_M_freeOrder (k : Int) (hk : -2147483648 ≤ k ∧ k < 2147483648) (hS : SI σ) :
    K_M_freeOrder l D a q [.ref (q 0), vI k] σ (fun v τ => (∀ i, i ≠ 3 → τ i = σ i) ∧ ((¬ (0 ≤ k ∧ k < 4) ∧ v = some (vI (-1))) ∨ ((0 ≤ k ∧ k < 4) ∧ ∃ x, v = some (vI x) ∧ FO (σ 1) (σ 0 0) (σ 2) k x))) := by
  refine Con.of (by decide) (mw_ad a q) (Nat.le_of_ble_eq_true rfl) (fun Γ X => ?_)
  have X : Cx Γ "CutDeskModel" b_M_freeOrder (some .int) 6 6 139 (mw a q) _ l D (tysA a) := X
  show G Γ [(0, .ref (q 0)), (1, vI k)] σ 0 []
  obtain ⟨hR, hw, ho⟩ := id hS
  refine g_aload_n X 0 d_M_freeOrder_0 rfl rfl ?_
  refine g_iload_n X 1 d_M_freeOrder_1 rfl rfl ?_
  refine m_callV X (c_M_kind l D a q σ k hk) d_M_freeOrder_2 lk_M_23 im_M_kind sl_M_kind k_M_kind ok_M_kind rfl (by decide) rfl (Nat.le_of_ble_eq_true rfl) (fun v2 σ2 hp2 => ?_)
  obtain ⟨rfl, hp2⟩ := hp2
  rcases hp2 with ⟨rfl, hk1⟩ | ⟨rfl, hk1⟩
  · refine g_if_ne X (tgt := 10) d_M_freeOrder_5 (by decide) (by omega) (fun h5 => ?_) (fun h5 => ?_)
    · refine g_aload_n X 0 d_M_freeOrder_10 rfl rfl ?_
      refine m_callV X (c_M_least l D a q σ2 hR hw ho) d_M_freeOrder_11 lk_M_50 im_M_least sl_M_least k_M_least ok_M_least rfl (by decide) rfl (Nat.le_of_ble_eq_true rfl) (fun v3 σ3 hp3 => ?_)
      obtain ⟨now, rfl, hnow, hfr0, -⟩ := hp3
      have hnb := Opt_12 (by omega) ho (fun k a1 a2 _ => (hw k a1 a2).2) hnow
      have hok := ho k hk1.1 hk1.2
      have L : ∀ (m : Nat) (n x : Int) (τ : zS), n + m = 4 → σ2 2 k < n → (∀ i, i ≠ 3 → τ i = σ2 i) → (x = σ2 2 k ∨ (σ2 2 k < x ∧ x < n ∧ FE (σ2 1) (σ2 0 0) (σ2 2) k x)) → (∀ j, x < j → j < n → σ2 2 k < j → ¬ FE (σ2 1) (σ2 0 0) (σ2 2) k j) →
          G Γ [(0, .ref (q 0)), (1, vI k), (2, vI now), (3, vI x), (4, vI n)] τ 32 [] := by
        intro m
        induction m with
        | zero =>
          intro n x τ hm hn hfr hx hj
          refine g_iload X d_M_freeOrder_32 rfl ?_
          refine g_iconst X d_M_freeOrder_34 ?_
          refine g_icmp_gt X (tgt := 66) d_M_freeOrder_35 (by decide) (by omega) (by omega) (fun h35 => ?_) (fun h35 => ?_)
          · refine g_iload_n X 3 d_M_freeOrder_66 rfl rfl ?_
            refine g_iret X d_M_freeOrder_67 rfl ?_
            refine ⟨hfr, Or.inr ⟨hk1, x, rfl, ?_, fun j a1 a2 a3 => hj j a1 (by omega) a3⟩⟩
            rcases hx with hx | ⟨b1, b2, b3⟩
            · exact Or.inl hx
            · exact Or.inr ⟨b1, by omega, b3⟩
          · omega
        | succ m ih =>
          intro n x τ hm hn hfr hx hj
          have hSt : SI τ := by
            unfold SI
            rw [hfr 0 (by decide), hfr 1 (by decide), hfr 2 (by decide)]
            exact hS
          have ho2 : ∀ j, 0 ≤ j → j < 4 → 0 ≤ setv (σ2 2) k n j ∧ setv (σ2 2) k n j ≤ 3 := fun j a1 a2 => by
            have := ho j a1 a2
            unfold setv
            split <;> omega
          refine g_iload X d_M_freeOrder_32 rfl ?_
          refine g_iconst X d_M_freeOrder_34 ?_
          refine g_icmp_gt X (tgt := 66) d_M_freeOrder_35 (by decide) (by omega) (by omega) (fun h35 => ?_) (fun h35 => ?_)
          · omega
          · refine g_aload_n X 0 d_M_freeOrder_38 rfl rfl ?_
            refine g_iload_n X 1 d_M_freeOrder_39 rfl rfl ?_
            refine g_iload X d_M_freeOrder_40 rfl ?_
            refine m_callV X (c_M_leastWith l D a q τ k n hk (by omega) hSt) d_M_freeOrder_42 lk_M_53 im_M_leastWith sl_M_leastWith k_M_leastWith ok_M_leastWith rfl (by decide) rfl (Nat.le_of_ble_eq_true rfl) (fun v4 σ4 hp4 => ?_)
            obtain ⟨hfr4, hp4⟩ := hp4
            rw [hfr 0 (by decide), hfr 1 (by decide), hfr 2 (by decide)] at hp4
            have hfr5 : ∀ i, i ≠ 3 → σ4 i = σ2 i := fun i hi => by rw [hfr4 i hi, hfr i hi]
            rcases hp4 with ⟨-, t, rfl, ht⟩ | ⟨hno, -⟩
            · have htb := Opt_12 (by omega) ho2 (fun k a1 a2 _ => (hw k a1 a2).2) ht
              have hiff := (FE_iff (k := k) (n := n) (by omega) hnow ht).1
              refine g_istore X d_M_freeOrder_45 (by decide) ?_
              refine g_iload X d_M_freeOrder_47 rfl ?_
              refine g_iload_n X 2 d_M_freeOrder_49 rfl rfl ?_
              refine g_icmp_gt X (tgt := 58) d_M_freeOrder_50 (by decide) (by omega) (by omega) (fun h50 => ?_) (fun h50 => ?_)
              · refine g_iload_n X 3 d_M_freeOrder_58 rfl rfl ?_
                refine g_istore_n X 3 d_M_freeOrder_59 rfl (by decide) ?_
                refine g_iinc X d_M_freeOrder_60 rfl (by decide) ?_
                refine g_goto X (tgt := 32) d_M_freeOrder_63 (by decide) ?_
                refine g_sub [0, 1, 2, 3, 4] rfl ?_
                refine ih (n + 1) x σ4 (by omega) (by omega) hfr5 ?_ (fun j a1 a2 a3 => ?_)
                · rcases hx with hx | ⟨b1, b2, b3⟩
                  · exact Or.inl hx
                  · exact Or.inr ⟨b1, by omega, b3⟩
                · by_cases e : j = n
                  · subst e
                    rw [hiff]
                    omega
                  · exact hj j a1 (by omega) a3
              · refine g_iload X d_M_freeOrder_53 rfl ?_
                refine g_goto X (tgt := 59) d_M_freeOrder_55 (by decide) ?_
                refine g_istore_n X 3 d_M_freeOrder_59 rfl (by decide) ?_
                refine g_iinc X d_M_freeOrder_60 rfl (by decide) ?_
                refine g_goto X (tgt := 32) d_M_freeOrder_63 (by decide) ?_
                refine g_sub [0, 1, 2, 3, 4] rfl ?_
                refine ih (n + 1) n σ4 (by omega) (by omega) hfr5 (Or.inr ⟨by omega, by omega, hiff.mpr (by omega)⟩) (fun j a1 a2 a3 => by omega)
            · exact absurd ⟨hk1, by omega, by omega⟩ hno
      have e2 : σ3 2 = σ2 2 := hfr0 2 (by decide)
      refine g_istore_n X 2 d_M_freeOrder_14 rfl (by decide) ?_
      refine g_aload_n X 0 d_M_freeOrder_15 rfl rfl ?_
      refine m_get X 2 d_M_freeOrder_16 lk_M_13 (by decide) rfl rfl ?_
      refine g_iload_n X 1 d_M_freeOrder_19 rfl rfl ?_
      refine m_iald X d_M_freeOrder_20 (by rfl) (by omega) (by decide) ?_
      refine g_istore_n X 3 d_M_freeOrder_21 rfl (by decide) ?_
      refine g_aload_n X 0 d_M_freeOrder_22 rfl rfl ?_
      refine m_get X 2 d_M_freeOrder_23 lk_M_13 (by decide) rfl rfl ?_
      refine g_iload_n X 1 d_M_freeOrder_26 rfl rfl ?_
      refine m_iald X d_M_freeOrder_27 (by rfl) (by omega) (by decide) ?_
      refine g_iconst X d_M_freeOrder_28 ?_
      refine g_iadd X d_M_freeOrder_29 ?_
      refine g_istore X d_M_freeOrder_30 (by decide) ?_
      rw [e2]
      exact L (3 - σ2 2 k).toNat _ _ _ (by omega) (by omega) hfr0 (Or.inl rfl) (fun j a1 a2 a3 => by omega)
    · omega
  · refine g_if_ne X (tgt := 10) d_M_freeOrder_5 (by decide) (by omega) (fun h5 => ?_) (fun h5 => ?_)
    · omega
    · refine g_iconst X d_M_freeOrder_8 ?_
      refine g_iret X d_M_freeOrder_9 rfl ?_
      exact ⟨fun _ _ => rfl, Or.inl ⟨hk1, rfl⟩⟩
/-- the table's answer at what a pattern leaves -/
theorem MT_after {σ τ : zS} {R : Int} {p : Int} (ho : ∀ k, 0 ≤ k → k < 4 → 0 ≤ σ 2 k ∧ σ 2 k ≤ 3) (h : MT σ τ (σ 2) R) : (0 ≤ enc (sbv (enc (σ 2)) p) ∧ enc (sbv (enc (σ 2)) p) < 256) ∧ Opt (σ 1) R (sbo (σ 2) p) (τ 3 (enc (sbv (enc (σ 2)) p))) := by
  have hve := vec_enc ho
  have hr : ∀ k, 0 ≤ k → k < 4 → 0 ≤ sbv (enc (σ 2)) p k ∧ sbv (enc (σ 2)) p k ≤ 3 := fun k _ _ => sbv_rng _ _ k
  have h2 := vec_enc hr
  have h3 := enc_rng hr
  have h4 : ∀ k, 0 ≤ k → k < 4 → sbv (enc (σ 2)) p k = sbo (σ 2) p k := fun k a1 a2 => by unfold sbv sbo; rw [hve k a1 a2]
  refine ⟨h3, Opt_congr (fun _ _ _ => rfl) (fun k a1 a2 => (h2 k a1 a2).trans (h4 k a1 a2)) (h.2 _ h3.1 h3.2 (fun k a1 a2 => ?_))⟩
  rw [h2 k a1 a2, h4 k a1 a2]
  have := ho k a1 a2
  have := vec_rng p k
  unfold sbo mx0
  split <;> omega
theorem c_M_couldUse (p : Int) (hp : -2147483648 ≤ p ∧ p < 2147483648) (hS : SI σ) :
    K_M_couldUse l D a q [.ref (q 0), vI p] σ (fun v τ => (∀ i, i ≠ 3 → τ i = σ i) ∧ ((v = some (vI 1) ∧ CU (σ 1) (σ 0 0) (σ 2) p) ∨ (v = some (vI 0) ∧ ¬ CU (σ 1) (σ 0 0) (σ 2) p))) := by
  refine Con.of (by decide) (mw_ad a q) (Nat.le_of_ble_eq_true rfl) (fun Γ X => ?_)
  have X : Cx Γ "CutDeskModel" b_M_couldUse (some .boolean) 4 5 115 (mw a q) _ l D (tysA a) := X
  show G Γ [(0, .ref (q 0)), (1, vI p)] σ 0 []
  obtain ⟨hR, hw, ho⟩ := id hS
  have her := enc_rng ho
  refine g_aload_n X 0 d_M_couldUse_0 rfl rfl ?_
  refine m_callV X (c_M_whole l D a q σ ho) d_M_couldUse_1 lk_M_42 im_M_whole sl_M_whole k_M_whole ok_M_whole rfl (by decide) rfl (Nat.le_of_ble_eq_true rfl) (fun v2 σ2 hp2 => ?_)
  obtain ⟨rfl, rfl⟩ := hp2
  refine g_istore_n X 2 d_M_couldUse_4 rfl (by decide) ?_
  refine g_aload_n X 0 d_M_couldUse_5 rfl rfl ?_
  refine m_callV X (c_M_least l D a q σ2 hR hw ho) d_M_couldUse_6 lk_M_50 im_M_least sl_M_least k_M_least ok_M_least rfl (by decide) rfl (Nat.le_of_ble_eq_true rfl) (fun v3 σ3 hp3 => ?_)
  obtain ⟨now, rfl, hnow, hMT⟩ := hp3
  have hfr := hMT.1
  have hnb := Opt_12 (by omega) ho (fun k a1 a2 _ => (hw k a1 a2).2) hnow
  have hSt : SI σ3 := by
    unfold SI
    rw [hfr 0 (by decide), hfr 1 (by decide), hfr 2 (by decide)]
    exact hS
  have F : ¬ CU (σ2 1) (σ2 0 0) (σ2 2) p → G Γ [(0, .ref (q 0)), (1, vI p), (2, vI (enc (σ2 2))), (3, vI now)] σ3 43 [] := by
    intro h
    refine g_iconst X d_M_couldUse_43 ?_
    refine g_zret X d_M_couldUse_44 rfl (by decide) ?_
    exact ⟨hfr, Or.inr ⟨rfl, h⟩⟩
  refine g_istore_n X 3 d_M_couldUse_9 rfl (by decide) ?_
  refine g_iload_n X 3 d_M_couldUse_10 rfl rfl ?_
  refine g_if_le X (tgt := 43) d_M_couldUse_11 (by decide) (by omega) (fun h11 => ?_) (fun h11 => ?_)
  · refine F ?_
    rintro ⟨-, c, c0, c1, -⟩
    have := Opt_uniq hnow c1
    omega
  · refine g_aload_n X 0 d_M_couldUse_14 rfl rfl ?_
    refine g_iload_n X 1 d_M_couldUse_15 rfl rfl ?_
    refine m_callV X (c_M_fits l D a q σ3 p hp hSt) d_M_couldUse_16 lk_M_56 im_M_fits sl_M_fits k_M_fits ok_M_fits rfl (by decide) rfl (Nat.le_of_ble_eq_true rfl) (fun v4 σ4 hp4 => ?_)
    obtain ⟨rfl, hp4⟩ := hp4
    rw [hfr 0 (by decide), hfr 1 (by decide)] at hp4
    rcases hp4 with ⟨rfl, hF⟩ | ⟨rfl, hF⟩
    · refine g_if_eq X (tgt := 43) d_M_couldUse_19 (by decide) (by omega) (fun h19 => ?_) (fun h19 => ?_)
      · omega
      · obtain ⟨hix, hO⟩ := MT_after (p := p) ho hMT
        have hOb := Opt_12 (by omega) (fun k a1 a2 => by have := ho k a1 a2; have := vec_rng p k; unfold sbo mx0; split <;> omega) (fun k a1 a2 _ => (hw k a1 a2).2) hO
        have hiff := CU_iff hF hnow hO
        refine g_aload_n X 0 d_M_couldUse_22 rfl rfl ?_
        refine m_get X 3 d_M_couldUse_23 lk_M_16 (by decide) rfl rfl ?_
        refine g_aload_n X 0 d_M_couldUse_26 rfl rfl ?_
        refine g_iload_n X 2 d_M_couldUse_27 rfl rfl ?_
        refine g_iload_n X 1 d_M_couldUse_28 rfl rfl ?_
        refine m_callV X (c_M_after l D a q σ4 (enc (σ2 2)) p her ⟨hF.1, by have := hF.2.1; omega⟩) d_M_couldUse_29 lk_M_31 im_M_after sl_M_after k_M_after ok_M_after rfl (by decide) rfl (Nat.le_of_ble_eq_true rfl) (fun v5 σ5 hp5 => ?_)
        obtain ⟨rfl, rfl⟩ := hp5
        refine m_iald X d_M_couldUse_32 (by rfl) (by omega) (by decide) ?_
        refine g_iload_n X 3 d_M_couldUse_33 rfl rfl ?_
        refine g_iconst X d_M_couldUse_34 ?_
        refine g_isub X d_M_couldUse_35 ?_
        refine g_icmp_gt X (tgt := 43) d_M_couldUse_36 (by decide) (by omega) (by omega) (fun h36 => ?_) (fun h36 => ?_)
        · exact F (fun h => by have := hiff.mp h; omega)
        · refine g_iconst X d_M_couldUse_39 ?_
          refine g_goto X (tgt := 44) d_M_couldUse_40 (by decide) ?_
          refine g_zret X d_M_couldUse_44 rfl (by decide) ?_
          exact ⟨hfr, Or.inl ⟨rfl, hiff.mpr (by omega)⟩⟩
    · refine g_if_eq X (tgt := 43) d_M_couldUse_19 (by decide) (by omega) (fun h19 => ?_) (fun h19 => ?_)
      · exact F (fun h => hF h.1)
      · omega
theorem c_M_greatestUse (hS : SI σ) :
    K_M_greatestUse l D a q [.ref (q 0)] σ (fun v τ => (∀ i, i ≠ 3 → τ i = σ i) ∧ ∃ x, v = some (vI x) ∧ GU (σ 1) (σ 0 0) (σ 2) x) := by
  refine Con.of (by decide) (mw_ad a q) (Nat.le_of_ble_eq_true rfl) (fun Γ X => ?_)
  have X : Cx Γ "CutDeskModel" b_M_greatestUse (some .int) 4 5 115 (mw a q) _ l D (tysA a) := X
  show G Γ [(0, .ref (q 0))] σ 0 []
  obtain ⟨hR, hw, ho⟩ := id hS
  have her := enc_rng ho
  refine g_aload_n X 0 d_M_greatestUse_0 rfl rfl ?_
  refine m_callV X (c_M_whole l D a q σ ho) d_M_greatestUse_1 lk_M_42 im_M_whole sl_M_whole k_M_whole ok_M_whole rfl (by decide) rfl (Nat.le_of_ble_eq_true rfl) (fun v2 σ2 hp2 => ?_)
  obtain ⟨rfl, rfl⟩ := hp2
  refine g_istore_n X 1 d_M_greatestUse_4 rfl (by decide) ?_
  refine g_aload_n X 0 d_M_greatestUse_5 rfl rfl ?_
  refine m_callV X (c_M_least l D a q σ2 hR hw ho) d_M_greatestUse_6 lk_M_50 im_M_least sl_M_least k_M_least ok_M_least rfl (by decide) rfl (Nat.le_of_ble_eq_true rfl) (fun v3 σ3 hp3 => ?_)
  obtain ⟨now, rfl, hnow, hMT⟩ := hp3
  have hfr := hMT.1
  have hnb := Opt_12 (by omega) ho (fun k a1 a2 _ => (hw k a1 a2).2) hnow
  have hSt : SI σ3 := by
    unfold SI
    rw [hfr 0 (by decide), hfr 1 (by decide), hfr 2 (by decide)]
    exact hS
  have no0 : ¬ CU (σ2 1) (σ2 0 0) (σ2 2) 0 := by
    rintro ⟨-, c, c0, c1, c2⟩
    have h2 : Opt (σ2 1) (σ2 0 0) (σ2 2) (c - 1) := Opt_congr (fun _ _ _ => rfl) (fun k a1 a2 => by
      have := ho k a1 a2
      have : vec 0 k = 0 := by rcases four a1 a2 with rfl | rfl | rfl | rfl <;> rfl
      unfold sbo mx0
      split <;> omega) c2
    have := Opt_uniq c1 h2
    omega
  have L : ∀ (n : Nat) (p : Int), p = (n : Int) - 1 → p ≤ 255 → (∀ j, p < j → j ≤ 255 → ¬ CU (σ2 1) (σ2 0 0) (σ2 2) j) → G Γ [(0, .ref (q 0)), (1, vI (enc (σ2 2))), (2, vI now), (3, vI p)] σ3 14 [] := by
    intro n
    induction n with
    | zero =>
      intro p hpn hp hj
      refine g_iload_n X 3 d_M_greatestUse_14 rfl rfl ?_
      refine g_if_lt X (tgt := 55) d_M_greatestUse_15 (by decide) (by omega) (fun h15 => ?_) (fun h15 => ?_)
      · refine g_iconst X d_M_greatestUse_55 ?_
        refine g_iret X d_M_greatestUse_56 rfl ?_
        exact ⟨hfr, -1, rfl, Or.inl ⟨rfl, fun j a1 a2 => hj j (by omega) a2⟩⟩
      · omega
    | succ n ih =>
      intro p hpn hp hj
      have go : ¬ CU (σ2 1) (σ2 0 0) (σ2 2) p → G Γ [(0, .ref (q 0)), (1, vI (enc (σ2 2))), (2, vI now), (3, vI p)] σ3 49 [] := by
        intro h
        refine g_iinc X d_M_greatestUse_49 rfl (by decide) ?_
        refine g_goto X (tgt := 14) d_M_greatestUse_52 (by decide) ?_
        refine ih (p + -1) (by omega) (by omega) (fun j a1 a2 => ?_)
        by_cases e : j = p
        · subst e; exact h
        · exact hj j (by omega) a2
      refine g_iload_n X 3 d_M_greatestUse_14 rfl rfl ?_
      refine g_if_lt X (tgt := 55) d_M_greatestUse_15 (by decide) (by omega) (fun h15 => ?_) (fun h15 => ?_)
      · omega
      · refine g_iload_n X 2 d_M_greatestUse_18 rfl rfl ?_
        refine g_if_le X (tgt := 49) d_M_greatestUse_19 (by decide) (by omega) (fun h19 => ?_) (fun h19 => ?_)
        · refine go ?_
          rintro ⟨-, c, c0, c1, -⟩
          have := Opt_uniq hnow c1
          omega
        · refine g_aload_n X 0 d_M_greatestUse_22 rfl rfl ?_
          refine g_iload_n X 3 d_M_greatestUse_23 rfl rfl ?_
          refine m_callV X (c_M_fits l D a q σ3 p (by omega) hSt) d_M_greatestUse_24 lk_M_56 im_M_fits sl_M_fits k_M_fits ok_M_fits rfl (by decide) rfl (Nat.le_of_ble_eq_true rfl) (fun v4 σ4 hp4 => ?_)
          obtain ⟨rfl, hp4⟩ := hp4
          rw [hfr 0 (by decide), hfr 1 (by decide)] at hp4
          rcases hp4 with ⟨rfl, hF⟩ | ⟨rfl, hF⟩
          · refine g_if_eq X (tgt := 49) d_M_greatestUse_27 (by decide) (by omega) (fun h27 => ?_) (fun h27 => ?_)
            · omega
            · obtain ⟨hix, hO⟩ := MT_after (p := p) ho hMT
              have hOb := Opt_12 (by omega) (fun k a1 a2 => by have := ho k a1 a2; have := vec_rng p k; unfold sbo mx0; split <;> omega) (fun k a1 a2 _ => (hw k a1 a2).2) hO
              have hiff := CU_iff hF hnow hO
              refine g_aload_n X 0 d_M_greatestUse_30 rfl rfl ?_
              refine m_get X 3 d_M_greatestUse_31 lk_M_16 (by decide) rfl rfl ?_
              refine g_aload_n X 0 d_M_greatestUse_34 rfl rfl ?_
              refine g_iload_n X 1 d_M_greatestUse_35 rfl rfl ?_
              refine g_iload_n X 3 d_M_greatestUse_36 rfl rfl ?_
              refine m_callV X (c_M_after l D a q σ4 (enc (σ2 2)) p her ⟨hF.1, by have := hF.2.1; omega⟩) d_M_greatestUse_37 lk_M_31 im_M_after sl_M_after k_M_after ok_M_after rfl (by decide) rfl (Nat.le_of_ble_eq_true rfl) (fun v5 σ5 hp5 => ?_)
              obtain ⟨rfl, rfl⟩ := hp5
              refine m_iald X d_M_greatestUse_40 (by rfl) (by omega) (by decide) ?_
              refine g_iload_n X 2 d_M_greatestUse_41 rfl rfl ?_
              refine g_iconst X d_M_greatestUse_42 ?_
              refine g_isub X d_M_greatestUse_43 ?_
              refine g_icmp_gt X (tgt := 49) d_M_greatestUse_44 (by decide) (by omega) (by omega) (fun h44 => ?_) (fun h44 => ?_)
              · exact go (fun h => by have := hiff.mp h; omega)
              · refine g_iload_n X 3 d_M_greatestUse_47 rfl rfl ?_
                refine g_iret X d_M_greatestUse_48 rfl ?_
                have hcu := hiff.mpr (by omega)
                have hne : p ≠ 0 := fun e => no0 (e ▸ hcu)
                exact ⟨hfr, p, rfl, Or.inr ⟨by omega, hp, hcu, hj⟩⟩
          · refine g_if_eq X (tgt := 49) d_M_greatestUse_27 (by decide) (by omega) (fun h27 => ?_) (fun h27 => ?_)
            · exact go (fun h => hF h.1)
            · omega
  refine g_istore_n X 2 d_M_greatestUse_9 rfl (by decide) ?_
  refine g_sipush X d_M_greatestUse_10 (by decide) ?_
  refine g_istore_n X 3 d_M_greatestUse_13 rfl (by decide) ?_
  exact L 256 255 (by omega) (by omega) (fun j a1 a2 => by omega)
end S13
end
section
section S14
variable (l : Launch) (D : va_G) (a : Nat → ClassId) (q : Nat → Nat) (σ : zS)
theorem c_D_isKind (k : Int) (hk : -2147483648 ≤ k ∧ k < 2147483648) :
    K_D_isKind l D a q [vI k] σ (fun v τ => τ = σ ∧ ((v = some (vI 1) ∧ 0 ≤ k ∧ k < 4) ∨ (v = some (vI 0) ∧ ¬ (0 ≤ k ∧ k < 4)))) := by
  refine Con.of (by decide) (dw_ad a q) (Nat.le_of_ble_eq_true rfl) (fun Γ X => ?_)
  have X : Cx Γ "CutDesk" b_D_isKind (some .boolean) 1 0 0 (dw a q) _ l D (tysA a) := X
  show G Γ [(0, vI k)] σ 0 []
  refine g_iload_n X 0 d_D_isKind_0 rfl rfl ?_
  refine g_if_lt X (tgt := 13) d_D_isKind_1 (by decide) (by omega) (fun h1 => ?_) (fun h1 => ?_)
  · refine g_iconst X d_D_isKind_13 ?_
    refine g_zret X d_D_isKind_14 rfl (by decide) ?_
    exact ⟨rfl, Or.inr ⟨rfl, by omega⟩⟩
  · refine g_iload_n X 0 d_D_isKind_4 rfl rfl ?_
    refine g_iconst X d_D_isKind_5 ?_
    refine g_icmp_ge X (tgt := 13) d_D_isKind_6 (by decide) (by omega) (by omega) (fun h6 => ?_) (fun h6 => ?_)
    · refine g_iconst X d_D_isKind_13 ?_
      refine g_zret X d_D_isKind_14 rfl (by decide) ?_
      exact ⟨rfl, Or.inr ⟨rfl, by omega⟩⟩
    · refine g_iconst X d_D_isKind_9 ?_
      refine g_goto X (tgt := 14) d_D_isKind_10 (by decide) ?_
      refine g_zret X d_D_isKind_14 rfl (by decide) ?_
      exact ⟨rfl, Or.inl ⟨rfl, by omega, by omega⟩⟩
theorem c_D_roll : K_D_roll l D a q [.ref (q 0)] σ (fun v τ => τ = σ ∧ v = some (vI (σ 0 0))) := by
  refine Con.of (by decide) (dw_ad a q) (Nat.le_of_ble_eq_true rfl) (fun Γ X => ?_)
  have X : Cx Γ "CutDesk" b_D_roll (some .int) 1 0 0 (dw a q) _ l D (tysA a) := X
  show G Γ [(0, .ref (q 0))] σ 0 []
  refine g_aload_n X 0 d_D_roll_0 rfl rfl ?_
  refine d_get X 0 d_D_roll_1 lk_D_54 (by decide) rfl rfl ?_
  refine g_iret X d_D_roll_4 rfl ?_
  exact ⟨rfl, rfl⟩
theorem c_D_setWidth (k w : Int) (hk : -2147483648 ≤ k ∧ k < 2147483648) (hw : -2147483648 ≤ w ∧ w < 2147483648) (hS : SI σ) :
    K_D_setWidth l D a q [.ref (q 0), vI k, vI w] σ (fun v τ => (v = some (vI 1) ∧ ((0 ≤ k ∧ k < 4) ∧ 1 ≤ w ∧ w ≤ σ 0 0) ∧ τ = up σ 1 k w) ∨ (v = some (vI 0) ∧ ¬ ((0 ≤ k ∧ k < 4) ∧ 1 ≤ w ∧ w ≤ σ 0 0) ∧ τ = σ)) := by
  refine Con.of (by decide) (dw_ad a q) (Nat.le_of_ble_eq_true rfl) (fun Γ X => ?_)
  have X : Cx Γ "CutDesk" b_D_setWidth (some .boolean) 3 1 20 (dw a q) _ l D (tysA a) := X
  show G Γ [(0, .ref (q 0)), (1, vI k), (2, vI w)] σ 0 []
  have hr := hS.1
  have F : ¬ ((0 ≤ k ∧ k < 4) ∧ 1 ≤ w ∧ w ≤ σ 0 0) → G Γ [(0, .ref (q 0)), (1, vI k), (2, vI w)] σ 20 [] := by
    intro h
    refine g_iconst X d_D_setWidth_20 ?_
    refine g_zret X d_D_setWidth_21 rfl (by decide) ?_
    exact Or.inr ⟨rfl, h, rfl⟩
  refine g_iload_n X 1 d_D_setWidth_0 rfl rfl ?_
  refine g_callS X (c_D_isKind l D a q σ k hk) d_D_setWidth_1 lk_D_58 sm_D_isKind in_D k_D_isKind ok_D_isKind rfl (by decide) rfl (Nat.le_of_ble_eq_true rfl) (fun v2 σ2 hp2 => ?_)
  obtain ⟨rfl, hp2⟩ := hp2
  rcases hp2 with ⟨rfl, hk1⟩ | ⟨rfl, hk1⟩
  · refine g_if_eq X (tgt := 20) d_D_setWidth_4 (by decide) (by omega) (fun h4 => ?_) (fun h4 => ?_)
    · omega
    · refine g_iload_n X 2 d_D_setWidth_7 rfl rfl ?_
      refine g_iconst X d_D_setWidth_8 ?_
      refine g_icmp_lt X (tgt := 20) d_D_setWidth_9 (by decide) (by omega) (by omega) (fun h9 => ?_) (fun h9 => ?_)
      · exact F (by omega)
      · refine g_iload_n X 2 d_D_setWidth_12 rfl rfl ?_
        refine g_aload_n X 0 d_D_setWidth_13 rfl rfl ?_
        refine d_get X 0 d_D_setWidth_14 lk_D_54 (by decide) rfl rfl ?_
        refine g_icmp_le X (tgt := 22) d_D_setWidth_17 (by decide) (by omega) (by omega) (fun h17 => ?_) (fun h17 => ?_)
        · refine g_aload_n X 0 d_D_setWidth_22 rfl rfl ?_
          refine d_get X 1 d_D_setWidth_23 lk_D_7 (by decide) rfl rfl ?_
          refine g_iload_n X 1 d_D_setWidth_26 rfl rfl ?_
          refine g_iload_n X 2 d_D_setWidth_27 rfl rfl ?_
          refine g_i2b X d_D_setWidth_28 (by omega) ?_
          refine d_bast X d_D_setWidth_29 (by rfl) (by rfl) (by omega) (by decide) (by omega) ?_
          refine g_iconst X d_D_setWidth_30 ?_
          refine g_zret X d_D_setWidth_31 rfl (by decide) ?_
          exact Or.inl ⟨rfl, by omega, rfl⟩
        · exact F (by omega)
  · refine g_if_eq X (tgt := 20) d_D_setWidth_4 (by decide) (by omega) (fun h4 => ?_) (fun h4 => ?_)
    · exact F (by omega)
    · omega
theorem c_D_order (k n : Int) (hk : -2147483648 ≤ k ∧ k < 2147483648) (hn : -2147483648 ≤ n ∧ n < 2147483648) :
    K_D_order l D a q [.ref (q 0), vI k, vI n] σ (fun v τ => (v = some (vI 1) ∧ ((0 ≤ k ∧ k < 4) ∧ 0 ≤ n ∧ n ≤ 3) ∧ τ = up σ 2 k n) ∨ (v = some (vI 0) ∧ ¬ ((0 ≤ k ∧ k < 4) ∧ 0 ≤ n ∧ n ≤ 3) ∧ τ = σ)) := by
  refine Con.of (by decide) (dw_ad a q) (Nat.le_of_ble_eq_true rfl) (fun Γ X => ?_)
  have X : Cx Γ "CutDesk" b_D_order (some .boolean) 3 1 20 (dw a q) _ l D (tysA a) := X
  show G Γ [(0, .ref (q 0)), (1, vI k), (2, vI n)] σ 0 []
  have F : ¬ ((0 ≤ k ∧ k < 4) ∧ 0 ≤ n ∧ n ≤ 3) → G Γ [(0, .ref (q 0)), (1, vI k), (2, vI n)] σ 16 [] := by
    intro h
    refine g_iconst X d_D_order_16 ?_
    refine g_zret X d_D_order_17 rfl (by decide) ?_
    exact Or.inr ⟨rfl, h, rfl⟩
  refine g_iload_n X 1 d_D_order_0 rfl rfl ?_
  refine g_callS X (c_D_isKind l D a q σ k hk) d_D_order_1 lk_D_58 sm_D_isKind in_D k_D_isKind ok_D_isKind rfl (by decide) rfl (Nat.le_of_ble_eq_true rfl) (fun v2 σ2 hp2 => ?_)
  obtain ⟨rfl, hp2⟩ := hp2
  rcases hp2 with ⟨rfl, hk1⟩ | ⟨rfl, hk1⟩
  · refine g_if_eq X (tgt := 16) d_D_order_4 (by decide) (by omega) (fun h4 => ?_) (fun h4 => ?_)
    · omega
    · refine g_iload_n X 2 d_D_order_7 rfl rfl ?_
      refine g_if_lt X (tgt := 16) d_D_order_8 (by decide) (by omega) (fun h8 => ?_) (fun h8 => ?_)
      · exact F (by omega)
      · refine g_iload_n X 2 d_D_order_11 rfl rfl ?_
        refine g_iconst X d_D_order_12 ?_
        refine g_icmp_le X (tgt := 18) d_D_order_13 (by decide) (by omega) (by omega) (fun h13 => ?_) (fun h13 => ?_)
        · refine g_aload_n X 0 d_D_order_18 rfl rfl ?_
          refine d_get X 2 d_D_order_19 lk_D_13 (by decide) rfl rfl ?_
          refine g_iload_n X 1 d_D_order_22 rfl rfl ?_
          refine g_iload_n X 2 d_D_order_23 rfl rfl ?_
          refine g_i2b X d_D_order_24 (by omega) ?_
          refine d_bast X d_D_order_25 (by rfl) (by rfl) (by omega) (by decide) (by omega) ?_
          refine g_iconst X d_D_order_26 ?_
          refine g_zret X d_D_order_27 rfl (by decide) ?_
          exact Or.inl ⟨rfl, by omega, rfl⟩
        · exact F (by omega)
  · refine g_if_eq X (tgt := 16) d_D_order_4 (by decide) (by omega) (fun h4 => ?_) (fun h4 => ?_)
    · exact F (by omega)
    · omega
theorem c_D_setRoll (w : Int) (hw : -2147483648 ≤ w ∧ w < 2147483648) (hS : SI σ) :
    K_D_setRoll l D a q [.ref (q 0), vI w] σ (fun v τ => (v = some (vI 1) ∧ ((1 ≤ w ∧ w ≤ 20) ∧ ∀ k, 0 ≤ k → k < 4 → σ 1 k ≤ w) ∧ τ = up σ 0 0 w) ∨ (v = some (vI 0) ∧ ¬ ((1 ≤ w ∧ w ≤ 20) ∧ ∀ k, 0 ≤ k → k < 4 → σ 1 k ≤ w) ∧ τ = σ)) := by
  refine Con.of (by decide) (dw_ad a q) (Nat.le_of_ble_eq_true rfl) (fun Γ X => ?_)
  have X : Cx Γ "CutDesk" b_D_setRoll (some .boolean) 3 0 0 (dw a q) _ l D (tysA a) := X
  show G Γ [(0, .ref (q 0)), (1, vI w)] σ 0 []
  have hw20 := hS.w20
  have F : ¬ ((1 ≤ w ∧ w ≤ 20) ∧ ∀ k, 0 ≤ k → k < 4 → σ 1 k ≤ w) → G Γ [(0, .ref (q 0)), (1, vI w)] σ 11 [] := by
    intro h
    refine g_iconst X d_D_setRoll_11 ?_
    refine g_zret X d_D_setRoll_12 rfl (by decide) ?_
    exact Or.inr ⟨rfl, h, rfl⟩
  have L : ∀ (n : Nat) (k : Int), k + n = 4 → 0 ≤ k → 1 ≤ w ∧ w ≤ 20 → (∀ j, 0 ≤ j → j < k → σ 1 j ≤ w) → G Γ [(0, .ref (q 0)), (1, vI w), (2, vI k)] σ 15 [] := by
    intro n
    induction n with
    | zero =>
      intro k hk h0 hr hj
      refine g_iload_n X 2 d_D_setRoll_15 rfl rfl ?_
      refine g_iconst X d_D_setRoll_16 ?_
      refine g_icmp_ge X (tgt := 38) d_D_setRoll_17 (by decide) (by omega) (by omega) (fun h17 => ?_) (fun h17 => ?_)
      · refine g_aload_n X 0 d_D_setRoll_38 rfl rfl ?_
        refine g_iload_n X 1 d_D_setRoll_39 rfl rfl ?_
        refine d_putI X (z := 0) 0 d_D_setRoll_40 lk_D_54 (by decide) rfl rfl rfl (by rfl) ?_
        refine g_iconst X d_D_setRoll_43 ?_
        refine g_zret X d_D_setRoll_44 rfl (by decide) ?_
        exact Or.inl ⟨rfl, ⟨hr, fun j a1 a2 => hj j a1 (by omega)⟩, rfl⟩
      · omega
    | succ n ih =>
      intro k hk h0 hr hj
      have hb := hw20 k h0 (by omega)
      refine g_iload_n X 2 d_D_setRoll_15 rfl rfl ?_
      refine g_iconst X d_D_setRoll_16 ?_
      refine g_icmp_ge X (tgt := 38) d_D_setRoll_17 (by decide) (by omega) (by omega) (fun h17 => ?_) (fun h17 => ?_)
      · omega
      · refine g_aload_n X 0 d_D_setRoll_20 rfl rfl ?_
        refine d_get X 1 d_D_setRoll_21 lk_D_7 (by decide) rfl rfl ?_
        refine g_iload_n X 2 d_D_setRoll_24 rfl rfl ?_
        refine d_bald X d_D_setRoll_25 (by rfl) (by omega) (by decide) ?_
        refine g_iload_n X 1 d_D_setRoll_26 rfl rfl ?_
        refine g_icmp_le X (tgt := 32) d_D_setRoll_27 (by decide) (by omega) (by omega) (fun h27 => ?_) (fun h27 => ?_)
        · refine g_iinc X d_D_setRoll_32 rfl (by decide) ?_
          refine g_goto X (tgt := 15) d_D_setRoll_35 (by decide) ?_
          refine ih (k + 1) (by omega) (by omega) hr (fun j a1 a2 => ?_)
          by_cases e : j = k
          · subst e; exact h27
          · exact hj j a1 (by omega)
        · refine g_iconst X d_D_setRoll_30 ?_
          refine g_zret X d_D_setRoll_31 rfl (by decide) ?_
          exact Or.inr ⟨rfl, fun h => h27 (h.2 k h0 (by omega)), rfl⟩
  refine g_iload_n X 1 d_D_setRoll_0 rfl rfl ?_
  refine g_iconst X d_D_setRoll_1 ?_
  refine g_icmp_lt X (tgt := 11) d_D_setRoll_2 (by decide) (by omega) (by omega) (fun h2 => ?_) (fun h2 => ?_)
  · exact F (by omega)
  · refine g_iload_n X 1 d_D_setRoll_5 rfl rfl ?_
    refine g_bipush X d_D_setRoll_6 (by decide) ?_
    refine g_icmp_le X (tgt := 13) d_D_setRoll_8 (by decide) (by omega) (by omega) (fun h8 => ?_) (fun h8 => ?_)
    · refine g_iconst X d_D_setRoll_13 ?_
      refine g_istore_n X 2 d_D_setRoll_14 rfl (by decide) ?_
      exact L 4 0 (by omega) (by omega) (by omega) (fun j a1 a2 => by omega)
    · exact F (by omega)
theorem c_D_width (k : Int) (hk : -2147483648 ≤ k ∧ k < 2147483648) :
    K_D_width l D a q [.ref (q 0), vI k] σ (fun v τ => τ = σ ∧ ((v = some (vI (σ 1 k)) ∧ 0 ≤ k ∧ k < 4) ∨ (v = some (vI (-1)) ∧ ¬ (0 ≤ k ∧ k < 4)))) := by
  refine Con.of (by decide) (dw_ad a q) (Nat.le_of_ble_eq_true rfl) (fun Γ X => ?_)
  have X : Cx Γ "CutDesk" b_D_width (some .int) 2 1 20 (dw a q) _ l D (tysA a) := X
  show G Γ [(0, .ref (q 0)), (1, vI k)] σ 0 []
  refine g_iload_n X 1 d_D_width_0 rfl rfl ?_
  refine g_callS X (c_D_isKind l D a q σ k hk) d_D_width_1 lk_D_58 sm_D_isKind in_D k_D_isKind ok_D_isKind rfl (by decide) rfl (Nat.le_of_ble_eq_true rfl) (fun v2 σ2 hp2 => ?_)
  obtain ⟨rfl, hp2⟩ := hp2
  rcases hp2 with ⟨rfl, hk1⟩ | ⟨rfl, hk1⟩
  · refine g_if_eq X (tgt := 16) d_D_width_4 (by decide) (by omega) (fun h4 => ?_) (fun h4 => ?_)
    · omega
    · refine g_aload_n X 0 d_D_width_7 rfl rfl ?_
      refine d_get X 1 d_D_width_8 lk_D_7 (by decide) rfl rfl ?_
      refine g_iload_n X 1 d_D_width_11 rfl rfl ?_
      refine d_bald X d_D_width_12 (by rfl) (by omega) (by decide) ?_
      refine g_goto X (tgt := 17) d_D_width_13 (by decide) ?_
      refine g_iret X d_D_width_17 rfl ?_
      exact ⟨rfl, Or.inl ⟨rfl, hk1⟩⟩
  · refine g_if_eq X (tgt := 16) d_D_width_4 (by decide) (by omega) (fun h4 => ?_) (fun h4 => ?_)
    · refine g_iconst X d_D_width_16 ?_
      refine g_iret X d_D_width_17 rfl ?_
      exact ⟨rfl, Or.inr ⟨rfl, hk1⟩⟩
    · omega
theorem c_D_ordered (k : Int) (hk : -2147483648 ≤ k ∧ k < 2147483648) :
    K_D_ordered l D a q [.ref (q 0), vI k] σ (fun v τ => τ = σ ∧ ((v = some (vI (σ 2 k)) ∧ 0 ≤ k ∧ k < 4) ∨ (v = some (vI (-1)) ∧ ¬ (0 ≤ k ∧ k < 4)))) := by
  refine Con.of (by decide) (dw_ad a q) (Nat.le_of_ble_eq_true rfl) (fun Γ X => ?_)
  have X : Cx Γ "CutDesk" b_D_ordered (some .int) 2 1 20 (dw a q) _ l D (tysA a) := X
  show G Γ [(0, .ref (q 0)), (1, vI k)] σ 0 []
  refine g_iload_n X 1 d_D_ordered_0 rfl rfl ?_
  refine g_callS X (c_D_isKind l D a q σ k hk) d_D_ordered_1 lk_D_58 sm_D_isKind in_D k_D_isKind ok_D_isKind rfl (by decide) rfl (Nat.le_of_ble_eq_true rfl) (fun v2 σ2 hp2 => ?_)
  obtain ⟨rfl, hp2⟩ := hp2
  rcases hp2 with ⟨rfl, hk1⟩ | ⟨rfl, hk1⟩
  · refine g_if_eq X (tgt := 16) d_D_ordered_4 (by decide) (by omega) (fun h4 => ?_) (fun h4 => ?_)
    · omega
    · refine g_aload_n X 0 d_D_ordered_7 rfl rfl ?_
      refine d_get X 2 d_D_ordered_8 lk_D_13 (by decide) rfl rfl ?_
      refine g_iload_n X 1 d_D_ordered_11 rfl rfl ?_
      refine d_bald X d_D_ordered_12 (by rfl) (by omega) (by decide) ?_
      refine g_goto X (tgt := 17) d_D_ordered_13 (by decide) ?_
      refine g_iret X d_D_ordered_17 rfl ?_
      exact ⟨rfl, Or.inl ⟨rfl, hk1⟩⟩
  · refine g_if_eq X (tgt := 16) d_D_ordered_4 (by decide) (by omega) (fun h4 => ?_) (fun h4 => ?_)
    · refine g_iconst X d_D_ordered_16 ?_
      refine g_iret X d_D_ordered_17 rfl ?_
      exact ⟨rfl, Or.inr ⟨rfl, hk1⟩⟩
    · omega
theorem c_D_fits (p : Int) (hp : -2147483648 ≤ p ∧ p < 2147483648) (hS : SI σ) :
    K_D_fits l D a q [.ref (q 0), vI p] σ (fun v τ => τ = σ ∧ ((v = some (vI 1) ∧ FT (σ 1) (σ 0 0) p) ∨ (v = some (vI 0) ∧ ¬ FT (σ 1) (σ 0 0) p))) := by
  refine Con.of (by decide) (dw_ad a q) (Nat.le_of_ble_eq_true rfl) (fun Γ X => ?_)
  have X : Cx Γ "CutDesk" b_D_fits (some .boolean) 4 0 0 (dw a q) _ l D (tysA a) := X
  show G Γ [(0, .ref (q 0)), (1, vI p)] σ 0 []
  have hr := hS.1
  have hd := dot_vec_rng (e := p) hS.w20
  have F : ¬ FT (σ 1) (σ 0 0) p → G Γ [(0, .ref (q 0)), (1, vI p)] σ 11 [] := by
    intro h
    refine g_iconst X d_D_fits_11 ?_
    refine g_zret X d_D_fits_12 rfl (by decide) ?_
    exact ⟨rfl, Or.inr ⟨rfl, h⟩⟩
  have L : ∀ (n : Nat) (k : Int), k + n = 4 → 0 ≤ k → 0 ≤ p ∧ p ≤ 255 → G Γ [(0, .ref (q 0)), (1, vI p), (2, vI (ps (fun k => vec p k * σ 1 k) k)), (3, vI k)] σ 17 [] := by
    intro n
    induction n with
    | zero =>
      intro k hk h0 hpr
      refine g_iload_n X 3 d_D_fits_17 rfl rfl ?_
      refine g_iconst X d_D_fits_18 ?_
      refine g_icmp_ge X (tgt := 45) d_D_fits_19 (by decide) (by omega) (by omega) (fun h19 => ?_) (fun h19 => ?_)
      · have e : k = 4 := by omega
        subst e
        rw [dot_ps]
        refine g_iload_n X 2 d_D_fits_45 rfl rfl ?_
        refine g_aload_n X 0 d_D_fits_46 rfl rfl ?_
        refine d_get X 0 d_D_fits_47 lk_D_54 (by decide) rfl rfl ?_
        refine g_icmp_gt X (tgt := 57) d_D_fits_50 (by decide) (by omega) (by omega) (fun h50 => ?_) (fun h50 => ?_)
        · refine g_iconst X d_D_fits_57 ?_
          refine g_zret X d_D_fits_58 rfl (by decide) ?_
          exact ⟨rfl, Or.inr ⟨rfl, fun h => by have := h.2.2; omega⟩⟩
        · refine g_iconst X d_D_fits_53 ?_
          refine g_goto X (tgt := 58) d_D_fits_54 (by decide) ?_
          refine g_zret X d_D_fits_58 rfl (by decide) ?_
          exact ⟨rfl, Or.inl ⟨rfl, by omega, by omega, by omega⟩⟩
      · omega
    | succ n ih =>
      intro k hk h0 hpr
      refine g_iload_n X 3 d_D_fits_17 rfl rfl ?_
      refine g_iconst X d_D_fits_18 ?_
      refine g_icmp_ge X (tgt := 45) d_D_fits_19 (by decide) (by omega) (by omega) (fun h19 => ?_) (fun h19 => ?_)
      · omega
      · refine g_iload_n X 2 d_D_fits_22 rfl rfl ?_
        refine g_iload_n X 1 d_D_fits_23 rfl rfl ?_
        refine g_iconst X d_D_fits_24 ?_
        refine g_iload_n X 3 d_D_fits_25 rfl rfl ?_
        refine g_imul X d_D_fits_26 ?_
        refine g_shr X ((2 * k).toNat) d_D_fits_27 (sh_ok h0 (by omega)) (by omega) ?_
        refine g_iconst X d_D_fits_28 ?_
        refine g_and3 X d_D_fits_29 ?_
        rw [shr_vec h0 (by omega)]
        refine g_aload_n X 0 d_D_fits_30 rfl rfl ?_
        refine d_get X 1 d_D_fits_31 lk_D_7 (by decide) rfl rfl ?_
        refine g_iload_n X 3 d_D_fits_34 rfl rfl ?_
        refine d_bald X d_D_fits_35 (by rfl) (by omega) (by decide) ?_
        refine g_imul X d_D_fits_36 ?_
        refine g_iadd X d_D_fits_37 ?_
        refine g_istore_n X 2 d_D_fits_38 rfl (by decide) ?_
        refine g_iinc X d_D_fits_39 rfl (by decide) ?_
        refine g_goto X (tgt := 17) d_D_fits_42 (by decide) ?_
        have := ih (k + 1) (by omega) (by omega) hpr
        rw [ps_s _ h0 (by omega)] at this
        exact this
  refine g_iload_n X 1 d_D_fits_0 rfl rfl ?_
  refine g_if_lt X (tgt := 11) d_D_fits_1 (by decide) (by omega) (fun h1 => ?_) (fun h1 => ?_)
  · exact F (fun h => by have := h.1; omega)
  · refine g_iload_n X 1 d_D_fits_4 rfl rfl ?_
    refine g_sipush X d_D_fits_5 (by decide) ?_
    refine g_icmp_le X (tgt := 13) d_D_fits_8 (by decide) (by omega) (by omega) (fun h8 => ?_) (fun h8 => ?_)
    · refine g_iconst X d_D_fits_13 ?_
      refine g_istore_n X 2 d_D_fits_14 rfl (by decide) ?_
      refine g_iconst X d_D_fits_15 ?_
      refine g_istore_n X 3 d_D_fits_16 rfl (by decide) ?_
      exact L 4 0 (by omega) (by omega) (by omega)
    · exact F (fun h => by have := h.2.1; omega)
/-- askPlainly: the question at hand becomes the plain one -/
theorem c_D_askPlainly (hS : SI σ) :
    K_D_askPlainly l D a q [.ref (q 0)] σ (fun v τ => v = none ∧ τ 0 3 = σ 0 0 ∧ (∀ z, z ≠ 3 → τ 0 z = σ 0 z) ∧ (∀ k, 0 ≤ k → k < 4 → τ 3 k = σ 2 k) ∧ ∀ i, i ≠ 0 → i ≠ 3 → τ i = σ i) := by
  refine Con.of (by decide) (dw_ad a q) (Nat.le_of_ble_eq_true rfl) (fun Γ X => ?_)
  have X : Cx Γ "CutDesk" b_D_askPlainly none 2 0 0 (dw a q) _ l D (tysA a) := X
  show G Γ [(0, .ref (q 0))] σ 0 []
  obtain ⟨hR, hw, ho⟩ := id hS
  have L : ∀ (n : Nat) (k : Int) (τ : zS), k + n = 4 → 0 ≤ k → τ 0 3 = σ 0 0 → (∀ z, z ≠ 3 → τ 0 z = σ 0 z) → (∀ i, i ≠ 0 → i ≠ 3 → τ i = σ i) → (∀ j, 0 ≤ j → j < k → τ 3 j = σ 2 j) → G Γ [(0, .ref (q 0)), (1, vI k)] τ 10 [] := by
    intro n
    induction n with
    | zero =>
      intro k τ hk h0 t1 t2 t3 t4
      refine g_iload_n X 1 d_D_askPlainly_10 rfl rfl ?_
      refine g_iconst X d_D_askPlainly_11 ?_
      refine g_icmp_ge X (tgt := 33) d_D_askPlainly_12 (by decide) (by omega) (by omega) (fun h12 => ?_) (fun h12 => ?_)
      · refine g_vret X d_D_askPlainly_33 rfl ?_
        exact ⟨rfl, t1, t2, fun j a1 a2 => t4 j a1 (by omega), t3⟩
      · omega
    | succ n ih =>
      intro k τ hk h0 t1 t2 t3 t4
      have e2 : τ 2 = σ 2 := t3 2 (by decide) (by decide)
      have hb := ho k h0 (by omega)
      rw [← e2] at hb
      refine g_iload_n X 1 d_D_askPlainly_10 rfl rfl ?_
      refine g_iconst X d_D_askPlainly_11 ?_
      refine g_icmp_ge X (tgt := 33) d_D_askPlainly_12 (by decide) (by omega) (by omega) (fun h12 => ?_) (fun h12 => ?_)
      · omega
      · refine g_aload_n X 0 d_D_askPlainly_15 rfl rfl ?_
        refine d_get X 4 d_D_askPlainly_16 lk_D_16 (by decide) rfl rfl ?_
        refine g_iload_n X 1 d_D_askPlainly_19 rfl rfl ?_
        refine g_aload_n X 0 d_D_askPlainly_20 rfl rfl ?_
        refine d_get X 2 d_D_askPlainly_21 lk_D_13 (by decide) rfl rfl ?_
        refine g_iload_n X 1 d_D_askPlainly_24 rfl rfl ?_
        refine d_bald X d_D_askPlainly_25 (by rfl) (by omega) (by decide) ?_
        refine d_bast X d_D_askPlainly_26 (by rfl) (by rfl) (by omega) (by decide) (by omega) ?_
        refine g_iinc X d_D_askPlainly_27 rfl (by decide) ?_
        refine g_goto X (tgt := 10) d_D_askPlainly_30 (by decide) ?_
        refine ih (k + 1) _ (by omega) (by omega) t1 t2 (fun i hi hj => ?_) (fun j a1 a2 => ?_)
        · rw [← t3 i hi hj]; funext z; exact up_nc hj
        · by_cases e : j = k
          · subst e; rw [up_eq, e2]
          · rw [up_ne e]; exact t4 j a1 (by omega)
  refine g_aload_n X 0 d_D_askPlainly_0 rfl rfl ?_
  refine g_aload_n X 0 d_D_askPlainly_1 rfl rfl ?_
  refine d_get X 0 d_D_askPlainly_2 lk_D_54 (by decide) rfl rfl ?_
  refine d_putI X (z := 3) 3 d_D_askPlainly_5 lk_D_62 (by decide) rfl rfl rfl (by rfl) ?_
  refine g_iconst X d_D_askPlainly_8 ?_
  refine g_istore_n X 1 d_D_askPlainly_9 rfl (by decide) ?_
  refine L 4 0 _ (by omega) (by omega) (up_eq _ _ _ _) (fun z hz => up_ne hz) (fun i hi hj => ?_) (fun j a1 a2 => by omega)
  funext z
  exact up_nc hi
end S14
end
section
-- bounds of the elimination
theorem abs_mul {x y M : Int} (hx : -M ≤ x ∧ x ≤ M) (hy : -M ≤ y ∧ y ≤ M) : -(M * M) ≤ x * y ∧ x * y ≤ M * M := by
  have h1 : x.natAbs ≤ M.natAbs := by omega
  have h2 : y.natAbs ≤ M.natAbs := by omega
  have h3 := Nat.mul_le_mul h1 h2
  rw [← Int.natAbs_mul, ← Int.natAbs_mul] at h3
  have h4 : 0 ≤ M * M := Int.mul_nonneg (by omega) (by omega)
  omega
theorem abs_tdiv {x b B : Int} (hx : -B ≤ x ∧ x ≤ B) : -B ≤ x.tdiv b ∧ x.tdiv b ≤ B := by
  have h1 : (x.tdiv b).natAbs ≤ x.natAbs := by
    rw [Int.natAbs_tdiv]
    exact Nat.div_le_self _ _
  omega
theorem sq_le {M : Int} (h0 : 0 ≤ M) (h : M ≤ 1073741824) : M * M ≤ 1152921504606846976 := (mul_bnd (A := 1073741824) (B := 1073741824) ⟨h0, h⟩ ⟨h0, h⟩).2
/-- all cells are at most M -/
def AB (M : Int) (σ : zS) : Prop := ∀ z, 0 ≤ z → z < 24 → -M ≤ σ 5 z ∧ σ 5 z ≤ M
def RB (M : Int) (σ : zS) (r : Int) : Prop := ∀ i, 0 ≤ i → i < 6 → -M ≤ σ 5 (r * 6 + i) ∧ σ 5 (r * 6 + i) ≤ M
theorem AB_row {M : Int} {σ : zS} (h : AB M σ) {r : Int} (hr : 0 ≤ r ∧ r < 4) : RB M σ r := fun i a1 a2 => h _ (by omega) (by omega)
theorem AB_of {M : Int} {σ : zS} (h : ∀ r, 0 ≤ r → r < 4 → RB M σ r) : AB M σ := fun z a1 a2 => by
  have := h (z / 6) (by omega) (by omega) (z % 6) (by omega) (by omega)
  rw [show z / 6 * 6 + z % 6 = z by omega] at this
  exact this
section S15
variable (l : Launch) (D : va_G) (a : Nat → ClassId) (q : Nat → Nat) (σ : zS)
theorem c_D_swapRows (x y : Int) (hx : 0 ≤ x ∧ x < 4) (hy : 0 ≤ y ∧ y < 4) :
    K_D_swapRows l D a q [.ref (q 0), vI x, vI y] σ (fun v τ => v = none ∧ (∀ i, i ≠ 5 → τ i = σ i) ∧ ∀ M, AB M σ → AB M τ) := by
  refine Con.of (by decide) (dw_ad a q) (Nat.le_of_ble_eq_true rfl) (fun Γ X => ?_)
  have X : Cx Γ "CutDesk" b_D_swapRows none 6 0 0 (dw a q) _ l D (tysA a) := X
  show G Γ [(0, .ref (q 0)), (1, vI x), (2, vI y)] σ 0 []
  have L : ∀ (n : Nat) (k : Int) (τ : zS), k + n = 6 → 0 ≤ k → (∀ i, i ≠ 5 → τ i = σ i) → (∀ M, AB M σ → AB M τ) → G Γ [(0, .ref (q 0)), (1, vI x), (2, vI y), (3, vI k)] τ 2 [] := by
    intro n
    induction n with
    | zero =>
      intro k τ hk h0 hfr hM
      refine g_iload_n X 3 d_D_swapRows_2 rfl rfl ?_
      refine g_bipush X d_D_swapRows_3 (by decide) ?_
      refine g_icmp_ge X (tgt := 62) d_D_swapRows_5 (by decide) (by omega) (by omega) (fun h5 => ?_) (fun h5 => ?_)
      · refine g_vret X d_D_swapRows_62 rfl ?_
        exact ⟨rfl, hfr, hM⟩
      · omega
    | succ n ih =>
      intro k τ hk h0 hfr hM
      refine g_iload_n X 3 d_D_swapRows_2 rfl rfl ?_
      refine g_bipush X d_D_swapRows_3 (by decide) ?_
      refine g_icmp_ge X (tgt := 62) d_D_swapRows_5 (by decide) (by omega) (by omega) (fun h5 => ?_) (fun h5 => ?_)
      · omega
      · refine g_aload_n X 0 d_D_swapRows_8 rfl rfl ?_
        refine d_get X 6 d_D_swapRows_9 lk_D_22 (by decide) rfl rfl ?_
        refine g_iload_n X 1 d_D_swapRows_12 rfl rfl ?_
        refine g_bipush X d_D_swapRows_13 (by decide) ?_
        refine g_imul X d_D_swapRows_15 ?_
        refine g_iload_n X 3 d_D_swapRows_16 rfl rfl ?_
        refine g_iadd X d_D_swapRows_17 ?_
        refine d_lald X d_D_swapRows_18 (by rfl) (by omega) (by decide) ?_
        refine g_lstore X d_D_swapRows_19 (by decide) ?_
        refine g_aload_n X 0 d_D_swapRows_21 rfl rfl ?_
        refine d_get X 6 d_D_swapRows_22 lk_D_22 (by decide) rfl rfl ?_
        refine g_iload_n X 1 d_D_swapRows_25 rfl rfl ?_
        refine g_bipush X d_D_swapRows_26 (by decide) ?_
        refine g_imul X d_D_swapRows_28 ?_
        refine g_iload_n X 3 d_D_swapRows_29 rfl rfl ?_
        refine g_iadd X d_D_swapRows_30 ?_
        refine g_aload_n X 0 d_D_swapRows_31 rfl rfl ?_
        refine d_get X 6 d_D_swapRows_32 lk_D_22 (by decide) rfl rfl ?_
        refine g_iload_n X 2 d_D_swapRows_35 rfl rfl ?_
        refine g_bipush X d_D_swapRows_36 (by decide) ?_
        refine g_imul X d_D_swapRows_38 ?_
        refine g_iload_n X 3 d_D_swapRows_39 rfl rfl ?_
        refine g_iadd X d_D_swapRows_40 ?_
        refine d_lald X d_D_swapRows_41 (by rfl) (by omega) (by decide) ?_
        refine d_last X d_D_swapRows_42 (by rfl) (by rfl) (by omega) (by decide) ?_
        refine g_aload_n X 0 d_D_swapRows_43 rfl rfl ?_
        refine d_get X 6 d_D_swapRows_44 lk_D_22 (by decide) rfl rfl ?_
        refine g_iload_n X 2 d_D_swapRows_47 rfl rfl ?_
        refine g_bipush X d_D_swapRows_48 (by decide) ?_
        refine g_imul X d_D_swapRows_50 ?_
        refine g_iload_n X 3 d_D_swapRows_51 rfl rfl ?_
        refine g_iadd X d_D_swapRows_52 ?_
        refine g_lload X d_D_swapRows_53 rfl ?_
        refine d_last X d_D_swapRows_55 (by rfl) (by rfl) (by omega) (by decide) ?_
        refine g_iinc X d_D_swapRows_56 rfl (by decide) ?_
        refine g_goto X (tgt := 2) d_D_swapRows_59 (by decide) ?_
        refine g_sub [0, 1, 2, 3] rfl ?_
        refine ih (k + 1) _ (by omega) (by omega) (fun i hi => ?_) (fun M h => ?_)
        · rw [← hfr i hi]; funext z; rw [up_nc hi, up_nc hi]
        · have h := hM M h
          intro z a1 a2
          have b1 := h z a1 a2
          have b2 := h (x * 6 + k) (by omega) (by omega)
          have b3 := h (y * 6 + k) (by omega) (by omega)
          rw [up_if]
          split
          · exact b2
          · rw [up_if]
            split
            · exact b3
            · exact b1
  refine g_iconst X d_D_swapRows_0 ?_
  refine g_istore_n X 3 d_D_swapRows_1 rfl (by decide) ?_
  exact L 6 0 σ (by omega) (by omega) (fun _ _ => rfl) (fun _ h => h)
theorem c_D_combine (r c pv bf : Int) (hr : 0 ≤ r ∧ r < 4) (hc : 0 ≤ c ∧ c < 4) (hne : r ≠ c) :
    K_D_combine l D a q [.ref (q 0), vI r, vI c, vL pv, vL bf] σ (fun v τ => v = none ∧ (∀ i, i ≠ 5 → τ i = σ i) ∧ (∀ z, ¬ (r * 6 ≤ z ∧ z < r * 6 + 6) → τ 5 z = σ 5 z) ∧ ∀ M, 0 ≤ M → M ≤ 1073741824 → RB M σ r → RB M σ c → -M ≤ pv ∧ pv ≤ M → RB (2 * (M * M)) τ r) := by
  refine Con.of (by decide) (dw_ad a q) (Nat.le_of_ble_eq_true rfl) (fun Γ X => ?_)
  have X : Cx Γ "CutDesk" b_D_combine none 12 0 0 (dw a q) _ l D (tysA a) := X
  show G Γ [(0, .ref (q 0)), (1, vI r), (2, vI c), (3, vL pv), (5, vL bf)] σ 0 []
  have L : ∀ (n : Nat) (k : Int) (τ : zS), k + n = 6 → 0 ≤ k → (∀ i, i ≠ 5 → τ i = σ i) → (∀ z, ¬ (r * 6 ≤ z ∧ z < r * 6 + k) → τ 5 z = σ 5 z) → (∀ M, 0 ≤ M → M ≤ 1073741824 → RB M σ r → RB M σ c → -M ≤ pv ∧ pv ≤ M → ∀ i, 0 ≤ i → i < k → -(2 * (M * M)) ≤ τ 5 (r * 6 + i) ∧ τ 5 (r * 6 + i) ≤ 2 * (M * M)) →
      G Γ [(0, .ref (q 0)), (1, vI r), (2, vI c), (3, vL pv), (5, vL bf), (7, vL (σ 5 (r * 6 + c))), (9, vI k)] τ 16 [] := by
    intro n
    induction n with
    | zero =>
      intro k τ hk h0 hfr hz hM
      refine g_iload X d_D_combine_16 rfl ?_
      refine g_bipush X d_D_combine_18 (by decide) ?_
      refine g_icmp_ge X (tgt := 90) d_D_combine_20 (by decide) (by omega) (by omega) (fun h20 => ?_) (fun h20 => ?_)
      · refine g_vret X d_D_combine_90 rfl ?_
        exact ⟨rfl, hfr, fun z h => hz z (by omega), fun M m1 m2 m3 m4 m5 i a1 a2 => hM M m1 m2 m3 m4 m5 i a1 (by omega)⟩
      · omega
    | succ n ih =>
      intro k τ hk h0 hfr hz hM
      have er := hz (r * 6 + k) (by omega)
      have ec := hz (c * 6 + k) (by omega)
      -- behind the ternary
      have J : ∀ x : Int, (∀ M, 0 ≤ M → M ≤ 1073741824 → RB M σ r → RB M σ c → -M ≤ pv ∧ pv ≤ M → -(2 * (M * M)) ≤ x ∧ x ≤ 2 * (M * M)) →
          G Γ [(0, .ref (q 0)), (1, vI r), (2, vI c), (3, vL pv), (5, vL bf), (7, vL (σ 5 (r * 6 + c))), (9, vI k)] τ 83 [vL x, vI (r * 6 + k), .ref (q 5)] := by
        intro x hx
        refine d_last X d_D_combine_83 (by rfl) (by rfl) (by omega) (by decide) ?_
        refine g_iinc X d_D_combine_84 rfl (by decide) ?_
        refine g_goto X (tgt := 16) d_D_combine_87 (by decide) ?_
        refine ih (k + 1) _ (by omega) (by omega) (fun i hi => ?_) (fun z h => ?_) (fun M m1 m2 m3 m4 m5 i a1 a2 => ?_)
        · rw [← hfr i hi]; funext z; exact up_nc hi
        · rw [up_ne (by omega)]; exact hz z (by omega)
        · by_cases e : i = k
          · subst e; rw [up_eq]; exact hx M m1 m2 m3 m4 m5
          · rw [up_ne (by omega)]; exact hM M m1 m2 m3 m4 m5 i a1 (by omega)
      have vb : ∀ M, 0 ≤ M → M ≤ 1073741824 → RB M σ r → RB M σ c → -M ≤ pv ∧ pv ≤ M → -(2 * (M * M)) ≤ τ 5 (r * 6 + k) * pv - σ 5 (r * 6 + c) * τ 5 (c * 6 + k) ∧ τ 5 (r * 6 + k) * pv - σ 5 (r * 6 + c) * τ 5 (c * 6 + k) ≤ 2 * (M * M) := by
        intro M m1 m2 m3 m4 m5
        rw [er, ec]
        have b1 := abs_mul (m3 k h0 (by omega)) m5
        have b2 := abs_mul (m3 c hc.1 (by omega)) (m4 k h0 (by omega))
        omega
      refine g_iload X d_D_combine_16 rfl ?_
      refine g_bipush X d_D_combine_18 (by decide) ?_
      refine g_icmp_ge X (tgt := 90) d_D_combine_20 (by decide) (by omega) (by omega) (fun h20 => ?_) (fun h20 => ?_)
      · omega
      · refine g_aload_n X 0 d_D_combine_23 rfl rfl ?_
        refine d_get X 6 d_D_combine_24 lk_D_22 (by decide) rfl rfl ?_
        refine g_iload_n X 1 d_D_combine_27 rfl rfl ?_
        refine g_bipush X d_D_combine_28 (by decide) ?_
        refine g_imul X d_D_combine_30 ?_
        refine g_iload X d_D_combine_31 rfl ?_
        refine g_iadd X d_D_combine_33 ?_
        refine d_lald X d_D_combine_34 (by rfl) (by omega) (by decide) ?_
        refine g_lload_n X 3 d_D_combine_35 rfl rfl ?_
        refine g_lmul X d_D_combine_36 ?_
        refine g_lload X d_D_combine_37 rfl ?_
        refine g_aload_n X 0 d_D_combine_39 rfl rfl ?_
        refine d_get X 6 d_D_combine_40 lk_D_22 (by decide) rfl rfl ?_
        refine g_iload_n X 2 d_D_combine_43 rfl rfl ?_
        refine g_bipush X d_D_combine_44 (by decide) ?_
        refine g_imul X d_D_combine_46 ?_
        refine g_iload X d_D_combine_47 rfl ?_
        refine g_iadd X d_D_combine_49 ?_
        refine d_lald X d_D_combine_50 (by rfl) (by omega) (by decide) ?_
        refine g_lmul X d_D_combine_51 ?_
        refine g_lsub X d_D_combine_52 ?_
        refine g_lstore X d_D_combine_53 (by decide) ?_
        refine g_aload_n X 0 d_D_combine_55 rfl rfl ?_
        refine d_get X 6 d_D_combine_56 lk_D_22 (by decide) rfl rfl ?_
        refine g_iload_n X 1 d_D_combine_59 rfl rfl ?_
        refine g_bipush X d_D_combine_60 (by decide) ?_
        refine g_imul X d_D_combine_62 ?_
        refine g_iload X d_D_combine_63 rfl ?_
        refine g_iadd X d_D_combine_65 ?_
        refine g_lload X d_D_combine_66 rfl ?_
        refine g_lconst (a := 0) X d_D_combine_68 rfl ?_
        refine g_lcmp X d_D_combine_69 ?_
        refine g_nameI (fun cm ecm => ?_)
        have hcr := cmpL_rng bf 0
        have hce := cmpL_eq bf 0
        rw [← ecm] at hcr hce
        refine g_if_eq X (tgt := 81) d_D_combine_70 (by decide) (by omega) (fun h70 => ?_) (fun h70 => ?_)
        · refine g_lload X d_D_combine_81 rfl ?_
          refine g_sub [0, 1, 2, 3, 4, 5, 6] rfl ?_
          exact J _ vb
        · have hb0 : wL bf ≠ 0 := fun h => h70 (hce.mpr h)
          refine g_lload X d_D_combine_73 rfl ?_
          refine g_lload X d_D_combine_75 rfl ?_
          refine g_ldivT X d_D_combine_77 (by exact hb0) ?_
          refine g_goto X (tgt := 83) d_D_combine_78 (by decide) ?_
          refine g_sub [0, 1, 2, 3, 4, 5, 6] rfl ?_
          refine J _ (fun M m1 m2 m3 m4 m5 => ?_)
          have b := vb M m1 m2 m3 m4 m5
          have s := sq_le m1 m2
          rw [wL_eq (z := τ 5 (r * 6 + k) * pv - σ 5 (r * 6 + c) * τ 5 (c * 6 + k)) (by omega)]
          exact abs_tdiv b
  refine g_aload_n X 0 d_D_combine_0 rfl rfl ?_
  refine d_get X 6 d_D_combine_1 lk_D_22 (by decide) rfl rfl ?_
  refine g_iload_n X 1 d_D_combine_4 rfl rfl ?_
  refine g_bipush X d_D_combine_5 (by decide) ?_
  refine g_imul X d_D_combine_7 ?_
  refine g_iload_n X 2 d_D_combine_8 rfl rfl ?_
  refine g_iadd X d_D_combine_9 ?_
  refine d_lald X d_D_combine_10 (by rfl) (by omega) (by decide) ?_
  refine g_lstore X d_D_combine_11 (by decide) ?_
  refine g_iconst X d_D_combine_13 ?_
  refine g_istore X d_D_combine_14 (by decide) ?_
  exact L 6 0 σ (by omega) (by omega) (fun _ _ => rfl) (fun _ _ => rfl) (fun M m1 m2 m3 m4 m5 i a1 a2 => by omega)
end S15
end
section
def Mf (c : Int) : Int := if c ≤ 0 then 64 else if c = 1 then 8192 else if c = 2 then 134217728 else 36028797018963968
theorem Mf_s {c : Int} (h0 : 0 ≤ c) (h : c ≤ 2) : Mf (c + 1) = 2 * (Mf c * Mf c) ∧ 0 ≤ Mf c ∧ Mf c ≤ 1073741824 ∧ Mf c ≤ Mf (c + 1) := by
  rcases (show c = 0 ∨ c = 1 ∨ c = 2 by omega) with rfl | rfl | rfl <;> decide
theorem Mf_3 {c : Int} (h0 : 0 ≤ c) (h : c ≤ 3) : Mf c ≤ 36028797018963968 := by
  rcases (show c = 0 ∨ c = 1 ∨ c = 2 ∨ c = 3 by omega) with rfl | rfl | rfl | rfl <;> decide
theorem RB_mono {M M2 : Int} {σ : zS} {r : Int} (h : RB M σ r) (hM : M ≤ M2) : RB M2 σ r := fun i a1 a2 => by
  have := h i a1 a2
  omega
section S16
variable (l : Launch) (D : va_G) (a : Nat → ClassId) (q : Nat → Nat) (σ : zS)
/-- reduce: only cells and divisor change; from cells of at most 64 the divisor is at most 2^55 -/
theorem c_D_reduce :
    K_D_reduce l D a q [.ref (q 0)] σ (fun v τ => (v = some (vI 0) ∨ v = some (vI 1)) ∧ (∀ i, i ≠ 0 → i ≠ 5 → τ i = σ i) ∧ (∀ z, z ≠ 7 → τ 0 z = σ 0 z) ∧ (AB 64 σ → v = some (vI 1) → -36028797018963968 ≤ τ 0 7 ∧ τ 0 7 ≤ 36028797018963968)) := by
  refine Con.of (by decide) (dw_ad a q) (Nat.le_of_ble_eq_true rfl) (fun Γ X => ?_)
  have X : Cx Γ "CutDesk" b_D_reduce (some .boolean) 8 1 31 (dw a q) _ l D (tysA a) := X
  show G Γ [(0, .ref (q 0))] σ 0 []
  have T : ∀ (bf : Int) (n : Nat) (k : Int) (τ : zS), k + n = 24 → 0 ≤ k → (∀ i, i ≠ 0 → i ≠ 5 → τ i = σ i) → (∀ z, z ≠ 7 → τ 0 z = σ 0 z) → (AB 64 σ → -36028797018963968 ≤ τ 0 7 ∧ τ 0 7 ≤ 36028797018963968) → G Γ [(0, .ref (q 0)), (1, vL bf), (3, vI k)] τ 127 [] := by
    intro bf n
    induction n with
    | zero =>
      intro k τ hk h0 f1 f2 f3
      refine g_iload_n X 3 d_D_reduce_127 rfl rfl ?_
      refine g_bipush X d_D_reduce_128 (by decide) ?_
      refine g_icmp_ge X (tgt := 158) d_D_reduce_130 (by decide) (by omega) (by omega) (fun h130 => ?_) (fun h130 => ?_)
      · refine g_iconst X d_D_reduce_158 ?_
        refine g_zret X d_D_reduce_159 rfl (by decide) ?_
        exact ⟨Or.inr rfl, f1, f2, fun h _ => f3 h⟩
      · omega
    | succ n ih =>
      intro k τ hk h0 f1 f2 f3
      refine g_iload_n X 3 d_D_reduce_127 rfl rfl ?_
      refine g_bipush X d_D_reduce_128 (by decide) ?_
      refine g_icmp_ge X (tgt := 158) d_D_reduce_130 (by decide) (by omega) (by omega) (fun h130 => ?_) (fun h130 => ?_)
      · omega
      · refine g_lload_n X 1 d_D_reduce_133 rfl rfl ?_
        refine g_lconst (a := 0) X d_D_reduce_134 rfl ?_
        refine g_lcmp X d_D_reduce_135 ?_
        have hcr := cmpL_rng bf 0
        refine g_if_ge X (tgt := 158) d_D_reduce_136 (by decide) (by omega) (fun h136 => ?_) (fun h136 => ?_)
        · refine g_iconst X d_D_reduce_158 ?_
          refine g_zret X d_D_reduce_159 rfl (by decide) ?_
          exact ⟨Or.inr rfl, f1, f2, fun h _ => f3 h⟩
        · refine g_aload_n X 0 d_D_reduce_139 rfl rfl ?_
          refine d_get X 6 d_D_reduce_140 lk_D_22 (by decide) rfl rfl ?_
          refine g_iload_n X 3 d_D_reduce_143 rfl rfl ?_
          refine g_aload_n X 0 d_D_reduce_144 rfl rfl ?_
          refine d_get X 6 d_D_reduce_145 lk_D_22 (by decide) rfl rfl ?_
          refine g_iload_n X 3 d_D_reduce_148 rfl rfl ?_
          refine d_lald X d_D_reduce_149 (by rfl) (by omega) (by decide) ?_
          refine g_lneg X d_D_reduce_150 ?_
          refine d_last X d_D_reduce_151 (by rfl) (by rfl) (by omega) (by decide) ?_
          refine g_iinc X d_D_reduce_152 rfl (by decide) ?_
          refine g_goto X (tgt := 127) d_D_reduce_155 (by decide) ?_
          refine ih (k + 1) _ (by omega) (by omega) (fun i hi hj => ?_) f2 f3
          rw [← f1 i hi hj]; funext z; exact up_nc hj
  have E : ∀ (bf : Int) (τ : zS), (∀ i, i ≠ 0 → i ≠ 5 → τ i = σ i) → (∀ z, z ≠ 7 → τ 0 z = σ 0 z) → (AB 64 σ → -36028797018963968 ≤ bf ∧ bf ≤ 36028797018963968) → G Γ [(0, .ref (q 0)), (1, vL bf), (3, vI 4)] τ 109 [] := by
    intro bf τ f1 f2 f3
    have J : ∀ x : Int, (AB 64 σ → -36028797018963968 ≤ x ∧ x ≤ 36028797018963968) → G Γ [(0, .ref (q 0)), (1, vL bf), (3, vI 4)] τ 122 [vL x, .ref (q 0)] := by
      intro x hx
      refine d_putL X (z := 7) 7 d_D_reduce_122 lk_D_86 (by decide) rfl rfl rfl (by rfl) ?_
      refine g_iconst X d_D_reduce_125 ?_
      refine g_istore_n X 3 d_D_reduce_126 rfl (by decide) ?_
      refine T bf 24 0 _ (by omega) (by omega) (fun i hi hj => ?_) (fun z hz => ?_) (fun h => ?_)
      · rw [← f1 i hi hj]; funext z; exact up_nc hi
      · rw [up_ne hz]; exact f2 z hz
      · rw [up_eq]; exact hx h
    refine g_aload_n X 0 d_D_reduce_109 rfl rfl ?_
    refine g_lload_n X 1 d_D_reduce_110 rfl rfl ?_
    refine g_lconst (a := 0) X d_D_reduce_111 rfl ?_
    refine g_lcmp X d_D_reduce_112 ?_
    have hcr := cmpL_rng bf 0
    refine g_if_ge X (tgt := 121) d_D_reduce_113 (by decide) (by omega) (fun h113 => ?_) (fun h113 => ?_)
    · refine g_lload_n X 1 d_D_reduce_121 rfl rfl ?_
      exact J _ f3
    · refine g_lload_n X 1 d_D_reduce_116 rfl rfl ?_
      refine g_lneg X d_D_reduce_117 ?_
      refine g_goto X (tgt := 122) d_D_reduce_118 (by decide) ?_
      exact J _ (fun h => by have := f3 h; omega)
  have L : ∀ (n : Nat) (c bf : Int) (τ : zS), c + n = 4 → 0 ≤ c → (∀ i, i ≠ 0 → i ≠ 5 → τ i = σ i) → (∀ z, z ≠ 7 → τ 0 z = σ 0 z) → (AB 64 σ → c ≤ 3 → AB (Mf c) τ) → (AB 64 σ → c = 4 → -36028797018963968 ≤ bf ∧ bf ≤ 36028797018963968) → G Γ [(0, .ref (q 0)), (1, vL bf), (3, vI c)] τ 4 [] := by
    intro n
    induction n with
    | zero =>
      intro c bf τ hc h0 f1 f2 f3 f4
      refine g_iload_n X 3 d_D_reduce_4 rfl rfl ?_
      refine g_iconst X d_D_reduce_5 ?_
      refine g_icmp_ge X (tgt := 109) d_D_reduce_6 (by decide) (by omega) (by omega) (fun h6 => ?_) (fun h6 => ?_)
      · have e : c = 4 := by omega
        subst e
        exact E bf τ f1 f2 (fun h => f4 h rfl)
      · omega
    | succ n ih =>
      intro c bf τ hc h0 f1 f2 f3 f4
      -- the rows
      have R : ∀ (m : Nat) (r row pv : Int) (τ : zS), r + m = 4 → 0 ≤ r → (∀ i, i ≠ 0 → i ≠ 5 → τ i = σ i) → (∀ z, z ≠ 7 → τ 0 z = σ 0 z) → (AB 64 σ → -(Mf c) ≤ pv ∧ pv ≤ Mf c) →
          (AB 64 σ → c ≤ 2 → (∀ r2, 0 ≤ r2 → r2 < r → r2 ≠ c → RB (Mf (c + 1)) τ r2) ∧ (∀ r2, 0 ≤ r2 → r2 < 4 → (r ≤ r2 ∨ r2 = c) → RB (Mf c) τ r2)) → G Γ [(0, .ref (q 0)), (1, vL bf), (3, vI c), (4, vI row), (5, vL pv), (7, vI r)] τ 72 [] := by
        intro m
        induction m with
        | zero =>
          intro r row pv τ hr r0 g1 g2 g3 g4
          refine g_iload X d_D_reduce_72 rfl ?_
          refine g_iconst X d_D_reduce_74 ?_
          refine g_icmp_ge X (tgt := 100) d_D_reduce_75 (by decide) (by omega) (by omega) (fun h75 => ?_) (fun h75 => ?_)
          · refine g_lload X d_D_reduce_100 rfl ?_
            refine g_lstore_n X 1 d_D_reduce_102 rfl (by decide) ?_
            refine g_iinc X d_D_reduce_103 rfl (by decide) ?_
            refine g_goto X (tgt := 4) d_D_reduce_106 (by decide) ?_
            refine g_sub [0, 1, 2] rfl ?_
            refine ih (c + 1) pv τ (by omega) (by omega) g1 g2 (fun h h3 => ?_) (fun h h3 => ?_)
            · obtain ⟨b1, b2⟩ := g4 h (by omega)
              have hm := Mf_s h0 (by omega)
              refine AB_of (fun r2 a1 a2 => ?_)
              by_cases e : r2 = c
              · exact RB_mono (b2 r2 a1 a2 (Or.inr e)) hm.2.2.2
              · exact b1 r2 a1 (by omega) e
            · have b := g3 h
              have := Mf_3 h0 (by omega)
              omega
          · omega
        | succ m ihr =>
          intro r row pv τ hr r0 g1 g2 g3 g4
          refine g_iload X d_D_reduce_72 rfl ?_
          refine g_iconst X d_D_reduce_74 ?_
          refine g_icmp_ge X (tgt := 100) d_D_reduce_75 (by decide) (by omega) (by omega) (fun h75 => ?_) (fun h75 => ?_)
          · omega
          · refine g_iload X d_D_reduce_78 rfl ?_
            refine g_iload_n X 3 d_D_reduce_80 rfl rfl ?_
            refine g_icmp_eq X (tgt := 94) d_D_reduce_81 (by decide) (by omega) (by omega) (fun h81 => ?_) (fun h81 => ?_)
            · refine g_iinc X d_D_reduce_94 rfl (by decide) ?_
              refine g_goto X (tgt := 72) d_D_reduce_97 (by decide) ?_
              refine ihr (r + 1) row pv τ (by omega) (by omega) g1 g2 g3 (fun h h2 => ?_)
              obtain ⟨b1, b2⟩ := g4 h h2
              exact ⟨fun r2 a1 a2 a3 => b1 r2 a1 (by omega) a3, fun r2 a1 a2 a3 => b2 r2 a1 a2 (by omega)⟩
            · refine g_aload_n X 0 d_D_reduce_84 rfl rfl ?_
              refine g_iload X d_D_reduce_85 rfl ?_
              refine g_iload_n X 3 d_D_reduce_87 rfl rfl ?_
              refine g_lload X d_D_reduce_88 rfl ?_
              refine g_lload_n X 1 d_D_reduce_90 rfl rfl ?_
              refine d_callV X (c_D_combine l D a q τ r c pv bf (by omega) (by omega) h81) d_D_reduce_91 lk_D_93 im_D_combine sl_D_combine k_D_combine ok_D_combine rfl (by decide) rfl (Nat.le_of_ble_eq_true rfl) (fun v2 σ2 hp2 => ?_)
              obtain ⟨rfl, k1, k2, k3⟩ := hp2
              refine g_iinc X d_D_reduce_94 rfl (by decide) ?_
              refine g_goto X (tgt := 72) d_D_reduce_97 (by decide) ?_
              refine ihr (r + 1) row pv σ2 (by omega) (by omega) (fun i hi hj => by rw [k1 i hj]; exact g1 i hi hj) (fun z hz => by rw [k1 0 (by decide)]; exact g2 z hz) g3 (fun h h2 => ?_)
              obtain ⟨b1, b2⟩ := g4 h h2
              have hm := Mf_s h0 h2
              have oth : ∀ (M r2 : Int), r2 ≠ r → RB M τ r2 → RB M σ2 r2 := fun M r2 hne hb i a1 a2 => by
                rw [k2 (r2 * 6 + i) (by omega)]
                exact hb i a1 a2
              refine ⟨fun r2 a1 a2 a3 => ?_, fun r2 a1 a2 a3 => ?_⟩
              · by_cases e : r2 = r
                · subst e
                  rw [hm.1]
                  exact k3 (Mf c) hm.2.1 hm.2.2.1 (b2 r2 a1 (by omega) (by omega)) (b2 c h0 (by omega) (Or.inr rfl)) (g3 h)
                · exact oth _ r2 e (b1 r2 a1 (by omega) a3)
              · exact oth _ r2 (by omega) (b2 r2 a1 a2 (by omega))
      have A41 : ∀ row : Int, c ≤ row → row ≤ 4 → G Γ [(0, .ref (q 0)), (1, vL bf), (3, vI c), (4, vI row)] τ 41 [] := by
        intro row r1 r2
        refine g_iload X d_D_reduce_41 rfl ?_
        refine g_iconst X d_D_reduce_43 ?_
        refine g_icmp_ne X (tgt := 49) d_D_reduce_44 (by decide) (by omega) (by omega) (fun h44 => ?_) (fun h44 => ?_)
        · refine g_aload_n X 0 d_D_reduce_49 rfl rfl ?_
          refine g_iload X d_D_reduce_50 rfl ?_
          refine g_iload_n X 3 d_D_reduce_52 rfl rfl ?_
          refine d_callV X (c_D_swapRows l D a q τ row c (by omega) (by omega)) d_D_reduce_53 lk_D_89 im_D_swapRows sl_D_swapRows k_D_swapRows ok_D_swapRows rfl (by decide) rfl (Nat.le_of_ble_eq_true rfl) (fun v2 σ2 hp2 => ?_)
          obtain ⟨rfl, k1, k2⟩ := hp2
          refine g_aload_n X 0 d_D_reduce_56 rfl rfl ?_
          refine d_get X 6 d_D_reduce_57 lk_D_22 (by decide) rfl rfl ?_
          refine g_iload_n X 3 d_D_reduce_60 rfl rfl ?_
          refine g_bipush X d_D_reduce_61 (by decide) ?_
          refine g_imul X d_D_reduce_63 ?_
          refine g_iload_n X 3 d_D_reduce_64 rfl rfl ?_
          refine g_iadd X d_D_reduce_65 ?_
          refine d_lald X d_D_reduce_66 (by rfl) (by omega) (by decide) ?_
          refine g_lstore X d_D_reduce_67 (by decide) ?_
          refine g_iconst X d_D_reduce_69 ?_
          refine g_istore X d_D_reduce_70 (by decide) ?_
          have ab : AB 64 σ → AB (Mf c) σ2 := fun h => k2 _ (f3 h (by omega))
          refine R 4 0 row _ σ2 (by omega) (by omega) (fun i hi hj => by rw [k1 i hj]; exact f1 i hi hj) (fun z hz => by rw [k1 0 (by decide)]; exact f2 z hz) (fun h => ab h _ (by omega) (by omega)) (fun h h2 => ⟨fun r2 a1 a2 => by omega, fun r2 a1 a2 _ => AB_row (ab h) ⟨a1, a2⟩⟩)
        · refine g_iconst X d_D_reduce_47 ?_
          refine g_zret X d_D_reduce_48 rfl (by decide) ?_
          exact ⟨Or.inl rfl, f1, f2, fun _ h => by injection h with h; exact absurd (vI_inj (by decide) (by decide) h) (by decide)⟩
      have Wl : ∀ (m : Nat) (row : Int), row + m = 4 → c ≤ row → G Γ [(0, .ref (q 0)), (1, vL bf), (3, vI c), (4, vI row)] τ 12 [] := by
        intro m
        induction m with
        | zero =>
          intro row hr h1
          refine g_iload X d_D_reduce_12 rfl ?_
          refine g_iconst X d_D_reduce_14 ?_
          refine g_icmp_ge X (tgt := 41) d_D_reduce_15 (by decide) (by omega) (by omega) (fun h15 => ?_) (fun h15 => ?_)
          · exact A41 row h1 (by omega)
          · omega
        | succ m ihw =>
          intro row hr h1
          refine g_iload X d_D_reduce_12 rfl ?_
          refine g_iconst X d_D_reduce_14 ?_
          refine g_icmp_ge X (tgt := 41) d_D_reduce_15 (by decide) (by omega) (by omega) (fun h15 => ?_) (fun h15 => ?_)
          · omega
          · refine g_aload_n X 0 d_D_reduce_18 rfl rfl ?_
            refine d_get X 6 d_D_reduce_19 lk_D_22 (by decide) rfl rfl ?_
            refine g_iload X d_D_reduce_22 rfl ?_
            refine g_bipush X d_D_reduce_24 (by decide) ?_
            refine g_imul X d_D_reduce_26 ?_
            refine g_iload_n X 3 d_D_reduce_27 rfl rfl ?_
            refine g_iadd X d_D_reduce_28 ?_
            refine d_lald X d_D_reduce_29 (by rfl) (by omega) (by decide) ?_
            refine g_lconst (a := 0) X d_D_reduce_30 rfl ?_
            refine g_lcmp X d_D_reduce_31 ?_
            have hcr := cmpL_rng (τ 5 (row * 6 + c)) 0
            refine g_if_ne X (tgt := 41) d_D_reduce_32 (by decide) (by omega) (fun h32 => ?_) (fun h32 => ?_)
            · exact A41 row h1 (by omega)
            · refine g_iinc X d_D_reduce_35 rfl (by decide) ?_
              refine g_goto X (tgt := 12) d_D_reduce_38 (by decide) ?_
              exact ihw (row + 1) (by omega) (by omega)
      refine g_iload_n X 3 d_D_reduce_4 rfl rfl ?_
      refine g_iconst X d_D_reduce_5 ?_
      refine g_icmp_ge X (tgt := 109) d_D_reduce_6 (by decide) (by omega) (by omega) (fun h6 => ?_) (fun h6 => ?_)
      · omega
      · refine g_iload_n X 3 d_D_reduce_9 rfl rfl ?_
        refine g_istore X d_D_reduce_10 (by decide) ?_
        exact Wl (4 - c).toNat c (by omega) (by omega)
  refine g_lconst (a := 1) X d_D_reduce_0 rfl ?_
  refine g_lstore_n X 1 d_D_reduce_1 rfl (by decide) ?_
  refine g_iconst X d_D_reduce_2 ?_
  refine g_istore_n X 3 d_D_reduce_3 rfl (by decide) ?_
  exact L 4 0 1 σ (by omega) (by omega) (fun _ _ _ => rfl) (fun _ _ => rfl) (fun h _ => h) (fun _ h => by omega)
end S16
end
section
theorem wL_add (x y : Int) : wL (x + y) = wL (wL x + wL y) := by
  unfold wL
  rw [← zL_add, ← zL_add]
  show _ = (zL (wL x) + zL (wL y)).toInt
  rw [zL_wL, zL_wL]
theorem wL_0 : wL 0 = 0 := rfl
section S17
variable (l : Launch) (D : va_G) (a : Nat → ClassId) (q : Nat → Nat) (σ : zS)
theorem c_D_priceBasis (hB : ∀ z, 0 ≤ z → z < 16 → 0 ≤ σ 4 z ∧ σ 4 z ≤ 40) :
    K_D_priceBasis l D a q [.ref (q 0)] σ (fun v τ => (v = some (vI 0) ∨ (v = some (vI 1) ∧ -36028797018963968 ≤ τ 0 9 ∧ τ 0 9 ≤ 36028797018963968)) ∧ (∀ i, i ≠ 0 → i ≠ 5 → i ≠ 6 → τ i = σ i) ∧ (∀ z, z ≠ 7 → z ≠ 9 → τ 0 z = σ 0 z)) := by
  refine Con.of (by decide) (dw_ad a q) (Nat.le_of_ble_eq_true rfl) (fun Γ X => ?_)
  have X : Cx Γ "CutDesk" b_D_priceBasis (some .boolean) 3 2 58 (dw a q) _ l D (tysA a) := X
  show G Γ [(0, .ref (q 0))] σ 0 []
  -- the last loop
  have T : ∀ (n : Nat) (k : Int) (τ : zS), k + n = 4 → 0 ≤ k → (∀ i, i ≠ 0 → i ≠ 5 → i ≠ 6 → τ i = σ i) → (∀ z, z ≠ 7 → z ≠ 9 → τ 0 z = σ 0 z) → (-36028797018963968 ≤ τ 0 9 ∧ τ 0 9 ≤ 36028797018963968) → G Γ [(0, .ref (q 0)), (1, vI k)] τ 91 [] := by
    intro n
    induction n with
    | zero =>
      intro k τ hk h0 f1 f2 f3
      refine g_iload_n X 1 d_D_priceBasis_91 rfl rfl ?_
      refine g_iconst X d_D_priceBasis_92 ?_
      refine g_icmp_ge X (tgt := 119) d_D_priceBasis_93 (by decide) (by omega) (by omega) (fun h93 => ?_) (fun h93 => ?_)
      · refine g_iconst X d_D_priceBasis_119 ?_
        refine g_zret X d_D_priceBasis_120 rfl (by decide) ?_
        exact ⟨Or.inr ⟨rfl, f3⟩, f1, f2⟩
      · omega
    | succ n ih =>
      intro k τ hk h0 f1 f2 f3
      refine g_iload_n X 1 d_D_priceBasis_91 rfl rfl ?_
      refine g_iconst X d_D_priceBasis_92 ?_
      refine g_icmp_ge X (tgt := 119) d_D_priceBasis_93 (by decide) (by omega) (by omega) (fun h93 => ?_) (fun h93 => ?_)
      · omega
      · refine g_aload_n X 0 d_D_priceBasis_96 rfl rfl ?_
        refine d_get X 8 d_D_priceBasis_97 lk_D_26 (by decide) rfl rfl ?_
        refine g_iload_n X 1 d_D_priceBasis_100 rfl rfl ?_
        refine g_aload_n X 0 d_D_priceBasis_101 rfl rfl ?_
        refine d_get X 6 d_D_priceBasis_102 lk_D_22 (by decide) rfl rfl ?_
        refine g_iload_n X 1 d_D_priceBasis_105 rfl rfl ?_
        refine g_bipush X d_D_priceBasis_106 (by decide) ?_
        refine g_imul X d_D_priceBasis_108 ?_
        refine g_iconst X d_D_priceBasis_109 ?_
        refine g_iadd X d_D_priceBasis_110 ?_
        refine d_lald X d_D_priceBasis_111 (by rfl) (by omega) (by decide) ?_
        refine d_last X d_D_priceBasis_112 (by rfl) (by rfl) (by omega) (by decide) ?_
        refine g_iinc X d_D_priceBasis_113 rfl (by decide) ?_
        refine g_goto X (tgt := 91) d_D_priceBasis_116 (by decide) ?_
        refine ih (k + 1) _ (by omega) (by omega) (fun i i1 i2 i3 => ?_) f2 f3
        rw [← f1 i i1 i2 i3]; funext z; exact up_nc i3
  have M : ∀ τ : zS, (∀ i, i ≠ 5 → τ i = σ i) → AB 64 τ → G Γ [(0, .ref (q 0)), (1, vI 4)] τ 72 [] := by
    intro τ f1 f2
    refine g_aload_n X 0 d_D_priceBasis_72 rfl rfl ?_
    refine d_callV X (c_D_reduce l D a q τ) d_D_priceBasis_73 lk_D_83 im_D_reduce sl_D_reduce k_D_reduce ok_D_reduce rfl (by decide) rfl (Nat.le_of_ble_eq_true rfl) (fun v2 σ2 hp2 => ?_)
    obtain ⟨hv, k1, k2, k3⟩ := hp2
    have e0 : τ 0 = σ 0 := f1 0 (by decide)
    rcases hv with rfl | rfl
    · refine g_if_ne X (tgt := 81) d_D_priceBasis_76 (by decide) (by omega) (fun h76 => ?_) (fun h76 => ?_)
      · omega
      · refine g_iconst X d_D_priceBasis_79 ?_
        refine g_zret X d_D_priceBasis_80 rfl (by decide) ?_
        exact ⟨Or.inl rfl, fun i i1 i2 i3 => by rw [k1 i i1 i2]; exact f1 i i2, fun z z1 z2 => by rw [k2 z z1, e0]⟩
    · have hb := k3 f2 rfl
      refine g_if_ne X (tgt := 81) d_D_priceBasis_76 (by decide) (by omega) (fun h76 => ?_) (fun h76 => ?_)
      · refine g_aload_n X 0 d_D_priceBasis_81 rfl rfl ?_
        refine g_aload_n X 0 d_D_priceBasis_82 rfl rfl ?_
        refine d_get X 7 d_D_priceBasis_83 lk_D_86 (by decide) rfl rfl ?_
        refine d_putL X (z := 9) 9 d_D_priceBasis_86 lk_D_76 (by decide) rfl rfl rfl (by rfl) ?_
        refine g_iconst X d_D_priceBasis_89 ?_
        refine g_istore_n X 1 d_D_priceBasis_90 rfl (by decide) ?_
        refine T 4 0 _ (by omega) (by omega) (fun i i1 i2 i3 => ?_) (fun z z1 z2 => ?_) ?_
        · rw [← f1 i i2, ← k1 i i1 i2]; funext z; exact up_nc i1
        · rw [up_ne z2, k2 z z1, e0]
        · rw [up_eq]; exact hb
      · omega
  have L : ∀ (n : Nat) (b : Int) (τ : zS), b + n = 4 → 0 ≤ b → (∀ i, i ≠ 5 → τ i = σ i) → (∀ z, 0 ≤ z → z < b * 6 → -64 ≤ τ 5 z ∧ τ 5 z ≤ 64) → G Γ [(0, .ref (q 0)), (1, vI b)] τ 2 [] := by
    intro n
    induction n with
    | zero =>
      intro b τ hb h0 f1 f2
      refine g_iload_n X 1 d_D_priceBasis_2 rfl rfl ?_
      refine g_iconst X d_D_priceBasis_3 ?_
      refine g_icmp_ge X (tgt := 72) d_D_priceBasis_4 (by decide) (by omega) (by omega) (fun h4 => ?_) (fun h4 => ?_)
      · have e : b = 4 := by omega
        subst e
        exact M τ f1 (fun z a1 a2 => f2 z a1 (by omega))
      · omega
    | succ n ih =>
      intro b τ hb h0 f1 f2
      have I : ∀ (m : Nat) (k : Int) (τ : zS), k + m = 4 → 0 ≤ k → (∀ i, i ≠ 5 → τ i = σ i) → (∀ z, 0 ≤ z → z < b * 6 + k → -64 ≤ τ 5 z ∧ τ 5 z ≤ 64) → G Γ [(0, .ref (q 0)), (1, vI b), (2, vI k)] τ 9 [] := by
        intro m
        induction m with
        | zero =>
          intro k τ hk k0 g1 g2
          refine g_iload_n X 2 d_D_priceBasis_9 rfl rfl ?_
          refine g_iconst X d_D_priceBasis_10 ?_
          refine g_icmp_ge X (tgt := 42) d_D_priceBasis_11 (by decide) (by omega) (by omega) (fun h11 => ?_) (fun h11 => ?_)
          · refine g_aload_n X 0 d_D_priceBasis_42 rfl rfl ?_
            refine d_get X 6 d_D_priceBasis_43 lk_D_22 (by decide) rfl rfl ?_
            refine g_iload_n X 1 d_D_priceBasis_46 rfl rfl ?_
            refine g_bipush X d_D_priceBasis_47 (by decide) ?_
            refine g_imul X d_D_priceBasis_49 ?_
            refine g_iconst X d_D_priceBasis_50 ?_
            refine g_iadd X d_D_priceBasis_51 ?_
            refine g_lconst (a := 1) X d_D_priceBasis_52 rfl ?_
            refine d_last X d_D_priceBasis_53 (by rfl) (by rfl) (by omega) (by decide) ?_
            refine g_aload_n X 0 d_D_priceBasis_54 rfl rfl ?_
            refine d_get X 6 d_D_priceBasis_55 lk_D_22 (by decide) rfl rfl ?_
            refine g_iload_n X 1 d_D_priceBasis_58 rfl rfl ?_
            refine g_bipush X d_D_priceBasis_59 (by decide) ?_
            refine g_imul X d_D_priceBasis_61 ?_
            refine g_iconst X d_D_priceBasis_62 ?_
            refine g_iadd X d_D_priceBasis_63 ?_
            refine g_lconst (a := 0) X d_D_priceBasis_64 rfl ?_
            refine d_last X d_D_priceBasis_65 (by rfl) (by rfl) (by omega) (by decide) ?_
            refine g_iinc X d_D_priceBasis_66 rfl (by decide) ?_
            refine g_goto X (tgt := 2) d_D_priceBasis_69 (by decide) ?_
            refine g_sub [0, 1] rfl ?_
            refine ih (b + 1) _ (by omega) (by omega) (fun i hi => ?_) (fun z a1 a2 => ?_)
            · rw [← g1 i hi]; funext z; rw [up_nc hi, up_nc hi]
            · rw [up_if]
              split
              · omega
              · rw [up_if]
                split
                · omega
                · exact g2 z a1 (by omega)
          · omega
        | succ m ihk =>
          intro k τ hk k0 g1 g2
          have e4 : τ 4 = σ 4 := g1 4 (by decide)
          have hb4 := hB (b * 4 + k) (by omega) (by omega)
          rw [← e4] at hb4
          refine g_iload_n X 2 d_D_priceBasis_9 rfl rfl ?_
          refine g_iconst X d_D_priceBasis_10 ?_
          refine g_icmp_ge X (tgt := 42) d_D_priceBasis_11 (by decide) (by omega) (by omega) (fun h11 => ?_) (fun h11 => ?_)
          · omega
          · refine g_aload_n X 0 d_D_priceBasis_14 rfl rfl ?_
            refine d_get X 6 d_D_priceBasis_15 lk_D_22 (by decide) rfl rfl ?_
            refine g_iload_n X 1 d_D_priceBasis_18 rfl rfl ?_
            refine g_bipush X d_D_priceBasis_19 (by decide) ?_
            refine g_imul X d_D_priceBasis_21 ?_
            refine g_iload_n X 2 d_D_priceBasis_22 rfl rfl ?_
            refine g_iadd X d_D_priceBasis_23 ?_
            refine g_aload_n X 0 d_D_priceBasis_24 rfl rfl ?_
            refine d_get X 5 d_D_priceBasis_25 lk_D_19 (by decide) rfl rfl ?_
            refine g_iload_n X 1 d_D_priceBasis_28 rfl rfl ?_
            refine g_iconst X d_D_priceBasis_29 ?_
            refine g_imul X d_D_priceBasis_30 ?_
            refine g_iload_n X 2 d_D_priceBasis_31 rfl rfl ?_
            refine g_iadd X d_D_priceBasis_32 ?_
            refine d_bald X d_D_priceBasis_33 (by rfl) (by omega) (by decide) ?_
            refine g_i2l X d_D_priceBasis_34 (by omega) ?_
            refine d_last X d_D_priceBasis_35 (by rfl) (by rfl) (by omega) (by decide) ?_
            refine g_iinc X d_D_priceBasis_36 rfl (by decide) ?_
            refine g_goto X (tgt := 9) d_D_priceBasis_39 (by decide) ?_
            refine ihk (k + 1) _ (by omega) (by omega) (fun i hi => ?_) (fun z a1 a2 => ?_)
            · rw [← g1 i hi]; funext z; exact up_nc hi
            · rw [up_if]
              split
              · omega
              · exact g2 z a1 (by omega)
      refine g_iload_n X 1 d_D_priceBasis_2 rfl rfl ?_
      refine g_iconst X d_D_priceBasis_3 ?_
      refine g_icmp_ge X (tgt := 72) d_D_priceBasis_4 (by decide) (by omega) (by omega) (fun h4 => ?_) (fun h4 => ?_)
      · omega
      · refine g_iconst X d_D_priceBasis_7 ?_
        refine g_istore_n X 2 d_D_priceBasis_8 rfl (by decide) ?_
        exact I 4 0 τ (by omega) (by omega) f1 (fun z a1 a2 => f2 z a1 (by omega))
  refine g_iconst X d_D_priceBasis_0 ?_
  refine g_istore_n X 1 d_D_priceBasis_1 rfl (by decide) ?_
  exact L 4 0 σ (by omega) (by omega) (fun _ _ => rfl) (fun z a1 a2 => by omega)
theorem c_D_sound :
    K_D_sound l D a q [.ref (q 0)] σ (fun v τ => τ = σ ∧ ((v = some (vI 1) ∧ (∀ k, 0 ≤ k → k < 4 → 0 ≤ wL (σ 6 k)) ∧ 0 < wL (σ 0 9)) ∨ v = some (vI 0))) := by
  refine Con.of (by decide) (dw_ad a q) (Nat.le_of_ble_eq_true rfl) (fun Γ X => ?_)
  have X : Cx Γ "CutDesk" b_D_sound (some .boolean) 2 0 0 (dw a q) _ l D (tysA a) := X
  show G Γ [(0, .ref (q 0))] σ 0 []
  have L : ∀ (n : Nat) (k : Int), k + n = 4 → 0 ≤ k → (∀ j, 0 ≤ j → j < k → 0 ≤ wL (σ 6 j)) → G Γ [(0, .ref (q 0)), (1, vI k)] σ 2 [] := by
    intro n
    induction n with
    | zero =>
      intro k hk h0 hj
      refine g_iload_n X 1 d_D_sound_2 rfl rfl ?_
      refine g_iconst X d_D_sound_3 ?_
      refine g_icmp_ge X (tgt := 26) d_D_sound_4 (by decide) (by omega) (by omega) (fun h4 => ?_) (fun h4 => ?_)
      · refine g_aload_n X 0 d_D_sound_26 rfl rfl ?_
        refine d_get X 9 d_D_sound_27 lk_D_76 (by decide) rfl rfl ?_
        refine g_lconst (a := 0) X d_D_sound_30 rfl ?_
        refine g_lcmp X d_D_sound_31 ?_
        have hcr := cmpL_rng (σ 0 9) 0
        have hcl := cmpL_le (σ 0 9) 0
        rw [wL_0] at hcl
        refine g_if_le X (tgt := 39) d_D_sound_32 (by decide) (by omega) (fun h32 => ?_) (fun h32 => ?_)
        · refine g_iconst X d_D_sound_39 ?_
          refine g_zret X d_D_sound_40 rfl (by decide) ?_
          exact ⟨rfl, Or.inr rfl⟩
        · refine g_iconst X d_D_sound_35 ?_
          refine g_goto X (tgt := 40) d_D_sound_36 (by decide) ?_
          refine g_zret X d_D_sound_40 rfl (by decide) ?_
          exact ⟨rfl, Or.inl ⟨rfl, fun j a1 a2 => hj j a1 (by omega), by omega⟩⟩
      · omega
    | succ n ih =>
      intro k hk h0 hj
      refine g_iload_n X 1 d_D_sound_2 rfl rfl ?_
      refine g_iconst X d_D_sound_3 ?_
      refine g_icmp_ge X (tgt := 26) d_D_sound_4 (by decide) (by omega) (by omega) (fun h4 => ?_) (fun h4 => ?_)
      · omega
      · refine g_aload_n X 0 d_D_sound_7 rfl rfl ?_
        refine d_get X 8 d_D_sound_8 lk_D_26 (by decide) rfl rfl ?_
        refine g_iload_n X 1 d_D_sound_11 rfl rfl ?_
        refine d_lald X d_D_sound_12 (by rfl) (by omega) (by decide) ?_
        refine g_lconst (a := 0) X d_D_sound_13 rfl ?_
        refine g_lcmp X d_D_sound_14 ?_
        have hcr := cmpL_rng (σ 6 k) 0
        have hcl := cmpL_ge (σ 6 k) 0
        rw [wL_0] at hcl
        refine g_if_ge X (tgt := 20) d_D_sound_15 (by decide) (by omega) (fun h15 => ?_) (fun h15 => ?_)
        · refine g_iinc X d_D_sound_20 rfl (by decide) ?_
          refine g_goto X (tgt := 2) d_D_sound_23 (by decide) ?_
          refine ih (k + 1) (by omega) (by omega) (fun j a1 a2 => ?_)
          by_cases e : j = k
          · subst e; exact hcl.mp h15
          · exact hj j a1 (by omega)
        · refine g_iconst X d_D_sound_18 ?_
          refine g_zret X d_D_sound_19 rfl (by decide) ?_
          exact ⟨rfl, Or.inr rfl⟩
  refine g_iconst X d_D_sound_0 ?_
  refine g_istore_n X 1 d_D_sound_1 rfl (by decide) ?_
  exact L 4 0 (by omega) (by omega) (fun j a1 a2 => by omega)
/-- mostValuable: the worth table F by width; what is left in entering is at most 40 of a kind -/
theorem c_D_mostValuable (hR : 1 ≤ σ 0 3 ∧ σ 0 3 ≤ 40) (hw : ∀ k, 0 ≤ k → k < 4 → 1 ≤ σ 1 k ∧ σ 1 k ≤ 20) :
    K_D_mostValuable l D a q [.ref (q 0)] σ (fun v τ => (∀ i, i ≠ 9 → i ≠ 10 → i ≠ 11 → τ i = σ i) ∧ (∀ k, 0 ≤ k → k < 4 → 0 ≤ τ 11 k ∧ τ 11 k ≤ 40) ∧ ∃ (x : Int) (F : Int → Int), v = some (vL x) ∧ wL x = F (σ 0 3) ∧ F 0 = 0 ∧ (∀ y, 1 ≤ y → y ≤ σ 0 3 → F (y - 1) ≤ F y) ∧ ∀ y k, 1 ≤ y → y ≤ σ 0 3 → 0 ≤ k → k < 4 → σ 1 k ≤ y → wL (F (y - σ 1 k) + wL (σ 6 k)) ≤ F y) := by
  refine Con.of (by decide) (dw_ad a q) (Nat.le_of_ble_eq_true rfl) (fun Γ X => ?_)
  have X : Cx Γ "CutDesk" b_D_mostValuable (some .long) 4 0 0 (dw a q) _ l D (tysA a) := X
  show G Γ [(0, .ref (q 0))] σ 0 []
  -- what the table says up to x
  have WPdef : ∃ WP : zS → Int → Prop, ∀ τ x, WP τ x ↔ (wL (τ 9 0) = 0 ∧ (∀ y, 1 ≤ y → y ≤ x → wL (τ 9 (y - 1)) ≤ wL (τ 9 y)) ∧ (∀ y k, 1 ≤ y → y ≤ x → 0 ≤ k → k < 4 → σ 1 k ≤ y → wL (τ 9 (y - σ 1 k) + σ 6 k) ≤ wL (τ 9 y)) ∧ ∀ y, 0 ≤ y → y ≤ x → τ 10 y = -1 ∨ (0 ≤ τ 10 y ∧ τ 10 y < 4 ∧ σ 1 (τ 10 y) ≤ y)) := ⟨_, fun _ _ => Iff.rfl⟩
  obtain ⟨WP, hWP⟩ := WPdef
  -- the walk back
  have T3 : ∀ (n : Nat) (st x : Int) (τ : zS), st + n = 40 → 0 ≤ st → 0 ≤ x → x ≤ σ 0 3 → (∀ i, i ≠ 9 → i ≠ 10 → i ≠ 11 → τ i = σ i) → WP τ (σ 0 3) → (∀ k, 0 ≤ k → k < 4 → 0 ≤ τ 11 k ∧ τ 11 k ≤ st) → G Γ [(0, .ref (q 0)), (1, vI x), (2, vI st)] τ 165 [] := by
    have fin : ∀ (st x : Int) (τ : zS), st ≤ 40 → (∀ i, i ≠ 9 → i ≠ 10 → i ≠ 11 → τ i = σ i) → WP τ (σ 0 3) → (∀ k, 0 ≤ k → k < 4 → 0 ≤ τ 11 k ∧ τ 11 k ≤ st) → G Γ [(0, .ref (q 0)), (1, vI x), (2, vI st)] τ 218 [] := by
      intro st x τ hst f1 f2 f3
      have e0 : τ 0 = σ 0 := f1 0 (by decide) (by decide) (by decide)
      obtain ⟨w1, w2, w3, w4⟩ := (hWP _ _).mp f2
      refine g_aload_n X 0 d_D_mostValuable_218 rfl rfl ?_
      refine d_get X 12 d_D_mostValuable_219 lk_D_35 (by decide) rfl rfl ?_
      refine g_aload_n X 0 d_D_mostValuable_222 rfl rfl ?_
      refine d_get X 3 d_D_mostValuable_223 lk_D_62 (by decide) rfl rfl ?_
      rw [e0]
      refine d_lald X d_D_mostValuable_226 (by rfl) (by omega) (by decide) ?_
      refine g_lret X d_D_mostValuable_227 rfl ?_
      refine ⟨f1, fun k a1 a2 => by have := f3 k a1 a2; omega, _, fun y => wL (τ 9 y), rfl, rfl, w1, w2, fun y k a1 a2 a3 a4 a5 => ?_⟩
      have := w3 y k a1 a2 a3 a4 a5
      rw [wL_add] at this
      exact this
    intro n
    induction n with
    | zero =>
      intro st x τ hst h0 hx0 hx f1 f2 f3
      refine g_iload_n X 2 d_D_mostValuable_165 rfl rfl ?_
      refine g_bipush X d_D_mostValuable_166 (by decide) ?_
      refine g_icmp_ge X (tgt := 218) d_D_mostValuable_168 (by decide) (by omega) (by omega) (fun h168 => ?_) (fun h168 => ?_)
      · exact fin st x τ (by omega) f1 f2 f3
      · omega
    | succ n ih =>
      intro st x τ hst h0 hx0 hx f1 f2 f3
      have e1 : τ 1 = σ 1 := f1 1 (by decide) (by decide) (by decide)
      obtain ⟨w1, w2, w3, w4⟩ := (hWP _ _).mp f2
      refine g_iload_n X 2 d_D_mostValuable_165 rfl rfl ?_
      refine g_bipush X d_D_mostValuable_166 (by decide) ?_
      refine g_icmp_ge X (tgt := 218) d_D_mostValuable_168 (by decide) (by omega) (by omega) (fun h168 => ?_) (fun h168 => ?_)
      · omega
      · refine g_iload_n X 1 d_D_mostValuable_171 rfl rfl ?_
        refine g_if_le X (tgt := 218) d_D_mostValuable_172 (by decide) (by omega) (fun h172 => ?_) (fun h172 => ?_)
        · exact fin st x τ (by omega) f1 f2 f3
        · have hlp := w4 x (by omega) hx
          refine g_aload_n X 0 d_D_mostValuable_175 rfl rfl ?_
          refine d_get X 13 d_D_mostValuable_176 lk_D_38 (by decide) rfl rfl ?_
          refine g_iload_n X 1 d_D_mostValuable_179 rfl rfl ?_
          refine d_bald X d_D_mostValuable_180 (by rfl) (by omega) (by decide) ?_
          refine g_istore_n X 3 d_D_mostValuable_181 rfl (by decide) ?_
          refine g_iload_n X 3 d_D_mostValuable_182 rfl rfl ?_
          refine g_if_lt X (tgt := 209) d_D_mostValuable_183 (by decide) (by omega) (fun h183 => ?_) (fun h183 => ?_)
          · refine g_iinc X d_D_mostValuable_209 rfl (by decide) ?_
            refine g_iinc X d_D_mostValuable_212 rfl (by decide) ?_
            refine g_goto X (tgt := 165) d_D_mostValuable_215 (by decide) ?_
            refine g_sub [0, 1, 2] rfl ?_
            exact ih (st + 1) (x + -1) τ (by omega) (by omega) (by omega) (by omega) f1 f2 (fun k a1 a2 => by have := f3 k a1 a2; omega)
          · have hk0 : 0 ≤ τ 10 x := by omega
            have hk4 : τ 10 x < 4 := by omega
            have hwx : σ 1 (τ 10 x) ≤ x := by omega
            have hw1 := hw _ hk0 hk4
            have h11 := f3 _ hk0 hk4
            refine g_aload_n X 0 d_D_mostValuable_186 rfl rfl ?_
            refine d_get X 14 d_D_mostValuable_187 lk_D_41 (by decide) rfl rfl ?_
            refine g_iload_n X 3 d_D_mostValuable_190 rfl rfl ?_
            refine g_dup2 X d_D_mostValuable_191 rfl rfl ?_
            refine d_bald X d_D_mostValuable_192 (by rfl) (by omega) (by decide) ?_
            refine g_iconst X d_D_mostValuable_193 ?_
            refine g_iadd X d_D_mostValuable_194 ?_
            refine g_i2b X d_D_mostValuable_195 (by omega) ?_
            refine d_bast X d_D_mostValuable_196 (by rfl) (by rfl) (by omega) (by decide) (by omega) ?_
            refine g_iload_n X 1 d_D_mostValuable_197 rfl rfl ?_
            refine g_aload_n X 0 d_D_mostValuable_198 rfl rfl ?_
            refine d_get X 1 d_D_mostValuable_199 lk_D_7 (by decide) rfl rfl ?_
            refine g_iload_n X 3 d_D_mostValuable_202 rfl rfl ?_
            refine d_bald X d_D_mostValuable_203 (by rfl) (by omega) (by decide) ?_
            refine g_isub X d_D_mostValuable_204 ?_
            rw [show up τ 11 (τ 10 x) (τ 11 (τ 10 x) + 1) 1 = τ 1 from rfl, e1]
            refine g_istore_n X 1 d_D_mostValuable_205 rfl (by decide) ?_
            refine g_goto X (tgt := 212) d_D_mostValuable_206 (by decide) ?_
            refine g_iinc X d_D_mostValuable_212 rfl (by decide) ?_
            refine g_goto X (tgt := 165) d_D_mostValuable_215 (by decide) ?_
            refine g_sub [0, 1, 2] rfl ?_
            refine ih (st + 1) (x - σ 1 (τ 10 x)) _ (by omega) (by omega) (by omega) (by omega) (fun i i1 i2 i3 => ?_) ((hWP _ _).mpr ((hWP τ _).mp f2)) (fun k a1 a2 => ?_)
            · rw [← f1 i i1 i2 i3]; funext z; exact up_nc i3
            · have := f3 k a1 a2
              rw [up_if]
              split
              · rename_i e; subst e; omega
              · omega
  have T2 : ∀ (n : Nat) (k : Int) (τ : zS), k + n = 4 → 0 ≤ k → (∀ i, i ≠ 9 → i ≠ 10 → i ≠ 11 → τ i = σ i) → WP τ (σ 0 3) → (∀ j, 0 ≤ j → j < k → τ 11 j = 0) → G Γ [(0, .ref (q 0)), (1, vI k)] τ 140 [] := by
    intro n
    induction n with
    | zero =>
      intro k τ hk h0 f1 f2 f3
      have e0 : τ 0 = σ 0 := f1 0 (by decide) (by decide) (by decide)
      refine g_iload_n X 1 d_D_mostValuable_140 rfl rfl ?_
      refine g_iconst X d_D_mostValuable_141 ?_
      refine g_icmp_ge X (tgt := 158) d_D_mostValuable_142 (by decide) (by omega) (by omega) (fun h142 => ?_) (fun h142 => ?_)
      · refine g_aload_n X 0 d_D_mostValuable_158 rfl rfl ?_
        refine d_get X 3 d_D_mostValuable_159 lk_D_62 (by decide) rfl rfl ?_
        rw [e0]
        refine g_istore_n X 1 d_D_mostValuable_162 rfl (by decide) ?_
        refine g_iconst X d_D_mostValuable_163 ?_
        refine g_istore_n X 2 d_D_mostValuable_164 rfl (by decide) ?_
        exact T3 40 0 (σ 0 3) τ (by omega) (by omega) (by omega) (by omega) f1 f2 (fun j a1 a2 => by rw [f3 j a1 (by omega)]; omega)
      · omega
    | succ n ih =>
      intro k τ hk h0 f1 f2 f3
      refine g_iload_n X 1 d_D_mostValuable_140 rfl rfl ?_
      refine g_iconst X d_D_mostValuable_141 ?_
      refine g_icmp_ge X (tgt := 158) d_D_mostValuable_142 (by decide) (by omega) (by omega) (fun h142 => ?_) (fun h142 => ?_)
      · omega
      · refine g_aload_n X 0 d_D_mostValuable_145 rfl rfl ?_
        refine d_get X 14 d_D_mostValuable_146 lk_D_41 (by decide) rfl rfl ?_
        refine g_iload_n X 1 d_D_mostValuable_149 rfl rfl ?_
        refine g_iconst X d_D_mostValuable_150 ?_
        refine d_bast X d_D_mostValuable_151 (by rfl) (by rfl) (by omega) (by decide) (by omega) ?_
        refine g_iinc X d_D_mostValuable_152 rfl (by decide) ?_
        refine g_goto X (tgt := 140) d_D_mostValuable_155 (by decide) ?_
        refine ih (k + 1) _ (by omega) (by omega) (fun i i1 i2 i3 => ?_) ((hWP _ _).mpr ((hWP τ _).mp f2)) (fun j a1 a2 => ?_)
        · rw [← f1 i i1 i2 i3]; funext z; exact up_nc i3
        · rw [up_if]
          split
          · rfl
          · exact f3 j a1 (by omega)
  -- the table
  have L : ∀ (n : Nat) (x : Int) (τ : zS), x + n = σ 0 3 + 1 → 1 ≤ x → (∀ i, i ≠ 9 → i ≠ 10 → i ≠ 11 → τ i = σ i) → WP τ (x - 1) → G Γ [(0, .ref (q 0)), (1, vI x)] τ 16 [] := by
    intro n
    induction n with
    | zero =>
      intro x τ hx h1 f1 f2
      have e0 : τ 0 = σ 0 := f1 0 (by decide) (by decide) (by decide)
      refine g_iload_n X 1 d_D_mostValuable_16 rfl rfl ?_
      refine g_aload_n X 0 d_D_mostValuable_17 rfl rfl ?_
      refine d_get X 3 d_D_mostValuable_18 lk_D_62 (by decide) rfl rfl ?_
      rw [e0]
      refine g_icmp_gt X (tgt := 138) d_D_mostValuable_21 (by decide) (by omega) (by omega) (fun h21 => ?_) (fun h21 => ?_)
      · refine g_iconst X d_D_mostValuable_138 ?_
        refine g_istore_n X 1 d_D_mostValuable_139 rfl (by decide) ?_
        rw [show x - 1 = σ 0 3 by omega] at f2
        exact T2 4 0 τ (by omega) (by omega) f1 f2 (fun j a1 a2 => by omega)
      · omega
    | succ n ih =>
      intro x τ hx h1 f1 f2
      have e0 : τ 0 = σ 0 := f1 0 (by decide) (by decide) (by decide)
      have I : ∀ (m : Nat) (k : Int) (τ : zS), k + m = 4 → 0 ≤ k → (∀ i, i ≠ 9 → i ≠ 10 → i ≠ 11 → τ i = σ i) → WP τ (x - 1) → wL (τ 9 (x - 1)) ≤ wL (τ 9 x) → (∀ j, 0 ≤ j → j < k → σ 1 j ≤ x → wL (τ 9 (x - σ 1 j) + σ 6 j) ≤ wL (τ 9 x)) → (τ 10 x = -1 ∨ (0 ≤ τ 10 x ∧ τ 10 x < 4 ∧ σ 1 (τ 10 x) ≤ x)) → G Γ [(0, .ref (q 0)), (1, vI x), (2, vI k)] τ 47 [] := by
        intro m
        induction m with
        | zero =>
          intro k τ hk k0 g1 g2 g3 g4 g5
          obtain ⟨w1, w2, w3, w4⟩ := (hWP _ _).mp g2
          refine g_iload_n X 2 d_D_mostValuable_47 rfl rfl ?_
          refine g_iconst X d_D_mostValuable_48 ?_
          refine g_icmp_ge X (tgt := 132) d_D_mostValuable_49 (by decide) (by omega) (by omega) (fun h49 => ?_) (fun h49 => ?_)
          · refine g_iinc X d_D_mostValuable_132 rfl (by decide) ?_
            refine g_goto X (tgt := 16) d_D_mostValuable_135 (by decide) ?_
            refine g_sub [0, 1] rfl ?_
            refine ih (x + 1) τ (by omega) (by omega) g1 ((hWP _ _).mpr ⟨w1, fun y a1 a2 => ?_, fun y j a1 a2 a3 a4 a5 => ?_, fun y a1 a2 => ?_⟩)
            · by_cases e : y = x
              · subst e; exact g3
              · exact w2 y a1 (by omega)
            · by_cases e : y = x
              · subst e; exact g4 j a3 (by omega) a5
              · exact w3 y j a1 (by omega) a3 a4 a5
            · by_cases e : y = x
              · subst e; exact g5
              · exact w4 y a1 (by omega)
          · omega
        | succ m ihk =>
          intro k τ hk k0 g1 g2 g3 g4 g5
          have e1 : τ 1 = σ 1 := g1 1 (by decide) (by decide) (by decide)
          have e6 : τ 6 = σ 6 := g1 6 (by decide) (by decide) (by decide)
          have hwk := hw k k0 (by omega)
          obtain ⟨w1, w2, w3, w4⟩ := (hWP _ _).mp g2
          have go : ∀ ρ : zS, (∀ i, i ≠ 9 → i ≠ 10 → i ≠ 11 → ρ i = σ i) → (∀ y, y ≠ x → ρ 9 y = τ 9 y) → (∀ y, y ≠ x → ρ 10 y = τ 10 y) → wL (τ 9 x) ≤ wL (ρ 9 x) → (σ 1 k ≤ x → wL (τ 9 (x - σ 1 k) + σ 6 k) ≤ wL (ρ 9 x)) → (ρ 10 x = -1 ∨ (0 ≤ ρ 10 x ∧ ρ 10 x < 4 ∧ σ 1 (ρ 10 x) ≤ x)) → G Γ [(0, .ref (q 0)), (1, vI x), (2, vI k)] ρ 126 [] := by
            intro ρ r1 r2 r3 r4 r5 r6
            refine g_iinc X d_D_mostValuable_126 rfl (by decide) ?_
            refine g_goto X (tgt := 47) d_D_mostValuable_129 (by decide) ?_
            refine ihk (k + 1) ρ (by omega) (by omega) r1 ((hWP _ _).mpr ⟨?_, fun y a1 a2 => ?_, fun y j a1 a2 a3 a4 a5 => ?_, fun y a1 a2 => ?_⟩) ?_ (fun j a1 a2 a3 => ?_) r6
            · rw [r2 0 (by omega)]; exact w1
            · rw [r2 (y - 1) (by omega), r2 y (by omega)]; exact w2 y a1 a2
            · have := hw j a3 a4
              rw [r2 (y - σ 1 j) (by omega), r2 y (by omega)]; exact w3 y j a1 a2 a3 a4 a5
            · rw [r3 y (by omega)]; exact w4 y a1 a2
            · rw [r2 (x - 1) (by omega)]; omega
            · have := hw j a1 (by omega)
              rw [r2 (x - σ 1 j) (by omega)]
              by_cases e : j = k
              · subst e; exact r5 a3
              · have := g4 j a1 (by omega) a3
                omega
          refine g_iload_n X 2 d_D_mostValuable_47 rfl rfl ?_
          refine g_iconst X d_D_mostValuable_48 ?_
          refine g_icmp_ge X (tgt := 132) d_D_mostValuable_49 (by decide) (by omega) (by omega) (fun h49 => ?_) (fun h49 => ?_)
          · omega
          · refine g_aload_n X 0 d_D_mostValuable_52 rfl rfl ?_
            refine d_get X 1 d_D_mostValuable_53 lk_D_7 (by decide) rfl rfl ?_
            refine g_iload_n X 2 d_D_mostValuable_56 rfl rfl ?_
            refine d_bald X d_D_mostValuable_57 (by rfl) (by omega) (by decide) ?_
            rw [e1]
            refine g_iload_n X 1 d_D_mostValuable_58 rfl rfl ?_
            refine g_icmp_gt X (tgt := 126) d_D_mostValuable_59 (by decide) (by omega) (by omega) (fun h59 => ?_) (fun h59 => ?_)
            · exact go τ g1 (fun _ _ => rfl) (fun _ _ => rfl) (Int.le_refl _) (fun h => by omega) g5
            · refine g_aload_n X 0 d_D_mostValuable_62 rfl rfl ?_
              refine d_get X 12 d_D_mostValuable_63 lk_D_35 (by decide) rfl rfl ?_
              refine g_iload_n X 1 d_D_mostValuable_66 rfl rfl ?_
              refine g_aload_n X 0 d_D_mostValuable_67 rfl rfl ?_
              refine d_get X 1 d_D_mostValuable_68 lk_D_7 (by decide) rfl rfl ?_
              refine g_iload_n X 2 d_D_mostValuable_71 rfl rfl ?_
              refine d_bald X d_D_mostValuable_72 (by rfl) (by omega) (by decide) ?_
              rw [e1]
              refine g_isub X d_D_mostValuable_73 ?_
              refine d_lald X d_D_mostValuable_74 (by rfl) (by omega) (by decide) ?_
              refine g_aload_n X 0 d_D_mostValuable_75 rfl rfl ?_
              refine d_get X 8 d_D_mostValuable_76 lk_D_26 (by decide) rfl rfl ?_
              refine g_iload_n X 2 d_D_mostValuable_79 rfl rfl ?_
              refine d_lald X d_D_mostValuable_80 (by rfl) (by omega) (by decide) ?_
              rw [e6]
              refine g_ladd X d_D_mostValuable_81 ?_
              refine g_aload_n X 0 d_D_mostValuable_82 rfl rfl ?_
              refine d_get X 12 d_D_mostValuable_83 lk_D_35 (by decide) rfl rfl ?_
              refine g_iload_n X 1 d_D_mostValuable_86 rfl rfl ?_
              refine d_lald X d_D_mostValuable_87 (by rfl) (by omega) (by decide) ?_
              refine g_lcmp X d_D_mostValuable_88 ?_
              have hcr := cmpL_rng (τ 9 (x - σ 1 k) + σ 6 k) (τ 9 x)
              have hcl := cmpL_le (τ 9 (x - σ 1 k) + σ 6 k) (τ 9 x)
              refine g_if_le X (tgt := 126) d_D_mostValuable_89 (by decide) (by omega) (fun h89 => ?_) (fun h89 => ?_)
              · exact go τ g1 (fun _ _ => rfl) (fun _ _ => rfl) (Int.le_refl _) (fun _ => hcl.mp h89) g5
              · refine g_aload_n X 0 d_D_mostValuable_92 rfl rfl ?_
                refine d_get X 12 d_D_mostValuable_93 lk_D_35 (by decide) rfl rfl ?_
                refine g_iload_n X 1 d_D_mostValuable_96 rfl rfl ?_
                refine g_aload_n X 0 d_D_mostValuable_97 rfl rfl ?_
                refine d_get X 12 d_D_mostValuable_98 lk_D_35 (by decide) rfl rfl ?_
                refine g_iload_n X 1 d_D_mostValuable_101 rfl rfl ?_
                refine g_aload_n X 0 d_D_mostValuable_102 rfl rfl ?_
                refine d_get X 1 d_D_mostValuable_103 lk_D_7 (by decide) rfl rfl ?_
                refine g_iload_n X 2 d_D_mostValuable_106 rfl rfl ?_
                refine d_bald X d_D_mostValuable_107 (by rfl) (by omega) (by decide) ?_
                rw [e1]
                refine g_isub X d_D_mostValuable_108 ?_
                refine d_lald X d_D_mostValuable_109 (by rfl) (by omega) (by decide) ?_
                refine g_aload_n X 0 d_D_mostValuable_110 rfl rfl ?_
                refine d_get X 8 d_D_mostValuable_111 lk_D_26 (by decide) rfl rfl ?_
                refine g_iload_n X 2 d_D_mostValuable_114 rfl rfl ?_
                refine d_lald X d_D_mostValuable_115 (by rfl) (by omega) (by decide) ?_
                rw [e6]
                refine g_ladd X d_D_mostValuable_116 ?_
                refine d_last X d_D_mostValuable_117 (by rfl) (by rfl) (by omega) (by decide) ?_
                refine g_aload_n X 0 d_D_mostValuable_118 rfl rfl ?_
                refine d_get X 13 d_D_mostValuable_119 lk_D_38 (by decide) rfl rfl ?_
                refine g_iload_n X 1 d_D_mostValuable_122 rfl rfl ?_
                refine g_iload_n X 2 d_D_mostValuable_123 rfl rfl ?_
                refine g_i2b X d_D_mostValuable_124 (by omega) ?_
                refine d_bast X d_D_mostValuable_125 (by rfl) (by rfl) (by omega) (by decide) (by omega) ?_
                refine go _ (fun i i1 i2 i3 => ?_) (fun y hy => ?_) (fun y hy => ?_) ?_ (fun _ => ?_) (Or.inr ?_)
                · rw [← g1 i i1 i2 i3]; funext z; rw [up_nc i2, up_nc i1]
                · rw [up_nc (by decide), up_ne hy]
                · rw [up_ne hy, up_nc (by decide)]
                · rw [up_nc (by decide), up_eq]; omega
                · rw [up_nc (by decide), up_eq]; omega
                · rw [up_eq]; omega
      refine g_iload_n X 1 d_D_mostValuable_16 rfl rfl ?_
      refine g_aload_n X 0 d_D_mostValuable_17 rfl rfl ?_
      refine d_get X 3 d_D_mostValuable_18 lk_D_62 (by decide) rfl rfl ?_
      rw [e0]
      refine g_icmp_gt X (tgt := 138) d_D_mostValuable_21 (by decide) (by omega) (by omega) (fun h21 => ?_) (fun h21 => ?_)
      · omega
      · refine g_aload_n X 0 d_D_mostValuable_24 rfl rfl ?_
        refine d_get X 12 d_D_mostValuable_25 lk_D_35 (by decide) rfl rfl ?_
        refine g_iload_n X 1 d_D_mostValuable_28 rfl rfl ?_
        refine g_aload_n X 0 d_D_mostValuable_29 rfl rfl ?_
        refine d_get X 12 d_D_mostValuable_30 lk_D_35 (by decide) rfl rfl ?_
        refine g_iload_n X 1 d_D_mostValuable_33 rfl rfl ?_
        refine g_iconst X d_D_mostValuable_34 ?_
        refine g_isub X d_D_mostValuable_35 ?_
        refine d_lald X d_D_mostValuable_36 (by rfl) (by omega) (by decide) ?_
        refine d_last X d_D_mostValuable_37 (by rfl) (by rfl) (by omega) (by decide) ?_
        refine g_aload_n X 0 d_D_mostValuable_38 rfl rfl ?_
        refine d_get X 13 d_D_mostValuable_39 lk_D_38 (by decide) rfl rfl ?_
        refine g_iload_n X 1 d_D_mostValuable_42 rfl rfl ?_
        refine g_iconst X d_D_mostValuable_43 ?_
        refine d_bast X d_D_mostValuable_44 (by rfl) (by rfl) (by omega) (by decide) (by omega) ?_
        refine g_iconst X d_D_mostValuable_45 ?_
        refine g_istore_n X 2 d_D_mostValuable_46 rfl (by decide) ?_
        obtain ⟨w1, w2, w3, w4⟩ := (hWP _ _).mp f2
        have u9 : ∀ y, y ≠ x → up (up τ 9 x (τ 9 (x - 1))) 10 x (-1) 9 y = τ 9 y := fun y hy => by rw [up_nc (by decide), up_ne hy]
        have u9x : up (up τ 9 x (τ 9 (x - 1))) 10 x (-1) 9 x = τ 9 (x - 1) := by rw [up_nc (by decide), up_eq]
        have u10 : ∀ y, y ≠ x → up (up τ 9 x (τ 9 (x - 1))) 10 x (-1) 10 y = τ 10 y := fun y hy => by rw [up_ne hy, up_nc (by decide)]
        refine I 4 0 _ (by omega) (by omega) (fun i i1 i2 i3 => ?_) ((hWP _ _).mpr ⟨?_, fun y a1 a2 => ?_, fun y j a1 a2 a3 a4 a5 => ?_, fun y a1 a2 => ?_⟩) ?_ (fun j a1 a2 => by omega) (Or.inl (up_eq _ _ _ _))
        · rw [← f1 i i1 i2 i3]; funext z; rw [up_nc i2, up_nc i1]
        · rw [u9 0 (by omega)]; exact w1
        · rw [u9 (y - 1) (by omega), u9 y (by omega)]; exact w2 y a1 a2
        · have := hw j a3 a4
          rw [u9 (y - σ 1 j) (by omega), u9 y (by omega)]; exact w3 y j a1 a2 a3 a4 a5
        · rw [u10 y (by omega)]; exact w4 y a1 a2
        · rw [u9 (x - 1) (by omega), u9x]; exact Int.le_refl _
  refine g_aload_n X 0 d_D_mostValuable_0 rfl rfl ?_
  refine d_get X 12 d_D_mostValuable_1 lk_D_35 (by decide) rfl rfl ?_
  refine g_iconst X d_D_mostValuable_4 ?_
  refine g_lconst (a := 0) X d_D_mostValuable_5 rfl ?_
  refine d_last X d_D_mostValuable_6 (by rfl) (by rfl) (by omega) (by decide) ?_
  refine g_aload_n X 0 d_D_mostValuable_7 rfl rfl ?_
  refine d_get X 13 d_D_mostValuable_8 lk_D_38 (by decide) rfl rfl ?_
  refine g_iconst X d_D_mostValuable_11 ?_
  refine g_iconst X d_D_mostValuable_12 ?_
  refine d_bast X d_D_mostValuable_13 (by rfl) (by rfl) (by omega) (by decide) (by omega) ?_
  refine g_iconst X d_D_mostValuable_14 ?_
  refine g_istore_n X 1 d_D_mostValuable_15 rfl (by decide) ?_
  refine L (σ 0 3).toNat 1 _ (by omega) (by omega) (fun i i1 i2 i3 => ?_) ((hWP _ _).mpr ⟨?_, fun y a1 a2 => by omega, fun y j a1 a2 => by omega, fun y a1 a2 => ?_⟩)
  · funext z; rw [up_nc i2, up_nc i1]
  · rw [up_nc (by decide), up_eq]; rfl
  · left
    rw [show y = 0 by omega]
    exact up_eq _ _ _ _
end S17
end
section
/-- prices that the checked worth table allows -/
theorem worth_price {w c F : Int → Int} {R d : Int} (hR : 1 ≤ R) (hw : ∀ k, 0 ≤ k → k < 4 → 1 ≤ w k) (hc : ∀ k, 0 ≤ k → k < 4 → 0 ≤ c k ∧ c k < 9223372036854775808) (hd : 0 < d ∧ d ≤ 36028797018963968) (f0 : F 0 = 0) (f1 : ∀ y, 1 ≤ y → y ≤ R → F (y - 1) ≤ F y)
    (f2 : ∀ y k, 1 ≤ y → y ≤ R → 0 ≤ k → k < 4 → w k ≤ y → wL (F (y - w k) + c k) ≤ F y) (fd : F R ≤ d) :
    (∀ k, 0 ≤ k → k < 4 → w k ≤ R → c k ≤ d) ∧ ∀ p : Int → Int, (∀ k, 0 ≤ k → k < 4 → 0 ≤ p k) → (∀ k, 0 ≤ k → k < 4 → R < w k → p k = 0) → dot p w ≤ R → dot p c ≤ d := by
  have up1 : ∀ (n : Nat) (y : Int), 0 ≤ y → y + n = R → F y ≤ F R := by
    intro n
    induction n with
    | zero => intro y h0 h; rw [show y = R by omega]; exact Int.le_refl _
    | succ n ih =>
      intro y h0 h
      have h1 := ih (y + 1) (by omega) (by omega)
      have h2 := f1 (y + 1) (by omega) (by omega)
      rw [show y + 1 - 1 = y by omega] at h2
      omega
  have le : ∀ y, 0 ≤ y → y ≤ R → F y ≤ d := fun y a1 a2 => by
    have := up1 (R - y).toNat y a1 (by omega)
    omega
  have pos : ∀ (n : Nat), (n : Int) ≤ R → 0 ≤ F n := by
    intro n
    induction n with
    | zero => intro _; show 0 ≤ F 0; omega
    | succ n ih =>
      intro h
      have := ih (by omega)
      have := f1 (n + 1 : Nat) (by omega) h
      rw [show ((n + 1 : Nat) : Int) - 1 = n by omega] at this
      omega
  have pos' : ∀ y, 0 ≤ y → y ≤ R → 0 ≤ F y := fun y a1 a2 => by
    have := pos y.toNat (by omega)
    rw [show ((y.toNat : Nat) : Int) = y by omega] at this
    exact this
  have hcd : ∀ k, 0 ≤ k → k < 4 → w k ≤ R → c k ≤ d := fun k a1 a2 a3 => by
    have w1 := hw k a1 a2
    have h1 := f2 (w k) k w1 a3 a1 a2 (Int.le_refl _)
    have hk := hc k a1 a2
    rw [show w k - w k = 0 by omega, f0, wL_eq (by omega)] at h1
    have := le (w k) (by omega) a3
    omega
  refine ⟨hcd, fun p hp _ hdot => ?_⟩
  have q0 := hp 0 (by decide) (by decide)
  have q1 := hp 1 (by decide) (by decide)
  have q2 := hp 2 (by decide) (by decide)
  have q3 := hp 3 (by decide) (by decide)
  have := worth_bound (w := w) (c := c) (R := R) (F := F) hw (by omega) f1 (fun x k a1 a2 a3 a4 a5 => by
    have h1 := f2 x k a1 a2 a3 a4 a5
    have w1 := hw k a3 a4
    have h2 := le (x - w k) (by omega) (by omega)
    have h3 := pos' (x - w k) (by omega) (by omega)
    have h4 := hcd k a3 a4 (by omega)
    have h5 := hc k a3 a4
    rw [wL_eq (by omega)] at h1
    exact h1) (p 0 + p 1 + p 2 + p 3).toNat p R hp (by omega) (by omega) (Int.le_refl _) hdot
  omega
theorem dot_mono2 {p w c : Int → Int} (hp : ∀ k, 0 ≤ k → k < 4 → 0 ≤ p k) (h : ∀ k, 0 ≤ k → k < 4 → c k ≤ w k) : dot p c ≤ dot p w := by
  have e0 := Int.mul_le_mul_of_nonneg_left (h 0 (by decide) (by decide)) (hp 0 (by decide) (by decide))
  have e1 := Int.mul_le_mul_of_nonneg_left (h 1 (by decide) (by decide)) (hp 1 (by decide) (by decide))
  have e2 := Int.mul_le_mul_of_nonneg_left (h 2 (by decide) (by decide)) (hp 2 (by decide) (by decide))
  have e3 := Int.mul_le_mul_of_nonneg_left (h 3 (by decide) (by decide)) (hp 3 (by decide) (by decide))
  unfold dot
  omega
/-- what holds of the prices that were found -/
def PR (σ : zS) : Prop := (∀ k, 0 ≤ k → k < 4 → 0 ≤ σ 6 k ∧ σ 6 k < 9223372036854775808) ∧ (0 < σ 0 9 ∧ σ 0 9 ≤ 36028797018963968) ∧ (∀ k, 0 ≤ k → k < 4 → σ 1 k ≤ σ 0 3 → σ 6 k ≤ σ 0 9) ∧ ∀ p : Int → Int, (∀ k, 0 ≤ k → k < 4 → 0 ≤ p k) → (∀ k, 0 ≤ k → k < 4 → σ 0 3 < σ 1 k → p k = 0) → dot p (σ 1) ≤ σ 0 3 → dot p (σ 6) ≤ σ 0 9
def nrm (τ : zS) : zS := fun i z => if i = 6 then wL (τ 6 z) else τ i z
theorem dw_nrm (a : Nat → ClassId) (q : Nat → Nat) (τ : zS) : dw a q τ = dw a q (nrm τ) := by
  have e : (fun j : Nat => zL (nrm τ 6 j)) = fun j : Nat => zL (τ 6 j) := by
    funext j
    show zL (wL (τ 6 j)) = _
    rw [zL_wL]
  show _ = [(q 0, _), (q 1, _), (q 2, _), (q 3, _), (q 4, _), (q 5, _), (q 6, Sum.inl (a 2, 4, Sum.inr (Sum.inl (fun j : Nat => zL (nrm τ 6 j))))), (q 7, _), (q 8, _), (q 9, _), (q 10, _), (q 11, _), (q 12, _), (q 13, _), (q 14, _)]
  rw [e]
  rfl
theorem g_nrm {Γ : Cx0} {own : String} {cc : ByteArray} {ret : Option FieldType} {nL fr lo : Nat} {wd : zS → va_W} {Post : Option Value → zS → Prop} {l : Launch} {D : va_G} {tys : List (ClassId × FieldType)} {lv : List (Nat × Value)} {σ τ : zS} {pc : Nat} {st : List Value}
    (X : Cx Γ own cc ret nL fr lo wd Post l D tys) (h : wd σ = wd τ) (k : G Γ lv τ pc st) : G Γ lv σ pc st := by
  obtain ⟨p, l', e, R, s, m, args, below, meth, c, D', tys', A, wd', Post', nL', nc, ns, Q⟩ := Γ
  obtain ⟨hx, hb, hr, hml, rfl, hlk, hown, hts, hK, hA, hfr, hlo, had, hcs, rfl, rfl, rfl, rfl, rfl⟩ := X
  intro H locs ls hP hD hS hl
  rw [h] at hP hD
  exact k H locs ls hP hD hS hl
section S18
variable (l : Launch) (D : va_G) (a : Nat → ClassId) (q : Nat → Nat) (σ : zS)
theorem c_D_pivot (hB : ∀ z, 0 ≤ z → z < 16 → 0 ≤ σ 4 z ∧ σ 4 z ≤ 40) (hW : ∀ k, 0 ≤ k → k < 4 → 0 ≤ σ 3 k ∧ σ 3 k ≤ 3) (hE : ∀ k, 0 ≤ k → k < 4 → 0 ≤ σ 11 k ∧ σ 11 k ≤ 40) :
    K_D_pivot l D a q [.ref (q 0)] σ (fun v τ => (v = some (vI 0) ∨ v = some (vI 1)) ∧ (∀ i, i ≠ 0 → i ≠ 4 → i ≠ 5 → i ≠ 7 → i ≠ 8 → τ i = σ i) ∧ (∀ z, z ≠ 7 → τ 0 z = σ 0 z) ∧ ∀ z, 0 ≤ z → z < 16 → 0 ≤ τ 4 z ∧ τ 4 z ≤ 40) := by
  refine Con.of (by decide) (dw_ad a q) (Nat.le_of_ble_eq_true rfl) (fun Γ X => ?_)
  have X : Cx Γ "CutDesk" b_D_pivot (some .boolean) 3 2 58 (dw a q) _ l D (tysA a) := X
  show G Γ [(0, .ref (q 0))] σ 0 []
  -- the entering pattern takes a place
  have T : ∀ (out : Int), 0 ≤ out → out < 4 → ∀ (n : Nat) (k : Int) (τ : zS), k + n = 4 → 0 ≤ k → (∀ i, i ≠ 0 → i ≠ 4 → i ≠ 5 → i ≠ 7 → i ≠ 8 → τ i = σ i) → (∀ z, z ≠ 7 → τ 0 z = σ 0 z) → (∀ z, 0 ≤ z → z < 16 → 0 ≤ τ 4 z ∧ τ 4 z ≤ 40) → G Γ [(0, .ref (q 0)), (1, vI out), (2, vI k)] τ 197 [] := by
    intro out o1 o2 n
    induction n with
    | zero =>
      intro k τ hk h0 f1 f2 f3
      refine g_iload_n X 2 d_D_pivot_197 rfl rfl ?_
      refine g_iconst X d_D_pivot_198 ?_
      refine g_icmp_ge X (tgt := 224) d_D_pivot_199 (by decide) (by omega) (by omega) (fun h199 => ?_) (fun h199 => ?_)
      · refine g_iconst X d_D_pivot_224 ?_
        refine g_zret X d_D_pivot_225 rfl (by decide) ?_
        exact ⟨Or.inr rfl, f1, f2, f3⟩
      · omega
    | succ n ih =>
      intro k τ hk h0 f1 f2 f3
      have e11 : τ 11 = σ 11 := f1 11 (by decide) (by decide) (by decide) (by decide) (by decide)
      have he := hE k h0 (by omega)
      rw [← e11] at he
      refine g_iload_n X 2 d_D_pivot_197 rfl rfl ?_
      refine g_iconst X d_D_pivot_198 ?_
      refine g_icmp_ge X (tgt := 224) d_D_pivot_199 (by decide) (by omega) (by omega) (fun h199 => ?_) (fun h199 => ?_)
      · omega
      · refine g_aload_n X 0 d_D_pivot_202 rfl rfl ?_
        refine d_get X 5 d_D_pivot_203 lk_D_19 (by decide) rfl rfl ?_
        refine g_iload_n X 1 d_D_pivot_206 rfl rfl ?_
        refine g_iconst X d_D_pivot_207 ?_
        refine g_imul X d_D_pivot_208 ?_
        refine g_iload_n X 2 d_D_pivot_209 rfl rfl ?_
        refine g_iadd X d_D_pivot_210 ?_
        refine g_aload_n X 0 d_D_pivot_211 rfl rfl ?_
        refine d_get X 14 d_D_pivot_212 lk_D_41 (by decide) rfl rfl ?_
        refine g_iload_n X 2 d_D_pivot_215 rfl rfl ?_
        refine d_bald X d_D_pivot_216 (by rfl) (by omega) (by decide) ?_
        refine d_bast X d_D_pivot_217 (by rfl) (by rfl) (by omega) (by decide) (by omega) ?_
        refine g_iinc X d_D_pivot_218 rfl (by decide) ?_
        refine g_goto X (tgt := 197) d_D_pivot_221 (by decide) ?_
        refine ih (k + 1) _ (by omega) (by omega) (fun i i1 i2 i3 i4 i5 => ?_) f2 (fun z a1 a2 => ?_)
        · rw [← f1 i i1 i2 i3 i4 i5]; funext z; exact up_nc i2
        · rw [up_if]
          split
          · exact he
          · exact f3 z a1 a2
  -- which pattern goes
  have S : ∀ (n : Nat) (b out : Int) (τ : zS), b + n = 4 → 0 ≤ b → -1 ≤ out → out < b → (∀ i, i ≠ 0 → i ≠ 4 → i ≠ 5 → i ≠ 7 → i ≠ 8 → τ i = σ i) → (∀ z, z ≠ 7 → τ 0 z = σ 0 z) → (∀ z, 0 ≤ z → z < 16 → 0 ≤ τ 4 z ∧ τ 4 z ≤ 40) → G Γ [(0, .ref (q 0)), (1, vI out), (2, vI b)] τ 97 [] := by
    intro n
    induction n with
    | zero =>
      intro b out τ hb h0 o1 o2 f1 f2 f3
      refine g_iload_n X 2 d_D_pivot_97 rfl rfl ?_
      refine g_iconst X d_D_pivot_98 ?_
      refine g_icmp_ge X (tgt := 189) d_D_pivot_99 (by decide) (by omega) (by omega) (fun h99 => ?_) (fun h99 => ?_)
      · refine g_iload_n X 1 d_D_pivot_189 rfl rfl ?_
        refine g_if_ge X (tgt := 195) d_D_pivot_190 (by decide) (by omega) (fun h190 => ?_) (fun h190 => ?_)
        · refine g_iconst X d_D_pivot_195 ?_
          refine g_istore_n X 2 d_D_pivot_196 rfl (by decide) ?_
          exact T out (by omega) (by omega) 4 0 τ (by omega) (by omega) f1 f2 f3
        · refine g_iconst X d_D_pivot_193 ?_
          refine g_zret X d_D_pivot_194 rfl (by decide) ?_
          exact ⟨Or.inl rfl, f1, f2, f3⟩
      · omega
    | succ n ih =>
      intro b out τ hb h0 o1 o2 f1 f2 f3
      refine g_iload_n X 2 d_D_pivot_97 rfl rfl ?_
      refine g_iconst X d_D_pivot_98 ?_
      refine g_icmp_ge X (tgt := 189) d_D_pivot_99 (by decide) (by omega) (by omega) (fun h99 => ?_) (fun h99 => ?_)
      · omega
      · refine g_aload_n X 0 d_D_pivot_102 rfl rfl ?_
        refine d_get X 10 d_D_pivot_103 lk_D_29 (by decide) rfl rfl ?_
        refine g_iload_n X 2 d_D_pivot_106 rfl rfl ?_
        refine g_aload_n X 0 d_D_pivot_107 rfl rfl ?_
        refine d_get X 6 d_D_pivot_108 lk_D_22 (by decide) rfl rfl ?_
        refine g_iload_n X 2 d_D_pivot_111 rfl rfl ?_
        refine g_bipush X d_D_pivot_112 (by decide) ?_
        refine g_imul X d_D_pivot_114 ?_
        refine g_iconst X d_D_pivot_115 ?_
        refine g_iadd X d_D_pivot_116 ?_
        refine d_lald X d_D_pivot_117 (by rfl) (by omega) (by decide) ?_
        refine d_last X d_D_pivot_118 (by rfl) (by rfl) (by omega) (by decide) ?_
        refine g_aload_n X 0 d_D_pivot_119 rfl rfl ?_
        refine d_get X 11 d_D_pivot_120 lk_D_32 (by decide) rfl rfl ?_
        refine g_iload_n X 2 d_D_pivot_123 rfl rfl ?_
        refine g_aload_n X 0 d_D_pivot_124 rfl rfl ?_
        refine d_get X 6 d_D_pivot_125 lk_D_22 (by decide) rfl rfl ?_
        refine g_iload_n X 2 d_D_pivot_128 rfl rfl ?_
        refine g_bipush X d_D_pivot_129 (by decide) ?_
        refine g_imul X d_D_pivot_131 ?_
        refine g_iconst X d_D_pivot_132 ?_
        refine g_iadd X d_D_pivot_133 ?_
        refine d_lald X d_D_pivot_134 (by rfl) (by omega) (by decide) ?_
        refine d_last X d_D_pivot_135 (by rfl) (by rfl) (by omega) (by decide) ?_
        have go : ∀ (ρ : zS) (o : Int), -1 ≤ o → o < b + 1 → (∀ i, i ≠ 0 → i ≠ 4 → i ≠ 5 → i ≠ 7 → i ≠ 8 → ρ i = σ i) → (∀ z, z ≠ 7 → ρ 0 z = σ 0 z) → (∀ z, 0 ≤ z → z < 16 → 0 ≤ ρ 4 z ∧ ρ 4 z ≤ 40) → G Γ [(0, .ref (q 0)), (1, vI o), (2, vI b)] ρ 183 [] := by
          intro ρ o o3 o4 r1 r2 r3
          refine g_iinc X d_D_pivot_183 rfl (by decide) ?_
          refine g_goto X (tgt := 97) d_D_pivot_186 (by decide) ?_
          exact ih (b + 1) o ρ (by omega) (by omega) o3 (by omega) r1 r2 r3
        have g1 : ∀ i, i ≠ 0 → i ≠ 4 → i ≠ 5 → i ≠ 7 → i ≠ 8 → up (up τ 7 b (τ 5 (b * 6 + 4))) 8 b (up τ 7 b (τ 5 (b * 6 + 4)) 5 (b * 6 + 5)) i = σ i := fun i i1 i2 i3 i4 i5 => by
          rw [← f1 i i1 i2 i3 i4 i5]; funext z; rw [up_nc i5, up_nc i4]
        have g2 : ∀ z, z ≠ 7 → up (up τ 7 b (τ 5 (b * 6 + 4))) 8 b (up τ 7 b (τ 5 (b * 6 + 4)) 5 (b * 6 + 5)) 0 z = σ 0 z := f2
        have g3 : ∀ z, 0 ≤ z → z < 16 → 0 ≤ up (up τ 7 b (τ 5 (b * 6 + 4))) 8 b (up τ 7 b (τ 5 (b * 6 + 4)) 5 (b * 6 + 5)) 4 z ∧ up (up τ 7 b (τ 5 (b * 6 + 4))) 8 b (up τ 7 b (τ 5 (b * 6 + 4)) 5 (b * 6 + 5)) 4 z ≤ 40 := f3
        generalize up (up τ 7 b (τ 5 (b * 6 + 4))) 8 b (up τ 7 b (τ 5 (b * 6 + 4)) 5 (b * 6 + 5)) = ρ at g1 g2 g3 ⊢
        refine g_aload_n X 0 d_D_pivot_136 rfl rfl ?_
        refine d_get X 11 d_D_pivot_137 lk_D_32 (by decide) rfl rfl ?_
        refine g_iload_n X 2 d_D_pivot_140 rfl rfl ?_
        refine d_lald X d_D_pivot_141 (by rfl) (by omega) (by decide) ?_
        refine g_lconst (a := 0) X d_D_pivot_142 rfl ?_
        refine g_lcmp X d_D_pivot_143 ?_
        have hcr := cmpL_rng (ρ 8 b) 0
        have tk : G Γ [(0, .ref (q 0)), (1, vI out), (2, vI b)] ρ 181 [] := by
          refine g_iload_n X 2 d_D_pivot_181 rfl rfl ?_
          refine g_istore_n X 1 d_D_pivot_182 rfl (by decide) ?_
          exact go ρ b (by omega) (by omega) g1 g2 g3
        refine g_if_le X (tgt := 183) d_D_pivot_144 (by decide) (by omega) (fun h144 => ?_) (fun h144 => ?_)
        · exact go ρ out o1 (by omega) g1 g2 g3
        · refine g_iload_n X 1 d_D_pivot_147 rfl rfl ?_
          refine g_if_lt X (tgt := 181) d_D_pivot_148 (by decide) (by omega) (fun h148 => ?_) (fun h148 => ?_)
          · exact tk
          · refine g_aload_n X 0 d_D_pivot_151 rfl rfl ?_
            refine d_get X 10 d_D_pivot_152 lk_D_29 (by decide) rfl rfl ?_
            refine g_iload_n X 2 d_D_pivot_155 rfl rfl ?_
            refine d_lald X d_D_pivot_156 (by rfl) (by omega) (by decide) ?_
            refine g_aload_n X 0 d_D_pivot_157 rfl rfl ?_
            refine d_get X 11 d_D_pivot_158 lk_D_32 (by decide) rfl rfl ?_
            refine g_iload_n X 1 d_D_pivot_161 rfl rfl ?_
            refine d_lald X d_D_pivot_162 (by rfl) (by omega) (by decide) ?_
            refine g_lmul X d_D_pivot_163 ?_
            refine g_aload_n X 0 d_D_pivot_164 rfl rfl ?_
            refine d_get X 10 d_D_pivot_165 lk_D_29 (by decide) rfl rfl ?_
            refine g_iload_n X 1 d_D_pivot_168 rfl rfl ?_
            refine d_lald X d_D_pivot_169 (by rfl) (by omega) (by decide) ?_
            refine g_aload_n X 0 d_D_pivot_170 rfl rfl ?_
            refine d_get X 11 d_D_pivot_171 lk_D_32 (by decide) rfl rfl ?_
            refine g_iload_n X 2 d_D_pivot_174 rfl rfl ?_
            refine d_lald X d_D_pivot_175 (by rfl) (by omega) (by decide) ?_
            refine g_lmul X d_D_pivot_176 ?_
            refine g_lcmp X d_D_pivot_177 ?_
            have hcr2 := cmpL_rng (ρ 7 b * ρ 8 out) (ρ 7 out * ρ 8 b)
            refine g_if_ge X (tgt := 183) d_D_pivot_178 (by decide) (by omega) (fun h178 => ?_) (fun h178 => ?_)
            · exact go ρ out o1 (by omega) g1 g2 g3
            · exact tk
  have M : ∀ τ : zS, (∀ i, i ≠ 5 → τ i = σ i) → G Γ [(0, .ref (q 0)), (1, vI 4)] τ 84 [] := by
    intro τ f1
    have e0 : τ 0 = σ 0 := f1 0 (by decide)
    have e4 : τ 4 = σ 4 := f1 4 (by decide)
    refine g_aload_n X 0 d_D_pivot_84 rfl rfl ?_
    refine d_callV X (c_D_reduce l D a q τ) d_D_pivot_85 lk_D_83 im_D_reduce sl_D_reduce k_D_reduce ok_D_reduce rfl (by decide) rfl (Nat.le_of_ble_eq_true rfl) (fun v2 σ2 hp2 => ?_)
    obtain ⟨hv, k1, k2, -⟩ := hp2
    have f2 : ∀ i, i ≠ 0 → i ≠ 4 → i ≠ 5 → i ≠ 7 → i ≠ 8 → σ2 i = σ i := fun i i1 i2 i3 i4 i5 => by rw [k1 i i1 i3]; exact f1 i i3
    have f3 : ∀ z, z ≠ 7 → σ2 0 z = σ 0 z := fun z hz => by rw [k2 z hz, e0]
    have f4 : ∀ z, 0 ≤ z → z < 16 → 0 ≤ σ2 4 z ∧ σ2 4 z ≤ 40 := fun z a1 a2 => by rw [k1 4 (by decide) (by decide), e4]; exact hB z a1 a2
    rcases hv with rfl | rfl
    · refine g_if_ne X (tgt := 93) d_D_pivot_88 (by decide) (by omega) (fun h88 => ?_) (fun h88 => ?_)
      · omega
      · refine g_iconst X d_D_pivot_91 ?_
        refine g_zret X d_D_pivot_92 rfl (by decide) ?_
        exact ⟨Or.inl rfl, f2, f3, f4⟩
    · refine g_if_ne X (tgt := 93) d_D_pivot_88 (by decide) (by omega) (fun h88 => ?_) (fun h88 => ?_)
      · refine g_iconst X d_D_pivot_93 ?_
        refine g_istore_n X 1 d_D_pivot_94 rfl (by decide) ?_
        refine g_iconst X d_D_pivot_95 ?_
        refine g_istore_n X 2 d_D_pivot_96 rfl (by decide) ?_
        exact S 4 0 (-1) σ2 (by omega) (by omega) (by omega) (by omega) f2 f3 f4
      · omega
  have L : ∀ (n : Nat) (k : Int) (τ : zS), k + n = 4 → 0 ≤ k → (∀ i, i ≠ 5 → τ i = σ i) → G Γ [(0, .ref (q 0)), (1, vI k)] τ 2 [] := by
    intro n
    induction n with
    | zero =>
      intro k τ hk h0 f1
      refine g_iload_n X 1 d_D_pivot_2 rfl rfl ?_
      refine g_iconst X d_D_pivot_3 ?_
      refine g_icmp_ge X (tgt := 84) d_D_pivot_4 (by decide) (by omega) (by omega) (fun h4 => ?_) (fun h4 => ?_)
      · have e : k = 4 := by omega
        subst e
        exact M τ f1
      · omega
    | succ n ih =>
      intro k τ hk h0 f1
      have I : ∀ (m : Nat) (b : Int) (τ : zS), b + m = 4 → 0 ≤ b → (∀ i, i ≠ 5 → τ i = σ i) → G Γ [(0, .ref (q 0)), (1, vI k), (2, vI b)] τ 9 [] := by
        intro m
        induction m with
        | zero =>
          intro b τ hb b0 g1
          have hw0 := hW k h0 (by omega)
          have he0 := hE k h0 (by omega)
          rw [← g1 3 (by decide)] at hw0
          rw [← g1 11 (by decide)] at he0
          refine g_iload_n X 2 d_D_pivot_9 rfl rfl ?_
          refine g_iconst X d_D_pivot_10 ?_
          refine g_icmp_ge X (tgt := 42) d_D_pivot_11 (by decide) (by omega) (by omega) (fun h11 => ?_) (fun h11 => ?_)
          · refine g_aload_n X 0 d_D_pivot_42 rfl rfl ?_
            refine d_get X 6 d_D_pivot_43 lk_D_22 (by decide) rfl rfl ?_
            refine g_iload_n X 1 d_D_pivot_46 rfl rfl ?_
            refine g_bipush X d_D_pivot_47 (by decide) ?_
            refine g_imul X d_D_pivot_49 ?_
            refine g_iconst X d_D_pivot_50 ?_
            refine g_iadd X d_D_pivot_51 ?_
            refine g_aload_n X 0 d_D_pivot_52 rfl rfl ?_
            refine d_get X 4 d_D_pivot_53 lk_D_16 (by decide) rfl rfl ?_
            refine g_iload_n X 1 d_D_pivot_56 rfl rfl ?_
            refine d_bald X d_D_pivot_57 (by rfl) (by omega) (by decide) ?_
            refine g_i2l X d_D_pivot_58 (by omega) ?_
            refine d_last X d_D_pivot_59 (by rfl) (by rfl) (by omega) (by decide) ?_
            refine g_aload_n X 0 d_D_pivot_60 rfl rfl ?_
            refine d_get X 6 d_D_pivot_61 lk_D_22 (by decide) rfl rfl ?_
            refine g_iload_n X 1 d_D_pivot_64 rfl rfl ?_
            refine g_bipush X d_D_pivot_65 (by decide) ?_
            refine g_imul X d_D_pivot_67 ?_
            refine g_iconst X d_D_pivot_68 ?_
            refine g_iadd X d_D_pivot_69 ?_
            refine g_aload_n X 0 d_D_pivot_70 rfl rfl ?_
            refine d_get X 14 d_D_pivot_71 lk_D_41 (by decide) rfl rfl ?_
            refine g_iload_n X 1 d_D_pivot_74 rfl rfl ?_
            refine d_bald X d_D_pivot_75 (by rfl) (by omega) (by decide) ?_
            rw [show ∀ x y : Int, up τ 5 x y 11 = τ 11 from fun _ _ => rfl]
            refine g_i2l X d_D_pivot_76 (by omega) ?_
            refine d_last X d_D_pivot_77 (by rfl) (by rfl) (by omega) (by decide) ?_
            refine g_iinc X d_D_pivot_78 rfl (by decide) ?_
            refine g_goto X (tgt := 2) d_D_pivot_81 (by decide) ?_
            refine g_sub [0, 1] rfl ?_
            refine ih (k + 1) _ (by omega) (by omega) (fun i hi => ?_)
            rw [← g1 i hi]; funext z; rw [up_nc hi, up_nc hi]
          · omega
        | succ m ihb =>
          intro b τ hb b0 g1
          have e4 : τ 4 = σ 4 := g1 4 (by decide)
          have hb4 := hB (b * 4 + k) (by omega) (by omega)
          rw [← e4] at hb4
          refine g_iload_n X 2 d_D_pivot_9 rfl rfl ?_
          refine g_iconst X d_D_pivot_10 ?_
          refine g_icmp_ge X (tgt := 42) d_D_pivot_11 (by decide) (by omega) (by omega) (fun h11 => ?_) (fun h11 => ?_)
          · omega
          · refine g_aload_n X 0 d_D_pivot_14 rfl rfl ?_
            refine d_get X 6 d_D_pivot_15 lk_D_22 (by decide) rfl rfl ?_
            refine g_iload_n X 1 d_D_pivot_18 rfl rfl ?_
            refine g_bipush X d_D_pivot_19 (by decide) ?_
            refine g_imul X d_D_pivot_21 ?_
            refine g_iload_n X 2 d_D_pivot_22 rfl rfl ?_
            refine g_iadd X d_D_pivot_23 ?_
            refine g_aload_n X 0 d_D_pivot_24 rfl rfl ?_
            refine d_get X 5 d_D_pivot_25 lk_D_19 (by decide) rfl rfl ?_
            refine g_iload_n X 2 d_D_pivot_28 rfl rfl ?_
            refine g_iconst X d_D_pivot_29 ?_
            refine g_imul X d_D_pivot_30 ?_
            refine g_iload_n X 1 d_D_pivot_31 rfl rfl ?_
            refine g_iadd X d_D_pivot_32 ?_
            refine d_bald X d_D_pivot_33 (by rfl) (by omega) (by decide) ?_
            refine g_i2l X d_D_pivot_34 (by omega) ?_
            refine d_last X d_D_pivot_35 (by rfl) (by rfl) (by omega) (by decide) ?_
            refine g_iinc X d_D_pivot_36 rfl (by decide) ?_
            refine g_goto X (tgt := 9) d_D_pivot_39 (by decide) ?_
            refine ihb (b + 1) _ (by omega) (by omega) (fun i hi => ?_)
            rw [← g1 i hi]; funext z; exact up_nc hi
      refine g_iload_n X 1 d_D_pivot_2 rfl rfl ?_
      refine g_iconst X d_D_pivot_3 ?_
      refine g_icmp_ge X (tgt := 84) d_D_pivot_4 (by decide) (by omega) (by omega) (fun h4 => ?_) (fun h4 => ?_)
      · omega
      · refine g_iconst X d_D_pivot_7 ?_
        refine g_istore_n X 2 d_D_pivot_8 rfl (by decide) ?_
        exact I 4 0 τ (by omega) (by omega) f1
  refine g_iconst X d_D_pivot_0 ?_
  refine g_istore_n X 1 d_D_pivot_1 rfl (by decide) ?_
  exact L 4 0 σ (by omega) (by omega) (fun _ _ => rfl)
/-- findPrices: prices at which no pattern is worth more than one roll -/
theorem c_D_findPrices (hR : 1 ≤ σ 0 3 ∧ σ 0 3 ≤ 40) (hw : ∀ k, 0 ≤ k → k < 4 → 1 ≤ σ 1 k ∧ σ 1 k ≤ 20) (hW : ∀ k, 0 ≤ k → k < 4 → 0 ≤ σ 3 k ∧ σ 3 k ≤ 3) :
    K_D_findPrices l D a q [.ref (q 0)] σ (fun v τ => v = none ∧ (∀ i, (i = 1 ∨ i = 2 ∨ i = 3 ∨ 12 ≤ i) → τ i = σ i) ∧ (∀ z, z ≠ 7 → z ≠ 9 → τ 0 z = σ 0 z) ∧ PR τ) := by
  refine Con.of (by decide) (dw_ad a q) (Nat.le_of_ble_eq_true rfl) (fun Γ X => ?_)
  have X : Cx Γ "CutDesk" b_D_findPrices none 3 3 80 (dw a q) _ l D (tysA a) := X
  show G Γ [(0, .ref (q 0))] σ 0 []
  -- the prices by width
  have T : ∀ (n : Nat) (k : Int) (τ : zS), k + n = 4 → 0 ≤ k → (∀ i, (i = 1 ∨ i = 2 ∨ i = 3 ∨ 12 ≤ i) → τ i = σ i) → (∀ z, z ≠ 7 → z ≠ 9 → τ 0 z = σ 0 z) → τ 0 9 = σ 0 3 → (∀ j, 0 ≤ j → j < k → τ 6 j = if σ 1 j ≤ σ 0 3 then σ 1 j else 0) → G Γ [(0, .ref (q 0)), (1, vI k)] τ 159 [] := by
    intro n
    induction n with
    | zero =>
      intro k τ hk h0 f1 f2 f3 f4
      have e1 : τ 1 = σ 1 := f1 1 (by decide)
      have e03 : τ 0 3 = σ 0 3 := f2 3 (by decide) (by decide)
      have hv : ∀ j, 0 ≤ j → j < 4 → (τ 6 j = σ 1 j ∧ σ 1 j ≤ σ 0 3) ∨ (τ 6 j = 0 ∧ ¬ σ 1 j ≤ σ 0 3) := fun j a1 a2 => by
        have h := f4 j a1 (by omega)
        split at h
        · exact Or.inl ⟨h, by assumption⟩
        · exact Or.inr ⟨h, by assumption⟩
      refine g_iload_n X 1 d_D_findPrices_159 rfl rfl ?_
      refine g_iconst X d_D_findPrices_160 ?_
      refine g_icmp_ge X (tgt := 200) d_D_findPrices_161 (by decide) (by omega) (by omega) (fun h161 => ?_) (fun h161 => ?_)
      · refine g_vret X d_D_findPrices_200 rfl ?_
        refine ⟨rfl, f1, f2, fun j a1 a2 => ?_, by omega, fun j a1 a2 a3 => ?_, fun p p1 p2 p3 => ?_⟩
        · have := hv j a1 a2
          have := hw j a1 a2
          omega
        · have := hv j a1 a2
          rw [e1, e03] at a3
          omega
        · rw [e1, e03] at p3
          have := dot_mono2 (w := σ 1) (c := τ 6) p1 (fun j a1 a2 => by have := hv j a1 a2; have := hw j a1 a2; omega)
          omega
      · omega
    | succ n ih =>
      intro k τ hk h0 f1 f2 f3 f4
      have e1 : τ 1 = σ 1 := f1 1 (by decide)
      have e03 : τ 0 3 = σ 0 3 := f2 3 (by decide) (by decide)
      have hwk := hw k h0 (by omega)
      have J : ∀ x : Int, x = (if σ 1 k ≤ σ 0 3 then σ 1 k else 0) → G Γ [(0, .ref (q 0)), (1, vI k)] τ 193 [vL x, vI k, .ref (q 6)] := by
        intro x hx
        refine d_last X d_D_findPrices_193 (by rfl) (by rfl) (by omega) (by decide) ?_
        refine g_iinc X d_D_findPrices_194 rfl (by decide) ?_
        refine g_goto X (tgt := 159) d_D_findPrices_197 (by decide) ?_
        refine ih (k + 1) _ (by omega) (by omega) (fun i hi => ?_) f2 f3 (fun j a1 a2 => ?_)
        · rw [← f1 i hi]; funext z; exact up_nc (by omega)
        · rw [up_if]
          split
          · rename_i e; rw [hx, e]
          · exact f4 j a1 (by omega)
      refine g_iload_n X 1 d_D_findPrices_159 rfl rfl ?_
      refine g_iconst X d_D_findPrices_160 ?_
      refine g_icmp_ge X (tgt := 200) d_D_findPrices_161 (by decide) (by omega) (by omega) (fun h161 => ?_) (fun h161 => ?_)
      · omega
      · refine g_aload_n X 0 d_D_findPrices_164 rfl rfl ?_
        refine d_get X 8 d_D_findPrices_165 lk_D_26 (by decide) rfl rfl ?_
        refine g_iload_n X 1 d_D_findPrices_168 rfl rfl ?_
        refine g_aload_n X 0 d_D_findPrices_169 rfl rfl ?_
        refine d_get X 1 d_D_findPrices_170 lk_D_7 (by decide) rfl rfl ?_
        refine g_iload_n X 1 d_D_findPrices_173 rfl rfl ?_
        refine d_bald X d_D_findPrices_174 (by rfl) (by omega) (by decide) ?_
        rw [e1]
        refine g_aload_n X 0 d_D_findPrices_175 rfl rfl ?_
        refine d_get X 3 d_D_findPrices_176 lk_D_62 (by decide) rfl rfl ?_
        rw [e03]
        refine g_icmp_gt X (tgt := 192) d_D_findPrices_179 (by decide) (by omega) (by omega) (fun h179 => ?_) (fun h179 => ?_)
        · refine g_lconst (a := 0) X d_D_findPrices_192 rfl ?_
          exact J 0 (by rw [if_neg (by omega)])
        · refine g_aload_n X 0 d_D_findPrices_182 rfl rfl ?_
          refine d_get X 1 d_D_findPrices_183 lk_D_7 (by decide) rfl rfl ?_
          refine g_iload_n X 1 d_D_findPrices_186 rfl rfl ?_
          refine d_bald X d_D_findPrices_187 (by rfl) (by omega) (by decide) ?_
          rw [e1]
          refine g_i2l X d_D_findPrices_188 (by omega) ?_
          refine g_goto X (tgt := 193) d_D_findPrices_189 (by decide) ?_
          exact J _ (by rw [if_pos (by omega)])
  have F : ∀ (r : Int) (τ : zS), (∀ i, (i = 1 ∨ i = 2 ∨ i = 3 ∨ 12 ≤ i) → τ i = σ i) → (∀ z, z ≠ 7 → z ≠ 9 → τ 0 z = σ 0 z) → G Γ [(0, .ref (q 0)), (1, vI r)] τ 148 [] := by
    intro r τ f1 f2
    have e03 : τ 0 3 = σ 0 3 := f2 3 (by decide) (by decide)
    refine g_aload_n X 0 d_D_findPrices_148 rfl rfl ?_
    refine g_aload_n X 0 d_D_findPrices_149 rfl rfl ?_
    refine d_get X 3 d_D_findPrices_150 lk_D_62 (by decide) rfl rfl ?_
    rw [e03]
    refine g_i2l X d_D_findPrices_153 (by omega) ?_
    refine d_putL X (z := 9) 9 d_D_findPrices_154 lk_D_76 (by decide) rfl rfl rfl (by rfl) ?_
    refine g_iconst X d_D_findPrices_157 ?_
    refine g_istore_n X 1 d_D_findPrices_158 rfl (by decide) ?_
    refine T 4 0 _ (by omega) (by omega) (fun i hi => ?_) (fun z z1 z2 => ?_) (up_eq _ _ _ _) (fun j a1 a2 => by omega)
    · rw [← f1 i hi]; funext z; exact up_nc (by omega)
    · rw [up_ne z2]; exact f2 z z1 z2
  -- the rounds
  have L : ∀ (n : Nat) (r : Int) (τ : zS), r + n = 40 → 0 ≤ r → (∀ i, (i = 1 ∨ i = 2 ∨ i = 3 ∨ 12 ≤ i) → τ i = σ i) → (∀ z, z ≠ 7 → z ≠ 9 → τ 0 z = σ 0 z) → (∀ z, 0 ≤ z → z < 16 → 0 ≤ τ 4 z ∧ τ 4 z ≤ 40) → G Γ [(0, .ref (q 0)), (1, vI r)] τ 96 [] := by
    intro n
    induction n with
    | zero =>
      intro r τ hr h0 f1 f2 f3
      refine g_iload_n X 1 d_D_findPrices_96 rfl rfl ?_
      refine g_bipush X d_D_findPrices_97 (by decide) ?_
      refine g_icmp_ge X (tgt := 148) d_D_findPrices_99 (by decide) (by omega) (by omega) (fun h99 => ?_) (fun h99 => ?_)
      · exact F r τ f1 f2
      · omega
    | succ n ih =>
      intro r τ hr h0 f1 f2 f3
      refine g_iload_n X 1 d_D_findPrices_96 rfl rfl ?_
      refine g_bipush X d_D_findPrices_97 (by decide) ?_
      refine g_icmp_ge X (tgt := 148) d_D_findPrices_99 (by decide) (by omega) (by omega) (fun h99 => ?_) (fun h99 => ?_)
      · omega
      · refine g_aload_n X 0 d_D_findPrices_102 rfl rfl ?_
        refine d_callV X (c_D_priceBasis l D a q τ f3) d_D_findPrices_103 lk_D_65 im_D_priceBasis sl_D_priceBasis k_D_priceBasis ok_D_priceBasis rfl (by decide) rfl (Nat.le_of_ble_eq_true rfl) (fun v2 τ2 hp2 => ?_)
        obtain ⟨hv, k1, k2⟩ := hp2
        have g1 : ∀ i, (i = 1 ∨ i = 2 ∨ i = 3 ∨ 12 ≤ i) → τ2 i = σ i := fun i hi => by rw [k1 i (by omega) (by omega) (by omega)]; exact f1 i hi
        have g2 : ∀ z, z ≠ 7 → z ≠ 9 → τ2 0 z = σ 0 z := fun z z1 z2 => by rw [k2 z z1 z2]; exact f2 z z1 z2
        have g3 : ∀ z, 0 ≤ z → z < 16 → 0 ≤ τ2 4 z ∧ τ2 4 z ≤ 40 := fun z a1 a2 => by rw [k1 4 (by decide) (by decide) (by decide)]; exact f3 z a1 a2
        rcases hv with rfl | ⟨rfl, hd⟩
        · refine g_if_eq X (tgt := 148) d_D_findPrices_106 (by decide) (by omega) (fun h106 => ?_) (fun h106 => ?_)
          · exact F r τ2 g1 g2
          · omega
        · refine g_if_eq X (tgt := 148) d_D_findPrices_106 (by decide) (by omega) (fun h106 => ?_) (fun h106 => ?_)
          · omega
          · refine g_aload_n X 0 d_D_findPrices_109 rfl rfl ?_
            refine d_callV X (c_D_sound l D a q τ2) d_D_findPrices_110 lk_D_69 im_D_sound sl_D_sound k_D_sound ok_D_sound rfl (by decide) rfl (Nat.le_of_ble_eq_true rfl) (fun v3 τ3 hp3 => ?_)
            obtain ⟨rfl, hv⟩ := hp3
            rcases hv with ⟨rfl, hc, hd0⟩ | rfl
            · refine g_if_ne X (tgt := 119) d_D_findPrices_113 (by decide) (by omega) (fun h113 => ?_) (fun h113 => ?_)
              · have e03 : τ3 0 3 = σ 0 3 := g2 3 (by decide) (by decide)
                have e1 : τ3 1 = σ 1 := g1 1 (by decide)
                refine g_aload_n X 0 d_D_findPrices_119 rfl rfl ?_
                refine d_callV X (c_D_mostValuable l D a q τ3 (by omega) (by rw [e1]; exact hw)) d_D_findPrices_120 lk_D_72 im_D_mostValuable sl_D_mostValuable k_D_mostValuable ok_D_mostValuable rfl (by decide) rfl (Nat.le_of_ble_eq_true rfl) (fun v4 τ4 hp4 => ?_)
                obtain ⟨m1, m2, x, Ff, rfl, m3, m4, m5, m6⟩ := hp4
                have e0 : τ4 0 = τ3 0 := m1 0 (by decide) (by decide) (by decide)
                have i1 : ∀ i, (i = 1 ∨ i = 2 ∨ i = 3 ∨ 12 ≤ i) → τ4 i = σ i := fun i hi => by rw [m1 i (by omega) (by omega) (by omega)]; exact g1 i hi
                have i2 : ∀ z, z ≠ 7 → z ≠ 9 → τ4 0 z = σ 0 z := fun z z1 z2 => by rw [e0]; exact g2 z z1 z2
                have i3 : ∀ z, 0 ≤ z → z < 16 → 0 ≤ τ4 4 z ∧ τ4 4 z ≤ 40 := fun z a1 a2 => by rw [m1 4 (by decide) (by decide) (by decide)]; exact g3 z a1 a2
                refine g_aload_n X 0 d_D_findPrices_123 rfl rfl ?_
                refine d_get X 9 d_D_findPrices_124 lk_D_76 (by decide) rfl rfl ?_
                refine g_lcmp X d_D_findPrices_127 ?_
                have hcr := cmpL_rng x (τ4 0 9)
                have hcg := cmpL_gt x (τ4 0 9)
                refine g_if_gt X (tgt := 132) d_D_findPrices_128 (by decide) (by omega) (fun h128 => ?_) (fun h128 => ?_)
                · refine g_aload_n X 0 d_D_findPrices_132 rfl rfl ?_
                  refine d_callV X (c_D_pivot l D a q τ4 i3 (by rw [i1 3 (by decide)]; exact hW) m2) d_D_findPrices_133 lk_D_80 im_D_pivot sl_D_pivot k_D_pivot ok_D_pivot rfl (by decide) rfl (Nat.le_of_ble_eq_true rfl) (fun v5 τ5 hp5 => ?_)
                  obtain ⟨hv, p1, p2, p3⟩ := hp5
                  have j1 : ∀ i, (i = 1 ∨ i = 2 ∨ i = 3 ∨ 12 ≤ i) → τ5 i = σ i := fun i hi => by rw [p1 i (by omega) (by omega) (by omega) (by omega) (by omega)]; exact i1 i hi
                  have j2 : ∀ z, z ≠ 7 → z ≠ 9 → τ5 0 z = σ 0 z := fun z z1 z2 => by rw [p2 z z1]; exact i2 z z1 z2
                  rcases hv with rfl | rfl
                  · refine g_if_ne X (tgt := 142) d_D_findPrices_136 (by decide) (by omega) (fun h136 => ?_) (fun h136 => ?_)
                    · omega
                    · refine g_goto X (tgt := 148) d_D_findPrices_139 (by decide) ?_
                      exact F r τ5 j1 j2
                  · refine g_if_ne X (tgt := 142) d_D_findPrices_136 (by decide) (by omega) (fun h136 => ?_) (fun h136 => ?_)
                    · refine g_iinc X d_D_findPrices_142 rfl (by decide) ?_
                      refine g_goto X (tgt := 96) d_D_findPrices_145 (by decide) ?_
                      exact ih (r + 1) τ5 (by omega) (by omega) j1 j2 p3
                    · omega
                · refine g_nrm X (dw_nrm a q τ4) ?_
                  refine g_vret X d_D_findPrices_131 rfl ?_
                  have e41 : τ4 1 = σ 1 := i1 1 (by decide)
                  have e43 : τ4 0 3 = σ 0 3 := i2 3 (by decide) (by decide)
                  have e46 : τ4 6 = τ3 6 := m1 6 (by decide) (by decide) (by decide)
                  have ed : wL (τ4 0 9) = τ4 0 9 := wL_eq (by rw [e0]; omega)
                  have ed3 : wL (τ3 0 9) = τ3 0 9 := wL_eq (by omega)
                  rw [e1, e03] at m6
                  rw [e03] at m3 m5
                  have wp := worth_price (w := σ 1) (c := fun k => wL (τ3 6 k)) (F := Ff) (R := σ 0 3) (d := τ4 0 9) hR.1 (fun k a1 a2 => (hw k a1 a2).1) (fun k a1 a2 => ⟨hc k a1 a2, (wL_rng _).2⟩) (by rw [e0]; omega) m4 m5 m6 (by omega)
                  have n6 : nrm τ4 6 = fun k => wL (τ3 6 k) := by
                    funext k
                    show wL (τ4 6 k) = _
                    rw [e46]
                  refine ⟨rfl, fun i hi => ?_, i2, ?_⟩
                  · rw [← i1 i hi]; funext z; unfold nrm; rw [if_neg (by omega)]
                  · refine ⟨fun k a1 a2 => ?_, ?_, fun k a1 a2 a3 => ?_, fun p p1 p2 p3 => ?_⟩
                    · rw [n6]; exact ⟨hc k a1 a2, (wL_rng _).2⟩
                    · show 0 < τ4 0 9 ∧ τ4 0 9 ≤ _
                      rw [e0]; omega
                    · rw [n6]
                      refine wp.1 k a1 a2 ?_
                      have : τ4 1 k ≤ τ4 0 3 := a3
                      rw [e41, e43] at this
                      exact this
                    · rw [n6]
                      have p2' : ∀ k, 0 ≤ k → k < 4 → τ4 0 3 < τ4 1 k → p k = 0 := p2
                      have p3' : dot p (τ4 1) ≤ τ4 0 3 := p3
                      rw [e41, e43] at p2' p3'
                      exact wp.2 p p1 p2' p3'
              · omega
            · refine g_if_ne X (tgt := 119) d_D_findPrices_113 (by decide) (by omega) (fun h113 => ?_) (fun h113 => ?_)
              · omega
              · refine g_goto X (tgt := 148) d_D_findPrices_116 (by decide) ?_
                exact F r τ3 g1 g2
  -- the first patterns
  have B : ∀ (n : Nat) (b : Int) (τ : zS), b + n = 4 → 0 ≤ b → (∀ i, i ≠ 4 → τ i = σ i) → (∀ z, 0 ≤ z → z < b * 4 → 0 ≤ τ 4 z ∧ τ 4 z ≤ 40) → G Γ [(0, .ref (q 0)), (1, vI b)] τ 2 [] := by
    intro n
    induction n with
    | zero =>
      intro b τ hb h0 f1 f2
      refine g_iload_n X 1 d_D_findPrices_2 rfl rfl ?_
      refine g_iconst X d_D_findPrices_3 ?_
      refine g_icmp_ge X (tgt := 94) d_D_findPrices_4 (by decide) (by omega) (by omega) (fun h4 => ?_) (fun h4 => ?_)
      · refine g_iconst X d_D_findPrices_94 ?_
        refine g_istore_n X 1 d_D_findPrices_95 rfl (by decide) ?_
        exact L 40 0 τ (by omega) (by omega) (fun i hi => f1 i (by omega)) (fun z _ _ => by rw [f1 0 (by decide)]) (fun z a1 a2 => f2 z a1 (by omega))
      · omega
    | succ n ih =>
      intro b τ hb h0 f1 f2
      have I : ∀ (m : Nat) (k : Int) (τ : zS), k + m = 4 → 0 ≤ k → (∀ i, i ≠ 4 → τ i = σ i) → (∀ z, 0 ≤ z → z < b * 4 + k → 0 ≤ τ 4 z ∧ τ 4 z ≤ 40) → G Γ [(0, .ref (q 0)), (1, vI b), (2, vI k)] τ 9 [] := by
        intro m
        induction m with
        | zero =>
          intro k τ hk k0 g1 g2
          have e1 : τ 1 = σ 1 := g1 1 (by decide)
          have e0 : τ 0 = σ 0 := g1 0 (by decide)
          have hwb := hw b h0 (by omega)
          have nx : ∀ ρ : zS, (∀ i, i ≠ 4 → ρ i = σ i) → (∀ z, 0 ≤ z → z < b * 4 + 4 → 0 ≤ ρ 4 z ∧ ρ 4 z ≤ 40) → G Γ [(0, .ref (q 0)), (1, vI b), (2, vI k)] ρ 88 [] := by
            intro ρ r1 r2
            refine g_iinc X d_D_findPrices_88 rfl (by decide) ?_
            refine g_goto X (tgt := 2) d_D_findPrices_91 (by decide) ?_
            refine g_sub [0, 1] rfl ?_
            exact ih (b + 1) ρ (by omega) (by omega) r1 (fun z a1 a2 => r2 z a1 (by omega))
          refine g_iload_n X 2 d_D_findPrices_9 rfl rfl ?_
          refine g_iconst X d_D_findPrices_10 ?_
          refine g_icmp_ge X (tgt := 64) d_D_findPrices_11 (by decide) (by omega) (by omega) (fun h11 => ?_) (fun h11 => ?_)
          · refine g_aload_n X 0 d_D_findPrices_64 rfl rfl ?_
            refine d_get X 1 d_D_findPrices_65 lk_D_7 (by decide) rfl rfl ?_
            refine g_iload_n X 1 d_D_findPrices_68 rfl rfl ?_
            refine d_bald X d_D_findPrices_69 (by rfl) (by omega) (by decide) ?_
            rw [e1]
            refine g_aload_n X 0 d_D_findPrices_70 rfl rfl ?_
            refine d_get X 3 d_D_findPrices_71 lk_D_62 (by decide) rfl rfl ?_
            rw [e0]
            refine g_icmp_le X (tgt := 88) d_D_findPrices_74 (by decide) (by omega) (by omega) (fun h74 => ?_) (fun h74 => ?_)
            · exact nx τ g1 (fun z a1 a2 => g2 z a1 (by omega))
            · refine g_aload_n X 0 d_D_findPrices_77 rfl rfl ?_
              refine d_get X 5 d_D_findPrices_78 lk_D_19 (by decide) rfl rfl ?_
              refine g_iload_n X 1 d_D_findPrices_81 rfl rfl ?_
              refine g_iconst X d_D_findPrices_82 ?_
              refine g_imul X d_D_findPrices_83 ?_
              refine g_iload_n X 1 d_D_findPrices_84 rfl rfl ?_
              refine g_iadd X d_D_findPrices_85 ?_
              refine g_iconst X d_D_findPrices_86 ?_
              refine d_bast X d_D_findPrices_87 (by rfl) (by rfl) (by omega) (by decide) (by omega) ?_
              refine nx _ (fun i hi => ?_) (fun z a1 a2 => ?_)
              · rw [← g1 i hi]; funext z; exact up_nc hi
              · rw [up_if]
                split
                · omega
                · exact g2 z a1 (by omega)
          · omega
        | succ m ihk =>
          intro k τ hk k0 g1 g2
          have e1 : τ 1 = σ 1 := g1 1 (by decide)
          have e0 : τ 0 = σ 0 := g1 0 (by decide)
          have hwk := hw k k0 (by omega)
          have J : ∀ x : Int, 0 ≤ x ∧ x ≤ 40 → G Γ [(0, .ref (q 0)), (1, vI b), (2, vI k)] τ 56 [vI x, vI (b * 4 + k), .ref (q 4)] := by
            intro x hx
            refine g_i2b X d_D_findPrices_56 (by omega) ?_
            refine d_bast X d_D_findPrices_57 (by rfl) (by rfl) (by omega) (by decide) (by omega) ?_
            refine g_iinc X d_D_findPrices_58 rfl (by decide) ?_
            refine g_goto X (tgt := 9) d_D_findPrices_61 (by decide) ?_
            refine ihk (k + 1) _ (by omega) (by omega) (fun i hi => ?_) (fun z a1 a2 => ?_)
            · rw [← g1 i hi]; funext z; exact up_nc hi
            · rw [up_if]
              split
              · exact hx
              · exact g2 z a1 (by omega)
          have J0 : G Γ [(0, .ref (q 0)), (1, vI b), (2, vI k)] τ 55 [vI (b * 4 + k), .ref (q 4)] := by
            refine g_iconst X d_D_findPrices_55 ?_
            exact J 0 (by omega)
          refine g_iload_n X 2 d_D_findPrices_9 rfl rfl ?_
          refine g_iconst X d_D_findPrices_10 ?_
          refine g_icmp_ge X (tgt := 64) d_D_findPrices_11 (by decide) (by omega) (by omega) (fun h11 => ?_) (fun h11 => ?_)
          · omega
          · refine g_aload_n X 0 d_D_findPrices_14 rfl rfl ?_
            refine d_get X 5 d_D_findPrices_15 lk_D_19 (by decide) rfl rfl ?_
            refine g_iload_n X 1 d_D_findPrices_18 rfl rfl ?_
            refine g_iconst X d_D_findPrices_19 ?_
            refine g_imul X d_D_findPrices_20 ?_
            refine g_iload_n X 2 d_D_findPrices_21 rfl rfl ?_
            refine g_iadd X d_D_findPrices_22 ?_
            refine g_iload_n X 1 d_D_findPrices_23 rfl rfl ?_
            refine g_iload_n X 2 d_D_findPrices_24 rfl rfl ?_
            refine g_icmp_ne X (tgt := 55) d_D_findPrices_25 (by decide) (by omega) (by omega) (fun h25 => ?_) (fun h25 => ?_)
            · exact J0
            · refine g_aload_n X 0 d_D_findPrices_28 rfl rfl ?_
              refine d_get X 1 d_D_findPrices_29 lk_D_7 (by decide) rfl rfl ?_
              refine g_iload_n X 2 d_D_findPrices_32 rfl rfl ?_
              refine d_bald X d_D_findPrices_33 (by rfl) (by omega) (by decide) ?_
              rw [e1]
              refine g_aload_n X 0 d_D_findPrices_34 rfl rfl ?_
              refine d_get X 3 d_D_findPrices_35 lk_D_62 (by decide) rfl rfl ?_
              rw [e0]
              refine g_icmp_gt X (tgt := 55) d_D_findPrices_38 (by decide) (by omega) (by omega) (fun h38 => ?_) (fun h38 => ?_)
              · exact J0
              · refine g_aload_n X 0 d_D_findPrices_41 rfl rfl ?_
                refine d_get X 3 d_D_findPrices_42 lk_D_62 (by decide) rfl rfl ?_
                rw [e0]
                refine g_aload_n X 0 d_D_findPrices_45 rfl rfl ?_
                refine d_get X 1 d_D_findPrices_46 lk_D_7 (by decide) rfl rfl ?_
                refine g_iload_n X 2 d_D_findPrices_49 rfl rfl ?_
                refine d_bald X d_D_findPrices_50 (by rfl) (by omega) (by decide) ?_
                rw [e1]
                refine g_idiv X d_D_findPrices_51 (by omega) (by omega) ?_
                refine g_goto X (tgt := 56) d_D_findPrices_52 (by decide) ?_
                refine J _ ⟨Int.ediv_nonneg (by omega) (by omega), ?_⟩
                have := Int.ediv_le_self (a := σ 0 3) (σ 1 k) (by omega)
                omega
      refine g_iload_n X 1 d_D_findPrices_2 rfl rfl ?_
      refine g_iconst X d_D_findPrices_3 ?_
      refine g_icmp_ge X (tgt := 94) d_D_findPrices_4 (by decide) (by omega) (by omega) (fun h4 => ?_) (fun h4 => ?_)
      · omega
      · refine g_iconst X d_D_findPrices_7 ?_
        refine g_istore_n X 2 d_D_findPrices_8 rfl (by decide) ?_
        exact I 4 0 τ (by omega) (by omega) f1 (fun z a1 a2 => f2 z a1 (by omega))
  refine g_iconst X d_D_findPrices_0 ?_
  refine g_istore_n X 1 d_D_findPrices_1 rfl (by decide) ?_
  exact B 4 0 σ (by omega) (by omega) (fun _ _ => rfl) (fun z a1 a2 => by omega)
end S18
end
section
section S08
variable (l : Launch) (D : va_G) (a : Nat → ClassId) (q : Nat → Nat) (σ : zS)
/-- served(r): 1 iff nothing is wanted before roll r -/
theorem c_D_served (r : Int) (hr : 0 ≤ r ∧ r ≤ 13) (hst : ∀ k, 0 ≤ k → k < 4 → -128 ≤ σ 12 (r * 4 + k) ∧ σ 12 (r * 4 + k) < 128) :
    K_D_served l D a q [.ref (q 0), vI r] σ (fun v τ => τ = σ ∧ ((v = some (vI 1) ∧ ∀ k, 0 ≤ k → k < 4 → σ 12 (r * 4 + k) ≤ 0) ∨ (v = some (vI 0) ∧ ∃ k, 0 ≤ k ∧ k < 4 ∧ 0 < σ 12 (r * 4 + k)))) := by
  refine Con.of (by decide) (dw_ad a q) (Nat.le_of_ble_eq_true rfl) (fun Γ X => ?_)
  have X : Cx Γ "CutDesk" b_D_served (some .boolean) 3 0 0 (dw a q) _ l D (tysA a) := X
  show G Γ [(0, .ref (q 0)), (1, vI r)] σ 0 []
  have L : ∀ (n : Nat) (k : Int), k + n = 4 → 0 ≤ k → (∀ j, 0 ≤ j → j < k → σ 12 (r * 4 + j) ≤ 0) → G Γ [(0, .ref (q 0)), (1, vI r), (2, vI k)] σ 2 [] := by
    intro n
    induction n with
    | zero =>
      intro k hk h0 hj
      refine g_iload_n X 2 d_D_served_2 rfl rfl ?_
      refine g_iconst X d_D_served_3 ?_
      refine g_icmp_ge X (tgt := 28) d_D_served_4 (by decide) (by omega) (by omega) (fun h4 => ?_) (fun h4 => ?_)
      · refine g_iconst X d_D_served_28 ?_
        refine g_zret X d_D_served_29 rfl (by decide) ?_
        exact ⟨rfl, Or.inl ⟨rfl, fun j a1 a2 => hj j a1 (by omega)⟩⟩
      · omega
    | succ n ih =>
      intro k hk h0 hj
      have hs := hst k h0 (by omega)
      refine g_iload_n X 2 d_D_served_2 rfl rfl ?_
      refine g_iconst X d_D_served_3 ?_
      refine g_icmp_ge X (tgt := 28) d_D_served_4 (by decide) (by omega) (by omega) (fun h4 => ?_) (fun h4 => ?_)
      · omega
      · refine g_aload_n X 0 d_D_served_7 rfl rfl ?_
        refine d_get X 15 d_D_served_8 lk_D_44 (by decide) rfl rfl ?_
        refine g_iload_n X 1 d_D_served_11 rfl rfl ?_
        refine g_iconst X d_D_served_12 ?_
        refine g_imul X d_D_served_13 ?_
        refine g_iload_n X 2 d_D_served_14 rfl rfl ?_
        refine g_iadd X d_D_served_15 ?_
        refine d_bald X d_D_served_16 (by rfl) (by omega) (by decide) ?_
        refine g_if_le X (tgt := 22) d_D_served_17 (by decide) (by omega) (fun h17 => ?_) (fun h17 => ?_)
        · refine g_iinc X d_D_served_22 rfl (by decide) ?_
          refine g_goto X (tgt := 2) d_D_served_25 (by decide) ?_
          refine ih (k + 1) (by omega) (by omega) (fun j a1 a2 => ?_)
          by_cases e : j = k
          · subst e; exact h17
          · exact hj j a1 (by omega)
        · refine g_iconst X d_D_served_20 ?_
          refine g_zret X d_D_served_21 rfl (by decide) ?_
          exact ⟨rfl, Or.inr ⟨rfl, k, h0, by omega, by omega⟩⟩
  refine g_iconst X d_D_served_0 ?_
  refine g_istore_n X 2 d_D_served_1 rfl (by decide) ?_
  exact L 4 0 (by omega) (by omega) (fun j a1 a2 => by omega)
end S08
end
section
/-- which kind widest answers -/
def WM (w s : Int → Int) (m : Int) : Prop := (m = -1 ∧ ∀ k, 0 ≤ k → k < 4 → s k ≤ 0) ∨ (0 ≤ m ∧ m < 4 ∧ 0 < s m ∧ (∀ k, 0 ≤ k → k < 4 → 0 < s k → w k ≤ w m) ∧ ∀ k, 0 ≤ k → k < m → 0 < s k → w k < w m)
theorem WM_uniq {w s : Int → Int} {m n : Int} (hm : WM w s m) (hn : WM w s n) : m = n := by
  rcases hm with ⟨rfl, hm⟩ | ⟨m1, m2, m3, m4, m5⟩ <;> rcases hn with ⟨rfl, hn⟩ | ⟨n1, n2, n3, n4, n5⟩
  · rfl
  · have := hm n n1 n2
    omega
  · have := hn m m1 m2
    omega
  · rcases Int.lt_trichotomy m n with h | h | h
    · have := n5 m m1 h m3
      have := m4 n n1 n2 n3
      omega
    · exact h
    · have := m5 n n1 h n3
      have := n4 m m1 m2 m3
      omega
theorem WM_pos {w s : Int → Int} {m : Int} (hm : WM w s m) (h : ∃ k, 0 ≤ k ∧ k < 4 ∧ 0 < s k) : 0 ≤ m ∧ m < 4 ∧ 0 < s m := by
  rcases hm with ⟨rfl, hm⟩ | ⟨m1, m2, m3, -⟩
  · obtain ⟨k, a1, a2, a3⟩ := h
    have := hm k a1 a2
    omega
  · exact ⟨m1, m2, m3⟩
/-- a row of demands: at most three of a kind, none of a kind that is wider than the roll -/
def RW (σ : zS) (s : Int → Int) : Prop := (∀ k, 0 ≤ k → k < 4 → 0 ≤ s k ∧ s k ≤ 3) ∧ ∀ k, 0 ≤ k → k < 4 → σ 0 3 < σ 1 k → s k = 0
section S21
variable (l : Launch) (D : va_G) (a : Nat → ClassId) (q : Nat → Nat) (σ : zS)
theorem c_D_widest (r : Int) (hr : 0 ≤ r ∧ r ≤ 13) (hw : ∀ k, 0 ≤ k → k < 4 → 1 ≤ σ 1 k ∧ σ 1 k ≤ 20) (hs : ∀ k, 0 ≤ k → k < 4 → 0 ≤ σ 12 (r * 4 + k) ∧ σ 12 (r * 4 + k) ≤ 3) :
    K_D_widest l D a q [.ref (q 0), vI r] σ (fun v τ => τ = σ ∧ ∃ m, v = some (vI m) ∧ WM (σ 1) (fun k => σ 12 (r * 4 + k)) m) := by
  refine Con.of (by decide) (dw_ad a q) (Nat.le_of_ble_eq_true rfl) (fun Γ X => ?_)
  have X : Cx Γ "CutDesk" b_D_widest (some .int) 4 0 0 (dw a q) _ l D (tysA a) := X
  show G Γ [(0, .ref (q 0)), (1, vI r)] σ 0 []
  have L : ∀ (n : Nat) (k t : Int), k + n = 4 → 0 ≤ k → ((t = -1 ∧ ∀ j, 0 ≤ j → j < k → σ 12 (r * 4 + j) ≤ 0) ∨ (0 ≤ t ∧ t < k ∧ 0 < σ 12 (r * 4 + t) ∧ (∀ j, 0 ≤ j → j < k → 0 < σ 12 (r * 4 + j) → σ 1 j ≤ σ 1 t) ∧ ∀ j, 0 ≤ j → j < t → 0 < σ 12 (r * 4 + j) → σ 1 j < σ 1 t)) → G Γ [(0, .ref (q 0)), (1, vI r), (2, vI t), (3, vI k)] σ 4 [] := by
    intro n
    induction n with
    | zero =>
      intro k t hk h0 ht
      refine g_iload_n X 3 d_D_widest_4 rfl rfl ?_
      refine g_iconst X d_D_widest_5 ?_
      refine g_icmp_ge X (tgt := 49) d_D_widest_6 (by decide) (by omega) (by omega) (fun h6 => ?_) (fun h6 => ?_)
      · refine g_iload_n X 2 d_D_widest_49 rfl rfl ?_
        refine g_iret X d_D_widest_50 rfl ?_
        refine ⟨rfl, t, rfl, ?_⟩
        rcases ht with ⟨t1, t2⟩ | ⟨t1, t2, t3, t4, t5⟩
        · exact Or.inl ⟨t1, fun j a1 a2 => t2 j a1 (by omega)⟩
        · exact Or.inr ⟨t1, by omega, t3, fun j a1 a2 => t4 j a1 (by omega), t5⟩
      · omega
    | succ n ih =>
      intro k t hk h0 ht
      have hsk := hs k h0 (by omega)
      have hwk := hw k h0 (by omega)
      have take : 0 < σ 12 (r * 4 + k) → (t = -1 ∨ (0 ≤ t ∧ σ 1 t < σ 1 k)) → G Γ [(0, .ref (q 0)), (1, vI r), (2, vI t), (3, vI k)] σ 41 [] := by
        intro h1 h2
        refine g_iload_n X 3 d_D_widest_41 rfl rfl ?_
        refine g_istore_n X 2 d_D_widest_42 rfl (by decide) ?_
        refine g_iinc X d_D_widest_43 rfl (by decide) ?_
        refine g_goto X (tgt := 4) d_D_widest_46 (by decide) ?_
        refine ih (k + 1) k (by omega) (by omega) (Or.inr ⟨h0, by omega, h1, fun j a1 a2 a3 => ?_, fun j a1 a2 a3 => ?_⟩)
        · by_cases e : j = k
          · subst e; omega
          · rcases ht with ⟨t1, t2⟩ | ⟨t1, t2, t3, t4, t5⟩
            · have := t2 j a1 (by omega)
              omega
            · have := t4 j a1 (by omega) a3
              omega
        · rcases ht with ⟨t1, t2⟩ | ⟨t1, t2, t3, t4, t5⟩
          · have := t2 j a1 a2
            omega
          · have := t4 j a1 a2 a3
            omega
      have skip : (0 < σ 12 (r * 4 + k) → 0 ≤ t ∧ σ 1 k ≤ σ 1 t) → G Γ [(0, .ref (q 0)), (1, vI r), (2, vI t), (3, vI k)] σ 43 [] := by
        intro h1
        refine g_iinc X d_D_widest_43 rfl (by decide) ?_
        refine g_goto X (tgt := 4) d_D_widest_46 (by decide) ?_
        refine ih (k + 1) t (by omega) (by omega) ?_
        rcases ht with ⟨t1, t2⟩ | ⟨t1, t2, t3, t4, t5⟩
        · refine Or.inl ⟨t1, fun j a1 a2 => ?_⟩
          by_cases e : j = k
          · subst e
            by_cases c : 0 < σ 12 (r * 4 + j)
            · have := h1 c
              omega
            · omega
          · exact t2 j a1 (by omega)
        · refine Or.inr ⟨t1, by omega, t3, fun j a1 a2 a3 => ?_, t5⟩
          by_cases e : j = k
          · subst e; exact (h1 a3).2
          · exact t4 j a1 (by omega) a3
      refine g_iload_n X 3 d_D_widest_4 rfl rfl ?_
      refine g_iconst X d_D_widest_5 ?_
      refine g_icmp_ge X (tgt := 49) d_D_widest_6 (by decide) (by omega) (by omega) (fun h6 => ?_) (fun h6 => ?_)
      · omega
      · refine g_aload_n X 0 d_D_widest_9 rfl rfl ?_
        refine d_get X 15 d_D_widest_10 lk_D_44 (by decide) rfl rfl ?_
        refine g_iload_n X 1 d_D_widest_13 rfl rfl ?_
        refine g_iconst X d_D_widest_14 ?_
        refine g_imul X d_D_widest_15 ?_
        refine g_iload_n X 3 d_D_widest_16 rfl rfl ?_
        refine g_iadd X d_D_widest_17 ?_
        refine d_bald X d_D_widest_18 (by rfl) (by omega) (by decide) ?_
        refine g_if_le X (tgt := 43) d_D_widest_19 (by decide) (by omega) (fun h19 => ?_) (fun h19 => ?_)
        · exact skip (fun h => by omega)
        · refine g_iload_n X 2 d_D_widest_22 rfl rfl ?_
          refine g_if_lt X (tgt := 41) d_D_widest_23 (by decide) (by omega) (fun h23 => ?_) (fun h23 => ?_)
          · exact take (by omega) (by omega)
          · have hwt := hw t (by omega) (by omega)
            refine g_aload_n X 0 d_D_widest_26 rfl rfl ?_
            refine d_get X 1 d_D_widest_27 lk_D_7 (by decide) rfl rfl ?_
            refine g_iload_n X 3 d_D_widest_30 rfl rfl ?_
            refine d_bald X d_D_widest_31 (by rfl) (by omega) (by decide) ?_
            refine g_aload_n X 0 d_D_widest_32 rfl rfl ?_
            refine d_get X 1 d_D_widest_33 lk_D_7 (by decide) rfl rfl ?_
            refine g_iload_n X 2 d_D_widest_36 rfl rfl ?_
            refine d_bald X d_D_widest_37 (by rfl) (by omega) (by decide) ?_
            refine g_icmp_le X (tgt := 43) d_D_widest_38 (by decide) (by omega) (by omega) (fun h38 => ?_) (fun h38 => ?_)
            · exact skip (fun _ => ⟨by omega, h38⟩)
            · exact take (by omega) (Or.inr ⟨by omega, by omega⟩)
  refine g_iconst X d_D_widest_0 ?_
  refine g_istore_n X 2 d_D_widest_1 rfl (by decide) ?_
  refine g_iconst X d_D_widest_2 ?_
  refine g_istore_n X 3 d_D_widest_3 rfl (by decide) ?_
  exact L 4 0 (-1) (by omega) (by omega) (Or.inl ⟨rfl, fun j a1 a2 => by omega⟩)
theorem c_D_takeOff (r : Int) (hr : 0 ≤ r ∧ r ≤ 12) (hs : ∀ k, 0 ≤ k → k < 4 → 0 ≤ σ 12 (r * 4 + k) ∧ σ 12 (r * 4 + k) ≤ 3) (hc : ∀ k, 0 ≤ k → k < 4 → 0 ≤ σ 13 (r * 4 + k) ∧ σ 13 (r * 4 + k) ≤ 3) :
    K_D_takeOff l D a q [.ref (q 0), vI r] σ (fun v τ => v = none ∧ (∀ i, i ≠ 12 → τ i = σ i) ∧ (∀ k, 0 ≤ k → k < 4 → τ 12 ((r + 1) * 4 + k) = mx0 (σ 12 (r * 4 + k) - σ 13 (r * 4 + k))) ∧ ∀ z, z < (r + 1) * 4 → τ 12 z = σ 12 z) := by
  refine Con.of (by decide) (dw_ad a q) (Nat.le_of_ble_eq_true rfl) (fun Γ X => ?_)
  have X : Cx Γ "CutDesk" b_D_takeOff none 4 0 0 (dw a q) _ l D (tysA a) := X
  show G Γ [(0, .ref (q 0)), (1, vI r)] σ 0 []
  have L : ∀ (n : Nat) (k : Int) (τ : zS), k + n = 4 → 0 ≤ k → (∀ i, i ≠ 12 → τ i = σ i) → (∀ j, 0 ≤ j → j < k → τ 12 ((r + 1) * 4 + j) = mx0 (σ 12 (r * 4 + j) - σ 13 (r * 4 + j))) → (∀ z, z < (r + 1) * 4 → τ 12 z = σ 12 z) → G Γ [(0, .ref (q 0)), (1, vI r), (2, vI k)] τ 2 [] := by
    intro n
    induction n with
    | zero =>
      intro k τ hk h0 f1 f2 f3
      refine g_iload_n X 2 d_D_takeOff_2 rfl rfl ?_
      refine g_iconst X d_D_takeOff_3 ?_
      refine g_icmp_ge X (tgt := 57) d_D_takeOff_4 (by decide) (by omega) (by omega) (fun h4 => ?_) (fun h4 => ?_)
      · refine g_vret X d_D_takeOff_57 rfl ?_
        exact ⟨rfl, f1, fun j a1 a2 => f2 j a1 (by omega), f3⟩
      · omega
    | succ n ih =>
      intro k τ hk h0 f1 f2 f3
      have e13 : τ 13 = σ 13 := f1 13 (by decide)
      have e12 : τ 12 (r * 4 + k) = σ 12 (r * 4 + k) := f3 _ (by omega)
      have hsk := hs k h0 (by omega)
      have hck := hc k h0 (by omega)
      have J : ∀ x : Int, x = mx0 (σ 12 (r * 4 + k) - σ 13 (r * 4 + k)) → G Γ [(0, .ref (q 0)), (1, vI r), (2, vI k), (3, vI (σ 12 (r * 4 + k) - σ 13 (r * 4 + k)))] τ 49 [vI x, vI ((r + 1) * 4 + k), .ref (q 12)] := by
        intro x hx
        have hxr : 0 ≤ x ∧ x ≤ 3 := by rw [hx]; unfold mx0; split <;> omega
        refine g_i2b X d_D_takeOff_49 (by omega) ?_
        refine d_bast X d_D_takeOff_50 (by rfl) (by rfl) (by omega) (by decide) (by omega) ?_
        refine g_iinc X d_D_takeOff_51 rfl (by decide) ?_
        refine g_goto X (tgt := 2) d_D_takeOff_54 (by decide) ?_
        refine g_sub [0, 1, 2] rfl ?_
        refine ih (k + 1) _ (by omega) (by omega) (fun i hi => ?_) (fun j a1 a2 => ?_) (fun z hz => ?_)
        · rw [← f1 i hi]; funext z; exact up_nc hi
        · rw [up_if]
          split
          · rename_i e
            rw [hx, show j = k by omega]
          · exact f2 j a1 (by omega)
        · rw [up_ne (by omega)]; exact f3 z hz
      refine g_iload_n X 2 d_D_takeOff_2 rfl rfl ?_
      refine g_iconst X d_D_takeOff_3 ?_
      refine g_icmp_ge X (tgt := 57) d_D_takeOff_4 (by decide) (by omega) (by omega) (fun h4 => ?_) (fun h4 => ?_)
      · omega
      · refine g_aload_n X 0 d_D_takeOff_7 rfl rfl ?_
        refine d_get X 15 d_D_takeOff_8 lk_D_44 (by decide) rfl rfl ?_
        refine g_iload_n X 1 d_D_takeOff_11 rfl rfl ?_
        refine g_iconst X d_D_takeOff_12 ?_
        refine g_imul X d_D_takeOff_13 ?_
        refine g_iload_n X 2 d_D_takeOff_14 rfl rfl ?_
        refine g_iadd X d_D_takeOff_15 ?_
        refine d_bald X d_D_takeOff_16 (by rfl) (by omega) (by decide) ?_
        rw [e12]
        refine g_aload_n X 0 d_D_takeOff_17 rfl rfl ?_
        refine d_get X 16 d_D_takeOff_18 lk_D_47 (by decide) rfl rfl ?_
        refine g_iload_n X 1 d_D_takeOff_21 rfl rfl ?_
        refine g_iconst X d_D_takeOff_22 ?_
        refine g_imul X d_D_takeOff_23 ?_
        refine g_iload_n X 2 d_D_takeOff_24 rfl rfl ?_
        refine g_iadd X d_D_takeOff_25 ?_
        refine d_bald X d_D_takeOff_26 (by rfl) (by omega) (by decide) ?_
        rw [e13]
        refine g_isub X d_D_takeOff_27 ?_
        refine g_istore_n X 3 d_D_takeOff_28 rfl (by decide) ?_
        refine g_aload_n X 0 d_D_takeOff_29 rfl rfl ?_
        refine d_get X 15 d_D_takeOff_30 lk_D_44 (by decide) rfl rfl ?_
        refine g_iload_n X 1 d_D_takeOff_33 rfl rfl ?_
        refine g_iconst X d_D_takeOff_34 ?_
        refine g_iadd X d_D_takeOff_35 ?_
        refine g_iconst X d_D_takeOff_36 ?_
        refine g_imul X d_D_takeOff_37 ?_
        refine g_iload_n X 2 d_D_takeOff_38 rfl rfl ?_
        refine g_iadd X d_D_takeOff_39 ?_
        refine g_iload_n X 3 d_D_takeOff_40 rfl rfl ?_
        refine g_if_le X (tgt := 48) d_D_takeOff_41 (by decide) (by omega) (fun h41 => ?_) (fun h41 => ?_)
        · refine g_iconst X d_D_takeOff_48 ?_
          exact J 0 (by unfold mx0; split <;> omega)
        · refine g_iload_n X 3 d_D_takeOff_44 rfl rfl ?_
          refine g_goto X (tgt := 49) d_D_takeOff_45 (by decide) ?_
          exact J _ (by unfold mx0; split <;> omega)
  refine g_iconst X d_D_takeOff_0 ?_
  refine g_istore_n X 2 d_D_takeOff_1 rfl (by decide) ?_
  exact L 4 0 σ (by omega) (by omega) (fun _ _ => rfl) (fun j a1 a2 => by omega) (fun _ _ => rfl)
/-- boundAt(r): no more rolls than any cover of the row needs -/
theorem c_D_boundAt (r : Int) (hr : 0 ≤ r ∧ r ≤ 13) (hw : ∀ k, 0 ≤ k → k < 4 → 1 ≤ σ 1 k ∧ σ 1 k ≤ 20) (hP : PR σ) (hs : RW σ (fun k => σ 12 (r * 4 + k))) :
    K_D_boundAt l D a q [.ref (q 0), vI r] σ (fun v τ => τ = σ ∧ ∃ b, v = some (vI b) ∧ (0 ≤ b ∧ b ≤ 12) ∧ ∀ n : Nat, Cov (σ 1) (σ 0 3) n (fun k => σ 12 (r * 4 + k)) → b ≤ n) := by
  refine Con.of (by decide) (dw_ad a q) (Nat.le_of_ble_eq_true rfl) (fun Γ X => ?_)
  have X : Cx Γ "CutDesk" b_D_boundAt (some .int) 6 0 0 (dw a q) _ l D (tysA a) := X
  show G Γ [(0, .ref (q 0)), (1, vI r)] σ 0 []
  obtain ⟨p1, p2, p3, p4⟩ := hP
  obtain ⟨s1, s2⟩ := hs
  have tb : ∀ k, 0 ≤ k → k < 4 → 0 ≤ σ 6 k * σ 12 (r * 4 + k) ∧ σ 6 k * σ 12 (r * 4 + k) ≤ σ 0 9 * 3 := fun k a1 a2 => by
    have h1 := p1 k a1 a2
    have h2 := s1 k a1 a2
    by_cases c : σ 1 k ≤ σ 0 3
    · exact mul_bnd ⟨h1.1, p3 k a1 a2 c⟩ h2
    · have h3 := s2 k a1 a2 (by omega)
      dsimp only at h3
      rw [h3]
      omega
  have t0 := tb 0 (by decide) (by decide)
  have t1 := tb 1 (by decide) (by decide)
  have t2 := tb 2 (by decide) (by decide)
  have t3 := tb 3 (by decide) (by decide)
  have L : ∀ (n : Nat) (k : Int), k + n = 4 → 0 ≤ k → G Γ [(0, .ref (q 0)), (1, vI r), (2, vL (ps (fun k => σ 6 k * σ 12 (r * 4 + k)) k)), (4, vI k)] σ 5 [] := by
    intro n
    induction n with
    | zero =>
      intro k hk h0
      refine g_iload X d_D_boundAt_5 rfl ?_
      refine g_iconst X d_D_boundAt_7 ?_
      refine g_icmp_ge X (tgt := 40) d_D_boundAt_8 (by decide) (by omega) (by omega) (fun h8 => ?_) (fun h8 => ?_)
      · have e : k = 4 := by omega
        subst e
        have J : G Γ [(0, .ref (q 0)), (1, vI r), (2, vL (ps (fun k => σ 6 k * σ 12 (r * 4 + k)) 4)), (4, vI 4)] σ 57 [vL (σ 0 9)] := by
          have hS : ps (fun k => σ 6 k * σ 12 (r * 4 + k)) 4 = dot (fun k => σ 12 (r * 4 + k)) (σ 6) := by
            rw [ps_4]
            unfold dot
            simp only [Int.mul_comm]
          have hb : 0 ≤ ps (fun k => σ 6 k * σ 12 (r * 4 + k)) 4 ∧ ps (fun k => σ 6 k * σ 12 (r * 4 + k)) 4 ≤ 12 * σ 0 9 := by
            rw [ps_4]
            omega
          generalize ps (fun k => σ 6 k * σ 12 (r * 4 + k)) 4 = S at hS hb ⊢
          refine g_lstore X d_D_boundAt_57 (by decide) ?_
          refine g_lload_n X 2 d_D_boundAt_59 rfl rfl ?_
          refine g_lload X d_D_boundAt_60 rfl ?_
          refine g_ladd X d_D_boundAt_62 ?_
          refine g_lconst (a := 1) X d_D_boundAt_63 rfl ?_
          refine g_lsub X d_D_boundAt_64 ?_
          refine g_lload X d_D_boundAt_65 rfl ?_
          refine g_ldivN X d_D_boundAt_67 (by omega) (by omega) ?_
          refine g_l2i X d_D_boundAt_68 ?_
          refine g_iret X d_D_boundAt_69 rfl ?_
          refine ⟨rfl, _, rfl, ⟨Int.ediv_nonneg (by omega) (by omega), ?_⟩, fun n hn => ?_⟩
          · have : (S + σ 0 9 - 1) / σ 0 9 < 13 := Int.ediv_lt_of_lt_mul (by omega) (by omega)
            omega
          · have h1 := price_bound (w := σ 1) (c := σ 6) (R := σ 0 3) (d := σ 0 9) (fun k a1 a2 => by have := hw k a1 a2; omega) p4 n (fun k => σ 12 (r * 4 + k)) (fun k a1 a2 => (s1 k a1 a2).1) s2 hn
            have : (S + σ 0 9 - 1) / σ 0 9 < n + 1 := Int.ediv_lt_of_lt_mul (by omega) (by rw [Int.add_mul]; omega)
            omega
        refine g_aload_n X 0 d_D_boundAt_40 rfl rfl ?_
        refine d_get X 9 d_D_boundAt_41 lk_D_76 (by decide) rfl rfl ?_
        refine g_lconst (a := 0) X d_D_boundAt_44 rfl ?_
        refine g_lcmp X d_D_boundAt_45 ?_
        have hcr := cmpL_rng (σ 0 9) 0
        have hcl := cmpL_le (σ 0 9) 0
        rw [wL_0, wL_eq (z := σ 0 9) (by omega)] at hcl
        refine g_if_le X (tgt := 56) d_D_boundAt_46 (by decide) (by omega) (fun h46 => ?_) (fun h46 => ?_)
        · omega
        · refine g_aload_n X 0 d_D_boundAt_49 rfl rfl ?_
          refine d_get X 9 d_D_boundAt_50 lk_D_76 (by decide) rfl rfl ?_
          refine g_goto X (tgt := 57) d_D_boundAt_53 (by decide) ?_
          exact J
      · omega
    | succ n ih =>
      intro k hk h0
      have hsk := s1 k h0 (by omega)
      dsimp only at hsk
      refine g_iload X d_D_boundAt_5 rfl ?_
      refine g_iconst X d_D_boundAt_7 ?_
      refine g_icmp_ge X (tgt := 40) d_D_boundAt_8 (by decide) (by omega) (by omega) (fun h8 => ?_) (fun h8 => ?_)
      · omega
      · refine g_lload_n X 2 d_D_boundAt_11 rfl rfl ?_
        refine g_aload_n X 0 d_D_boundAt_12 rfl rfl ?_
        refine d_get X 8 d_D_boundAt_13 lk_D_26 (by decide) rfl rfl ?_
        refine g_iload X d_D_boundAt_16 rfl ?_
        refine d_lald X d_D_boundAt_18 (by rfl) (by omega) (by decide) ?_
        refine g_aload_n X 0 d_D_boundAt_19 rfl rfl ?_
        refine d_get X 15 d_D_boundAt_20 lk_D_44 (by decide) rfl rfl ?_
        refine g_iload_n X 1 d_D_boundAt_23 rfl rfl ?_
        refine g_iconst X d_D_boundAt_24 ?_
        refine g_imul X d_D_boundAt_25 ?_
        refine g_iload X d_D_boundAt_26 rfl ?_
        refine g_iadd X d_D_boundAt_28 ?_
        refine d_bald X d_D_boundAt_29 (by rfl) (by omega) (by decide) ?_
        refine g_i2l X d_D_boundAt_30 (by omega) ?_
        refine g_lmul X d_D_boundAt_31 ?_
        refine g_ladd X d_D_boundAt_32 ?_
        refine g_lstore_n X 2 d_D_boundAt_33 rfl (by decide) ?_
        refine g_iinc X d_D_boundAt_34 rfl (by decide) ?_
        refine g_goto X (tgt := 5) d_D_boundAt_37 (by decide) ?_
        have := ih (k + 1) (by omega) (by omega)
        rw [ps_s _ h0 (by omega)] at this
        exact this
  refine g_lconst (a := 0) X d_D_boundAt_0 rfl ?_
  refine g_lstore_n X 2 d_D_boundAt_1 rfl (by decide) ?_
  refine g_iconst X d_D_boundAt_2 ?_
  refine g_istore X d_D_boundAt_3 (by decide) ?_
  exact L 4 0 (by omega) (by omega)
end S21
end
section
theorem dot_inc {p p2 w : Int → Int} {t : Int} (h0 : 0 ≤ t) (h4 : t < 4) (h : ∀ k, 0 ≤ k → k < 4 → p2 k = p k + unit t k) : dot p2 w = dot p w + w t := by
  rw [← dot_unit (w := w) h0 h4]
  unfold dot
  rw [h 0 (by decide) (by decide), h 1 (by decide) (by decide), h 2 (by decide) (by decide), h 3 (by decide) (by decide)]
  simp only [Int.add_mul]
  omega
section S22
variable (l : Launch) (D : va_G) (a : Nat → ClassId) (q : Nat → Nat) (σ : zS)
theorem c_D_fillWidest (r : Int) (hr : 0 ≤ r ∧ r ≤ 13) (hR : 1 ≤ σ 0 3 ∧ σ 0 3 ≤ 40) (hw : ∀ k, 0 ≤ k → k < 4 → 1 ≤ σ 1 k ∧ σ 1 k ≤ 20) (hs : RW σ (fun k => σ 12 (r * 4 + k))) :
    K_D_fillWidest l D a q [.ref (q 0), vI r] σ (fun v τ => v = none ∧ (∀ i, i ≠ 13 → τ i = σ i) ∧ (∀ k, 0 ≤ k → k < 4 → 0 ≤ τ 13 (r * 4 + k) ∧ τ 13 (r * 4 + k) ≤ σ 12 (r * 4 + k)) ∧ dot (fun k => τ 13 (r * 4 + k)) (σ 1) ≤ σ 0 3 ∧ ((∃ k, 0 ≤ k ∧ k < 4 ∧ 0 < σ 12 (r * 4 + k)) → ∃ k, 0 ≤ k ∧ k < 4 ∧ 1 ≤ τ 13 (r * 4 + k))) := by
  refine Con.of (by decide) (dw_ad a q) (Nat.le_of_ble_eq_true rfl) (fun Γ X => ?_)
  have X : Cx Γ "CutDesk" b_D_fillWidest none 7 0 0 (dw a q) _ l D (tysA a) := X
  show G Γ [(0, .ref (q 0)), (1, vI r)] σ 0 []
  obtain ⟨s1, s2⟩ := hs
  have s1 : ∀ k, 0 ≤ k → k < 4 → 0 ≤ σ 12 (r * 4 + k) ∧ σ 12 (r * 4 + k) ≤ 3 := s1
  have s2 : ∀ k, 0 ≤ k → k < 4 → σ 0 3 < σ 1 k → σ 12 (r * 4 + k) = 0 := s2
  -- the rounds
  have O : ∀ (n : Nat) (rd fr0 : Int) (τ : zS), rd + n = 12 → 0 ≤ rd → (∀ i, i ≠ 13 → τ i = σ i) → (∀ k, 0 ≤ k → k < 4 → 0 ≤ τ 13 (r * 4 + k) ∧ τ 13 (r * 4 + k) ≤ σ 12 (r * 4 + k)) → fr0 + dot (fun k => τ 13 (r * 4 + k)) (σ 1) = σ 0 3 → (0 ≤ fr0 ∧ fr0 ≤ 40) → (rd = 0 → ∀ k, 0 ≤ k → k < 4 → τ 13 (r * 4 + k) = 0) → (1 ≤ rd → (∃ k, 0 ≤ k ∧ k < 4 ∧ 0 < σ 12 (r * 4 + k)) → ∃ k, 0 ≤ k ∧ k < 4 ∧ 1 ≤ τ 13 (r * 4 + k)) → G Γ [(0, .ref (q 0)), (1, vI r), (2, vI fr0), (3, vI rd)] τ 31 [] := by
    intro n
    induction n with
    | zero =>
      intro rd fr0 τ hn h0 f1 f2 f3 f4 f5 f6
      refine g_iload_n X 3 d_D_fillWidest_31 rfl rfl ?_
      refine g_bipush X d_D_fillWidest_32 (by decide) ?_
      refine g_icmp_ge X (tgt := 166) d_D_fillWidest_34 (by decide) (by omega) (by omega) (fun h34 => ?_) (fun h34 => ?_)
      · refine g_vret X d_D_fillWidest_166 rfl ?_
        exact ⟨rfl, f1, f2, by omega, f6 (by omega)⟩
      · omega
    | succ n ih =>
      intro rd fr0 τ hn h0 f1 f2 f3 f4 f5 f6
      have e1 : τ 1 = σ 1 := f1 1 (by decide)
      have e12 : τ 12 = σ 12 := f1 12 (by decide)
      -- behind the choice
      have A : ∀ t : Int, (t = -1 ∧ ∀ j, 0 ≤ j → j < 4 → ¬ (τ 13 (r * 4 + j) < σ 12 (r * 4 + j) ∧ σ 1 j ≤ fr0)) ∨ (0 ≤ t ∧ t < 4 ∧ τ 13 (r * 4 + t) < σ 12 (r * 4 + t) ∧ σ 1 t ≤ fr0) → ∀ k : Int, G Γ [(0, .ref (q 0)), (1, vI r), (2, vI fr0), (3, vI rd), (4, vI t), (5, vI k)] τ 129 [] := by
        intro t ht k
        refine g_iload X d_D_fillWidest_129 rfl ?_
        refine g_if_lt X (tgt := 160) d_D_fillWidest_131 (by decide) (by omega) (fun h131 => ?_) (fun h131 => ?_)
        · refine g_iinc X d_D_fillWidest_160 rfl (by decide) ?_
          refine g_goto X (tgt := 31) d_D_fillWidest_163 (by decide) ?_
          refine g_sub [0, 1, 2, 3] rfl ?_
          refine ih (rd + 1) fr0 τ (by omega) (by omega) f1 f2 f3 f4 (fun h => by omega) (fun _ hex => ?_)
          rcases ht with ⟨t1, t2⟩ | ⟨t1, t2, t3, t4⟩
          · by_cases hz : rd = 0
            · obtain ⟨j, j1, j2, j3⟩ := hex
              exfalso
              have z0 := f5 hz
              refine t2 j j1 j2 ⟨by rw [z0 j j1 j2]; exact j3, ?_⟩
              have d0 : dot (fun k => τ 13 (r * 4 + k)) (σ 1) = 0 := by
                rw [dot_congr (p2 := fun _ => 0) (w2 := σ 1) (fun k a1 a2 => z0 k a1 a2) (fun _ _ _ => rfl)]
                simp [dot]
              by_cases c : σ 0 3 < σ 1 j
              · have := s2 j j1 j2 c
                omega
              · omega
            · exact f6 (by omega) hex
          · omega
        · rcases ht with ⟨t1, t2⟩ | ⟨t1, t2, t3, t4⟩
          · omega
          · have ct := f2 t t1 t2
            have st := s1 t t1 t2
            have wt := hw t t1 t2
            refine g_aload_n X 0 d_D_fillWidest_134 rfl rfl ?_
            refine d_get X 16 d_D_fillWidest_135 lk_D_47 (by decide) rfl rfl ?_
            refine g_iload_n X 1 d_D_fillWidest_138 rfl rfl ?_
            refine g_iconst X d_D_fillWidest_139 ?_
            refine g_imul X d_D_fillWidest_140 ?_
            refine g_iload X d_D_fillWidest_141 rfl ?_
            refine g_iadd X d_D_fillWidest_143 ?_
            refine g_dup2 X d_D_fillWidest_144 rfl rfl ?_
            refine d_bald X d_D_fillWidest_145 (by rfl) (by omega) (by decide) ?_
            refine g_iconst X d_D_fillWidest_146 ?_
            refine g_iadd X d_D_fillWidest_147 ?_
            refine g_i2b X d_D_fillWidest_148 (by omega) ?_
            refine d_bast X d_D_fillWidest_149 (by rfl) (by rfl) (by omega) (by decide) (by omega) ?_
            have hup : ∀ j, 0 ≤ j → j < 4 → up τ 13 (r * 4 + t) (τ 13 (r * 4 + t) + 1) 13 (r * 4 + j) = τ 13 (r * 4 + j) + unit t j := fun j a1 a2 => by
              rw [up_if]
              unfold unit
              by_cases e : j = t
              · subst e; simp
              · rw [if_neg (by omega), if_neg e]; omega
            have hdot := dot_inc (p := fun j => τ 13 (r * 4 + j)) (p2 := fun j => up τ 13 (r * 4 + t) (τ 13 (r * 4 + t) + 1) 13 (r * 4 + j)) (w := σ 1) t1 t2 hup
            have g1 : ∀ i, i ≠ 13 → up τ 13 (r * 4 + t) (τ 13 (r * 4 + t) + 1) i = σ i := fun i hi => by rw [← f1 i hi]; funext z; exact up_nc hi
            generalize up τ 13 (r * 4 + t) (τ 13 (r * 4 + t) + 1) = ρ at hup hdot g1 ⊢
            refine g_iload_n X 2 d_D_fillWidest_150 rfl rfl ?_
            refine g_aload_n X 0 d_D_fillWidest_151 rfl rfl ?_
            refine d_get X 1 d_D_fillWidest_152 lk_D_7 (by decide) rfl rfl ?_
            refine g_iload X d_D_fillWidest_155 rfl ?_
            refine d_bald X d_D_fillWidest_157 (by rfl) (by omega) (by decide) ?_
            rw [g1 1 (by decide)]
            refine g_isub X d_D_fillWidest_158 ?_
            refine g_istore_n X 2 d_D_fillWidest_159 rfl (by decide) ?_
            refine g_iinc X d_D_fillWidest_160 rfl (by decide) ?_
            refine g_goto X (tgt := 31) d_D_fillWidest_163 (by decide) ?_
            refine g_sub [0, 1, 2, 3] rfl ?_
            refine ih (rd + 1) (fr0 - σ 1 t) ρ (by omega) (by omega) g1 (fun j a1 a2 => ?_) (by omega) (by omega) (fun h => by omega) (fun _ _ => ⟨t, t1, t2, ?_⟩)
            · rw [hup j a1 a2]
              have := f2 j a1 a2
              unfold unit
              by_cases e : j = t
              · subst e; simp; omega
              · rw [if_neg e]; omega
            · rw [hup t t1 t2]
              unfold unit
              simp
              omega
      have N : ∀ (m : Nat) (k t : Int), k + m = 4 → 0 ≤ k → ((t = -1 ∧ ∀ j, 0 ≤ j → j < k → ¬ (τ 13 (r * 4 + j) < σ 12 (r * 4 + j) ∧ σ 1 j ≤ fr0)) ∨ (0 ≤ t ∧ t < k ∧ τ 13 (r * 4 + t) < σ 12 (r * 4 + t) ∧ σ 1 t ≤ fr0)) → G Γ [(0, .ref (q 0)), (1, vI r), (2, vI fr0), (3, vI rd), (4, vI t), (5, vI k)] τ 43 [] := by
        intro m
        induction m with
        | zero =>
          intro k t hk k0 ht
          refine g_iload X d_D_fillWidest_43 rfl ?_
          refine g_iconst X d_D_fillWidest_45 ?_
          refine g_icmp_ge X (tgt := 129) d_D_fillWidest_46 (by decide) (by omega) (by omega) (fun h46 => ?_) (fun h46 => ?_)
          · refine A t ?_ k
            rcases ht with ⟨t1, t2⟩ | ⟨t1, t2, t3, t4⟩
            · exact Or.inl ⟨t1, fun j a1 a2 => t2 j a1 (by omega)⟩
            · exact Or.inr ⟨t1, by omega, t3, t4⟩
          · omega
        | succ m ihk =>
          intro k t hk k0 ht
          have ck := f2 k k0 (by omega)
          have sk := s1 k k0 (by omega)
          have wk := hw k k0 (by omega)
          have skip : ∀ f : Int, (τ 13 (r * 4 + k) < σ 12 (r * 4 + k) ∧ σ 1 k ≤ fr0 → 0 ≤ t) → G Γ [(0, .ref (q 0)), (1, vI r), (2, vI fr0), (3, vI rd), (4, vI t), (5, vI k), (6, vI f)] τ 123 [] := by
            intro f h
            refine g_iinc X d_D_fillWidest_123 rfl (by decide) ?_
            refine g_goto X (tgt := 43) d_D_fillWidest_126 (by decide) ?_
            refine g_sub [0, 1, 2, 3, 4, 5] rfl ?_
            refine ihk (k + 1) t (by omega) (by omega) ?_
            rcases ht with ⟨t1, t2⟩ | ⟨t1, t2, t3, t4⟩
            · refine Or.inl ⟨t1, fun j a1 a2 hj => ?_⟩
              by_cases e : j = k
              · subst e
                have := h hj
                omega
              · exact t2 j a1 (by omega) hj
            · exact Or.inr ⟨t1, by omega, t3, t4⟩
          have take : ∀ f : Int, τ 13 (r * 4 + k) < σ 12 (r * 4 + k) ∧ σ 1 k ≤ fr0 → G Γ [(0, .ref (q 0)), (1, vI r), (2, vI fr0), (3, vI rd), (4, vI t), (5, vI k), (6, vI f)] τ 119 [] := by
            intro f h
            refine g_iload X d_D_fillWidest_119 rfl ?_
            refine g_istore X d_D_fillWidest_121 (by decide) ?_
            refine g_iinc X d_D_fillWidest_123 rfl (by decide) ?_
            refine g_goto X (tgt := 43) d_D_fillWidest_126 (by decide) ?_
            refine g_sub [0, 1, 2, 3, 4, 5] rfl ?_
            exact ihk (k + 1) k (by omega) (by omega) (Or.inr ⟨k0, by omega, h.1, h.2⟩)
          have J : ∀ f : Int, ((f = 1 ∧ τ 13 (r * 4 + k) < σ 12 (r * 4 + k) ∧ σ 1 k ≤ fr0) ∨ (f = 0 ∧ ¬ (τ 13 (r * 4 + k) < σ 12 (r * 4 + k) ∧ σ 1 k ≤ fr0))) → G Γ [(0, .ref (q 0)), (1, vI r), (2, vI fr0), (3, vI rd), (4, vI t), (5, vI k)] τ 90 [vI f] := by
            intro f hf
            refine g_istore X d_D_fillWidest_90 (by decide) ?_
            refine g_iload X d_D_fillWidest_92 rfl ?_
            refine g_if_eq X (tgt := 123) d_D_fillWidest_94 (by decide) (by omega) (fun h94 => ?_) (fun h94 => ?_)
            · exact skip f (fun h => by omega)
            · have hfit : τ 13 (r * 4 + k) < σ 12 (r * 4 + k) ∧ σ 1 k ≤ fr0 := by omega
              refine g_iload X d_D_fillWidest_97 rfl ?_
              refine g_if_lt X (tgt := 119) d_D_fillWidest_99 (by decide) (by omega) (fun h99 => ?_) (fun h99 => ?_)
              · exact take f hfit
              · have wt := hw t (by omega) (by omega)
                refine g_aload_n X 0 d_D_fillWidest_102 rfl rfl ?_
                refine d_get X 1 d_D_fillWidest_103 lk_D_7 (by decide) rfl rfl ?_
                refine g_iload X d_D_fillWidest_106 rfl ?_
                refine d_bald X d_D_fillWidest_108 (by rfl) (by omega) (by decide) ?_
                rw [e1]
                refine g_aload_n X 0 d_D_fillWidest_109 rfl rfl ?_
                refine d_get X 1 d_D_fillWidest_110 lk_D_7 (by decide) rfl rfl ?_
                refine g_iload X d_D_fillWidest_113 rfl ?_
                refine d_bald X d_D_fillWidest_115 (by rfl) (by omega) (by decide) ?_
                rw [e1]
                refine g_icmp_le X (tgt := 123) d_D_fillWidest_116 (by decide) (by omega) (by omega) (fun h116 => ?_) (fun h116 => ?_)
                · exact skip f (fun _ => by omega)
                · exact take f hfit
          refine g_iload X d_D_fillWidest_43 rfl ?_
          refine g_iconst X d_D_fillWidest_45 ?_
          refine g_icmp_ge X (tgt := 129) d_D_fillWidest_46 (by decide) (by omega) (by omega) (fun h46 => ?_) (fun h46 => ?_)
          · omega
          · refine g_aload_n X 0 d_D_fillWidest_49 rfl rfl ?_
            refine d_get X 16 d_D_fillWidest_50 lk_D_47 (by decide) rfl rfl ?_
            refine g_iload_n X 1 d_D_fillWidest_53 rfl rfl ?_
            refine g_iconst X d_D_fillWidest_54 ?_
            refine g_imul X d_D_fillWidest_55 ?_
            refine g_iload X d_D_fillWidest_56 rfl ?_
            refine g_iadd X d_D_fillWidest_58 ?_
            refine d_bald X d_D_fillWidest_59 (by rfl) (by omega) (by decide) ?_
            refine g_aload_n X 0 d_D_fillWidest_60 rfl rfl ?_
            refine d_get X 15 d_D_fillWidest_61 lk_D_44 (by decide) rfl rfl ?_
            refine g_iload_n X 1 d_D_fillWidest_64 rfl rfl ?_
            refine g_iconst X d_D_fillWidest_65 ?_
            refine g_imul X d_D_fillWidest_66 ?_
            refine g_iload X d_D_fillWidest_67 rfl ?_
            refine g_iadd X d_D_fillWidest_69 ?_
            refine d_bald X d_D_fillWidest_70 (by rfl) (by omega) (by decide) ?_
            rw [e12]
            refine g_icmp_ge X (tgt := 89) d_D_fillWidest_71 (by decide) (by omega) (by omega) (fun h71 => ?_) (fun h71 => ?_)
            · refine g_iconst X d_D_fillWidest_89 ?_
              exact J 0 (by omega)
            · refine g_aload_n X 0 d_D_fillWidest_74 rfl rfl ?_
              refine d_get X 1 d_D_fillWidest_75 lk_D_7 (by decide) rfl rfl ?_
              refine g_iload X d_D_fillWidest_78 rfl ?_
              refine d_bald X d_D_fillWidest_80 (by rfl) (by omega) (by decide) ?_
              rw [e1]
              refine g_iload_n X 2 d_D_fillWidest_81 rfl rfl ?_
              refine g_icmp_gt X (tgt := 89) d_D_fillWidest_82 (by decide) (by omega) (by omega) (fun h82 => ?_) (fun h82 => ?_)
              · refine g_iconst X d_D_fillWidest_89 ?_
                exact J 0 (by omega)
              · refine g_iconst X d_D_fillWidest_85 ?_
                refine g_goto X (tgt := 90) d_D_fillWidest_86 (by decide) ?_
                exact J 1 (by omega)
      refine g_iload_n X 3 d_D_fillWidest_31 rfl rfl ?_
      refine g_bipush X d_D_fillWidest_32 (by decide) ?_
      refine g_icmp_ge X (tgt := 166) d_D_fillWidest_34 (by decide) (by omega) (by omega) (fun h34 => ?_) (fun h34 => ?_)
      · omega
      · refine g_iconst X d_D_fillWidest_37 ?_
        refine g_istore X d_D_fillWidest_38 (by decide) ?_
        refine g_iconst X d_D_fillWidest_40 ?_
        refine g_istore X d_D_fillWidest_41 (by decide) ?_
        exact N 4 0 (-1) (by omega) (by omega) (Or.inl ⟨rfl, fun j a1 a2 => by omega⟩)
  have Zl : ∀ (n : Nat) (k : Int) (τ : zS), k + n = 4 → 0 ≤ k → (∀ i, i ≠ 13 → τ i = σ i) → (∀ j, 0 ≤ j → j < k → τ 13 (r * 4 + j) = 0) → G Γ [(0, .ref (q 0)), (1, vI r), (2, vI (σ 0 3)), (3, vI k)] τ 7 [] := by
    intro n
    induction n with
    | zero =>
      intro k τ hk h0 f1 f2
      have z0 : ∀ j, 0 ≤ j → j < 4 → τ 13 (r * 4 + j) = 0 := fun j a1 a2 => f2 j a1 (by omega)
      have d0 : dot (fun k => τ 13 (r * 4 + k)) (σ 1) = 0 := by
        rw [dot_congr (p2 := fun _ => 0) (w2 := σ 1) (fun k a1 a2 => z0 k a1 a2) (fun _ _ _ => rfl)]
        simp [dot]
      refine g_iload_n X 3 d_D_fillWidest_7 rfl rfl ?_
      refine g_iconst X d_D_fillWidest_8 ?_
      refine g_icmp_ge X (tgt := 29) d_D_fillWidest_9 (by decide) (by omega) (by omega) (fun h9 => ?_) (fun h9 => ?_)
      · refine g_iconst X d_D_fillWidest_29 ?_
        refine g_istore_n X 3 d_D_fillWidest_30 rfl (by decide) ?_
        exact O 12 0 (σ 0 3) τ (by omega) (by omega) f1 (fun j a1 a2 => by rw [z0 j a1 a2]; have := s1 j a1 a2; omega) (by omega) (by omega) (fun _ => z0) (fun h => by omega)
      · omega
    | succ n ih =>
      intro k τ hk h0 f1 f2
      refine g_iload_n X 3 d_D_fillWidest_7 rfl rfl ?_
      refine g_iconst X d_D_fillWidest_8 ?_
      refine g_icmp_ge X (tgt := 29) d_D_fillWidest_9 (by decide) (by omega) (by omega) (fun h9 => ?_) (fun h9 => ?_)
      · omega
      · refine g_aload_n X 0 d_D_fillWidest_12 rfl rfl ?_
        refine d_get X 16 d_D_fillWidest_13 lk_D_47 (by decide) rfl rfl ?_
        refine g_iload_n X 1 d_D_fillWidest_16 rfl rfl ?_
        refine g_iconst X d_D_fillWidest_17 ?_
        refine g_imul X d_D_fillWidest_18 ?_
        refine g_iload_n X 3 d_D_fillWidest_19 rfl rfl ?_
        refine g_iadd X d_D_fillWidest_20 ?_
        refine g_iconst X d_D_fillWidest_21 ?_
        refine d_bast X d_D_fillWidest_22 (by rfl) (by rfl) (by omega) (by decide) (by omega) ?_
        refine g_iinc X d_D_fillWidest_23 rfl (by decide) ?_
        refine g_goto X (tgt := 7) d_D_fillWidest_26 (by decide) ?_
        refine ih (k + 1) _ (by omega) (by omega) (fun i hi => ?_) (fun j a1 a2 => ?_)
        · rw [← f1 i hi]; funext z; exact up_nc hi
        · rw [up_if]
          split
          · rfl
          · exact f2 j a1 (by omega)
  refine g_aload_n X 0 d_D_fillWidest_0 rfl rfl ?_
  refine d_get X 3 d_D_fillWidest_1 lk_D_62 (by decide) rfl rfl ?_
  refine g_istore_n X 2 d_D_fillWidest_4 rfl (by decide) ?_
  refine g_iconst X d_D_fillWidest_5 ?_
  refine g_istore_n X 3 d_D_fillWidest_6 rfl (by decide) ?_
  exact Zl 4 0 σ (by omega) (by omega) (fun _ _ => rfl) (fun j a1 a2 => by omega)
/-- byFallingWidths: so many rolls do -/
theorem c_D_byFallingWidths (hR : 1 ≤ σ 0 3 ∧ σ 0 3 ≤ 40) (hw : ∀ k, 0 ≤ k → k < 4 → 1 ≤ σ 1 k ∧ σ 1 k ≤ 20) (hs : RW σ (fun k => σ 12 k)) :
    K_D_byFallingWidths l D a q [.ref (q 0)] σ (fun v τ => (∀ i, i ≠ 12 → i ≠ 13 → τ i = σ i) ∧ (∀ k, 0 ≤ k → k < 4 → τ 12 k = σ 12 k) ∧ ∃ n : Nat, v = some (vI n) ∧ n ≤ 12 ∧ Cov (σ 1) (σ 0 3) n (fun k => σ 12 k)) := by
  refine Con.of (by decide) (dw_ad a q) (Nat.le_of_ble_eq_true rfl) (fun Γ X => ?_)
  have X : Cx Γ "CutDesk" b_D_byFallingWidths (some .int) 3 1 26 (dw a q) _ l D (tysA a) := X
  show G Γ [(0, .ref (q 0))] σ 0 []
  have L : ∀ (n : Nat) (r : Nat) (τ : zS), r + n = 12 → (∀ i, i ≠ 12 → i ≠ 13 → τ i = σ i) → (∀ k, 0 ≤ k → k < 4 → τ 12 k = σ 12 k) → RW σ (fun k => τ 12 ((r : Int) * 4 + k)) → (τ 12 ((r : Int) * 4 + 0) + τ 12 ((r : Int) * 4 + 1) + τ 12 ((r : Int) * 4 + 2) + τ 12 ((r : Int) * 4 + 3) ≤ n) → (∀ m : Nat, Cov (σ 1) (σ 0 3) m (fun k => τ 12 ((r : Int) * 4 + k)) → Cov (σ 1) (σ 0 3) (m + r) (fun k => σ 12 k)) → G Γ [(0, .ref (q 0)), (1, vI (r : Int)), (2, vI (r : Int))] τ 4 [] := by
    intro n
    induction n with
    | zero =>
      intro r τ hn f1 f2 f3 f4 f5
      have z0 := f3.1 0 (by decide) (by decide)
      have z1 := f3.1 1 (by decide) (by decide)
      have z2 := f3.1 2 (by decide) (by decide)
      have z3 := f3.1 3 (by decide) (by decide)
      dsimp only at z0 z1 z2 z3
      refine g_iload_n X 2 d_D_byFallingWidths_4 rfl rfl ?_
      refine g_bipush X d_D_byFallingWidths_5 (by decide) ?_
      refine g_icmp_ge X (tgt := 37) d_D_byFallingWidths_7 (by decide) (by omega) (by omega) (fun h7 => ?_) (fun h7 => ?_)
      · refine g_iload_n X 1 d_D_byFallingWidths_37 rfl rfl ?_
        refine g_iret X d_D_byFallingWidths_38 rfl ?_
        refine ⟨f1, f2, r, rfl, by omega, ?_⟩
        have := f5 0 (fun k a1 a2 => by
          rcases four a1 a2 with rfl | rfl | rfl | rfl
          · show τ 12 ((r : Int) * 4 + 0) ≤ 0; omega
          · show τ 12 ((r : Int) * 4 + 1) ≤ 0; omega
          · show τ 12 ((r : Int) * 4 + 2) ≤ 0; omega
          · show τ 12 ((r : Int) * 4 + 3) ≤ 0; omega)
        rw [Nat.zero_add] at this
        exact this
      · omega
    | succ n ih =>
      intro r τ hn f1 f2 f3 f4 f5
      have e0 : τ 0 = σ 0 := f1 0 (by decide) (by decide)
      have e1 : τ 1 = σ 1 := f1 1 (by decide) (by decide)
      have fr : ∀ k, 0 ≤ k → k < 4 → 0 ≤ τ 12 ((r : Int) * 4 + k) ∧ τ 12 ((r : Int) * 4 + k) ≤ 3 := f3.1
      refine g_iload_n X 2 d_D_byFallingWidths_4 rfl rfl ?_
      refine g_bipush X d_D_byFallingWidths_5 (by decide) ?_
      refine g_icmp_ge X (tgt := 37) d_D_byFallingWidths_7 (by decide) (by omega) (by omega) (fun h7 => ?_) (fun h7 => ?_)
      · omega
      · refine g_aload_n X 0 d_D_byFallingWidths_10 rfl rfl ?_
        refine g_iload_n X 2 d_D_byFallingWidths_11 rfl rfl ?_
        refine d_callV X (c_D_served l D a q τ r (by omega) (fun k a1 a2 => by have := fr k a1 a2; omega)) d_D_byFallingWidths_12 lk_D_115 im_D_served sl_D_served k_D_served ok_D_served rfl (by decide) rfl (Nat.le_of_ble_eq_true rfl) (fun v2 σ2 hp2 => ?_)
        obtain ⟨rfl, hv⟩ := hp2
        rcases hv with ⟨rfl, hz⟩ | ⟨rfl, hex⟩
        · refine g_if_ne X (tgt := 37) d_D_byFallingWidths_15 (by decide) (by omega) (fun h15 => ?_) (fun h15 => ?_)
          · refine g_iload_n X 1 d_D_byFallingWidths_37 rfl rfl ?_
            refine g_iret X d_D_byFallingWidths_38 rfl ?_
            refine ⟨f1, f2, r, rfl, by omega, ?_⟩
            have := f5 0 hz
            rw [Nat.zero_add] at this
            exact this
          · omega
        · refine g_if_ne X (tgt := 37) d_D_byFallingWidths_15 (by decide) (by omega) (fun h15 => ?_) (fun h15 => ?_)
          · omega
          · refine g_aload_n X 0 d_D_byFallingWidths_18 rfl rfl ?_
            refine g_iload_n X 2 d_D_byFallingWidths_19 rfl rfl ?_
            have f3' : RW σ2 (fun k => σ2 12 ((r : Int) * 4 + k)) := ⟨f3.1, by rw [e0, e1]; exact f3.2⟩
            refine d_callV X (c_D_fillWidest l D a q σ2 r (by omega) (by rw [e0]; exact hR) (by rw [e1]; exact hw) f3') d_D_byFallingWidths_20 lk_D_118 im_D_fillWidest sl_D_fillWidest k_D_fillWidest ok_D_fillWidest rfl (by decide) rfl (Nat.le_of_ble_eq_true rfl) (fun v3 σ3 hp3 => ?_)
            obtain ⟨rfl, g1, g2, g3, g4⟩ := hp3
            have e12 : σ3 12 = σ2 12 := g1 12 (by decide)
            rw [e0, e1] at g3
            refine g_aload_n X 0 d_D_byFallingWidths_23 rfl rfl ?_
            refine g_iload_n X 2 d_D_byFallingWidths_24 rfl rfl ?_
            refine d_callV X (c_D_takeOff l D a q σ3 r (by omega) (by rw [e12]; exact fr) (fun k a1 a2 => by have := g2 k a1 a2; have := fr k a1 a2; omega)) d_D_byFallingWidths_25 lk_D_121 im_D_takeOff sl_D_takeOff k_D_takeOff ok_D_takeOff rfl (by decide) rfl (Nat.le_of_ble_eq_true rfl) (fun v4 σ4 hp4 => ?_)
            obtain ⟨rfl, k1, k2, k3⟩ := hp4
            rw [e12] at k2 k3
            have cf : ∀ k, 0 ≤ k → k < 4 → σ4 12 (((r : Int) + 1) * 4 + k) = σ2 12 ((r : Int) * 4 + k) - σ3 13 ((r : Int) * 4 + k) := fun k a1 a2 => by
              rw [k2 k a1 a2]
              have := g2 k a1 a2
              unfold mx0
              split <;> omega
            refine g_iinc X d_D_byFallingWidths_28 rfl (by decide) ?_
            refine g_iinc X d_D_byFallingWidths_31 rfl (by decide) ?_
            refine g_goto X (tgt := 4) d_D_byFallingWidths_34 (by decide) ?_
            have c0 := cf 0 (by decide) (by decide)
            have c1 := cf 1 (by decide) (by decide)
            have c2 := cf 2 (by decide) (by decide)
            have c3 := cf 3 (by decide) (by decide)
            have d0 := g2 0 (by decide) (by decide)
            have d1 := g2 1 (by decide) (by decide)
            have d2 := g2 2 (by decide) (by decide)
            have d3 := g2 3 (by decide) (by decide)
            have ge1 : 1 ≤ σ3 13 ((r : Int) * 4 + 0) + σ3 13 ((r : Int) * 4 + 1) + σ3 13 ((r : Int) * 4 + 2) + σ3 13 ((r : Int) * 4 + 3) := by
              obtain ⟨j, j1, j2, j3⟩ := g4 hex
              rcases four j1 j2 with rfl | rfl | rfl | rfl <;> omega
            refine ih (r + 1) σ4 (by omega) (fun i i1 i2 => by rw [k1 i i1, g1 i i2]; exact f1 i i1 i2) (fun k a1 a2 => by rw [k3 k (by omega)]; exact f2 k a1 a2) ⟨fun k a1 a2 => ?_, fun k a1 a2 a3 => ?_⟩ ?_ (fun m hm => ?_)
            · show 0 ≤ σ4 12 (((r : Int) + 1) * 4 + k) ∧ σ4 12 (((r : Int) + 1) * 4 + k) ≤ 3
              rw [cf k a1 a2]
              have := g2 k a1 a2
              have := fr k a1 a2
              omega
            · show σ4 12 (((r : Int) + 1) * 4 + k) = 0
              rw [cf k a1 a2]
              have h1 : σ2 12 ((r : Int) * 4 + k) = 0 := f3.2 k a1 a2 a3
              have := g2 k a1 a2
              omega
            · show σ4 12 (((r : Int) + 1) * 4 + 0) + σ4 12 (((r : Int) + 1) * 4 + 1) + σ4 12 (((r : Int) + 1) * 4 + 2) + σ4 12 (((r : Int) + 1) * 4 + 3) ≤ n
              omega
            · have h1 : Cov (σ 1) (σ 0 3) m (fun k => σ4 12 (((r : Int) + 1) * 4 + k)) := hm
              have h2 := f5 (m + 1) ⟨fun k => σ3 13 ((r : Int) * 4 + k), fun k a1 a2 => (g2 k a1 a2).1, g3, Cov_mono m _ _ (fun k a1 a2 => Or.inl (by rw [cf k a1 a2]; exact Int.le_refl _)) h1⟩
              rw [show m + (r + 1) = m + 1 + r by omega]
              exact h2
  refine g_iconst X d_D_byFallingWidths_0 ?_
  refine g_istore_n X 1 d_D_byFallingWidths_1 rfl (by decide) ?_
  refine g_iconst X d_D_byFallingWidths_2 ?_
  refine g_istore_n X 2 d_D_byFallingWidths_3 rfl (by decide) ?_
  refine L 12 0 σ (by omega) (fun _ _ _ => rfl) (fun _ _ _ => rfl) ?_ ?_ (fun m hm => ?_)
  · have e : (fun k => σ 12 (((0 : Nat) : Int) * 4 + k)) = fun k => σ 12 k := by funext k; congr 1; omega
    rw [e]; exact hs
  · have z0 := hs.1 0 (by decide) (by decide)
    have z1 := hs.1 1 (by decide) (by decide)
    have z2 := hs.1 2 (by decide) (by decide)
    have z3 := hs.1 3 (by decide) (by decide)
    show σ 12 0 + σ 12 1 + σ 12 2 + σ 12 3 ≤ 12
    dsimp only at z0 z1 z2 z3
    omega
  · have e : (fun k => σ 12 (((0 : Nat) : Int) * 4 + k)) = fun k => σ 12 k := by funext k; congr 1; omega
    rw [e] at hm
    exact hm
end S22
end
section
-- patterns in falling order: pl p k reads the first k digits
def pl (p : Int → Int) (k : Int) : Int := if k ≤ 0 then 0 else if k = 1 then p 0 else if k = 2 then 4 * p 0 + p 1 else if k = 3 then 16 * p 0 + 4 * p 1 + p 2 else 64 * p 0 + 16 * p 1 + 4 * p 2 + p 3
theorem pl_0 (p : Int → Int) : pl p 0 = 0 := rfl
theorem pl_1 (p : Int → Int) : pl p 1 = p 0 := rfl
theorem pl_2 (p : Int → Int) : pl p 2 = 4 * p 0 + p 1 := rfl
theorem pl_3 (p : Int → Int) : pl p 3 = 16 * p 0 + 4 * p 1 + p 2 := rfl
theorem pl_4 (p : Int → Int) : pl p 4 = 64 * p 0 + 16 * p 1 + 4 * p 2 + p 3 := rfl
theorem pl_s (p : Int → Int) {k : Int} (h0 : 0 ≤ k) (h4 : k < 4) : pl p (k + 1) = 4 * pl p k + p k := by
  rcases four h0 h4 with rfl | rfl | rfl | rfl
  · rw [show (0 : Int) + 1 = 1 from rfl, pl_1, pl_0]; omega
  · rw [show (1 : Int) + 1 = 2 from rfl, pl_2, pl_1]
  · rw [show (2 : Int) + 1 = 3 from rfl, pl_3, pl_2]; omega
  · rw [show (3 : Int) + 1 = 4 from rfl, pl_4, pl_3]; omega
theorem pl_congr {p c : Int → Int} {k : Int} (h4 : k ≤ 4) (h : ∀ j, 0 ≤ j → j < k → p j = c j) : pl p k = pl c k := by
  by_cases h0 : k ≤ 0
  · simp [pl, h0]
  rcases (show k = 1 ∨ k = 2 ∨ k = 3 ∨ k = 4 by omega) with rfl | rfl | rfl | rfl
  · rw [pl_1, pl_1, h 0 (by decide) (by decide)]
  · rw [pl_2, pl_2, h 0 (by decide) (by decide), h 1 (by decide) (by decide)]
  · rw [pl_3, pl_3, h 0 (by decide) (by decide), h 1 (by decide) (by decide), h 2 (by decide) (by decide)]
  · rw [pl_4, pl_4, h 0 (by decide) (by decide), h 1 (by decide) (by decide), h 2 (by decide) (by decide), h 3 (by decide) (by decide)]
theorem pl_eq {p c : Int → Int} {k : Int} (h4 : k ≤ 4) (hp : ∀ j, 0 ≤ j → j < k → 0 ≤ p j ∧ p j ≤ 3) (hc : ∀ j, 0 ≤ j → j < k → 0 ≤ c j ∧ c j ≤ 3) (h : pl p k = pl c k) : ∀ j, 0 ≤ j → j < k → p j = c j := by
  intro j j0 jk
  rcases (show k = 1 ∨ k = 2 ∨ k = 3 ∨ k = 4 by omega) with rfl | rfl | rfl | rfl
  · rw [pl_1, pl_1] at h
    rw [show j = 0 by omega]
    exact h
  · rw [pl_2, pl_2] at h
    have a0 := hp 0 (by decide) (by decide)
    have a1 := hp 1 (by decide) (by decide)
    have b0 := hc 0 (by decide) (by decide)
    have b1 := hc 1 (by decide) (by decide)
    rcases (show j = 0 ∨ j = 1 by omega) with rfl | rfl <;> omega
  · rw [pl_3, pl_3] at h
    have a0 := hp 0 (by decide) (by decide)
    have a1 := hp 1 (by decide) (by decide)
    have a2 := hp 2 (by decide) (by decide)
    have b0 := hc 0 (by decide) (by decide)
    have b1 := hc 1 (by decide) (by decide)
    have b2 := hc 2 (by decide) (by decide)
    rcases (show j = 0 ∨ j = 1 ∨ j = 2 by omega) with rfl | rfl | rfl <;> omega
  · rw [pl_4, pl_4] at h
    have a0 := hp 0 (by decide) (by decide)
    have a1 := hp 1 (by decide) (by decide)
    have a2 := hp 2 (by decide) (by decide)
    have a3 := hp 3 (by decide) (by decide)
    have b0 := hc 0 (by decide) (by decide)
    have b1 := hc 1 (by decide) (by decide)
    have b2 := hc 2 (by decide) (by decide)
    have b3 := hc 3 (by decide) (by decide)
    rcases (show j = 0 ∨ j = 1 ∨ j = 2 ∨ j = 3 by omega) with rfl | rfl | rfl | rfl <;> omega
theorem ps_congr {f g : Int → Int} {k : Int} (h4 : k ≤ 4) (h : ∀ j, 0 ≤ j → j < k → f j = g j) : ps f k = ps g k := by
  by_cases h0 : k ≤ 0
  · simp [ps, h0]
  rcases (show k = 1 ∨ k = 2 ∨ k = 3 ∨ k = 4 by omega) with rfl | rfl | rfl | rfl
  · show f 0 = g 0
    rw [h 0 (by decide) (by decide)]
  · show f 0 + f 1 = g 0 + g 1
    rw [h 0 (by decide) (by decide), h 1 (by decide) (by decide)]
  · show f 0 + f 1 + f 2 = g 0 + g 1 + g 2
    rw [h 0 (by decide) (by decide), h 1 (by decide) (by decide), h 2 (by decide) (by decide)]
  · show f 0 + f 1 + f 2 + f 3 = g 0 + g 1 + g 2 + g 3
    rw [h 0 (by decide) (by decide), h 1 (by decide) (by decide), h 2 (by decide) (by decide), h 3 (by decide) (by decide)]
/-- a sum's beginning, with one or two later terms -/
theorem ps_tail {f : Int → Int} (hf : ∀ j, 0 ≤ j → j < 4 → 0 ≤ f j) {k : Int} (h0 : 0 ≤ k) (h4 : k < 4) : 0 ≤ ps f k ∧ ps f k + f k ≤ ps f 4 ∧ ∀ m, k < m → m < 4 → ps f k + f k + f m ≤ ps f 4 := by
  have f0 := hf 0 (by decide) (by decide)
  have f1 := hf 1 (by decide) (by decide)
  have f2 := hf 2 (by decide) (by decide)
  have f3 := hf 3 (by decide) (by decide)
  rw [ps_4]
  rcases four h0 h4 with rfl | rfl | rfl | rfl
  · refine ⟨?_, ?_, fun m m1 m2 => ?_⟩
    · show (0 : Int) ≤ 0; omega
    · show 0 + f 0 ≤ _; omega
    · show 0 + f 0 + f m ≤ _
      rcases (show m = 1 ∨ m = 2 ∨ m = 3 by omega) with rfl | rfl | rfl <;> omega
  · refine ⟨?_, ?_, fun m m1 m2 => ?_⟩
    · show 0 ≤ f 0; omega
    · show f 0 + f 1 ≤ _; omega
    · show f 0 + f 1 + f m ≤ _
      rcases (show m = 2 ∨ m = 3 by omega) with rfl | rfl <;> omega
  · refine ⟨?_, ?_, fun m m1 m2 => ?_⟩
    · show 0 ≤ f 0 + f 1; omega
    · show f 0 + f 1 + f 2 ≤ _; omega
    · show f 0 + f 1 + f 2 + f m ≤ _
      rw [show m = 3 by omega]; omega
  · refine ⟨?_, ?_, fun m m1 m2 => by omega⟩
    · show 0 ≤ f 0 + f 1 + f 2; omega
    · show f 0 + f 1 + f 2 + f 3 ≤ _; omega
/-- the patterns of a row: they fit, take no more than is wanted, and hold one of kind m -/
def PT (w : Int → Int) (R : Int) (s : Int → Int) (m : Int) (p : Int → Int) : Prop := (∀ k, 0 ≤ k → k < 4 → 0 ≤ p k ∧ p k ≤ s k) ∧ 1 ≤ p m ∧ dot p w ≤ R
theorem PT_mul {w : Int → Int} {R : Int} {s p : Int → Int} {m : Int} (hw : ∀ k, 0 ≤ k → k < 4 → 1 ≤ w k ∧ w k ≤ 20) (hm : 0 ≤ m ∧ m < 4) (h : PT w R s m p) : (∀ j, 0 ≤ j → j < 4 → 0 ≤ p j * w j) ∧ w m ≤ p m * w m := by
  refine ⟨fun j a1 a2 => Int.mul_nonneg (h.1 j a1 a2).1 (by have := hw j a1 a2; omega), ?_⟩
  have := Int.mul_le_mul_of_nonneg_right h.2.1 (show 0 ≤ w m by have := hw m hm.1 hm.2; omega)
  omega
section S23
variable (l : Launch) (D : va_G) (a : Nat → ClassId) (q : Nat → Nat) (σ : zS)
set_option maxHeartbeats 1000000 in
theorem c_D_fillFrom (r f m : Int) (hr : 0 ≤ r ∧ r ≤ 13) (hf : 0 ≤ f ∧ f ≤ 4) (hR : 1 ≤ σ 0 3 ∧ σ 0 3 ≤ 40) (hw : ∀ k, 0 ≤ k → k < 4 → 1 ≤ σ 1 k ∧ σ 1 k ≤ 20) (hs : RW σ (fun k => σ 12 (r * 4 + k))) (hm : WM (σ 1) (fun k => σ 12 (r * 4 + k)) m) (hm0 : 0 ≤ m ∧ m < 4 ∧ 0 < σ 12 (r * 4 + m))
    (hc : ∀ k, 0 ≤ k → k < f → 0 ≤ σ 13 (r * 4 + k) ∧ σ 13 (r * 4 + k) ≤ σ 12 (r * 4 + k)) (hu : 0 ≤ ps (fun k => σ 13 (r * 4 + k) * σ 1 k) f ∧ ps (fun k => σ 13 (r * 4 + k) * σ 1 k) f ≤ σ 0 3) (hum : f ≤ m → ps (fun k => σ 13 (r * 4 + k) * σ 1 k) f + σ 1 m ≤ σ 0 3) :
    K_D_fillFrom l D a q [.ref (q 0), vI r, vI f] σ (fun v τ => v = none ∧ (∀ i, i ≠ 13 → τ i = σ i) ∧ (∀ z, z < r * 4 + f → τ 13 z = σ 13 z) ∧ (∀ k, 0 ≤ k → k < 4 → 0 ≤ τ 13 (r * 4 + k) ∧ τ 13 (r * 4 + k) ≤ σ 12 (r * 4 + k)) ∧ dot (fun k => τ 13 (r * 4 + k)) (σ 1) ≤ σ 0 3 ∧ (f ≤ m → 1 ≤ τ 13 (r * 4 + m)) ∧ ∀ p, PT (σ 1) (σ 0 3) (fun k => σ 12 (r * 4 + k)) m p → pl p f ≤ pl (fun k => σ 13 (r * 4 + k)) f → pl p 4 ≤ pl (fun k => τ 13 (r * 4 + k)) 4) := by
  refine Con.of (by decide) (dw_ad a q) (Nat.le_of_ble_eq_true rfl) (fun Γ X => ?_)
  have X : Cx Γ "CutDesk" b_D_fillFrom none 9 1 23 (dw a q) _ l D (tysA a) := X
  show G Γ [(0, .ref (q 0)), (1, vI r), (2, vI f)] σ 0 []
  obtain ⟨s1, s2⟩ := id hs
  have s1 : ∀ k, 0 ≤ k → k < 4 → 0 ≤ σ 12 (r * 4 + k) ∧ σ 12 (r * 4 + k) ≤ 3 := s1
  have wm := hw m hm0.1 hm0.2.1
  -- the kinds from f on
  have L2 : ∀ (n : Nat) (k fr0 : Int) (τ : zS), k + n = 4 → 0 ≤ k → f ≤ k → (∀ i, i ≠ 13 → τ i = σ i) → (∀ z, z < r * 4 + f → τ 13 z = σ 13 z) → (∀ j, 0 ≤ j → j < k → 0 ≤ τ 13 (r * 4 + j) ∧ τ 13 (r * 4 + j) ≤ σ 12 (r * 4 + j)) → fr0 + ps (fun j => τ 13 (r * 4 + j) * σ 1 j) k = σ 0 3 → (0 ≤ fr0 ∧ fr0 ≤ 40) → (k ≤ m → σ 1 m ≤ fr0) → (f ≤ m → m < k → 1 ≤ τ 13 (r * 4 + m)) →
      (∀ p, PT (σ 1) (σ 0 3) (fun k => σ 12 (r * 4 + k)) m p → pl p f ≤ pl (fun k => σ 13 (r * 4 + k)) f → pl p k ≤ pl (fun k => τ 13 (r * 4 + k)) k) → G Γ [(0, .ref (q 0)), (1, vI r), (2, vI f), (3, vI m), (4, vI fr0), (5, vI k)] τ 54 [] := by
    intro n
    induction n with
    | zero =>
      intro k fr0 τ hk k0 kf f1 f2 f3 f4 f5 f6 f7 f8
      have e : k = 4 := by omega
      subst e
      refine g_iload X d_D_fillFrom_54 rfl ?_
      refine g_iconst X d_D_fillFrom_56 ?_
      refine g_icmp_ge X (tgt := 194) d_D_fillFrom_57 (by decide) (by omega) (by omega) (fun h57 => ?_) (fun h57 => ?_)
      · refine g_vret X d_D_fillFrom_194 rfl ?_
        refine ⟨rfl, f1, f2, f3, ?_, fun h => f7 h hm0.2.1, f8⟩
        have e4 : ps (fun j => τ 13 (r * 4 + j) * σ 1 j) 4 = dot (fun k => τ 13 (r * 4 + k)) (σ 1) := rfl
        rw [e4] at f4
        omega
      · omega
    | succ n ih =>
      intro k fr0 τ hk k0 kf f1 f2 f3 f4 f5 f6 f7 f8
      have k4 : k < 4 := by omega
      have e1 : τ 1 = σ 1 := f1 1 (by decide)
      have e12 : τ 12 = σ 12 := f1 12 (by decide)
      have wk := hw k k0 k4
      have sk := s1 k k0 k4
      -- the number for kind k is known
      have J : ∀ (kp mo x : Int), ((k < m ∧ kp = σ 1 m) ∨ (m ≤ k ∧ kp = 0)) → mo = (fr0 - kp) / σ 1 k → (0 ≤ x ∧ x ≤ mo ∧ x ≤ σ 12 (r * 4 + k)) → (x = mo ∨ x = σ 12 (r * 4 + k)) →
          G Γ [(0, .ref (q 0)), (1, vI r), (2, vI f), (3, vI m), (4, vI fr0), (5, vI k), (6, vI kp), (7, vI mo), (8, vI x)] τ 162 [vI x, vI (r * 4 + k), .ref (q 13)] := by
        intro kp mo x hkp hmo hx hx2
        have kp0 : 0 ≤ kp ∧ kp ≤ fr0 := by
          rcases hkp with ⟨b1, b2⟩ | ⟨b1, b2⟩
          · have := f6 (by omega); omega
          · omega
        have hxw : 0 ≤ x * σ 1 k ∧ x * σ 1 k ≤ fr0 - kp := by
          refine ⟨Int.mul_nonneg hx.1 (by omega), ?_⟩
          have h1 : x * σ 1 k ≤ mo * σ 1 k := Int.mul_le_mul_of_nonneg_right hx.2.1 (by omega)
          have h2 : (fr0 - kp) / σ 1 k * σ 1 k ≤ fr0 - kp := Int.ediv_mul_le _ (by omega)
          rw [← hmo] at h2
          omega
        refine g_i2b X d_D_fillFrom_162 (by omega) ?_
        refine d_bast X d_D_fillFrom_163 (by rfl) (by rfl) (by omega) (by decide) (by omega) ?_
        have cu : ∀ j, up τ 13 (r * 4 + k) x 13 (r * 4 + j) = if j = k then x else τ 13 (r * 4 + j) := fun j => by
          rw [up_if]
          by_cases e : j = k
          · rw [if_pos (by omega), if_pos e]
          · rw [if_neg (by omega), if_neg e]
        have cz : ∀ z, z < r * 4 + k → up τ 13 (r * 4 + k) x 13 z = τ 13 z := fun z hz => up_ne (by omega)
        have g1 : ∀ i, i ≠ 13 → up τ 13 (r * 4 + k) x i = σ i := fun i hi => by rw [← f1 i hi]; funext z; exact up_nc hi
        generalize up τ 13 (r * 4 + k) x = ρ at cu cz g1 ⊢
        refine g_iload X d_D_fillFrom_164 rfl ?_
        refine g_aload_n X 0 d_D_fillFrom_166 rfl rfl ?_
        refine d_get X 16 d_D_fillFrom_167 lk_D_47 (by decide) rfl rfl ?_
        refine g_iload_n X 1 d_D_fillFrom_170 rfl rfl ?_
        refine g_iconst X d_D_fillFrom_171 ?_
        refine g_imul X d_D_fillFrom_172 ?_
        refine g_iload X d_D_fillFrom_173 rfl ?_
        refine g_iadd X d_D_fillFrom_175 ?_
        refine d_bald X d_D_fillFrom_176 (by rfl) (by omega) (by decide) ?_
        rw [cu k, if_pos rfl]
        refine g_aload_n X 0 d_D_fillFrom_177 rfl rfl ?_
        refine d_get X 1 d_D_fillFrom_178 lk_D_7 (by decide) rfl rfl ?_
        refine g_iload X d_D_fillFrom_181 rfl ?_
        refine d_bald X d_D_fillFrom_183 (by rfl) (by omega) (by decide) ?_
        rw [g1 1 (by decide)]
        refine g_imul X d_D_fillFrom_184 ?_
        refine g_isub X d_D_fillFrom_185 ?_
        refine g_istore X d_D_fillFrom_186 (by decide) ?_
        refine g_iinc X d_D_fillFrom_188 rfl (by decide) ?_
        refine g_goto X (tgt := 54) d_D_fillFrom_191 (by decide) ?_
        refine g_sub [0, 1, 2, 3, 4, 5] rfl ?_
        have psk : ps (fun j => ρ 13 (r * 4 + j) * σ 1 j) (k + 1) = ps (fun j => τ 13 (r * 4 + j) * σ 1 j) k + x * σ 1 k := by
          rw [ps_s _ k0 k4, ps_congr (g := fun j => τ 13 (r * 4 + j) * σ 1 j) (by omega) (fun j a1 a2 => by rw [cu j, if_neg (by omega)])]
          rw [cu k, if_pos rfl]
        have plk : pl (fun j => ρ 13 (r * 4 + j)) (k + 1) = 4 * pl (fun j => τ 13 (r * 4 + j)) k + x := by
          rw [pl_s _ k0 k4, pl_congr (c := fun j => τ 13 (r * 4 + j)) (by omega) (fun j a1 a2 => by rw [cu j, if_neg (by omega)])]
          rw [cu k, if_pos rfl]
        refine ih (k + 1) (fr0 - x * σ 1 k) ρ (by omega) (by omega) (by omega) g1 (fun z hz => by rw [cz z (by omega)]; exact f2 z hz) (fun j a1 a2 => ?_) (by omega) (by omega) (fun h => ?_) (fun h1 h2 => ?_) (fun p hp hpf => ?_)
        · rw [cu j]
          by_cases e : j = k
          · rw [if_pos e, e]; omega
          · rw [if_neg e]; exact f3 j a1 (by omega)
        · rcases hkp with ⟨b1, b2⟩ | ⟨b1, b2⟩ <;> omega
        · rw [cu m]
          by_cases e : m = k
          · rw [if_pos e]
            have h3 := f6 (by omega)
            have kpz : kp = 0 := by omega
            have mo1 : 1 ≤ mo := by
              rw [hmo, kpz]
              exact Int.le_ediv_of_mul_le (by omega) (by rw [← e]; omega)
            have hsm := hm0.2.2
            rw [e] at hsm
            omega
          · rw [if_neg e]; exact f7 h1 (by omega)
        · rw [plk, pl_s p k0 k4]
          have h8 := f8 p hp hpf
          have hpk := hp.1 k k0 k4
          dsimp only at hpk
          by_cases hlt : pl p k < pl (fun j => τ 13 (r * 4 + j)) k
          · omega
          · have heq := pl_eq (p := p) (c := fun j => τ 13 (r * 4 + j)) (k := k) (by omega) (fun j a1 a2 => by have h1 := hp.1 j a1 (by omega); have h2 := s1 j a1 (by omega); dsimp only at h1; omega) (fun j a1 a2 => by have h1 := f3 j a1 a2; have h2 := s1 j a1 (by omega); (try dsimp only); omega) (by omega)
            obtain ⟨pw, pm⟩ := PT_mul hw ⟨hm0.1, hm0.2.1⟩ hp
            obtain ⟨-, t1, t2⟩ := ps_tail (f := fun j => p j * σ 1 j) pw k0 k4
            have pe : ps (fun j => p j * σ 1 j) k = ps (fun j => τ 13 (r * 4 + j) * σ 1 j) k := ps_congr (by omega) (fun j a1 a2 => by rw [heq j a1 a2])
            have d4 : ps (fun j => p j * σ 1 j) 4 = dot p (σ 1) := rfl
            have hd := hp.2.2
            rw [pe, d4] at t1 t2
            try dsimp only at t1 t2
            have key : p k * σ 1 k ≤ fr0 - kp := by
              rcases hkp with ⟨b1, b2⟩ | ⟨b1, b2⟩
              · have := t2 m b1 hm0.2.1
                omega
              · omega
            have : p k ≤ mo := by
              rw [hmo]
              exact Int.le_ediv_of_mul_le (by omega) key
            omega
      have J139 : ∀ (kp mo x : Int), ((k < m ∧ kp = σ 1 m) ∨ (m ≤ k ∧ kp = 0)) → mo = (fr0 - kp) / σ 1 k → (0 ≤ x ∧ x ≤ mo ∧ x ≤ σ 12 (r * 4 + k)) → (x = mo ∨ x = σ 12 (r * 4 + k)) →
          G Γ [(0, .ref (q 0)), (1, vI r), (2, vI f), (3, vI m), (4, vI fr0), (5, vI k), (6, vI kp), (7, vI mo)] τ 139 [vI x] := by
        intro kp mo x hkp hmo hx hx2
        refine g_istore X d_D_fillFrom_139 (by decide) ?_
        refine g_aload_n X 0 d_D_fillFrom_141 rfl rfl ?_
        refine d_get X 16 d_D_fillFrom_142 lk_D_47 (by decide) rfl rfl ?_
        refine g_iload_n X 1 d_D_fillFrom_145 rfl rfl ?_
        refine g_iconst X d_D_fillFrom_146 ?_
        refine g_imul X d_D_fillFrom_147 ?_
        refine g_iload X d_D_fillFrom_148 rfl ?_
        refine g_iadd X d_D_fillFrom_150 ?_
        refine g_iload X d_D_fillFrom_151 rfl ?_
        refine g_if_le X (tgt := 161) d_D_fillFrom_153 (by decide) (by omega) (fun h153 => ?_) (fun h153 => ?_)
        · refine g_iconst X d_D_fillFrom_161 ?_
          rw [show (0 : Int) = x by omega]
          exact J kp mo x hkp hmo hx hx2
        · refine g_iload X d_D_fillFrom_156 rfl ?_
          refine g_goto X (tgt := 162) d_D_fillFrom_158 (by decide) ?_
          exact J kp mo x hkp hmo hx hx2
      have J76 : ∀ kp : Int, ((k < m ∧ kp = σ 1 m) ∨ (m ≤ k ∧ kp = 0)) → G Γ [(0, .ref (q 0)), (1, vI r), (2, vI f), (3, vI m), (4, vI fr0), (5, vI k)] τ 76 [vI kp] := by
        intro kp hkp
        have kp0 : 0 ≤ kp ∧ kp ≤ fr0 := by
          rcases hkp with ⟨b1, b2⟩ | ⟨b1, b2⟩
          · have := f6 (by omega); omega
          · omega
        refine g_istore X d_D_fillFrom_76 (by decide) ?_
        refine g_iload X d_D_fillFrom_78 rfl ?_
        refine g_iload X d_D_fillFrom_80 rfl ?_
        refine g_isub X d_D_fillFrom_82 ?_
        refine g_aload_n X 0 d_D_fillFrom_83 rfl rfl ?_
        refine d_get X 1 d_D_fillFrom_84 lk_D_7 (by decide) rfl rfl ?_
        refine g_iload X d_D_fillFrom_87 rfl ?_
        refine d_bald X d_D_fillFrom_89 (by rfl) (by omega) (by decide) ?_
        rw [e1]
        refine g_if_le X (tgt := 103) d_D_fillFrom_90 (by decide) (by omega) (fun h90 => ?_) (fun h90 => ?_)
        · omega
        · refine g_aload_n X 0 d_D_fillFrom_93 rfl rfl ?_
          refine d_get X 1 d_D_fillFrom_94 lk_D_7 (by decide) rfl rfl ?_
          refine g_iload X d_D_fillFrom_97 rfl ?_
          refine d_bald X d_D_fillFrom_99 (by rfl) (by omega) (by decide) ?_
          rw [e1]
          refine g_goto X (tgt := 104) d_D_fillFrom_100 (by decide) ?_
          refine g_idiv X d_D_fillFrom_104 (by omega) (by omega) ?_
          have mo0 : 0 ≤ (fr0 - kp) / σ 1 k := Int.ediv_nonneg (by omega) (by omega)
          have mo40 : (fr0 - kp) / σ 1 k ≤ fr0 - kp := Int.ediv_le_self _ (by omega)
          obtain ⟨mo, hmo⟩ : ∃ mo, mo = (fr0 - kp) / σ 1 k := ⟨_, rfl⟩
          rw [← hmo] at mo0 mo40 ⊢
          refine g_istore X d_D_fillFrom_105 (by decide) ?_
          refine g_iload X d_D_fillFrom_107 rfl ?_
          refine g_aload_n X 0 d_D_fillFrom_109 rfl rfl ?_
          refine d_get X 15 d_D_fillFrom_110 lk_D_44 (by decide) rfl rfl ?_
          refine g_iload_n X 1 d_D_fillFrom_113 rfl rfl ?_
          refine g_iconst X d_D_fillFrom_114 ?_
          refine g_imul X d_D_fillFrom_115 ?_
          refine g_iload X d_D_fillFrom_116 rfl ?_
          refine g_iadd X d_D_fillFrom_118 ?_
          refine d_bald X d_D_fillFrom_119 (by rfl) (by omega) (by decide) ?_
          rw [e12]
          refine g_icmp_ge X (tgt := 128) d_D_fillFrom_120 (by decide) (by omega) (by omega) (fun h120 => ?_) (fun h120 => ?_)
          · refine g_aload_n X 0 d_D_fillFrom_128 rfl rfl ?_
            refine d_get X 15 d_D_fillFrom_129 lk_D_44 (by decide) rfl rfl ?_
            refine g_iload_n X 1 d_D_fillFrom_132 rfl rfl ?_
            refine g_iconst X d_D_fillFrom_133 ?_
            refine g_imul X d_D_fillFrom_134 ?_
            refine g_iload X d_D_fillFrom_135 rfl ?_
            refine g_iadd X d_D_fillFrom_137 ?_
            refine d_bald X d_D_fillFrom_138 (by rfl) (by omega) (by decide) ?_
            rw [e12]
            exact J139 kp mo _ hkp hmo (by omega) (Or.inr rfl)
          · refine g_iload X d_D_fillFrom_123 rfl ?_
            refine g_goto X (tgt := 139) d_D_fillFrom_125 (by decide) ?_
            exact J139 kp mo _ hkp hmo (by omega) (Or.inl rfl)
      refine g_iload X d_D_fillFrom_54 rfl ?_
      refine g_iconst X d_D_fillFrom_56 ?_
      refine g_icmp_ge X (tgt := 194) d_D_fillFrom_57 (by decide) (by omega) (by omega) (fun h57 => ?_) (fun h57 => ?_)
      · omega
      · refine g_iload_n X 3 d_D_fillFrom_60 rfl rfl ?_
        refine g_iload X d_D_fillFrom_61 rfl ?_
        refine g_icmp_le X (tgt := 75) d_D_fillFrom_63 (by decide) (by omega) (by omega) (fun h63 => ?_) (fun h63 => ?_)
        · refine g_iconst X d_D_fillFrom_75 ?_
          exact J76 0 (by omega)
        · refine g_aload_n X 0 d_D_fillFrom_66 rfl rfl ?_
          refine d_get X 1 d_D_fillFrom_67 lk_D_7 (by decide) rfl rfl ?_
          refine g_iload_n X 3 d_D_fillFrom_70 rfl rfl ?_
          refine d_bald X d_D_fillFrom_71 (by rfl) (by omega) (by decide) ?_
          rw [e1]
          refine g_goto X (tgt := 76) d_D_fillFrom_72 (by decide) ?_
          exact J76 _ (by omega)
  -- the kinds ahead of f
  have L1 : ∀ (n : Nat) (k : Int), k + n = f → 0 ≤ k → G Γ [(0, .ref (q 0)), (1, vI r), (2, vI f), (3, vI m), (4, vI (σ 0 3 - ps (fun j => σ 13 (r * 4 + j) * σ 1 j) k)), (5, vI k)] σ 15 [] := by
    intro n
    induction n with
    | zero =>
      intro k hk k0
      have e : k = f := by omega
      subst e
      refine g_iload X d_D_fillFrom_15 rfl ?_
      refine g_iload_n X 2 d_D_fillFrom_17 rfl rfl ?_
      refine g_icmp_ge X (tgt := 51) d_D_fillFrom_18 (by decide) (by omega) (by omega) (fun h18 => ?_) (fun h18 => ?_)
      · refine g_iload_n X 2 d_D_fillFrom_51 rfl rfl ?_
        refine g_istore X d_D_fillFrom_52 (by decide) ?_
        exact L2 (4 - k).toNat k _ σ (by omega) k0 (Int.le_refl _) (fun _ _ => rfl) (fun _ _ => rfl) hc (by omega) (by omega) (fun h => by have := hum h; omega) (fun h1 h2 => by omega) (fun p _ h => h)
      · omega
    | succ n ih =>
      intro k hk k0
      refine g_iload X d_D_fillFrom_15 rfl ?_
      refine g_iload_n X 2 d_D_fillFrom_17 rfl rfl ?_
      refine g_icmp_ge X (tgt := 51) d_D_fillFrom_18 (by decide) (by omega) (by omega) (fun h18 => ?_) (fun h18 => ?_)
      · omega
      · refine g_iload X d_D_fillFrom_21 rfl ?_
        refine g_aload_n X 0 d_D_fillFrom_23 rfl rfl ?_
        refine d_get X 16 d_D_fillFrom_24 lk_D_47 (by decide) rfl rfl ?_
        refine g_iload_n X 1 d_D_fillFrom_27 rfl rfl ?_
        refine g_iconst X d_D_fillFrom_28 ?_
        refine g_imul X d_D_fillFrom_29 ?_
        refine g_iload X d_D_fillFrom_30 rfl ?_
        refine g_iadd X d_D_fillFrom_32 ?_
        refine d_bald X d_D_fillFrom_33 (by rfl) (by omega) (by decide) ?_
        refine g_aload_n X 0 d_D_fillFrom_34 rfl rfl ?_
        refine d_get X 1 d_D_fillFrom_35 lk_D_7 (by decide) rfl rfl ?_
        refine g_iload X d_D_fillFrom_38 rfl ?_
        refine d_bald X d_D_fillFrom_40 (by rfl) (by omega) (by decide) ?_
        refine g_imul X d_D_fillFrom_41 ?_
        refine g_isub X d_D_fillFrom_42 ?_
        refine g_istore X d_D_fillFrom_43 (by decide) ?_
        refine g_iinc X d_D_fillFrom_45 rfl (by decide) ?_
        refine g_goto X (tgt := 15) d_D_fillFrom_48 (by decide) ?_
        have := ih (k + 1) (by omega) (by omega)
        rw [ps_s _ k0 (by omega), ← Int.sub_sub] at this
        exact this
  refine g_aload_n X 0 d_D_fillFrom_0 rfl rfl ?_
  refine g_iload_n X 1 d_D_fillFrom_1 rfl rfl ?_
  refine d_callV X (c_D_widest l D a q σ r hr hw s1) d_D_fillFrom_2 lk_D_131 im_D_widest sl_D_widest k_D_widest ok_D_widest rfl (by decide) rfl (Nat.le_of_ble_eq_true rfl) (fun v2 σ2 hp2 => ?_)
  obtain ⟨rfl, m2, rfl, hm2⟩ := hp2
  have em := WM_uniq hm2 hm
  subst em
  refine g_istore_n X 3 d_D_fillFrom_5 rfl (by decide) ?_
  refine g_aload_n X 0 d_D_fillFrom_6 rfl rfl ?_
  refine d_get X 3 d_D_fillFrom_7 lk_D_62 (by decide) rfl rfl ?_
  refine g_istore X d_D_fillFrom_10 (by decide) ?_
  refine g_iconst X d_D_fillFrom_12 ?_
  refine g_istore X d_D_fillFrom_13 (by decide) ?_
  have := L1 f.toNat 0 (by omega) (by omega)
  rw [ps_0, Int.sub_zero] at this
  exact this
end S23
end
section
section S24
variable (l : Launch) (D : va_G) (a : Nat → ClassId) (q : Nat → Nat) (σ : zS)
theorem c_D_firstPattern (r m : Int) (hr : 0 ≤ r ∧ r ≤ 13) (hR : 1 ≤ σ 0 3 ∧ σ 0 3 ≤ 40) (hw : ∀ k, 0 ≤ k → k < 4 → 1 ≤ σ 1 k ∧ σ 1 k ≤ 20) (hs : RW σ (fun k => σ 12 (r * 4 + k))) (hm : WM (σ 1) (fun k => σ 12 (r * 4 + k)) m) (hm0 : 0 ≤ m ∧ m < 4 ∧ 0 < σ 12 (r * 4 + m)) :
    K_D_firstPattern l D a q [.ref (q 0), vI r] σ (fun v τ => v = some (vI 1) ∧ (∀ i, i ≠ 13 → τ i = σ i) ∧ (∀ z, z < r * 4 → τ 13 z = σ 13 z) ∧ PT (σ 1) (σ 0 3) (fun k => σ 12 (r * 4 + k)) m (fun k => τ 13 (r * 4 + k)) ∧ ∀ p, PT (σ 1) (σ 0 3) (fun k => σ 12 (r * 4 + k)) m p → pl p 4 ≤ pl (fun k => τ 13 (r * 4 + k)) 4) := by
  refine Con.of (by decide) (dw_ad a q) (Nat.le_of_ble_eq_true rfl) (fun Γ X => ?_)
  have X : Cx Γ "CutDesk" b_D_firstPattern (some .boolean) 4 2 51 (dw a q) _ l D (tysA a) := X
  show G Γ [(0, .ref (q 0)), (1, vI r)] σ 0 []
  have s1 : ∀ k, 0 ≤ k → k < 4 → 0 ≤ σ 12 (r * 4 + k) ∧ σ 12 (r * 4 + k) ≤ 3 := hs.1
  have wmR : σ 1 m ≤ σ 0 3 := by
    by_cases c : σ 0 3 < σ 1 m
    · have h : σ 12 (r * 4 + m) = 0 := hs.2 m hm0.1 hm0.2.1 c
      omega
    · omega
  have L : ∀ (n : Nat) (k : Int) (τ : zS), k + n = 4 → 0 ≤ k → (∀ i, i ≠ 13 → τ i = σ i) → (∀ z, z < r * 4 → τ 13 z = σ 13 z) → G Γ [(0, .ref (q 0)), (1, vI r), (2, vI m), (3, vI k)] τ 14 [] := by
    intro n
    induction n with
    | zero =>
      intro k τ hk h0 f1 f2
      have e0 : τ 0 = σ 0 := f1 0 (by decide)
      have e1 : τ 1 = σ 1 := f1 1 (by decide)
      have e12 : τ 12 = σ 12 := f1 12 (by decide)
      refine g_iload_n X 3 d_D_firstPattern_14 rfl rfl ?_
      refine g_iconst X d_D_firstPattern_15 ?_
      refine g_icmp_ge X (tgt := 36) d_D_firstPattern_16 (by decide) (by omega) (by omega) (fun h16 => ?_) (fun h16 => ?_)
      · refine g_aload_n X 0 d_D_firstPattern_36 rfl rfl ?_
        refine g_iload_n X 1 d_D_firstPattern_37 rfl rfl ?_
        refine g_iconst X d_D_firstPattern_38 ?_
        refine d_callV X (c_D_fillFrom l D a q τ r 0 m hr (by omega) (by rw [e0]; exact hR) (by rw [e1]; exact hw) (by unfold RW; rw [e0, e1, e12]; exact hs) (by rw [e1, e12]; exact hm) (by rw [e12]; exact hm0) (fun k a1 a2 => by omega) (by rw [ps_0, e0]; omega) (fun _ => by rw [ps_0, e0, e1]; omega)) d_D_firstPattern_39 lk_D_134 im_D_fillFrom sl_D_fillFrom k_D_fillFrom ok_D_fillFrom rfl (by decide) rfl (Nat.le_of_ble_eq_true rfl) (fun v2 σ2 hp2 => ?_)
        obtain ⟨rfl, g1, g2, g3, g4, g5, g6⟩ := hp2
        rw [e12] at g3
        rw [e0, e1] at g4
        rw [e0, e1, e12] at g6
        refine g_iconst X d_D_firstPattern_42 ?_
        refine g_zret X d_D_firstPattern_43 rfl (by decide) ?_
        exact ⟨rfl, fun i hi => by rw [g1 i hi]; exact f1 i hi, fun z hz => by rw [g2 z (by omega)]; exact f2 z hz, ⟨g3, g5 hm0.1, g4⟩, fun p hp => g6 p hp (Int.le_refl _)⟩
      · omega
    | succ n ih =>
      intro k τ hk h0 f1 f2
      refine g_iload_n X 3 d_D_firstPattern_14 rfl rfl ?_
      refine g_iconst X d_D_firstPattern_15 ?_
      refine g_icmp_ge X (tgt := 36) d_D_firstPattern_16 (by decide) (by omega) (by omega) (fun h16 => ?_) (fun h16 => ?_)
      · omega
      · refine g_aload_n X 0 d_D_firstPattern_19 rfl rfl ?_
        refine d_get X 16 d_D_firstPattern_20 lk_D_47 (by decide) rfl rfl ?_
        refine g_iload_n X 1 d_D_firstPattern_23 rfl rfl ?_
        refine g_iconst X d_D_firstPattern_24 ?_
        refine g_imul X d_D_firstPattern_25 ?_
        refine g_iload_n X 3 d_D_firstPattern_26 rfl rfl ?_
        refine g_iadd X d_D_firstPattern_27 ?_
        refine g_iconst X d_D_firstPattern_28 ?_
        refine d_bast X d_D_firstPattern_29 (by rfl) (by rfl) (by omega) (by decide) (by omega) ?_
        refine g_iinc X d_D_firstPattern_30 rfl (by decide) ?_
        refine g_goto X (tgt := 14) d_D_firstPattern_33 (by decide) ?_
        refine ih (k + 1) _ (by omega) (by omega) (fun i hi => ?_) (fun z hz => ?_)
        · rw [← f1 i hi]; funext z; exact up_nc hi
        · rw [up_ne (by omega)]; exact f2 z hz
  refine g_aload_n X 0 d_D_firstPattern_0 rfl rfl ?_
  refine g_iload_n X 1 d_D_firstPattern_1 rfl rfl ?_
  refine d_callV X (c_D_widest l D a q σ r hr hw s1) d_D_firstPattern_2 lk_D_131 im_D_widest sl_D_widest k_D_widest ok_D_widest rfl (by decide) rfl (Nat.le_of_ble_eq_true rfl) (fun v2 σ2 hp2 => ?_)
  obtain ⟨rfl, m2, rfl, hm2⟩ := hp2
  have em := WM_uniq hm2 hm
  subst em
  refine g_istore_n X 2 d_D_firstPattern_5 rfl (by decide) ?_
  refine g_iload_n X 2 d_D_firstPattern_6 rfl rfl ?_
  refine g_if_ge X (tgt := 12) d_D_firstPattern_7 (by decide) (by omega) (fun h7 => ?_) (fun h7 => ?_)
  · refine g_iconst X d_D_firstPattern_12 ?_
    refine g_istore_n X 3 d_D_firstPattern_13 rfl (by decide) ?_
    exact L 4 0 σ2 (by omega) (by omega) (fun _ _ => rfl) (fun _ _ => rfl)
  · omega
/-- nextPattern(r): the next pattern below E in falling order, E the last one, or above all -/
theorem c_D_nextPattern (r m E : Int) (hr : 0 ≤ r ∧ r ≤ 13) (hR : 1 ≤ σ 0 3 ∧ σ 0 3 ≤ 40) (hw : ∀ k, 0 ≤ k → k < 4 → 1 ≤ σ 1 k ∧ σ 1 k ≤ 20) (hs : RW σ (fun k => σ 12 (r * 4 + k))) (hm : WM (σ 1) (fun k => σ 12 (r * 4 + k)) m) (hm0 : 0 ≤ m ∧ m < 4 ∧ 0 < σ 12 (r * 4 + m))
    (hE : (σ 14 r = 0 ∧ E = 256) ∨ (σ 14 r = 1 ∧ PT (σ 1) (σ 0 3) (fun k => σ 12 (r * 4 + k)) m (fun k => σ 13 (r * 4 + k)) ∧ E = pl (fun k => σ 13 (r * 4 + k)) 4)) :
    K_D_nextPattern l D a q [.ref (q 0), vI r] σ (fun v τ => (∀ i, i ≠ 13 → i ≠ 14 → τ i = σ i) ∧ (∀ z, z < r * 4 → τ 13 z = σ 13 z) ∧ (∀ z, z ≠ r → τ 14 z = σ 14 z) ∧ τ 14 r = 1 ∧
      ((v = some (vI 1) ∧ PT (σ 1) (σ 0 3) (fun k => σ 12 (r * 4 + k)) m (fun k => τ 13 (r * 4 + k)) ∧ pl (fun k => τ 13 (r * 4 + k)) 4 < E ∧ ∀ p, PT (σ 1) (σ 0 3) (fun k => σ 12 (r * 4 + k)) m p → pl p 4 < E → pl p 4 ≤ pl (fun k => τ 13 (r * 4 + k)) 4) ∨
       (v = some (vI 0) ∧ ∀ p, PT (σ 1) (σ 0 3) (fun k => σ 12 (r * 4 + k)) m p → ¬ pl p 4 < E))) := by
  refine Con.of (by decide) (dw_ad a q) (Nat.le_of_ble_eq_true rfl) (fun Γ X => ?_)
  have X : Cx Γ "CutDesk" b_D_nextPattern (some .boolean) 5 3 74 (dw a q) _ l D (tysA a) := X
  show G Γ [(0, .ref (q 0)), (1, vI r)] σ 0 []
  have s1 : ∀ k, 0 ≤ k → k < 4 → 0 ≤ σ 12 (r * 4 + k) ∧ σ 12 (r * 4 + k) ≤ 3 := hs.1
  rcases hE with ⟨h14, rfl⟩ | ⟨h14, hC, hE⟩
  · refine g_aload_n X 0 d_D_nextPattern_0 rfl rfl ?_
    refine d_get X 17 d_D_nextPattern_1 lk_D_50 (by decide) rfl rfl ?_
    refine g_iload_n X 1 d_D_nextPattern_4 rfl rfl ?_
    refine d_zald X d_D_nextPattern_5 (by rfl) (by omega) (by decide) ?_
    rw [h14]
    refine g_if_ne X (tgt := 22) d_D_nextPattern_6 (by decide) (by omega) (fun h6 => ?_) (fun h6 => ?_)
    · omega
    · refine g_aload_n X 0 d_D_nextPattern_9 rfl rfl ?_
      refine d_get X 17 d_D_nextPattern_10 lk_D_50 (by decide) rfl rfl ?_
      refine g_iload_n X 1 d_D_nextPattern_13 rfl rfl ?_
      refine g_iconst X d_D_nextPattern_14 ?_
      refine d_zast X d_D_nextPattern_15 (by rfl) (by rfl) (by omega) (by decide) (by decide) ?_
      refine g_aload_n X 0 d_D_nextPattern_16 rfl rfl ?_
      refine g_iload_n X 1 d_D_nextPattern_17 rfl rfl ?_
      refine d_callV X (c_D_firstPattern l D a q (up σ 14 r 1) r m hr hR hw hs hm hm0) d_D_nextPattern_18 lk_D_128 im_D_firstPattern sl_D_firstPattern k_D_firstPattern ok_D_firstPattern rfl (by decide) rfl (Nat.le_of_ble_eq_true rfl) (fun v2 σ2 hp2 => ?_)
      obtain ⟨rfl, g1, g2, g3, g4⟩ := hp2
      refine g_zret X d_D_nextPattern_21 rfl (by decide) ?_
      refine ⟨fun i i1 i2 => ?_, g2, fun z hz => ?_, ?_, Or.inl ⟨rfl, g3, ?_, fun p hp _ => g4 p hp⟩⟩
      · rw [g1 i i1]; funext z; exact up_nc i2
      · rw [g1 14 (by decide)]; exact up_ne hz
      · rw [g1 14 (by decide)]; exact up_eq _ _ _ _
      · have d : ∀ k, 0 ≤ k → k < 4 → 0 ≤ σ2 13 (r * 4 + k) ∧ σ2 13 (r * 4 + k) ≤ 3 := fun k a1 a2 => by
          have h1 : 0 ≤ σ2 13 (r * 4 + k) ∧ σ2 13 (r * 4 + k) ≤ σ 12 (r * 4 + k) := g3.1 k a1 a2
          have := s1 k a1 a2
          omega
        have d0 := d 0 (by decide) (by decide)
        have d1 := d 1 (by decide) (by decide)
        have d2 := d 2 (by decide) (by decide)
        have d3 := d 3 (by decide) (by decide)
        rw [pl_4]
        omega
  · have cr : ∀ k, 0 ≤ k → k < 4 → 0 ≤ σ 13 (r * 4 + k) ∧ σ 13 (r * 4 + k) ≤ σ 12 (r * 4 + k) := hC.1
    have cm : 1 ≤ σ 13 (r * 4 + m) := hC.2.1
    have c0 := cr 0 (by decide) (by decide)
    have c1 := cr 1 (by decide) (by decide)
    have c2 := cr 2 (by decide) (by decide)
    have c3 := cr 3 (by decide) (by decide)
    have u0 := s1 0 (by decide) (by decide)
    have u1 := s1 1 (by decide) (by decide)
    have u2 := s1 2 (by decide) (by decide)
    have u3 := s1 3 (by decide) (by decide)
    have hEv : E = 64 * σ 13 (r * 4 + 0) + 16 * σ 13 (r * 4 + 1) + 4 * σ 13 (r * 4 + 2) + σ 13 (r * 4 + 3) := hE
    -- no pattern has fewer than the least of a kind
    have pmin : ∀ p, PT (σ 1) (σ 0 3) (fun k => σ 12 (r * 4 + k)) m p → ∀ j, 0 ≤ j → j < 4 → 0 ≤ p j ∧ (j = m → 1 ≤ p j) := fun p hp j a1 a2 => ⟨(hp.1 j a1 a2).1, fun e => by rw [e]; exact hp.2.1⟩
    have L : ∀ (n : Nat) (k : Int), k = (n : Int) - 1 → k < 4 → (∀ j, k < j → j < 4 → σ 13 (r * 4 + j) ≤ 0 ∨ (j = m ∧ σ 13 (r * 4 + j) ≤ 1)) → G Γ [(0, .ref (q 0)), (1, vI r), (2, vI m), (3, vI k)] σ 30 [] := by
      intro n
      induction n with
      | zero =>
        intro k hk k4 hj
        refine g_iload_n X 3 d_D_nextPattern_30 rfl rfl ?_
        refine g_if_lt X (tgt := 92) d_D_nextPattern_31 (by decide) (by omega) (fun h31 => ?_) (fun h31 => ?_)
        · refine g_iconst X d_D_nextPattern_92 ?_
          refine g_zret X d_D_nextPattern_93 rfl (by decide) ?_
          refine ⟨fun _ _ _ => rfl, fun _ _ => rfl, fun _ _ => rfl, h14, Or.inr ⟨rfl, fun p hp hlt => ?_⟩⟩
          have q0 := pmin p hp 0 (by decide) (by decide)
          have q1 := pmin p hp 1 (by decide) (by decide)
          have q2 := pmin p hp 2 (by decide) (by decide)
          have q3 := pmin p hp 3 (by decide) (by decide)
          have j0 := hj 0 (by omega) (by decide)
          have j1 := hj 1 (by omega) (by decide)
          have j2 := hj 2 (by omega) (by decide)
          have j3 := hj 3 (by omega) (by decide)
          rw [pl_4] at hlt
          omega
        · omega
      | succ n ih =>
        intro k hk k4 hj
        have k0 : 0 ≤ k := by omega
        have ck := cr k k0 k4
        have sk := s1 k k0 k4
        have wk := hw k k0 k4
        have J : ∀ le : Int, ((k = m ∧ le = 1) ∨ (k ≠ m ∧ le = 0)) → G Γ [(0, .ref (q 0)), (1, vI r), (2, vI m), (3, vI k)] σ 44 [vI le] := by
          intro le hle
          refine g_istore X d_D_nextPattern_44 (by decide) ?_
          refine g_aload_n X 0 d_D_nextPattern_46 rfl rfl ?_
          refine d_get X 16 d_D_nextPattern_47 lk_D_47 (by decide) rfl rfl ?_
          refine g_iload_n X 1 d_D_nextPattern_50 rfl rfl ?_
          refine g_iconst X d_D_nextPattern_51 ?_
          refine g_imul X d_D_nextPattern_52 ?_
          refine g_iload_n X 3 d_D_nextPattern_53 rfl rfl ?_
          refine g_iadd X d_D_nextPattern_54 ?_
          refine d_bald X d_D_nextPattern_55 (by rfl) (by omega) (by decide) ?_
          refine g_iload X d_D_nextPattern_56 rfl ?_
          refine g_icmp_le X (tgt := 86) d_D_nextPattern_58 (by decide) (by omega) (by omega) (fun h58 => ?_) (fun h58 => ?_)
          · refine g_iinc X d_D_nextPattern_86 rfl (by decide) ?_
            refine g_goto X (tgt := 30) d_D_nextPattern_89 (by decide) ?_
            refine g_sub [0, 1, 2, 3] rfl ?_
            refine ih (k + -1) (by omega) (by omega) (fun j a1 a2 => ?_)
            by_cases e : j = k
            · subst e
              rcases hle with ⟨b1, b2⟩ | ⟨b1, b2⟩
              · exact Or.inr ⟨b1, by omega⟩
              · exact Or.inl (by omega)
            · exact hj j (by omega) a2
          · refine g_aload_n X 0 d_D_nextPattern_61 rfl rfl ?_
            refine d_get X 16 d_D_nextPattern_62 lk_D_47 (by decide) rfl rfl ?_
            refine g_iload_n X 1 d_D_nextPattern_65 rfl rfl ?_
            refine g_iconst X d_D_nextPattern_66 ?_
            refine g_imul X d_D_nextPattern_67 ?_
            refine g_iload_n X 3 d_D_nextPattern_68 rfl rfl ?_
            refine g_iadd X d_D_nextPattern_69 ?_
            refine g_dup2 X d_D_nextPattern_70 rfl rfl ?_
            refine d_bald X d_D_nextPattern_71 (by rfl) (by omega) (by decide) ?_
            refine g_iconst X d_D_nextPattern_72 ?_
            refine g_isub X d_D_nextPattern_73 ?_
            refine g_i2b X d_D_nextPattern_74 (by omega) ?_
            refine d_bast X d_D_nextPattern_75 (by rfl) (by rfl) (by omega) (by decide) (by omega) ?_
            have cu : ∀ j, up σ 13 (r * 4 + k) (σ 13 (r * 4 + k) - 1) 13 (r * 4 + j) = if j = k then σ 13 (r * 4 + k) - 1 else σ 13 (r * 4 + j) := fun j => by
              rw [up_if]
              by_cases e : j = k
              · rw [if_pos (by omega), if_pos e]
              · rw [if_neg (by omega), if_neg e]
            have cz : ∀ z, z < r * 4 → up σ 13 (r * 4 + k) (σ 13 (r * 4 + k) - 1) 13 z = σ 13 z := fun z hz => up_ne (by omega)
            have g1 : ∀ i, i ≠ 13 → up σ 13 (r * 4 + k) (σ 13 (r * 4 + k) - 1) i = σ i := fun i hi => by funext z; exact up_nc hi
            generalize up σ 13 (r * 4 + k) (σ 13 (r * 4 + k) - 1) = ρ at cu cz g1 ⊢
            have e0 := g1 0 (by decide)
            have e1 := g1 1 (by decide)
            have e12 := g1 12 (by decide)
            -- what the beginning uses
            obtain ⟨pw, pm⟩ := PT_mul hw ⟨hm0.1, hm0.2.1⟩ hC
            obtain ⟨t0, t1, t2⟩ := ps_tail (f := fun j => σ 13 (r * 4 + j) * σ 1 j) pw k0 k4
            have d4 : ps (fun j => σ 13 (r * 4 + j) * σ 1 j) 4 = dot (fun k => σ 13 (r * 4 + k)) (σ 1) := rfl
            have hd := hC.2.2
            rw [d4] at t1 t2
            have psk : ps (fun j => ρ 13 (r * 4 + j) * σ 1 j) (k + 1) = ps (fun j => σ 13 (r * 4 + j) * σ 1 j) k + (σ 13 (r * 4 + k) - 1) * σ 1 k := by
              rw [ps_s _ k0 k4, ps_congr (g := fun j => σ 13 (r * 4 + j) * σ 1 j) (by omega) (fun j a1 a2 => by rw [cu j, if_neg (by omega)])]
              rw [cu k, if_pos rfl]
            have plk : pl (fun j => ρ 13 (r * 4 + j)) (k + 1) = pl (fun j => σ 13 (r * 4 + j)) (k + 1) - 1 := by
              rw [pl_s _ k0 k4, pl_s _ k0 k4, pl_congr (c := fun j => σ 13 (r * 4 + j)) (by omega) (fun j a1 a2 => by rw [cu j, if_neg (by omega)])]
              rw [cu k, if_pos rfl]
              omega
            have xm : (σ 13 (r * 4 + k) - 1) * σ 1 k = σ 13 (r * 4 + k) * σ 1 k - σ 1 k := by rw [Int.sub_mul]; omega
            have x0 : 0 ≤ (σ 13 (r * 4 + k) - 1) * σ 1 k := Int.mul_nonneg (by omega) (by omega)
            have h58' : 1 ≤ σ 13 (r * 4 + k) := by omega
            try dsimp only at t1 pm
            refine g_aload_n X 0 d_D_nextPattern_76 rfl rfl ?_
            refine g_iload_n X 1 d_D_nextPattern_77 rfl rfl ?_
            refine g_iload_n X 3 d_D_nextPattern_78 rfl rfl ?_
            refine g_iconst X d_D_nextPattern_79 ?_
            refine g_iadd X d_D_nextPattern_80 ?_
            refine d_callV X (c_D_fillFrom l D a q ρ r (k + 1) m hr (by omega) (by rw [e0]; exact hR) (by rw [e1]; exact hw) (by unfold RW; rw [e0, e1, e12]; exact hs) (by rw [e1, e12]; exact hm) (by rw [e12]; exact hm0) (fun j a1 a2 => by rw [cu j, e12]; by_cases e : j = k; (rw [if_pos e, e]; omega); (rw [if_neg e]; exact cr j a1 (by omega))) (by rw [e0, e1, psk]; omega) (fun h => by rw [e0, e1, psk]; have := t2 m (by omega) hm0.2.1; (try dsimp only at this); omega)) d_D_nextPattern_81 lk_D_134 im_D_fillFrom sl_D_fillFrom k_D_fillFrom ok_D_fillFrom rfl (by decide) rfl (Nat.le_of_ble_eq_true rfl) (fun v2 σ2 hp2 => ?_)
            obtain ⟨rfl, f1, f2, f3, f4, f5, f6⟩ := hp2
            rw [e12] at f3
            rw [e0, e1] at f4
            rw [e0, e1, e12, plk] at f6
            have cp : ∀ j, 0 ≤ j → j < k + 1 → σ2 13 (r * 4 + j) = if j = k then σ 13 (r * 4 + k) - 1 else σ 13 (r * 4 + j) := fun j a1 a2 => by
              rw [f2 _ (by omega)]
              exact cu j
            have plc : pl (fun j => σ2 13 (r * 4 + j)) (k + 1) = pl (fun j => σ 13 (r * 4 + j)) (k + 1) - 1 := by
              rw [← plk]
              exact pl_congr (by omega) (fun j a1 a2 => by (try dsimp only); rw [cp j a1 a2, cu j])
            have v0 := f3 0 (by decide) (by decide)
            have v1 := f3 1 (by decide) (by decide)
            have v2 := f3 2 (by decide) (by decide)
            have v3 := f3 3 (by decide) (by decide)
            refine g_iconst X d_D_nextPattern_84 ?_
            refine g_zret X d_D_nextPattern_85 rfl (by decide) ?_
            refine ⟨fun i i1 i2 => by rw [f1 i i1]; exact g1 i i1, fun z hz => by rw [f2 z (by omega)]; exact cz z hz, fun z _ => by rw [f1 14 (by decide), g1 14 (by decide)], by rw [f1 14 (by decide), g1 14 (by decide)]; exact h14, Or.inl ⟨rfl, ⟨f3, ?_, f4⟩, ?_, fun p hp hlt => f6 p hp ?_⟩⟩
            · by_cases e : k + 1 ≤ m
              · exact f5 e
              · have h := cp m hm0.1 (by omega)
                try dsimp only
                rw [h]
                by_cases e2 : m = k
                · rw [if_pos e2]; omega
                · rw [if_neg e2]; exact cm
            · rw [hE]
              rcases four k0 k4 with rfl | rfl | rfl | rfl
              · rw [show (0 : Int) + 1 = 1 from rfl, pl_1, pl_1] at plc
                rw [pl_4, pl_4]
                omega
              · rw [show (1 : Int) + 1 = 2 from rfl, pl_2, pl_2] at plc
                rw [pl_4, pl_4]
                omega
              · rw [show (2 : Int) + 1 = 3 from rfl, pl_3, pl_3] at plc
                rw [pl_4, pl_4]
                omega
              · rw [show (3 : Int) + 1 = 4 from rfl] at plc
                omega
            · rw [hEv, pl_4] at hlt
              have q0 := pmin p hp 0 (by decide) (by decide)
              have q1 := pmin p hp 1 (by decide) (by decide)
              have q2 := pmin p hp 2 (by decide) (by decide)
              have q3 := pmin p hp 3 (by decide) (by decide)
              rcases four k0 k4 with rfl | rfl | rfl | rfl
              · have j1 := hj 1 (by decide) (by decide)
                have j2 := hj 2 (by decide) (by decide)
                have j3 := hj 3 (by decide) (by decide)
                rw [show (0 : Int) + 1 = 1 from rfl, pl_1, pl_1]
                omega
              · have j2 := hj 2 (by decide) (by decide)
                have j3 := hj 3 (by decide) (by decide)
                rw [show (1 : Int) + 1 = 2 from rfl, pl_2, pl_2]
                omega
              · have j3 := hj 3 (by decide) (by decide)
                rw [show (2 : Int) + 1 = 3 from rfl, pl_3, pl_3]
                omega
              · rw [show (3 : Int) + 1 = 4 from rfl, pl_4, pl_4]
                omega
        refine g_iload_n X 3 d_D_nextPattern_30 rfl rfl ?_
        refine g_if_lt X (tgt := 92) d_D_nextPattern_31 (by decide) (by omega) (fun h31 => ?_) (fun h31 => ?_)
        · omega
        · refine g_iload_n X 3 d_D_nextPattern_34 rfl rfl ?_
          refine g_iload_n X 2 d_D_nextPattern_35 rfl rfl ?_
          refine g_icmp_ne X (tgt := 43) d_D_nextPattern_36 (by decide) (by omega) (by omega) (fun h36 => ?_) (fun h36 => ?_)
          · refine g_iconst X d_D_nextPattern_43 ?_
            exact J 0 (by omega)
          · refine g_iconst X d_D_nextPattern_39 ?_
            refine g_goto X (tgt := 44) d_D_nextPattern_40 (by decide) ?_
            exact J 1 (by omega)
    refine g_aload_n X 0 d_D_nextPattern_0 rfl rfl ?_
    refine d_get X 17 d_D_nextPattern_1 lk_D_50 (by decide) rfl rfl ?_
    refine g_iload_n X 1 d_D_nextPattern_4 rfl rfl ?_
    refine d_zald X d_D_nextPattern_5 (by rfl) (by omega) (by decide) ?_
    rw [h14]
    refine g_if_ne X (tgt := 22) d_D_nextPattern_6 (by decide) (by omega) (fun h6 => ?_) (fun h6 => ?_)
    · refine g_aload_n X 0 d_D_nextPattern_22 rfl rfl ?_
      refine g_iload_n X 1 d_D_nextPattern_23 rfl rfl ?_
      refine d_callV X (c_D_widest l D a q σ r hr hw s1) d_D_nextPattern_24 lk_D_131 im_D_widest sl_D_widest k_D_widest ok_D_widest rfl (by decide) rfl (Nat.le_of_ble_eq_true rfl) (fun v2 σ2 hp2 => ?_)
      obtain ⟨rfl, m2, rfl, hm2⟩ := hp2
      have em := WM_uniq hm2 hm
      subst em
      refine g_istore_n X 2 d_D_nextPattern_27 rfl (by decide) ?_
      refine g_iconst X d_D_nextPattern_28 ?_
      refine g_istore_n X 3 d_D_nextPattern_29 rfl (by decide) ?_
      exact L 4 3 (by omega) (by omega) (fun j a1 a2 => by omega)
    · omega
end S24
end
section
-- how much work a row can be: a weight for each pattern, and their sum below a number
def sel4 (m a b c d : Nat) : Nat := cond (Nat.beq m 0) a (cond (Nat.beq m 1) b (cond (Nat.beq m 2) c d))
def bwt (a b c d m e : Nat) : Nat := cond (Nat.ble (e / 64) a && (Nat.ble (e / 16 % 4) b && (Nat.ble (e / 4 % 4) c && (Nat.ble (e % 4) d && Nat.ble 1 (sel4 m (e / 64) (e / 16 % 4) (e / 4 % 4) (e % 4)))))) (1 + 4 ^ (a + b + c + d - (e / 64 + e / 16 % 4 + e / 4 % 4 + e % 4) + 1)) 0
noncomputable def Vs (a b c d m n : Nat) : Nat := Nat.rec 0 (fun i acc => acc + bwt a b c d m i) n
theorem Vs_0 (a b c d m : Nat) : Vs a b c d m 0 = 0 := rfl
theorem Vs_s (a b c d m n : Nat) : Vs a b c d m (n + 1) = Vs a b c d m n + bwt a b c d m n := rfl
theorem Vs_le (a b c d m : Nat) : ∀ (k n : Nat), Vs a b c d m n ≤ Vs a b c d m (n + k) := by
  intro k
  induction k with
  | zero => intro n; exact Nat.le_refl _
  | succ k ih =>
    intro n
    have := ih n
    rw [← Nat.add_assoc, Vs_s]
    omega
theorem Vs_step (a b c d m : Nat) {e n : Nat} (h : e < n) : Vs a b c d m e + bwt a b c d m e ≤ Vs a b c d m n := by
  have := Vs_le a b c d m (n - (e + 1)) (e + 1)
  rw [show e + 1 + (n - (e + 1)) = n by omega, Vs_s] at this
  exact this
noncomputable def chk (a b c d m : Nat) : Bool := !(Nat.ble 1 (sel4 m a b c d)) || Nat.ble (Vs a b c d m 256 + 1) (4 ^ (a + b + c + d + 1))
theorem chk_0 : ((List.range 4).all fun b => (List.range 4).all fun c => (List.range 4).all fun d => (List.range 4).all fun m => chk 0 b c d m) = true := by decide +kernel
theorem chk_1 : ((List.range 4).all fun b => (List.range 4).all fun c => (List.range 4).all fun d => (List.range 4).all fun m => chk 1 b c d m) = true := by decide +kernel
theorem chk_2 : ((List.range 4).all fun b => (List.range 4).all fun c => (List.range 4).all fun d => (List.range 4).all fun m => chk 2 b c d m) = true := by decide +kernel
theorem chk_3 : ((List.range 4).all fun b => (List.range 4).all fun c => (List.range 4).all fun d => (List.range 4).all fun m => chk 3 b c d m) = true := by decide +kernel
theorem chk_at {a b c d m : Nat} (ha : a < 4) (hb : b < 4) (hc : c < 4) (hd : d < 4) (hm : m < 4) : chk a b c d m = true := by
  have key : ∀ x, ((List.range 4).all fun b => (List.range 4).all fun c => (List.range 4).all fun d => (List.range 4).all fun m => chk x b c d m) = true → chk x b c d m = true := by
    intro x h
    have h1 := List.all_eq_true.mp h b (List.mem_range.mpr hb)
    have h2 := List.all_eq_true.mp h1 c (List.mem_range.mpr hc)
    have h3 := List.all_eq_true.mp h2 d (List.mem_range.mpr hd)
    exact List.all_eq_true.mp h3 m (List.mem_range.mpr hm)
  rcases (show a = 0 ∨ a = 1 ∨ a = 2 ∨ a = 3 by omega) with rfl | rfl | rfl | rfl
  · exact key 0 chk_0
  · exact key 1 chk_1
  · exact key 2 chk_2
  · exact key 3 chk_3
end
section
def g4 (N : Nat) : Int := ((4 ^ (N + 1) : Nat) : Int)
noncomputable def VI (s : Int → Int) (m : Int) (n : Nat) : Int := ((Vs (s 0).toNat (s 1).toNat (s 2).toNat (s 3).toNat m.toNat n : Nat) : Int)
theorem VI_nn (s : Int → Int) (m : Int) (n : Nat) : 0 ≤ VI s m n := by unfold VI; omega
theorem VI_top {s : Int → Int} {m : Int} {N : Nat} (hs : ∀ k, 0 ≤ k → k < 4 → 0 ≤ s k ∧ s k ≤ 3) (hm : 0 ≤ m ∧ m < 4 ∧ 0 < s m) (hN : s 0 + s 1 + s 2 + s 3 = N) : VI s m 256 + 1 ≤ g4 N := by
  have s0 := hs 0 (by decide) (by decide)
  have s1 := hs 1 (by decide) (by decide)
  have s2 := hs 2 (by decide) (by decide)
  have s3 := hs 3 (by decide) (by decide)
  have h := chk_at (a := (s 0).toNat) (b := (s 1).toNat) (c := (s 2).toNat) (d := (s 3).toNat) (m := m.toNat) (by omega) (by omega) (by omega) (by omega) (by omega)
  have hsel : Nat.ble 1 (sel4 m.toNat (s 0).toNat (s 1).toNat (s 2).toNat (s 3).toNat) = true := by
    obtain ⟨m1, m2, m3⟩ := hm
    rcases four m1 m2 with rfl | rfl | rfl | rfl
    · show Nat.ble 1 (s 0).toNat = true; rw [Nat.ble_eq]; omega
    · show Nat.ble 1 (s 1).toNat = true; rw [Nat.ble_eq]; omega
    · show Nat.ble 1 (s 2).toNat = true; rw [Nat.ble_eq]; omega
    · show Nat.ble 1 (s 3).toNat = true; rw [Nat.ble_eq]; omega
  unfold chk at h
  rw [hsel] at h
  have h2 : Nat.ble (Vs (s 0).toNat (s 1).toNat (s 2).toNat (s 3).toNat m.toNat 256 + 1) (4 ^ ((s 0).toNat + (s 1).toNat + (s 2).toNat + (s 3).toNat + 1)) = true := h
  rw [Nat.ble_eq, show (s 0).toNat + (s 1).toNat + (s 2).toNat + (s 3).toNat = N by omega] at h2
  unfold VI g4
  omega
theorem VI_step {s p : Int → Int} {m : Int} {N2 E : Nat} (hs : ∀ k, 0 ≤ k → k < 4 → 0 ≤ s k ∧ s k ≤ 3) (hm : 0 ≤ m ∧ m < 4) (hp : ∀ k, 0 ≤ k → k < 4 → 0 ≤ p k ∧ p k ≤ s k) (hpm : 1 ≤ p m) (hN : s 0 + s 1 + s 2 + s 3 - (p 0 + p 1 + p 2 + p 3) = N2) (hE : pl p 4 < E) : VI s m (pl p 4).toNat + 1 + g4 N2 ≤ VI s m E := by
  have s0 := hs 0 (by decide) (by decide)
  have s1 := hs 1 (by decide) (by decide)
  have s2 := hs 2 (by decide) (by decide)
  have s3 := hs 3 (by decide) (by decide)
  have p0 := hp 0 (by decide) (by decide)
  have p1 := hp 1 (by decide) (by decide)
  have p2 := hp 2 (by decide) (by decide)
  have p3 := hp 3 (by decide) (by decide)
  rw [pl_4] at hE ⊢
  have h := Vs_step (s 0).toNat (s 1).toNat (s 2).toNat (s 3).toNat m.toNat (e := (64 * p 0 + 16 * p 1 + 4 * p 2 + p 3).toNat) (n := E) (by omega)
  have d0 : (64 * p 0 + 16 * p 1 + 4 * p 2 + p 3).toNat / 64 = (p 0).toNat := by omega
  have d1 : (64 * p 0 + 16 * p 1 + 4 * p 2 + p 3).toNat / 16 % 4 = (p 1).toNat := by omega
  have d2 : (64 * p 0 + 16 * p 1 + 4 * p 2 + p 3).toNat / 4 % 4 = (p 2).toNat := by omega
  have d3 : (64 * p 0 + 16 * p 1 + 4 * p 2 + p 3).toNat % 4 = (p 3).toNat := by omega
  have hb : bwt (s 0).toNat (s 1).toNat (s 2).toNat (s 3).toNat m.toNat (64 * p 0 + 16 * p 1 + 4 * p 2 + p 3).toNat = 1 + 4 ^ (N2 + 1) := by
    unfold bwt
    rw [d0, d1, d2, d3]
    have b0 : Nat.ble (p 0).toNat (s 0).toNat = true := by rw [Nat.ble_eq]; omega
    have b1 : Nat.ble (p 1).toNat (s 1).toNat = true := by rw [Nat.ble_eq]; omega
    have b2 : Nat.ble (p 2).toNat (s 2).toNat = true := by rw [Nat.ble_eq]; omega
    have b3 : Nat.ble (p 3).toNat (s 3).toNat = true := by rw [Nat.ble_eq]; omega
    have b4 : Nat.ble 1 (sel4 m.toNat (p 0).toNat (p 1).toNat (p 2).toNat (p 3).toNat) = true := by
      obtain ⟨m1, m2⟩ := hm
      rcases four m1 m2 with rfl | rfl | rfl | rfl
      · show Nat.ble 1 (p 0).toNat = true; rw [Nat.ble_eq]; omega
      · show Nat.ble 1 (p 1).toNat = true; rw [Nat.ble_eq]; omega
      · show Nat.ble 1 (p 2).toNat = true; rw [Nat.ble_eq]; omega
      · show Nat.ble 1 (p 3).toNat = true; rw [Nat.ble_eq]; omega
    rw [b0, b1, b2, b3, b4]
    show 1 + 4 ^ ((s 0).toNat + (s 1).toNat + (s 2).toNat + (s 3).toNat - ((p 0).toNat + (p 1).toNat + (p 2).toNat + (p 3).toNat) + 1) = _
    rw [show (s 0).toNat + (s 1).toNat + (s 2).toNat + (s 3).toNat - ((p 0).toNat + (p 1).toNat + (p 2).toNat + (p 3).toNat) = N2 by omega]
  rw [hb] at h
  unfold VI g4
  omega
theorem g4_le {N : Nat} (h : N ≤ 12) : g4 N ≤ 67108864 := by
  unfold g4
  have : 4 ^ (N + 1) ≤ 4 ^ 13 := Nat.pow_le_pow_right (by decide) (by omega)
  have e : 4 ^ 13 = 67108864 := by decide
  omega
theorem g4_nn (N : Nat) : 0 ≤ g4 N := Int.natCast_nonneg _
theorem WM_ex (w s : Int → Int) : ∃ m, WM w s m := by
  have key : ∀ (n : Nat), n ≤ 4 → ∃ t : Int, (t = -1 ∧ ∀ j : Int, 0 ≤ j → j < (n : Int) → s j ≤ 0) ∨ (0 ≤ t ∧ t < n ∧ 0 < s t ∧ (∀ j : Int, 0 ≤ j → j < (n : Int) → 0 < s j → w j ≤ w t) ∧ ∀ j, 0 ≤ j → j < t → 0 < s j → w j < w t) := by
    intro n
    induction n with
    | zero => intro _; exact ⟨-1, Or.inl ⟨rfl, fun j a1 a2 => by omega⟩⟩
    | succ n ih =>
      intro hn
      obtain ⟨t, ht⟩ := ih (by omega)
      by_cases c : 0 < s n
      · rcases ht with ⟨t1, t2⟩ | ⟨t1, t2, t3, t4, t5⟩
        · refine ⟨n, Or.inr ⟨by omega, by omega, c, fun j a1 a2 a3 => ?_, fun j a1 a2 a3 => ?_⟩⟩
          · by_cases e : j = n
            · rw [e]; exact Int.le_refl _
            · have := t2 j a1 (by omega); omega
          · have := t2 j a1 (by omega); omega
        · by_cases d : w n ≤ w t
          · refine ⟨t, Or.inr ⟨t1, by omega, t3, fun j a1 a2 a3 => ?_, t5⟩⟩
            by_cases e : j = n
            · rw [e]; exact d
            · exact t4 j a1 (by omega) a3
          · refine ⟨n, Or.inr ⟨by omega, by omega, c, fun j a1 a2 a3 => ?_, fun j a1 a2 a3 => ?_⟩⟩
            · by_cases e : j = n
              · rw [e]; exact Int.le_refl _
              · have := t4 j a1 (by omega) a3; omega
            · have := t4 j a1 (by omega) a3; omega
      · refine ⟨t, ?_⟩
        rcases ht with ⟨t1, t2⟩ | ⟨t1, t2, t3, t4, t5⟩
        · refine Or.inl ⟨t1, fun j a1 a2 => ?_⟩
          by_cases e : j = n
          · rw [e]; omega
          · exact t2 j a1 (by omega)
        · refine Or.inr ⟨t1, by omega, t3, fun j a1 a2 a3 => ?_, t5⟩
          by_cases e : j = n
          · rw [e] at a3; omega
          · exact t4 j a1 (by omega) a3
  obtain ⟨t, ht⟩ := key 4 (Nat.le_refl _)
  exact ⟨t, ht⟩
theorem WM_congr {w s s2 : Int → Int} {m : Int} (h : ∀ k, 0 ≤ k → k < 4 → s k = s2 k) (hm : WM w s m) : WM w s2 m := by
  rcases hm with ⟨m1, m2⟩ | ⟨m1, m2, m3, m4, m5⟩
  · exact Or.inl ⟨m1, fun k a1 a2 => by rw [← h k a1 a2]; exact m2 k a1 a2⟩
  · exact Or.inr ⟨m1, m2, by rw [← h m m1 m2]; exact m3, fun k a1 a2 a3 => m4 k a1 a2 (by rw [h k a1 a2]; exact a3), fun k a1 a2 a3 => m5 k a1 a2 (by rw [h k a1 (by omega)]; exact a3)⟩
theorem PT_congr {w s s2 p : Int → Int} {R m : Int} (h : ∀ k, 0 ≤ k → k < 4 → s k = s2 k) (hp : PT w R s m p) : PT w R s2 m p := ⟨fun k a1 a2 => by rw [← h k a1 a2]; exact hp.1 k a1 a2, hp.2⟩
theorem RW_congr {σ : zS} {s s2 : Int → Int} (h : ∀ k, 0 ≤ k → k < 4 → s k = s2 k) (hs : RW σ s) : RW σ s2 := ⟨fun k a1 a2 => by rw [← h k a1 a2]; exact hs.1 k a1 a2, fun k a1 a2 a3 => by rw [← h k a1 a2]; exact hs.2 k a1 a2 a3⟩
end
section
/-- what the search leaves alone; what is known of the best -/
def SF (σ τ : zS) : Prop := (∀ i, i ≠ 0 → i ≠ 12 → i ≠ 13 → i ≠ 14 → τ i = σ i) ∧ ∀ z, z ≠ 18 → τ 0 z = σ 0 z
def SB (σ τ : zS) : Prop := ∃ m : Nat, τ 0 18 = m ∧ m ≤ 12 ∧ Cov (σ 1) (σ 0 3) m (fun k => σ 12 k)
section S27
variable (l : Launch) (D : va_G) (a : Nat → ClassId) (q : Nat → Nat) (σ : zS)
set_option maxHeartbeats 2000000 in
theorem c_D_search (goal : Int) (hg : 0 ≤ goal ∧ goal ≤ 12) (hR : 1 ≤ σ 0 3 ∧ σ 0 3 ≤ 40) (hw : ∀ k, 0 ≤ k → k < 4 → 1 ≤ σ 1 k ∧ σ 1 k ≤ 20) (hP : PR σ) (hs : RW σ (fun k => σ 12 k)) (hex : ∃ k, 0 ≤ k ∧ k < 4 ∧ 0 < σ 12 k) (hB0 : SB σ σ) (hgl : ∀ n : Nat, Cov (σ 1) (σ 0 3) n (fun k => σ 12 k) → goal ≤ n) :
    K_D_search l D a q [.ref (q 0), vI goal] σ (fun v τ => v = none ∧ SF σ τ ∧ Opt (σ 1) (σ 0 3) (fun k => σ 12 k) (τ 0 18)) := by
  refine Con.of (by decide) (dw_ad a q) (Nat.le_of_ble_eq_true rfl) (fun Γ X => ?_)
  have X : Cx Γ "CutDesk" b_D_search none 4 4 98 (dw a q) _ l D (tysA a) := X
  show G Γ [(0, .ref (q 0)), (1, vI goal)] σ 0 []
  have hw0 : ∀ k, 0 ≤ k → k < 4 → 0 ≤ σ 1 k := fun k a1 a2 => by have := hw k a1 a2; omega
  -- the end
  have EX : ∀ (r c : Int) (τ : zS), SF σ τ → Opt (σ 1) (σ 0 3) (fun k => σ 12 k) (τ 0 18) → G Γ [(0, .ref (q 0)), (1, vI goal), (2, vI r), (3, vI c)] τ 119 [] := by
    intro r c τ h1 h2
    refine g_vret X d_D_search_119 rfl ?_
    exact ⟨rfl, h1, h2⟩
  -- the head, while there is a row
  have HD : ∀ (j : Nat) (c : Int) (τ : zS), j ≤ 12 → 0 ≤ c → c < 134217728 → SF σ τ → SB σ τ → G Γ [(0, .ref (q 0)), (1, vI goal), (2, vI (j : Int)), (3, vI c)] τ 29 [] → G Γ [(0, .ref (q 0)), (1, vI goal), (2, vI (j : Int)), (3, vI c)] τ 11 [] := by
    intro j c τ hj c0 c1 f1 f2 k
    obtain ⟨bn, eb, hb, hcb⟩ := f2
    refine g_iload_n X 3 d_D_search_11 rfl rfl ?_
    refine g_ldc (a := 134217728) X d_D_search_12 lk_D_124 rfl ?_
    refine g_icmp_ge X (tgt := 119) d_D_search_14 (by decide) (by omega) (by omega) (fun h14 => ?_) (fun h14 => ?_)
    · omega
    · refine g_iload_n X 2 d_D_search_17 rfl rfl ?_
      refine g_if_lt X (tgt := 119) d_D_search_18 (by decide) (by omega) (fun h18 => ?_) (fun h18 => ?_)
      · omega
      · refine g_aload_n X 0 d_D_search_21 rfl rfl ?_
        refine d_get X 18 d_D_search_22 lk_D_104 (by decide) rfl rfl ?_
        refine g_iload_n X 1 d_D_search_25 rfl rfl ?_
        refine g_icmp_le X (tgt := 119) d_D_search_26 (by decide) (by omega) (by omega) (fun h26 => ?_) (fun h26 => ?_)
        · refine EX _ _ τ f1 ⟨bn, eb, hcb, fun n hn => ?_⟩
          have := hgl n hn
          omega
        · exact k
  have Node : ∀ (N : Nat) (j : Nat) (τ : zS) (c0 : Int), 1 ≤ N → j + N ≤ 12 → SF σ τ → SB σ τ → RW σ (fun k => τ 12 ((j : Int) * 4 + k)) → τ 12 ((j : Int) * 4 + 0) + τ 12 ((j : Int) * 4 + 1) + τ 12 ((j : Int) * 4 + 2) + τ 12 ((j : Int) * 4 + 3) = N → τ 14 j = 0 → (∀ n : Nat, Cov (σ 1) (σ 0 3) n (fun k => τ 12 ((j : Int) * 4 + k)) → Cov (σ 1) (σ 0 3) (n + j) (fun k => σ 12 k)) → 0 ≤ c0 → c0 + g4 N ≤ 67108864 →
      (∀ (ρ : zS) (c : Int), c0 ≤ c → c ≤ c0 + g4 N → SF σ ρ → SB σ ρ → ρ 0 18 ≤ τ 0 18 → (∀ z, z < (j : Int) * 4 + 4 → ρ 12 z = τ 12 z) → (∀ z, z < (j : Int) * 4 → ρ 13 z = τ 13 z) → (∀ z, z < (j : Int) → ρ 14 z = τ 14 z) → (∀ n : Nat, Cov (σ 1) (σ 0 3) n (fun k => τ 12 ((j : Int) * 4 + k)) → ρ 0 18 ≤ j + n) → G Γ [(0, .ref (q 0)), (1, vI goal), (2, vI ((j : Int) + -1)), (3, vI c)] ρ 11 []) →
      G Γ [(0, .ref (q 0)), (1, vI goal), (2, vI (j : Int)), (3, vI c0)] τ 11 [] := by
    intro N
    induction N using Nat.strongRecOn with
    | ind N ihN =>
    intro j τ c0 hN hjN t1 t2 t3 t4 t5 t6 hc0 hcN K
    obtain ⟨m, hm⟩ := WM_ex (σ 1) (fun k => τ 12 ((j : Int) * 4 + k))
    have ss : ∀ k, 0 ≤ k → k < 4 → 0 ≤ τ 12 ((j : Int) * 4 + k) ∧ τ 12 ((j : Int) * 4 + k) ≤ 3 := t3.1
    have ss0 := ss 0 (by decide) (by decide)
    have ss1 := ss 1 (by decide) (by decide)
    have ss2 := ss 2 (by decide) (by decide)
    have ss3 := ss 3 (by decide) (by decide)
    have hwant : ∃ k, 0 ≤ k ∧ k < 4 ∧ 0 < τ 12 ((j : Int) * 4 + k) := by
      by_cases b0 : 0 < τ 12 ((j : Int) * 4 + 0)
      · exact ⟨0, by decide, by decide, b0⟩
      by_cases b1 : 0 < τ 12 ((j : Int) * 4 + 1)
      · exact ⟨1, by decide, by decide, b1⟩
      by_cases b2 : 0 < τ 12 ((j : Int) * 4 + 2)
      · exact ⟨2, by decide, by decide, b2⟩
      · exact ⟨3, by decide, by decide, by omega⟩
    have hm0 : 0 ≤ m ∧ m < 4 ∧ 0 < τ 12 ((j : Int) * 4 + m) := WM_pos hm hwant
    have top := VI_top (s := fun k => τ 12 ((j : Int) * 4 + k)) (m := m) (N := N) ss hm0 t4
    -- the patterns of the row, from E on
    have Lev : ∀ (E : Nat) (ρ : zS) (c : Int), SF σ ρ → SB σ ρ → ρ 0 18 ≤ τ 0 18 → (∀ z, z < (j : Int) * 4 + 4 → ρ 12 z = τ 12 z) → (∀ z, z < (j : Int) * 4 → ρ 13 z = τ 13 z) → (∀ z, z < (j : Int) → ρ 14 z = τ 14 z) →
        ((ρ 14 j = 0 ∧ (E : Int) = 256) ∨ (ρ 14 j = 1 ∧ PT (σ 1) (σ 0 3) (fun k => τ 12 ((j : Int) * 4 + k)) m (fun k => ρ 13 ((j : Int) * 4 + k)) ∧ (E : Int) = pl (fun k => ρ 13 ((j : Int) * 4 + k)) 4)) →
        (∀ p, PT (σ 1) (σ 0 3) (fun k => τ 12 ((j : Int) * 4 + k)) m p → ¬ pl p 4 < E → ∀ n : Nat, Cov (σ 1) (σ 0 3) n (fun k => τ 12 ((j : Int) * 4 + k) - p k) → ρ 0 18 ≤ j + 1 + n) → c0 ≤ c → c + 1 + VI (fun k => τ 12 ((j : Int) * 4 + k)) m E ≤ c0 + g4 N →
        G Γ [(0, .ref (q 0)), (1, vI goal), (2, vI (j : Int)), (3, vI c)] ρ 11 [] := by
      intro E
      induction E using Nat.strongRecOn with
      | ind E ihE =>
      intro ρ c r1 r2 r3 r4 r5 r6 r7 r8 r9 r10
      have vnn := VI_nn (fun k => τ 12 ((j : Int) * 4 + k)) m E
      have e1 : ρ 1 = σ 1 := r1.1 1 (by decide) (by decide) (by decide) (by decide)
      have e03 : ρ 0 3 = σ 0 3 := r1.2 3 (by decide)
      have row : ∀ k, 0 ≤ k → k < 4 → τ 12 ((j : Int) * 4 + k) = ρ 12 ((j : Int) * 4 + k) := fun k a1 a2 => (r4 _ (by omega)).symm
      have row' : ∀ k, 0 ≤ k → k < 4 → ρ 12 ((j : Int) * 4 + k) = τ 12 ((j : Int) * 4 + k) := fun k a1 a2 => r4 _ (by omega)
      refine HD j c ρ (by omega) (by omega) (by omega) r1 r2 ?_
      refine g_aload_n X 0 d_D_search_29 rfl rfl ?_
      refine g_iload_n X 2 d_D_search_30 rfl rfl ?_
      refine d_callV X (c_D_nextPattern l D a q ρ j m E (by omega) (by rw [e03]; exact hR) (by rw [e1]; exact hw) (RW_congr row (by unfold RW; rw [e03, e1]; exact t3)) (by rw [e1]; exact WM_congr row hm) ⟨hm0.1, hm0.2.1, by rw [row' m hm0.1 hm0.2.1]; exact hm0.2.2⟩ (by rw [e1, e03]; rcases r7 with h | ⟨h1, h2, h3⟩; exact Or.inl h; exact Or.inr ⟨h1, PT_congr row h2, h3⟩)) d_D_search_31 lk_D_125 im_D_nextPattern sl_D_nextPattern k_D_nextPattern ok_D_nextPattern rfl (by decide) rfl (Nat.le_of_ble_eq_true rfl) (fun v2 ρ2 hp2 => ?_)
      rw [e1, e03] at hp2
      obtain ⟨n1, n2, n3, n4, hv⟩ := hp2
      have q1 : SF σ ρ2 := ⟨fun i i1 i2 i3 i4 => by rw [n1 i i3 i4]; exact r1.1 i i1 i2 i3 i4, fun z hz => by rw [n1 0 (by decide) (by decide)]; exact r1.2 z hz⟩
      have eb : ρ2 0 18 = ρ 0 18 := by rw [n1 0 (by decide) (by decide)]
      have q2 : SB σ ρ2 := by unfold SB; rw [eb]; exact r2
      have q12 : ρ2 12 = ρ 12 := n1 12 (by decide) (by decide)
      rcases hv with ⟨rfl, hPT, hlt, hmax⟩ | ⟨rfl, hno⟩
      · -- one more pattern
        have hPT' : PT (σ 1) (σ 0 3) (fun k => τ 12 ((j : Int) * 4 + k)) m (fun k => ρ2 13 ((j : Int) * 4 + k)) := PT_congr row' hPT
        have cr : ∀ k, 0 ≤ k → k < 4 → 0 ≤ ρ2 13 ((j : Int) * 4 + k) ∧ ρ2 13 ((j : Int) * 4 + k) ≤ τ 12 ((j : Int) * 4 + k) := hPT'.1
        have cr0 := cr 0 (by decide) (by decide)
        have cr1 := cr 1 (by decide) (by decide)
        have cr2 := cr 2 (by decide) (by decide)
        have cr3 := cr 3 (by decide) (by decide)
        have cm : 1 ≤ ρ2 13 ((j : Int) * 4 + m) := hPT'.2.1
        have csum : 1 ≤ ρ2 13 ((j : Int) * 4 + 0) + ρ2 13 ((j : Int) * 4 + 1) + ρ2 13 ((j : Int) * 4 + 2) + ρ2 13 ((j : Int) * 4 + 3) := by
          rcases four hm0.1 hm0.2.1 with e | e | e | e <;> rw [e] at cm <;> omega
        have pl0 : 0 ≤ pl (fun k => ρ2 13 ((j : Int) * 4 + k)) 4 := by rw [pl_4]; omega
        obtain ⟨N2, hN2⟩ : ∃ N2 : Nat, (N2 : Int) = N - (ρ2 13 ((j : Int) * 4 + 0) + ρ2 13 ((j : Int) * 4 + 1) + ρ2 13 ((j : Int) * 4 + 2) + ρ2 13 ((j : Int) * 4 + 3)) := ⟨(N - (ρ2 13 ((j : Int) * 4 + 0) + ρ2 13 ((j : Int) * 4 + 1) + ρ2 13 ((j : Int) * 4 + 2) + ρ2 13 ((j : Int) * 4 + 3))).toNat, by omega⟩
        have stp := VI_step (s := fun k => τ 12 ((j : Int) * 4 + k)) (p := fun k => ρ2 13 ((j : Int) * 4 + k)) (m := m) (N2 := N2) (E := E) ss ⟨hm0.1, hm0.2.1⟩ cr cm (by omega) hlt
        have g2n := g4_nn N2
        -- E goes down to this pattern
        obtain ⟨E2, hE2⟩ : ∃ E2 : Nat, (E2 : Int) = pl (fun k => ρ2 13 ((j : Int) * 4 + k)) 4 := ⟨(pl (fun k => ρ2 13 ((j : Int) * 4 + k)) 4).toNat, by omega⟩
        rw [← hE2, Int.toNat_natCast] at stp
        have hE2E : E2 < E := by omega
        have vnn2 := VI_nn (fun k => τ 12 ((j : Int) * 4 + k)) m E2
        have seen : ∀ (b : Int), b ≤ ρ 0 18 → (∀ n : Nat, Cov (σ 1) (σ 0 3) n (fun k => τ 12 ((j : Int) * 4 + k) - ρ2 13 ((j : Int) * 4 + k)) → b ≤ j + 1 + n) → ∀ p, PT (σ 1) (σ 0 3) (fun k => τ 12 ((j : Int) * 4 + k)) m p → ¬ pl p 4 < E2 → ∀ n : Nat, Cov (σ 1) (σ 0 3) n (fun k => τ 12 ((j : Int) * 4 + k) - p k) → b ≤ j + 1 + n := by
          intro b hb hC p hp hnl n hn
          by_cases c1 : pl p 4 < E
          · have h1 := hmax p (PT_congr row hp) c1
            have heq := pl_eq (p := p) (c := fun k => ρ2 13 ((j : Int) * 4 + k)) (k := 4) (by decide) (fun k a1 a2 => by have h1 := hp.1 k a1 a2; have := ss k a1 a2; (try dsimp only at h1); omega) (fun k a1 a2 => by have := cr k a1 a2; have := ss k a1 a2; (try dsimp only); omega) (by omega)
            exact hC n (Cov_congr (fun _ _ _ => rfl) n _ _ (fun k a1 a2 => by rw [heq k a1 a2]) hn)
          · have := r8 p hp c1 n hn
            omega
        have nrow : ∀ k, 0 ≤ k → k < 4 → ρ2 12 ((j : Int) * 4 + k) = τ 12 ((j : Int) * 4 + k) := fun k a1 a2 => by rw [q12]; exact row' k a1 a2
        refine g_if_ne X (tgt := 43) d_D_search_34 (by decide) (by omega) (fun h34 => ?_) (fun h34 => ?_)
        · refine g_aload_n X 0 d_D_search_43 rfl rfl ?_
          refine g_iload_n X 2 d_D_search_44 rfl rfl ?_
          refine d_callV X (c_D_takeOff l D a q ρ2 j (by omega) (fun k a1 a2 => by rw [nrow k a1 a2]; exact ss k a1 a2) (fun k a1 a2 => by have := cr k a1 a2; have := ss k a1 a2; omega)) d_D_search_45 lk_D_121 im_D_takeOff sl_D_takeOff k_D_takeOff ok_D_takeOff rfl (by decide) rfl (Nat.le_of_ble_eq_true rfl) (fun v3 ρ3 hp3 => ?_)
          obtain ⟨rfl, k1, k2, k3⟩ := hp3
          have nx : ∀ k, 0 ≤ k → k < 4 → ρ3 12 (((j : Int) + 1) * 4 + k) = τ 12 ((j : Int) * 4 + k) - ρ2 13 ((j : Int) * 4 + k) := fun k a1 a2 => by
            rw [k2 k a1 a2, nrow k a1 a2]
            have := cr k a1 a2
            unfold mx0
            split <;> omega
          have nr : ∀ k, 0 ≤ k → k < 4 → 0 ≤ ρ3 12 (((j : Int) + 1) * 4 + k) ∧ ρ3 12 (((j : Int) + 1) * 4 + k) ≤ 3 := fun k a1 a2 => by
            rw [nx k a1 a2]
            have := cr k a1 a2
            have := ss k a1 a2
            omega
          have w1 : SF σ ρ3 := ⟨fun i i1 i2 i3 i4 => by rw [k1 i i2]; exact q1.1 i i1 i2 i3 i4, fun z hz => by rw [k1 0 (by decide)]; exact q1.2 z hz⟩
          have eb3 : ρ3 0 18 = ρ 0 18 := by rw [k1 0 (by decide)]; exact eb
          have w2 : SB σ ρ3 := by unfold SB; rw [eb3]; exact r2
          have w4 : ∀ z, z < (j : Int) * 4 + 4 → ρ3 12 z = τ 12 z := fun z hz => by rw [k3 z (by omega), q12]; exact r4 z hz
          have e13 : ρ3 13 = ρ2 13 := k1 13 (by decide)
          have e14 : ρ3 14 = ρ2 14 := k1 14 (by decide)
          have w5 : ∀ z, z < (j : Int) * 4 → ρ3 13 z = τ 13 z := fun z hz => by rw [e13, n2 z hz]; exact r5 z hz
          have w6 : ∀ z, z < (j : Int) → ρ3 14 z = τ 14 z := fun z hz => by rw [e14, n3 z (by omega)]; exact r6 z hz
          have w14 : ρ3 14 j = 1 := by rw [e14]; exact n4
          -- going on in this row
          have stay : ∀ (π : zS), SF σ π → SB σ π → π 0 18 ≤ ρ 0 18 → (∀ i, i ≠ 0 → π i = ρ3 i) → (∀ n : Nat, Cov (σ 1) (σ 0 3) n (fun k => τ 12 ((j : Int) * 4 + k) - ρ2 13 ((j : Int) * 4 + k)) → π 0 18 ≤ j + 1 + n) → G Γ [(0, .ref (q 0)), (1, vI goal), (2, vI (j : Int)), (3, vI c)] π 113 [] := by
            intro π y1 y2 y3 y4 y5
            refine g_iinc X d_D_search_113 rfl (by decide) ?_
            refine g_goto X (tgt := 11) d_D_search_116 (by decide) ?_
            refine ihE E2 hE2E π (c + 1) y1 y2 (by omega) (fun z hz => by rw [y4 12 (by decide)]; exact w4 z hz) (fun z hz => by rw [y4 13 (by decide)]; exact w5 z hz) (fun z hz => by rw [y4 14 (by decide)]; exact w6 z hz) (Or.inr ⟨by rw [y4 14 (by decide)]; exact w14, ?_, ?_⟩) (seen _ y3 y5) (by omega) (by omega)
            · rw [y4 13 (by decide), e13]; exact hPT'
            · rw [y4 13 (by decide), e13]; exact hE2
          refine g_aload_n X 0 d_D_search_48 rfl rfl ?_
          refine g_iload_n X 2 d_D_search_49 rfl rfl ?_
          refine g_iconst X d_D_search_50 ?_
          refine g_iadd X d_D_search_51 ?_
          refine d_callV X (c_D_served l D a q ρ3 ((j : Int) + 1) (by omega) (fun k a1 a2 => by have := nr k a1 a2; omega)) d_D_search_52 lk_D_115 im_D_served sl_D_served k_D_served ok_D_served rfl (by decide) rfl (Nat.le_of_ble_eq_true rfl) (fun v4 ρ4 hp4 => ?_)
          obtain ⟨rfl, hv⟩ := hp4
          obtain ⟨bn, ebn, hbn, hbc⟩ := id w2
          rcases hv with ⟨rfl, hz⟩ | ⟨rfl, hnz⟩
          · -- all is cut
            have cov1 : Cov (σ 1) (σ 0 3) (j + 1) (fun k => σ 12 k) := by
              have := t6 1 ⟨fun k => ρ2 13 ((j : Int) * 4 + k), fun k a1 a2 => (cr k a1 a2).1, hPT'.2.2, fun k a1 a2 => by
                have h1 := hz k a1 a2
                rw [nx k a1 a2] at h1
                exact h1⟩
              rw [Nat.add_comm]
              exact this
            have J : ∀ x : Int, x ≤ ρ4 0 18 → x ≤ j + 1 → (x = ρ4 0 18 ∨ x = j + 1) → G Γ [(0, .ref (q 0)), (1, vI goal), (2, vI (j : Int)), (3, vI c)] ρ4 79 [vI x, .ref (q 0)] := by
              intro x x1 x2 x3
              refine d_putI X (z := 18) 18 d_D_search_79 lk_D_104 (by decide) rfl rfl rfl (by rfl) ?_
              refine g_goto X (tgt := 113) d_D_search_82 (by decide) ?_
              refine stay _ ⟨fun i i1 i2 i3 i4 => ?_, fun z hz => ?_⟩ ?_ ?_ (fun i i1 => ?_) (fun n _ => ?_)
              · rw [← w1.1 i i1 i2 i3 i4]; funext z; exact up_nc i1
              · rw [up_ne hz]; exact w1.2 z hz
              · unfold SB
                rw [up_eq]
                rcases x3 with rfl | rfl
                · exact w2
                · exact ⟨j + 1, by omega, by omega, cov1⟩
              · rw [up_eq]; omega
              · funext z; exact up_nc i1
              · rw [up_eq]; omega
            refine g_if_eq X (tgt := 85) d_D_search_55 (by decide) (by omega) (fun h55 => ?_) (fun h55 => ?_)
            · omega
            · refine g_aload_n X 0 d_D_search_58 rfl rfl ?_
              refine g_iload_n X 2 d_D_search_59 rfl rfl ?_
              refine g_iconst X d_D_search_60 ?_
              refine g_iadd X d_D_search_61 ?_
              refine g_aload_n X 0 d_D_search_62 rfl rfl ?_
              refine d_get X 18 d_D_search_63 lk_D_104 (by decide) rfl rfl ?_
              refine g_icmp_ge X (tgt := 75) d_D_search_66 (by decide) (by omega) (by omega) (fun h66 => ?_) (fun h66 => ?_)
              · refine g_aload_n X 0 d_D_search_75 rfl rfl ?_
                refine d_get X 18 d_D_search_76 lk_D_104 (by decide) rfl rfl ?_
                exact J _ (Int.le_refl _) (by omega) (Or.inl rfl)
              · refine g_iload_n X 2 d_D_search_69 rfl rfl ?_
                refine g_iconst X d_D_search_70 ?_
                refine g_iadd X d_D_search_71 ?_
                refine g_goto X (tgt := 79) d_D_search_72 (by decide) ?_
                exact J _ (by omega) (Int.le_refl _) (Or.inr rfl)
          · -- pieces are left
            have e1' : ρ4 1 = σ 1 := w1.1 1 (by decide) (by decide) (by decide) (by decide)
            have e03' : ρ4 0 3 = σ 0 3 := w1.2 3 (by decide)
            have e09' : ρ4 0 9 = σ 0 9 := w1.2 9 (by decide)
            have e6' : ρ4 6 = σ 6 := w1.1 6 (by decide) (by decide) (by decide) (by decide)
            have rw1 : RW σ (fun k => ρ4 12 (((j : Int) + 1) * 4 + k)) := ⟨nr, fun k a1 a2 a3 => by
              have h1 : τ 12 ((j : Int) * 4 + k) = 0 := t3.2 k a1 a2 a3
              have := cr k a1 a2
              show ρ4 12 (((j : Int) + 1) * 4 + k) = 0
              rw [nx k a1 a2]
              omega⟩
            refine g_if_eq X (tgt := 85) d_D_search_55 (by decide) (by omega) (fun h55 => ?_) (fun h55 => ?_)
            · refine g_iload_n X 2 d_D_search_85 rfl rfl ?_
              refine g_iconst X d_D_search_86 ?_
              refine g_iadd X d_D_search_87 ?_
              refine g_aload_n X 0 d_D_search_88 rfl rfl ?_
              refine g_iload_n X 2 d_D_search_89 rfl rfl ?_
              refine g_iconst X d_D_search_90 ?_
              refine g_iadd X d_D_search_91 ?_
              refine d_callV X (c_D_boundAt l D a q ρ4 ((j : Int) + 1) (by omega) (by rw [e1']; exact hw) (by unfold PR; rw [e03', e09', e1', e6']; exact hP) (by unfold RW; rw [e03', e1']; exact rw1)) d_D_search_92 lk_D_107 im_D_boundAt sl_D_boundAt k_D_boundAt ok_D_boundAt rfl (by decide) rfl (Nat.le_of_ble_eq_true rfl) (fun v5 ρ5 hp5 => ?_)
              obtain ⟨rfl, b, rfl, hb, hbl⟩ := hp5
              rw [e1', e03'] at hbl
              have cvt : ∀ n : Nat, Cov (σ 1) (σ 0 3) n (fun k => τ 12 ((j : Int) * 4 + k) - ρ2 13 ((j : Int) * 4 + k)) → Cov (σ 1) (σ 0 3) n (fun k => ρ5 12 (((j : Int) + 1) * 4 + k)) := fun n hn => Cov_congr (fun _ _ _ => rfl) n _ _ (fun k a1 a2 => (nx k a1 a2).symm) hn
              have cvt2 : ∀ n : Nat, Cov (σ 1) (σ 0 3) n (fun k => ρ5 12 (((j : Int) + 1) * 4 + k)) → Cov (σ 1) (σ 0 3) n (fun k => τ 12 ((j : Int) * 4 + k) - ρ2 13 ((j : Int) * 4 + k)) := fun n hn => Cov_congr (fun _ _ _ => rfl) n _ _ (fun k a1 a2 => nx k a1 a2) hn
              refine g_iadd X d_D_search_95 ?_
              refine g_aload_n X 0 d_D_search_96 rfl rfl ?_
              refine d_get X 18 d_D_search_97 lk_D_104 (by decide) rfl rfl ?_
              refine g_icmp_ge X (tgt := 113) d_D_search_100 (by decide) (by omega) (by omega) (fun h100 => ?_) (fun h100 => ?_)
              · -- no hope in this one
                exact stay ρ5 w1 w2 (by omega) (fun _ _ => rfl) (fun n hn => by have := hbl n (cvt n hn); omega)
              · -- one roll further
                refine g_iinc X d_D_search_103 rfl (by decide) ?_
                refine g_aload_n X 0 d_D_search_106 rfl rfl ?_
                refine d_get X 17 d_D_search_107 lk_D_50 (by decide) rfl rfl ?_
                refine g_iload_n X 2 d_D_search_110 rfl rfl ?_
                refine g_iconst X d_D_search_111 ?_
                refine d_zast X d_D_search_112 (by rfl) (by rfl) (by omega) (by decide) (by decide) ?_
                refine g_iinc X d_D_search_113 rfl (by decide) ?_
                refine g_goto X (tgt := 11) d_D_search_116 (by decide) ?_
                have nx0 := nx 0 (by decide) (by decide)
                have nx1 := nx 1 (by decide) (by decide)
                have nx2 := nx 2 (by decide) (by decide)
                have nx3 := nx 3 (by decide) (by decide)
                have hN2p : 1 ≤ N2 := by
                  obtain ⟨k, a1, a2, a3⟩ := hnz
                  have y0 := nr 0 (by decide) (by decide)
                  have y1 := nr 1 (by decide) (by decide)
                  have y2 := nr 2 (by decide) (by decide)
                  have y3 := nr 3 (by decide) (by decide)
                  rcases four a1 a2 with rfl | rfl | rfl | rfl <;> omega
                refine ihN N2 (by omega) (j + 1) (up ρ5 14 ((j : Int) + 1) 0) (c + 1) hN2p (by omega) ⟨fun i i1 i2 i3 i4 => ?_, w1.2⟩ w2 rw1 ?_ (up_eq _ _ _ _) (fun n hn => ?_) (by omega) (by omega) (fun π c' z1 z2 z3 z4 z5 z6 z7 z8 z9 => ?_)
                · rw [← w1.1 i i1 i2 i3 i4]; funext z; exact up_nc i4
                · show ρ5 12 (((j : Int) + 1) * 4 + 0) + ρ5 12 (((j : Int) + 1) * 4 + 1) + ρ5 12 (((j : Int) + 1) * 4 + 2) + ρ5 12 (((j : Int) + 1) * 4 + 3) = N2
                  omega
                · have h1 := t6 (n + 1) ⟨fun k => ρ2 13 ((j : Int) * 4 + k), fun k a1 a2 => (cr k a1 a2).1, hPT'.2.2, cvt2 n hn⟩
                  rw [show n + (j + 1) = n + 1 + j by omega]
                  exact h1
                · have z5' : π 0 18 ≤ ρ5 0 18 := z5
                  have z6' : ∀ z, z < ((j : Int) + 1) * 4 + 4 → π 12 z = ρ5 12 z := z6
                  have z7' : ∀ z, z < ((j : Int) + 1) * 4 → π 13 z = ρ5 13 z := z7
                  have z8' : ∀ z, z < (j : Int) + 1 → π 14 z = ρ5 14 z := fun z hz => by
                    have := z8 z hz
                    rw [up_ne (by omega)] at this
                    exact this
                  have z9' : ∀ n : Nat, Cov (σ 1) (σ 0 3) n (fun k => ρ5 12 (((j : Int) + 1) * 4 + k)) → π 0 18 ≤ ((j + 1 : Nat) : Int) + n := z9
                  rw [show (((j + 1 : Nat) : Int) + -1) = (j : Int) by omega]
                  have row13 : (fun k => π 13 ((j : Int) * 4 + k)) = fun k => π 13 ((j : Int) * 4 + k) := rfl
                  have p13 : ∀ k, 0 ≤ k → k < 4 → π 13 ((j : Int) * 4 + k) = ρ2 13 ((j : Int) * 4 + k) := fun k a1 a2 => by rw [z7' _ (by omega), e13]
                  have pl13 : pl (fun k => π 13 ((j : Int) * 4 + k)) 4 = pl (fun k => ρ2 13 ((j : Int) * 4 + k)) 4 := pl_congr (by decide) p13
                  refine ihE E2 hE2E π c' z3 z4 (by omega) (fun z hz => by rw [z6' z (by omega)]; exact w4 z hz) (fun z hz => by rw [z7' z (by omega)]; exact w5 z hz) (fun z hz => by rw [z8' z (by omega)]; exact w6 z hz) (Or.inr ⟨by rw [z8' _ (by omega)]; exact w14, ⟨fun k a1 a2 => ?_, ?_, ?_⟩, ?_⟩) (seen _ (by omega) (fun n hn => ?_)) (by omega) (by omega)
                  · show 0 ≤ π 13 ((j : Int) * 4 + k) ∧ π 13 ((j : Int) * 4 + k) ≤ _
                    rw [p13 k a1 a2]; exact cr k a1 a2
                  · show 1 ≤ π 13 ((j : Int) * 4 + m)
                    rw [p13 m hm0.1 hm0.2.1]; exact cm
                  · rw [dot_congr p13 (fun _ _ _ => rfl)]; exact hPT'.2.2
                  · rw [pl13]; exact hE2
                  · have := z9' n (cvt n hn)
                    omega
            · omega
        · omega
      · -- the row is done
        refine g_if_ne X (tgt := 43) d_D_search_34 (by decide) (by omega) (fun h34 => ?_) (fun h34 => ?_)
        · omega
        · refine g_iinc X d_D_search_37 rfl (by decide) ?_
          refine g_goto X (tgt := 113) d_D_search_40 (by decide) ?_
          refine g_iinc X d_D_search_113 rfl (by decide) ?_
          refine g_goto X (tgt := 11) d_D_search_116 (by decide) ?_
          refine K ρ2 (c + 1) (by omega) (by omega) q1 q2 (by omega) (fun z hz => by rw [q12]; exact r4 z hz) (fun z hz => by rw [n2 z hz]; exact r5 z hz) (fun z hz => by rw [n3 z (by omega)]; exact r6 z hz) (fun n hn => ?_)
          obtain ⟨n', rfl, p, hp1, hp2, hp3, hp4⟩ := Cov_must hw0 n (fun k => τ 12 ((j : Int) * 4 + k)) m hm0.1 hm0.2.1 hm0.2.2 hn
          have hpt : PT (σ 1) (σ 0 3) (fun k => τ 12 ((j : Int) * 4 + k)) m p := ⟨fun k a1 a2 => by have h1 := hp1 k a1 a2; have h2 := ss k a1 a2; (try dsimp only at h1 ⊢); omega, hp2, hp3⟩
          have := r8 p hpt (hno p (PT_congr row hpt)) n' hp4
          omega
    refine Lev 256 τ c0 t1 t2 (Int.le_refl _) (fun _ _ => rfl) (fun _ _ => rfl) (fun _ _ => rfl) (Or.inl ⟨t5, rfl⟩) (fun p hp hnl => ?_) (Int.le_refl _) (by omega)
    exfalso
    have d : ∀ k, 0 ≤ k → k < 4 → 0 ≤ p k ∧ p k ≤ 3 := fun k a1 a2 => by
      have h1 := hp.1 k a1 a2
      have := ss k a1 a2
      try dsimp only at h1
      omega
    have d0 := d 0 (by decide) (by decide)
    have d1 := d 1 (by decide) (by decide)
    have d2 := d 2 (by decide) (by decide)
    have d3 := d 3 (by decide) (by decide)
    rw [pl_4] at hnl
    omega
  -- from the start
  have s1 : ∀ k, 0 ≤ k → k < 4 → 0 ≤ σ 12 k ∧ σ 12 k ≤ 3 := hs.1
  have s10 := s1 0 (by decide) (by decide)
  have s11 := s1 1 (by decide) (by decide)
  have s12 := s1 2 (by decide) (by decide)
  have s13 := s1 3 (by decide) (by decide)
  have rowe : (fun k => σ 12 (((0 : Nat) : Int) * 4 + k)) = fun k => σ 12 k := by funext k; congr 1; omega
  obtain ⟨N, hN⟩ : ∃ N : Nat, (N : Int) = σ 12 0 + σ 12 1 + σ 12 2 + σ 12 3 := ⟨(σ 12 0 + σ 12 1 + σ 12 2 + σ 12 3).toNat, by omega⟩
  have hN1 : 1 ≤ N := by
    obtain ⟨k, a1, a2, a3⟩ := hex
    rcases four a1 a2 with rfl | rfl | rfl | rfl <;> omega
  have gle := g4_le (N := N) (by omega)
  refine g_iconst X d_D_search_0 ?_
  refine g_istore_n X 2 d_D_search_1 rfl (by decide) ?_
  refine g_aload_n X 0 d_D_search_2 rfl rfl ?_
  refine d_get X 17 d_D_search_3 lk_D_50 (by decide) rfl rfl ?_
  refine g_iconst X d_D_search_6 ?_
  refine g_iconst X d_D_search_7 ?_
  refine d_zast X d_D_search_8 (by rfl) (by rfl) (by omega) (by decide) (by decide) ?_
  refine g_iconst X d_D_search_9 ?_
  refine g_istore_n X 3 d_D_search_10 rfl (by decide) ?_
  refine Node N 0 (up σ 14 0 0) 0 hN1 (by omega) ⟨fun i i1 i2 i3 i4 => by funext z; exact up_nc i4, fun _ _ => rfl⟩ hB0 ?_ ?_ (up_eq _ _ _ _) (fun n hn => ?_) (by omega) (by omega) (fun ρ c z1 z2 z3 z4 z5 z6 z7 z8 z9 => ?_)
  · show RW σ (fun k => σ 12 (((0 : Nat) : Int) * 4 + k))
    rw [rowe]; exact hs
  · show σ 12 0 + σ 12 1 + σ 12 2 + σ 12 3 = N
    omega
  · have hn' : Cov (σ 1) (σ 0 3) n (fun k => σ 12 (((0 : Nat) : Int) * 4 + k)) := hn
    rw [rowe] at hn'
    exact hn'
  · obtain ⟨bn, eb, hb, hbc⟩ := id z4
    have z9' : ∀ n : Nat, Cov (σ 1) (σ 0 3) n (fun k => σ 12 (((0 : Nat) : Int) * 4 + k)) → ρ 0 18 ≤ ((0 : Nat) : Int) + n := z9
    rw [rowe] at z9'
    refine g_iload_n X 3 d_D_search_11 rfl rfl ?_
    refine g_ldc (a := 134217728) X d_D_search_12 lk_D_124 rfl ?_
    refine g_icmp_ge X (tgt := 119) d_D_search_14 (by decide) (by omega) (by omega) (fun h14 => ?_) (fun h14 => ?_)
    · omega
    · refine g_iload_n X 2 d_D_search_17 rfl rfl ?_
      refine g_if_lt X (tgt := 119) d_D_search_18 (by decide) (by omega) (fun h18 => ?_) (fun h18 => ?_)
      · refine EX _ _ ρ z3 ⟨bn, eb, hbc, fun n hn => ?_⟩
        have := z9' n hn
        omega
      · omega
end S27
end
section
section S28
variable (l : Launch) (D : va_G) (a : Nat → ClassId) (q : Nat → Nat) (σ : zS)
/-- solve: the least number of rolls for the question at hand -/
theorem c_D_solve (hR : 1 ≤ σ 0 3 ∧ σ 0 3 ≤ 40) (hw : ∀ k, 0 ≤ k → k < 4 → 1 ≤ σ 1 k ∧ σ 1 k ≤ 20) (hs : RW σ (σ 3)) :
    K_D_solve l D a q [.ref (q 0)] σ (fun v τ => (∀ i, (i = 1 ∨ i = 2 ∨ i = 3) → τ i = σ i) ∧ (∀ z, z ≠ 7 → z ≠ 9 → z ≠ 18 → τ 0 z = σ 0 z) ∧ ∃ n, v = some (vI n) ∧ Opt (σ 1) (σ 0 3) (σ 3) n) := by
  refine Con.of (by decide) (dw_ad a q) (Nat.le_of_ble_eq_true rfl) (fun Γ X => ?_)
  have X : Cx Γ "CutDesk" b_D_solve (some .int) 3 5 121 (dw a q) _ l D (tysA a) := X
  show G Γ [(0, .ref (q 0))] σ 0 []
  have h3 : ∀ k, 0 ≤ k → k < 4 → 0 ≤ σ 3 k ∧ σ 3 k ≤ 3 := hs.1
  have y0 := h3 0 (by decide) (by decide)
  have y1 := h3 1 (by decide) (by decide)
  have y2 := h3 2 (by decide) (by decide)
  have y3 := h3 3 (by decide) (by decide)
  have L : ∀ (n : Nat) (k : Int) (τ : zS), k + n = 4 → 0 ≤ k → (∀ i, i ≠ 12 → τ i = σ i) → (∀ j, 0 ≤ j → j < k → τ 12 j = σ 3 j) → G Γ [(0, .ref (q 0)), (1, vI (ps (σ 3) k)), (2, vI k)] τ 4 [] := by
    intro n
    induction n with
    | zero =>
      intro k τ hk h0 f1 f2
      have e : k = 4 := by omega
      subst e
      have e0 : τ 0 = σ 0 := f1 0 (by decide)
      have e1 : τ 1 = σ 1 := f1 1 (by decide)
      have e3 : τ 3 = σ 3 := f1 3 (by decide)
      have hps : ps (σ 3) 4 = σ 3 0 + σ 3 1 + σ 3 2 + σ 3 3 := ps_4 _
      refine g_iload_n X 2 d_D_solve_4 rfl rfl ?_
      refine g_iconst X d_D_solve_5 ?_
      refine g_icmp_ge X (tgt := 36) d_D_solve_6 (by decide) (by omega) (by omega) (fun h6 => ?_) (fun h6 => ?_)
      · refine g_iload_n X 1 d_D_solve_36 rfl rfl ?_
        refine g_if_ne X (tgt := 42) d_D_solve_37 (by decide) (by omega) (fun h37 => ?_) (fun h37 => ?_)
        · -- there is something to cut
          have hex : ∃ k, 0 ≤ k ∧ k < 4 ∧ 0 < σ 3 k := by
            by_cases b0 : 0 < σ 3 0
            · exact ⟨0, by decide, by decide, b0⟩
            by_cases b1 : 0 < σ 3 1
            · exact ⟨1, by decide, by decide, b1⟩
            by_cases b2 : 0 < σ 3 2
            · exact ⟨2, by decide, by decide, b2⟩
            · exact ⟨3, by decide, by decide, by omega⟩
          refine g_aload_n X 0 d_D_solve_42 rfl rfl ?_
          refine d_callV X (c_D_findPrices l D a q τ (by rw [e0]; exact hR) (by rw [e1]; exact hw) (by rw [e3]; exact h3)) d_D_solve_43 lk_D_97 im_D_findPrices sl_D_findPrices k_D_findPrices ok_D_findPrices rfl (by decide) rfl (Nat.le_of_ble_eq_true rfl) (fun v2 τ2 hp2 => ?_)
          obtain ⟨rfl, g1, g2, gP⟩ := hp2
          have t1 : τ2 1 = σ 1 := by rw [g1 1 (by decide), e1]
          have t03 : τ2 0 3 = σ 0 3 := by rw [g2 3 (by decide) (by decide), e0]
          have t12 : ∀ k, 0 ≤ k → k < 4 → σ 3 k = τ2 12 k := fun k a1 a2 => by rw [g1 12 (by decide)]; exact (f2 k a1 a2).symm
          have rw2 : RW τ2 (fun k => τ2 12 k) := RW_congr t12 (by unfold RW; rw [t03, t1]; exact hs)
          refine g_aload_n X 0 d_D_solve_46 rfl rfl ?_
          refine g_aload_n X 0 d_D_solve_47 rfl rfl ?_
          refine d_callV X (c_D_byFallingWidths l D a q τ2 (by rw [t03]; exact hR) (by rw [t1]; exact hw) rw2) d_D_solve_48 lk_D_100 im_D_byFallingWidths sl_D_byFallingWidths k_D_byFallingWidths ok_D_byFallingWidths rfl (by decide) rfl (Nat.le_of_ble_eq_true rfl) (fun v3 τ3 hp3 => ?_)
          obtain ⟨k1, k2, n, rfl, hn, hcov⟩ := hp3
          rw [t1, t03] at hcov
          refine d_putI X (z := 18) 18 d_D_solve_51 lk_D_104 (by decide) rfl rfl rfl (by rfl) ?_
          refine g_aload_n X 0 d_D_solve_54 rfl rfl ?_
          refine g_iconst X d_D_solve_55 ?_
          -- the state with the first best
          have u1 : up τ3 0 18 n 1 = σ 1 := by show τ3 1 = _; rw [k1 1 (by decide) (by decide), t1]
          have u03 : up τ3 0 18 n 0 3 = σ 0 3 := by show τ3 0 3 = _; rw [k1 0 (by decide) (by decide), t03]
          have u12 : ∀ k, 0 ≤ k → k < 4 → σ 3 k = up τ3 0 18 n 12 k := fun k a1 a2 => by show _ = τ3 12 k; rw [k2 k a1 a2]; exact t12 k a1 a2
          have uP : PR (up τ3 0 18 n) := by
            have a6 : up τ3 0 18 n 6 = τ2 6 := by show τ3 6 = _; rw [k1 6 (by decide) (by decide)]
            have a09 : up τ3 0 18 n 0 9 = τ2 0 9 := by show τ3 0 9 = _; rw [k1 0 (by decide) (by decide)]
            unfold PR at gP ⊢
            rw [a6, a09, u1, u03, ← t1, ← t03]
            exact gP
          have uf : ∀ i, (i = 1 ∨ i = 2 ∨ i = 3) → up τ3 0 18 n i = σ i := fun i hi => by
            rw [← f1 i (by omega), ← g1 i (by omega), ← k1 i (by omega) (by omega)]
            funext z; exact up_nc (by omega)
          have uz : ∀ z, z ≠ 7 → z ≠ 9 → z ≠ 18 → up τ3 0 18 n 0 z = σ 0 z := fun z z1 z2 z3 => by rw [up_ne z3, k1 0 (by decide) (by decide), g2 z z1 z2, e0]
          have ub : up τ3 0 18 n 0 18 = n := up_eq _ _ _ _
          generalize up τ3 0 18 n = ρ at u1 u03 u12 uP uf uz ub ⊢
          have rwS : RW ρ (fun k => ρ 12 k) := RW_congr u12 (by unfold RW; rw [u03, u1]; exact hs)
          have rowe : (fun k => ρ 12 ((0 : Int) * 4 + k)) = fun k => ρ 12 k := by funext k; congr 1; omega
          have covS : Cov (σ 1) (σ 0 3) n (fun k => ρ 12 k) := Cov_congr (fun _ _ _ => rfl) n _ _ (fun k a1 a2 => by rw [← u12 k a1 a2, t12 k a1 a2]) hcov
          have toS : ∀ x, Opt (σ 1) (σ 0 3) (fun k => ρ 12 k) x → Opt (σ 1) (σ 0 3) (σ 3) x := fun x hx => Opt_congr (fun _ _ _ => rfl) (fun k a1 a2 => (u12 k a1 a2).symm) hx
          refine d_callV X (c_D_boundAt l D a q ρ 0 (by decide) (by rw [u1]; exact hw) uP (by rw [rowe]; exact rwS)) d_D_solve_56 lk_D_107 im_D_boundAt sl_D_boundAt k_D_boundAt ok_D_boundAt rfl (by decide) rfl (Nat.le_of_ble_eq_true rfl) (fun v4 ρ4 hp4 => ?_)
          obtain ⟨rfl, b, rfl, hb, hbl⟩ := hp4
          rw [rowe, u1, u03] at hbl
          refine g_istore_n X 2 d_D_solve_59 rfl (by decide) ?_
          refine g_iload_n X 2 d_D_solve_60 rfl rfl ?_
          refine g_aload_n X 0 d_D_solve_61 rfl rfl ?_
          refine d_get X 18 d_D_solve_62 lk_D_104 (by decide) rfl rfl ?_
          refine g_icmp_ge X (tgt := 73) d_D_solve_65 (by decide) (by omega) (by omega) (fun h65 => ?_) (fun h65 => ?_)
          · refine g_aload_n X 0 d_D_solve_73 rfl rfl ?_
            refine d_get X 18 d_D_solve_74 lk_D_104 (by decide) rfl rfl ?_
            refine g_iret X d_D_solve_77 rfl ?_
            refine ⟨uf, uz, _, rfl, toS _ ⟨n, ub, covS, fun j hj => ?_⟩⟩
            have := hbl j hj
            omega
          · refine g_aload_n X 0 d_D_solve_68 rfl rfl ?_
            refine g_iload_n X 2 d_D_solve_69 rfl rfl ?_
            refine d_callV X (c_D_search l D a q ρ4 b hb (by rw [u03]; exact hR) (by rw [u1]; exact hw) uP rwS (by obtain ⟨k, a1, a2, a3⟩ := hex; exact ⟨k, a1, a2, by rw [← u12 k a1 a2]; exact a3⟩) ⟨n, ub, hn, by rw [u1, u03]; exact covS⟩ (by rw [u1, u03]; exact hbl)) d_D_solve_70 lk_D_111 im_D_search sl_D_search k_D_search ok_D_search rfl (by decide) rfl (Nat.le_of_ble_eq_true rfl) (fun v5 ρ5 hp5 => ?_)
            obtain ⟨rfl, w1, wO⟩ := hp5
            rw [u1, u03] at wO
            refine g_aload_n X 0 d_D_solve_73 rfl rfl ?_
            refine d_get X 18 d_D_solve_74 lk_D_104 (by decide) rfl rfl ?_
            refine g_iret X d_D_solve_77 rfl ?_
            exact ⟨fun i hi => by rw [w1.1 i (by omega) (by omega) (by omega) (by omega)]; exact uf i hi, fun z z1 z2 z3 => by rw [w1.2 z z3]; exact uz z z1 z2 z3, _, rfl, toS _ wO⟩
        · refine g_iconst X d_D_solve_40 ?_
          refine g_iret X d_D_solve_41 rfl ?_
          refine ⟨fun i hi => f1 i (by omega), fun z _ _ _ => by rw [e0], 0, rfl, Opt_zero (fun k a1 a2 => ?_)⟩
          rcases four a1 a2 with rfl | rfl | rfl | rfl <;> omega
      · omega
    | succ n ih =>
      intro k τ hk h0 f1 f2
      have e3 : τ 3 = σ 3 := f1 3 (by decide)
      have hk3 := h3 k h0 (by omega)
      refine g_iload_n X 2 d_D_solve_4 rfl rfl ?_
      refine g_iconst X d_D_solve_5 ?_
      refine g_icmp_ge X (tgt := 36) d_D_solve_6 (by decide) (by omega) (by omega) (fun h6 => ?_) (fun h6 => ?_)
      · omega
      · refine g_iload_n X 1 d_D_solve_9 rfl rfl ?_
        refine g_aload_n X 0 d_D_solve_10 rfl rfl ?_
        refine d_get X 4 d_D_solve_11 lk_D_16 (by decide) rfl rfl ?_
        refine g_iload_n X 2 d_D_solve_14 rfl rfl ?_
        refine d_bald X d_D_solve_15 (by rfl) (by omega) (by decide) ?_
        rw [e3]
        refine g_iadd X d_D_solve_16 ?_
        refine g_istore_n X 1 d_D_solve_17 rfl (by decide) ?_
        refine g_aload_n X 0 d_D_solve_18 rfl rfl ?_
        refine d_get X 15 d_D_solve_19 lk_D_44 (by decide) rfl rfl ?_
        refine g_iload_n X 2 d_D_solve_22 rfl rfl ?_
        refine g_aload_n X 0 d_D_solve_23 rfl rfl ?_
        refine d_get X 4 d_D_solve_24 lk_D_16 (by decide) rfl rfl ?_
        refine g_iload_n X 2 d_D_solve_27 rfl rfl ?_
        refine d_bald X d_D_solve_28 (by rfl) (by omega) (by decide) ?_
        rw [e3]
        refine d_bast X d_D_solve_29 (by rfl) (by rfl) (by omega) (by decide) (by omega) ?_
        refine g_iinc X d_D_solve_30 rfl (by decide) ?_
        refine g_goto X (tgt := 4) d_D_solve_33 (by decide) ?_
        have := ih (k + 1) (up τ 12 k (σ 3 k)) (by omega) (by omega) (fun i hi => by rw [← f1 i hi]; funext z; exact up_nc hi) (fun j a1 a2 => by
          rw [up_if]
          split
          · rename_i e; rw [e]
          · exact f2 j a1 (by omega))
        rw [ps_s _ h0 (by omega)] at this
        exact this
  refine g_iconst X d_D_solve_0 ?_
  refine g_istore_n X 1 d_D_solve_1 rfl (by decide) ?_
  refine g_iconst X d_D_solve_2 ?_
  refine g_istore_n X 2 d_D_solve_3 rfl (by decide) ?_
  exact L 4 0 σ (by omega) (by omega) (fun _ _ => rfl) (fun j a1 a2 => by omega)
/-- what a question leaves of the desk: roll, widths, orders -/
def DF (σ τ : zS) : Prop := τ 0 0 = σ 0 0 ∧ τ 1 = σ 1 ∧ τ 2 = σ 2
theorem DF.si {σ τ : zS} (h : DF σ τ) (hS : SI σ) : SI τ := by
  obtain ⟨h1, h2, h3⟩ := h
  unfold SI
  rw [h1, h2, h3]
  exact hS
theorem DF.tr {σ τ ρ : zS} (h : DF σ τ) (h2 : DF τ ρ) : DF σ ρ := ⟨h2.1.trans h.1, h2.2.1.trans h.2.1, h2.2.2.trans h.2.2⟩
theorem c_D_least (hS : SI σ) : K_D_least l D a q [.ref (q 0)] σ (fun v τ => DF σ τ ∧ ∃ n, v = some (vI n) ∧ Opt (σ 1) (σ 0 0) (σ 2) n) := by
  refine Con.of (by decide) (dw_ad a q) (Nat.le_of_ble_eq_true rfl) (fun Γ X => ?_)
  have X : Cx Γ "CutDesk" b_D_least (some .int) 1 6 143 (dw a q) _ l D (tysA a) := X
  show G Γ [(0, .ref (q 0))] σ 0 []
  obtain ⟨hR, hw, ho⟩ := id hS
  refine g_aload_n X 0 d_D_least_0 rfl rfl ?_
  refine d_callV X (c_D_askPlainly l D a q σ hS) d_D_least_1 lk_D_137 im_D_askPlainly sl_D_askPlainly k_D_askPlainly ok_D_askPlainly rfl (by decide) rfl (Nat.le_of_ble_eq_true rfl) (fun v2 σ2 hp2 => ?_)
  obtain ⟨rfl, f1, f2, f3, f4⟩ := hp2
  have e1 : σ2 1 = σ 1 := f4 1 (by decide) (by decide)
  have e2 : σ2 2 = σ 2 := f4 2 (by decide) (by decide)
  refine g_aload_n X 0 d_D_least_4 rfl rfl ?_
  refine d_callV X (c_D_solve l D a q σ2 (by rw [f1]; omega) (by rw [e1]; exact hS.w20) ⟨fun k a1 a2 => by rw [f3 k a1 a2]; exact ho k a1 a2, fun k a1 a2 a3 => by rw [f1, e1] at a3; have := hw k a1 a2; omega⟩) d_D_least_5 lk_D_140 im_D_solve sl_D_solve k_D_solve ok_D_solve rfl (by decide) rfl (Nat.le_of_ble_eq_true rfl) (fun v3 σ3 hp3 => ?_)
  obtain ⟨g1, g2, n, rfl, hO⟩ := hp3
  rw [f1, e1] at hO
  refine g_iret X d_D_least_8 rfl ?_
  exact ⟨⟨by rw [g2 0 (by decide) (by decide) (by decide)]; exact f2 0 (by decide), by rw [g1 1 (by decide), e1], by rw [g1 2 (by decide), e2]⟩, n, rfl, Opt_congr (fun _ _ _ => rfl) f3 hO⟩
theorem c_D_leastWith (k n : Int) (hk : -2147483648 ≤ k ∧ k < 2147483648) (hn : -2147483648 ≤ n ∧ n < 2147483648) (hS : SI σ) :
    K_D_leastWith l D a q [.ref (q 0), vI k, vI n] σ (fun v τ => DF σ τ ∧ ((((0 ≤ k ∧ k < 4) ∧ 0 ≤ n ∧ n ≤ 3) ∧ ∃ m, v = some (vI m) ∧ Opt (σ 1) (σ 0 0) (setv (σ 2) k n) m) ∨ (¬ ((0 ≤ k ∧ k < 4) ∧ 0 ≤ n ∧ n ≤ 3) ∧ v = some (vI (-1))))) := by
  refine Con.of (by decide) (dw_ad a q) (Nat.le_of_ble_eq_true rfl) (fun Γ X => ?_)
  have X : Cx Γ "CutDesk" b_D_leastWith (some .int) 3 6 143 (dw a q) _ l D (tysA a) := X
  show G Γ [(0, .ref (q 0)), (1, vI k), (2, vI n)] σ 0 []
  obtain ⟨hR, hw, ho⟩ := id hS
  have F : ¬ ((0 ≤ k ∧ k < 4) ∧ 0 ≤ n ∧ n ≤ 3) → G Γ [(0, .ref (q 0)), (1, vI k), (2, vI n)] σ 16 [] := by
    intro h
    refine g_iconst X d_D_leastWith_16 ?_
    refine g_iret X d_D_leastWith_17 rfl ?_
    exact ⟨⟨rfl, rfl, rfl⟩, Or.inr ⟨h, rfl⟩⟩
  refine g_iload_n X 1 d_D_leastWith_0 rfl rfl ?_
  refine g_callS X (c_D_isKind l D a q σ k hk) d_D_leastWith_1 lk_D_58 sm_D_isKind in_D k_D_isKind ok_D_isKind rfl (by decide) rfl (Nat.le_of_ble_eq_true rfl) (fun v2 σ2 hp2 => ?_)
  obtain ⟨rfl, hp2⟩ := hp2
  rcases hp2 with ⟨rfl, hk1⟩ | ⟨rfl, hk1⟩
  · refine g_if_eq X (tgt := 16) d_D_leastWith_4 (by decide) (by omega) (fun h4 => ?_) (fun h4 => ?_)
    · omega
    · refine g_iload_n X 2 d_D_leastWith_7 rfl rfl ?_
      refine g_if_lt X (tgt := 16) d_D_leastWith_8 (by decide) (by omega) (fun h8 => ?_) (fun h8 => ?_)
      · exact F (by omega)
      · refine g_iload_n X 2 d_D_leastWith_11 rfl rfl ?_
        refine g_iconst X d_D_leastWith_12 ?_
        refine g_icmp_le X (tgt := 18) d_D_leastWith_13 (by decide) (by omega) (by omega) (fun h13 => ?_) (fun h13 => ?_)
        · refine g_aload_n X 0 d_D_leastWith_18 rfl rfl ?_
          refine d_callV X (c_D_askPlainly l D a q σ2 hS) d_D_leastWith_19 lk_D_137 im_D_askPlainly sl_D_askPlainly k_D_askPlainly ok_D_askPlainly rfl (by decide) rfl (Nat.le_of_ble_eq_true rfl) (fun v3 σ3 hp3 => ?_)
          obtain ⟨rfl, f1, f2, f3, f4⟩ := hp3
          have e1 : σ3 1 = σ2 1 := f4 1 (by decide) (by decide)
          have e2 : σ3 2 = σ2 2 := f4 2 (by decide) (by decide)
          refine g_aload_n X 0 d_D_leastWith_22 rfl rfl ?_
          refine d_get X 4 d_D_leastWith_23 lk_D_16 (by decide) rfl rfl ?_
          refine g_iload_n X 1 d_D_leastWith_26 rfl rfl ?_
          refine g_iload_n X 2 d_D_leastWith_27 rfl rfl ?_
          refine g_i2b X d_D_leastWith_28 (by omega) ?_
          refine d_bast X d_D_leastWith_29 (by rfl) (by rfl) (by omega) (by decide) (by omega) ?_
          refine g_aload_n X 0 d_D_leastWith_30 rfl rfl ?_
          have r3 : ∀ j, 0 ≤ j → j < 4 → up σ3 3 k n 3 j = setv (σ2 2) k n j := fun j a1 a2 => by
            rw [up_if]
            unfold setv
            split
            · rfl
            · exact f3 j a1 a2
          refine d_callV X (c_D_solve l D a q (up σ3 3 k n) (by show 1 ≤ σ3 0 3 ∧ σ3 0 3 ≤ 40; rw [f1]; omega) (by show ∀ k, 0 ≤ k → k < 4 → 1 ≤ σ3 1 k ∧ σ3 1 k ≤ 20; rw [e1]; exact hS.w20) ⟨fun j a1 a2 => by rw [r3 j a1 a2]; have := ho j a1 a2; unfold setv; split <;> omega, fun j a1 a2 a3 => by have a3' : σ3 0 3 < σ3 1 j := a3; rw [f1, e1] at a3'; have := hw j a1 a2; omega⟩) d_D_leastWith_31 lk_D_140 im_D_solve sl_D_solve k_D_solve ok_D_solve rfl (by decide) rfl (Nat.le_of_ble_eq_true rfl) (fun v4 σ4 hp4 => ?_)
          obtain ⟨g1, g2, m, rfl, hO⟩ := hp4
          have hO' : Opt (σ3 1) (σ3 0 3) (up σ3 3 k n 3) m := hO
          rw [f1, e1] at hO'
          refine g_iret X d_D_leastWith_34 rfl ?_
          refine ⟨⟨?_, ?_, ?_⟩, Or.inl ⟨by omega, m, rfl, Opt_congr (fun _ _ _ => rfl) r3 hO'⟩⟩
          · rw [g2 0 (by decide) (by decide) (by decide)]; exact f2 0 (by decide)
          · rw [g1 1 (by decide)]; exact e1
          · rw [g1 2 (by decide)]; exact e2
        · exact F (by omega)
  · refine g_if_eq X (tgt := 16) d_D_leastWith_4 (by decide) (by omega) (fun h4 => ?_) (fun h4 => ?_)
    · exact F (by omega)
    · omega
theorem c_D_leastFor (W : Int) (hW : -2147483648 ≤ W ∧ W < 2147483648) (hS : SI σ) :
    K_D_leastFor l D a q [.ref (q 0), vI W] σ (fun v τ => DF σ τ ∧ ((LB (σ 1) (σ 2) W ∧ v = some (vI (-1))) ∨ (¬ LB (σ 1) (σ 2) W ∧ ∃ n, v = some (vI n) ∧ Opt (σ 1) W (σ 2) n))) := by
  refine Con.of (by decide) (dw_ad a q) (Nat.le_of_ble_eq_true rfl) (fun Γ X => ?_)
  have X : Cx Γ "CutDesk" b_D_leastFor (some .int) 3 6 143 (dw a q) _ l D (tysA a) := X
  show G Γ [(0, .ref (q 0)), (1, vI W)] σ 0 []
  obtain ⟨hR, hw, ho⟩ := id hS
  have hw20 := hS.w20
  have F : LB (σ 1) (σ 2) W → G Γ [(0, .ref (q 0)), (1, vI W)] σ 11 [] := by
    intro h
    refine g_iconst X d_D_leastFor_11 ?_
    refine g_iret X d_D_leastFor_12 rfl ?_
    exact ⟨⟨rfl, rfl, rfl⟩, Or.inl ⟨h, rfl⟩⟩
  have L : ∀ (n : Nat) (k : Int), k + n = 4 → 0 ≤ k → 1 ≤ W ∧ W ≤ 40 → (∀ j, 0 ≤ j → j < k → 0 < σ 2 j → σ 1 j ≤ W) → G Γ [(0, .ref (q 0)), (1, vI W), (2, vI k)] σ 15 [] := by
    intro n
    induction n with
    | zero =>
      intro k hk h0 hr hj
      have hfit : ∀ j, 0 ≤ j → j < 4 → 0 < σ 2 j → σ 1 j ≤ W := fun j a1 a2 a3 => hj j a1 (by omega) a3
      have nlb : ¬ LB (σ 1) (σ 2) W := by
        rintro (h | ⟨j, a1, a2, a3, a4⟩)
        · exact h hr
        · have := hfit j a1 a2 a3
          omega
      refine g_iload_n X 2 d_D_leastFor_15 rfl rfl ?_
      refine g_iconst X d_D_leastFor_16 ?_
      refine g_icmp_ge X (tgt := 47) d_D_leastFor_17 (by decide) (by omega) (by omega) (fun h17 => ?_) (fun h17 => ?_)
      · refine g_aload_n X 0 d_D_leastFor_47 rfl rfl ?_
        refine d_callV X (c_D_askPlainly l D a q σ hS) d_D_leastFor_48 lk_D_137 im_D_askPlainly sl_D_askPlainly k_D_askPlainly ok_D_askPlainly rfl (by decide) rfl (Nat.le_of_ble_eq_true rfl) (fun v2 σ2 hp2 => ?_)
        obtain ⟨rfl, f1, f2, f3, f4⟩ := hp2
        have e1 : σ2 1 = σ 1 := f4 1 (by decide) (by decide)
        have e2 : σ2 2 = σ 2 := f4 2 (by decide) (by decide)
        refine g_aload_n X 0 d_D_leastFor_51 rfl rfl ?_
        refine g_iload_n X 1 d_D_leastFor_52 rfl rfl ?_
        refine d_putI X (z := 3) 3 d_D_leastFor_53 lk_D_62 (by decide) rfl rfl rfl (by rfl) ?_
        refine g_aload_n X 0 d_D_leastFor_56 rfl rfl ?_
        have r03 : up σ2 0 3 W 0 3 = W := up_eq _ _ _ _
        have r1 : up σ2 0 3 W 1 = σ 1 := e1
        have r3 : ∀ j, 0 ≤ j → j < 4 → up σ2 0 3 W 3 j = σ 2 j := f3
        refine d_callV X (c_D_solve l D a q (up σ2 0 3 W) (by rw [r03]; exact hr) (by rw [r1]; exact hw20) ⟨fun j a1 a2 => by rw [r3 j a1 a2]; exact ho j a1 a2, fun j a1 a2 a3 => by rw [r03, r1] at a3; rw [r3 j a1 a2]; have := ho j a1 a2; by_cases c : 0 < σ 2 j; (have := hfit j a1 a2 c; omega); omega⟩) d_D_leastFor_57 lk_D_140 im_D_solve sl_D_solve k_D_solve ok_D_solve rfl (by decide) rfl (Nat.le_of_ble_eq_true rfl) (fun v4 σ4 hp4 => ?_)
        obtain ⟨g1, g2, m, rfl, hO⟩ := hp4
        rw [r03, r1] at hO
        refine g_iret X d_D_leastFor_60 rfl ?_
        refine ⟨⟨?_, ?_, ?_⟩, Or.inr ⟨nlb, m, rfl, Opt_congr (fun _ _ _ => rfl) r3 hO⟩⟩
        · rw [g2 0 (by decide) (by decide) (by decide)]; exact f2 0 (by decide)
        · rw [g1 1 (by decide)]; exact e1
        · rw [g1 2 (by decide)]; exact e2
      · omega
    | succ n ih =>
      intro k hk h0 hr hj
      have hb := hw20 k h0 (by omega)
      have hc := ho k h0 (by omega)
      have go : (0 < σ 2 k → σ 1 k ≤ W) → G Γ [(0, .ref (q 0)), (1, vI W), (2, vI k)] σ 41 [] := by
        intro h
        refine g_iinc X d_D_leastFor_41 rfl (by decide) ?_
        refine g_goto X (tgt := 15) d_D_leastFor_44 (by decide) ?_
        refine ih (k + 1) (by omega) (by omega) hr (fun j a1 a2 a3 => ?_)
        by_cases e : j = k
        · subst e; exact h a3
        · exact hj j a1 (by omega) a3
      refine g_iload_n X 2 d_D_leastFor_15 rfl rfl ?_
      refine g_iconst X d_D_leastFor_16 ?_
      refine g_icmp_ge X (tgt := 47) d_D_leastFor_17 (by decide) (by omega) (by omega) (fun h17 => ?_) (fun h17 => ?_)
      · omega
      · refine g_aload_n X 0 d_D_leastFor_20 rfl rfl ?_
        refine d_get X 2 d_D_leastFor_21 lk_D_13 (by decide) rfl rfl ?_
        refine g_iload_n X 2 d_D_leastFor_24 rfl rfl ?_
        refine d_bald X d_D_leastFor_25 (by rfl) (by omega) (by decide) ?_
        refine g_if_le X (tgt := 41) d_D_leastFor_26 (by decide) (by omega) (fun h26 => ?_) (fun h26 => ?_)
        · exact go (fun h => by omega)
        · refine g_aload_n X 0 d_D_leastFor_29 rfl rfl ?_
          refine d_get X 1 d_D_leastFor_30 lk_D_7 (by decide) rfl rfl ?_
          refine g_iload_n X 2 d_D_leastFor_33 rfl rfl ?_
          refine d_bald X d_D_leastFor_34 (by rfl) (by omega) (by decide) ?_
          refine g_iload_n X 1 d_D_leastFor_35 rfl rfl ?_
          refine g_icmp_le X (tgt := 41) d_D_leastFor_36 (by decide) (by omega) (by omega) (fun h36 => ?_) (fun h36 => ?_)
          · exact go (fun _ => h36)
          · refine g_iconst X d_D_leastFor_39 ?_
            refine g_iret X d_D_leastFor_40 rfl ?_
            exact ⟨⟨rfl, rfl, rfl⟩, Or.inl ⟨Or.inr ⟨k, h0, by omega, by omega, by omega⟩, rfl⟩⟩
  refine g_iload_n X 1 d_D_leastFor_0 rfl rfl ?_
  refine g_iconst X d_D_leastFor_1 ?_
  refine g_icmp_lt X (tgt := 11) d_D_leastFor_2 (by decide) (by omega) (by omega) (fun h2 => ?_) (fun h2 => ?_)
  · exact F (Or.inl (by omega))
  · refine g_iload_n X 1 d_D_leastFor_5 rfl rfl ?_
    refine g_bipush X d_D_leastFor_6 (by decide) ?_
    refine g_icmp_le X (tgt := 13) d_D_leastFor_8 (by decide) (by omega) (by omega) (fun h8 => ?_) (fun h8 => ?_)
    · refine g_iconst X d_D_leastFor_13 ?_
      refine g_istore_n X 2 d_D_leastFor_14 rfl (by decide) ?_
      exact L 4 0 (by omega) (by omega) (by omega) (fun j a1 a2 => by omega)
    · exact F (Or.inl (by omega))
theorem c_D_freeOrder (k : Int) (hk : -2147483648 ≤ k ∧ k < 2147483648) (hS : SI σ) :
    K_D_freeOrder l D a q [.ref (q 0), vI k] σ (fun v τ => DF σ τ ∧ ((¬ (0 ≤ k ∧ k < 4) ∧ v = some (vI (-1))) ∨ ((0 ≤ k ∧ k < 4) ∧ ∃ x, v = some (vI x) ∧ FO (σ 1) (σ 0 0) (σ 2) k x))) := by
  refine Con.of (by decide) (dw_ad a q) (Nat.le_of_ble_eq_true rfl) (fun Γ X => ?_)
  have X : Cx Γ "CutDesk" b_D_freeOrder (some .int) 6 7 165 (dw a q) _ l D (tysA a) := X
  show G Γ [(0, .ref (q 0)), (1, vI k)] σ 0 []
  obtain ⟨hR, hw, ho⟩ := id hS
  refine g_iload_n X 1 d_D_freeOrder_0 rfl rfl ?_
  refine g_callS X (c_D_isKind l D a q σ k hk) d_D_freeOrder_1 lk_D_58 sm_D_isKind in_D k_D_isKind ok_D_isKind rfl (by decide) rfl (Nat.le_of_ble_eq_true rfl) (fun v2 σ2 hp2 => ?_)
  obtain ⟨rfl, hp2⟩ := hp2
  rcases hp2 with ⟨rfl, hk1⟩ | ⟨rfl, hk1⟩
  · refine g_if_ne X (tgt := 9) d_D_freeOrder_4 (by decide) (by omega) (fun h4 => ?_) (fun h4 => ?_)
    · refine g_aload_n X 0 d_D_freeOrder_9 rfl rfl ?_
      refine d_callV X (c_D_least l D a q σ2 hS) d_D_freeOrder_10 lk_D_143 im_D_least sl_D_least k_D_least ok_D_least rfl (by decide) rfl (Nat.le_of_ble_eq_true rfl) (fun v3 σ3 hp3 => ?_)
      obtain ⟨hF0, now, rfl, hnow⟩ := hp3
      have hnb := Opt_12 (by omega) ho (fun k a1 a2 _ => (hw k a1 a2).2) hnow
      have hok := ho k hk1.1 hk1.2
      have L : ∀ (m : Nat) (n x : Int) (τ : zS), n + m = 4 → σ2 2 k < n → DF σ2 τ → (x = σ2 2 k ∨ (σ2 2 k < x ∧ x < n ∧ FE (σ2 1) (σ2 0 0) (σ2 2) k x)) → (∀ j, x < j → j < n → σ2 2 k < j → ¬ FE (σ2 1) (σ2 0 0) (σ2 2) k j) →
          G Γ [(0, .ref (q 0)), (1, vI k), (2, vI now), (3, vI x), (4, vI n)] τ 31 [] := by
        intro m
        induction m with
        | zero =>
          intro n x τ hm hn hfr hx hj
          refine g_iload X d_D_freeOrder_31 rfl ?_
          refine g_iconst X d_D_freeOrder_33 ?_
          refine g_icmp_gt X (tgt := 61) d_D_freeOrder_34 (by decide) (by omega) (by omega) (fun h34 => ?_) (fun h34 => ?_)
          · refine g_iload_n X 3 d_D_freeOrder_61 rfl rfl ?_
            refine g_iret X d_D_freeOrder_62 rfl ?_
            refine ⟨hfr, Or.inr ⟨hk1, x, rfl, ?_, fun j a1 a2 a3 => hj j a1 (by omega) a3⟩⟩
            rcases hx with hx | ⟨b1, b2, b3⟩
            · exact Or.inl hx
            · exact Or.inr ⟨b1, by omega, b3⟩
          · omega
        | succ m ih =>
          intro n x τ hm hn hfr hx hj
          have ho2 : ∀ j, 0 ≤ j → j < 4 → 0 ≤ setv (σ2 2) k n j ∧ setv (σ2 2) k n j ≤ 3 := fun j a1 a2 => by
            have := ho j a1 a2
            unfold setv
            split <;> omega
          refine g_iload X d_D_freeOrder_31 rfl ?_
          refine g_iconst X d_D_freeOrder_33 ?_
          refine g_icmp_gt X (tgt := 61) d_D_freeOrder_34 (by decide) (by omega) (by omega) (fun h34 => ?_) (fun h34 => ?_)
          · omega
          · refine g_aload_n X 0 d_D_freeOrder_37 rfl rfl ?_
            refine g_iload_n X 1 d_D_freeOrder_38 rfl rfl ?_
            refine g_iload X d_D_freeOrder_39 rfl ?_
            refine d_callV X (c_D_leastWith l D a q τ k n hk (by omega) (hfr.si hS)) d_D_freeOrder_41 lk_D_146 im_D_leastWith sl_D_leastWith k_D_leastWith ok_D_leastWith rfl (by decide) rfl (Nat.le_of_ble_eq_true rfl) (fun v4 σ4 hp4 => ?_)
            obtain ⟨hfr4, hp4⟩ := hp4
            rw [hfr.1, hfr.2.1, hfr.2.2] at hp4
            have hfr5 := hfr.tr hfr4
            rcases hp4 with ⟨-, t, rfl, ht⟩ | ⟨hno, -⟩
            · have htb := Opt_12 (by omega) ho2 (fun k a1 a2 _ => (hw k a1 a2).2) ht
              have hiff := (FE_iff (k := k) (n := n) (by omega) hnow ht).2
              refine g_istore X d_D_freeOrder_44 (by decide) ?_
              refine g_iload X d_D_freeOrder_46 rfl ?_
              refine g_iload_n X 2 d_D_freeOrder_48 rfl rfl ?_
              refine g_icmp_ne X (tgt := 55) d_D_freeOrder_49 (by decide) (by omega) (by omega) (fun h49 => ?_) (fun h49 => ?_)
              · refine g_iinc X d_D_freeOrder_55 rfl (by decide) ?_
                refine g_goto X (tgt := 31) d_D_freeOrder_58 (by decide) ?_
                refine g_sub [0, 1, 2, 3, 4] rfl ?_
                refine ih (n + 1) x σ4 (by omega) (by omega) hfr5 ?_ (fun j a1 a2 a3 => ?_)
                · rcases hx with hx | ⟨b1, b2, b3⟩
                  · exact Or.inl hx
                  · exact Or.inr ⟨b1, by omega, b3⟩
                · by_cases e : j = n
                  · subst e
                    rw [hiff]
                    omega
                  · exact hj j a1 (by omega) a3
              · refine g_iload X d_D_freeOrder_52 rfl ?_
                refine g_istore_n X 3 d_D_freeOrder_54 rfl (by decide) ?_
                refine g_iinc X d_D_freeOrder_55 rfl (by decide) ?_
                refine g_goto X (tgt := 31) d_D_freeOrder_58 (by decide) ?_
                refine g_sub [0, 1, 2, 3, 4] rfl ?_
                refine ih (n + 1) n σ4 (by omega) (by omega) hfr5 (Or.inr ⟨by omega, by omega, hiff.mpr (by omega)⟩) (fun j a1 a2 a3 => by omega)
            · exact absurd ⟨hk1, by omega, by omega⟩ hno
      have e2 : σ3 2 = σ2 2 := hF0.2.2
      refine g_istore_n X 2 d_D_freeOrder_13 rfl (by decide) ?_
      refine g_aload_n X 0 d_D_freeOrder_14 rfl rfl ?_
      refine d_get X 2 d_D_freeOrder_15 lk_D_13 (by decide) rfl rfl ?_
      refine g_iload_n X 1 d_D_freeOrder_18 rfl rfl ?_
      refine d_bald X d_D_freeOrder_19 (by rfl) (by omega) (by decide) ?_
      refine g_istore_n X 3 d_D_freeOrder_20 rfl (by decide) ?_
      refine g_aload_n X 0 d_D_freeOrder_21 rfl rfl ?_
      refine d_get X 2 d_D_freeOrder_22 lk_D_13 (by decide) rfl rfl ?_
      refine g_iload_n X 1 d_D_freeOrder_25 rfl rfl ?_
      refine d_bald X d_D_freeOrder_26 (by rfl) (by omega) (by decide) ?_
      refine g_iconst X d_D_freeOrder_27 ?_
      refine g_iadd X d_D_freeOrder_28 ?_
      refine g_istore X d_D_freeOrder_29 (by decide) ?_
      rw [e2]
      exact L (3 - σ2 2 k).toNat _ _ _ (by omega) (by omega) hF0 (Or.inl rfl) (fun j a1 a2 a3 => by omega)
    · omega
  · refine g_if_ne X (tgt := 9) d_D_freeOrder_4 (by decide) (by omega) (fun h4 => ?_) (fun h4 => ?_)
    · omega
    · refine g_iconst X d_D_freeOrder_7 ?_
      refine g_iret X d_D_freeOrder_8 rfl ?_
      exact ⟨⟨rfl, rfl, rfl⟩, Or.inl ⟨hk1, rfl⟩⟩
theorem c_D_leavesOneLess (p c : Int) (hp : 0 ≤ p ∧ p ≤ 255) (hc : 0 ≤ c ∧ c ≤ 12) (hS : SI σ) :
    K_D_leavesOneLess l D a q [.ref (q 0), vI p, vI c] σ (fun v τ => DF σ τ ∧ ((v = some (vI 1) ∧ Opt (σ 1) (σ 0 0) (sbo (σ 2) p) (c - 1)) ∨ (v = some (vI 0) ∧ ¬ Opt (σ 1) (σ 0 0) (sbo (σ 2) p) (c - 1)))) := by
  refine Con.of (by decide) (dw_ad a q) (Nat.le_of_ble_eq_true rfl) (fun Γ X => ?_)
  have X : Cx Γ "CutDesk" b_D_leavesOneLess (some .boolean) 5 6 143 (dw a q) _ l D (tysA a) := X
  show G Γ [(0, .ref (q 0)), (1, vI p), (2, vI c)] σ 0 []
  obtain ⟨hR, hw, ho⟩ := id hS
  have sb3 : ∀ k, 0 ≤ k → k < 4 → 0 ≤ sbo (σ 2) p k ∧ sbo (σ 2) p k ≤ 3 := fun k a1 a2 => by
    have := ho k a1 a2
    have := vec_rng p k
    unfold sbo mx0
    split <;> omega
  have L : ∀ (n : Nat) (k : Int) (τ : zS), k + n = 4 → 0 ≤ k → DF σ τ → τ 0 3 = σ 0 0 → (∀ j, 0 ≤ j → j < k → τ 3 j = sbo (σ 2) p j) → (∀ j, k ≤ j → j < 4 → τ 3 j = σ 2 j) → G Γ [(0, .ref (q 0)), (1, vI p), (2, vI c), (3, vI k)] τ 6 [] := by
    intro n
    induction n with
    | zero =>
      intro k τ hk h0 f1 f2 f3 f4
      have e1 : τ 1 = σ 1 := f1.2.1
      have r3 : ∀ j, 0 ≤ j → j < 4 → τ 3 j = sbo (σ 2) p j := fun j a1 a2 => f3 j a1 (by omega)
      refine g_iload_n X 3 d_D_leavesOneLess_6 rfl rfl ?_
      refine g_iconst X d_D_leavesOneLess_7 ?_
      refine g_icmp_ge X (tgt := 51) d_D_leavesOneLess_8 (by decide) (by omega) (by omega) (fun h8 => ?_) (fun h8 => ?_)
      · refine g_aload_n X 0 d_D_leavesOneLess_51 rfl rfl ?_
        refine d_callV X (c_D_solve l D a q τ (by rw [f2]; omega) (by rw [e1]; exact hS.w20) ⟨fun j a1 a2 => by rw [r3 j a1 a2]; exact sb3 j a1 a2, fun j a1 a2 a3 => by rw [f2, e1] at a3; have := hw j a1 a2; omega⟩) d_D_leavesOneLess_52 lk_D_140 im_D_solve sl_D_solve k_D_solve ok_D_solve rfl (by decide) rfl (Nat.le_of_ble_eq_true rfl) (fun v4 σ4 hp4 => ?_)
        obtain ⟨g1, g2, m, rfl, hO⟩ := hp4
        rw [f2, e1] at hO
        have hO' : Opt (σ 1) (σ 0 0) (sbo (σ 2) p) m := Opt_congr (fun _ _ _ => rfl) r3 hO
        have hmb := Opt_12 (by omega) sb3 (fun k a1 a2 _ => (hw k a1 a2).2) hO'
        have hF : DF σ σ4 := f1.tr ⟨g2 0 (by decide) (by decide) (by decide), g1 1 (by decide), g1 2 (by decide)⟩
        refine g_iload_n X 2 d_D_leavesOneLess_55 rfl rfl ?_
        refine g_iconst X d_D_leavesOneLess_56 ?_
        refine g_isub X d_D_leavesOneLess_57 ?_
        refine g_icmp_ne X (tgt := 65) d_D_leavesOneLess_58 (by decide) (by omega) (by omega) (fun h58 => ?_) (fun h58 => ?_)
        · refine g_iconst X d_D_leavesOneLess_65 ?_
          refine g_zret X d_D_leavesOneLess_66 rfl (by decide) ?_
          exact ⟨hF, Or.inr ⟨rfl, fun h => h58 (Opt_uniq hO' h)⟩⟩
        · refine g_iconst X d_D_leavesOneLess_61 ?_
          refine g_goto X (tgt := 66) d_D_leavesOneLess_62 (by decide) ?_
          refine g_zret X d_D_leavesOneLess_66 rfl (by decide) ?_
          exact ⟨hF, Or.inl ⟨rfl, h58 ▸ hO'⟩⟩
      · omega
    | succ n ih =>
      intro k τ hk h0 f1 f2 f3 f4
      have k4 : k < 4 := by omega
      have hok := ho k h0 k4
      have hv := vec_rng p k
      have e3 := f4 k (Int.le_refl _) k4
      have J : ∀ x : Int, x = sbo (σ 2) p k → G Γ [(0, .ref (q 0)), (1, vI p), (2, vI c), (3, vI k), (4, vI (σ 2 k - vec p k))] τ 43 [vI x, vI k, .ref (q 3)] := by
        intro x hx
        have hxr := sb3 k h0 k4
        rw [← hx] at hxr
        refine g_i2b X d_D_leavesOneLess_43 (by omega) ?_
        refine d_bast X d_D_leavesOneLess_44 (by rfl) (by rfl) (by omega) (by decide) (by omega) ?_
        refine g_iinc X d_D_leavesOneLess_45 rfl (by decide) ?_
        refine g_goto X (tgt := 6) d_D_leavesOneLess_48 (by decide) ?_
        refine g_sub [0, 1, 2, 3] rfl ?_
        refine ih (k + 1) _ (by omega) (by omega) ⟨f1.1, f1.2.1, f1.2.2⟩ f2 (fun j a1 a2 => ?_) (fun j a1 a2 => ?_)
        · rw [up_if]
          split
          · rename_i e; rw [hx, e]
          · exact f3 j a1 (by omega)
        · rw [up_ne (by omega)]; exact f4 j (by omega) a2
      refine g_iload_n X 3 d_D_leavesOneLess_6 rfl rfl ?_
      refine g_iconst X d_D_leavesOneLess_7 ?_
      refine g_icmp_ge X (tgt := 51) d_D_leavesOneLess_8 (by decide) (by omega) (by omega) (fun h8 => ?_) (fun h8 => ?_)
      · omega
      · refine g_aload_n X 0 d_D_leavesOneLess_11 rfl rfl ?_
        refine d_get X 4 d_D_leavesOneLess_12 lk_D_16 (by decide) rfl rfl ?_
        refine g_iload_n X 3 d_D_leavesOneLess_15 rfl rfl ?_
        refine d_bald X d_D_leavesOneLess_16 (by rfl) (by omega) (by decide) ?_
        rw [e3]
        refine g_iload_n X 1 d_D_leavesOneLess_17 rfl rfl ?_
        refine g_iconst X d_D_leavesOneLess_18 ?_
        refine g_iload_n X 3 d_D_leavesOneLess_19 rfl rfl ?_
        refine g_imul X d_D_leavesOneLess_20 ?_
        refine g_shr X ((2 * k).toNat) d_D_leavesOneLess_21 (sh_ok h0 k4) (by omega) ?_
        refine g_iconst X d_D_leavesOneLess_22 ?_
        refine g_and3 X d_D_leavesOneLess_23 ?_
        rw [shr_vec h0 k4]
        refine g_isub X d_D_leavesOneLess_24 ?_
        refine g_istore X d_D_leavesOneLess_25 (by decide) ?_
        refine g_aload_n X 0 d_D_leavesOneLess_27 rfl rfl ?_
        refine d_get X 4 d_D_leavesOneLess_28 lk_D_16 (by decide) rfl rfl ?_
        refine g_iload_n X 3 d_D_leavesOneLess_31 rfl rfl ?_
        refine g_iload X d_D_leavesOneLess_32 rfl ?_
        refine g_if_le X (tgt := 42) d_D_leavesOneLess_34 (by decide) (by omega) (fun h34 => ?_) (fun h34 => ?_)
        · refine g_iconst X d_D_leavesOneLess_42 ?_
          exact J 0 (by unfold sbo mx0; split <;> omega)
        · refine g_iload X d_D_leavesOneLess_37 rfl ?_
          refine g_goto X (tgt := 43) d_D_leavesOneLess_39 (by decide) ?_
          exact J _ (by unfold sbo mx0; split <;> omega)
  refine g_aload_n X 0 d_D_leavesOneLess_0 rfl rfl ?_
  refine d_callV X (c_D_askPlainly l D a q σ hS) d_D_leavesOneLess_1 lk_D_137 im_D_askPlainly sl_D_askPlainly k_D_askPlainly ok_D_askPlainly rfl (by decide) rfl (Nat.le_of_ble_eq_true rfl) (fun v2 σ2 hp2 => ?_)
  obtain ⟨rfl, f1, f2, f3, f4⟩ := hp2
  refine g_iconst X d_D_leavesOneLess_4 ?_
  refine g_istore_n X 3 d_D_leavesOneLess_5 rfl (by decide) ?_
  exact L 4 0 σ2 (by omega) (by omega) ⟨f2 0 (by decide), f4 1 (by decide) (by decide), f4 2 (by decide) (by decide)⟩ f1 (fun j a1 a2 => by omega) (fun j a1 a2 => f3 j a1 a2)
theorem CU_iff2 {w o : Int → Int} {R p now : Int} (hf : FT w R p) (h0 : 0 < now) (h1 : Opt w R o now) : CU w R o p ↔ Opt w R (sbo o p) (now - 1) := by
  constructor
  · rintro ⟨-, c, c0, c1, c2⟩
    have := Opt_uniq h1 c1
    rw [this]
    exact c2
  · intro h
    exact ⟨hf, now, h0, h1, h⟩
theorem c_D_couldUse (p : Int) (hp : -2147483648 ≤ p ∧ p < 2147483648) (hS : SI σ) :
    K_D_couldUse l D a q [.ref (q 0), vI p] σ (fun v τ => DF σ τ ∧ ((v = some (vI 1) ∧ CU (σ 1) (σ 0 0) (σ 2) p) ∨ (v = some (vI 0) ∧ ¬ CU (σ 1) (σ 0 0) (σ 2) p))) := by
  refine Con.of (by decide) (dw_ad a q) (Nat.le_of_ble_eq_true rfl) (fun Γ X => ?_)
  have X : Cx Γ "CutDesk" b_D_couldUse (some .boolean) 3 7 167 (dw a q) _ l D (tysA a) := X
  show G Γ [(0, .ref (q 0)), (1, vI p)] σ 0 []
  obtain ⟨hR, hw, ho⟩ := id hS
  refine g_aload_n X 0 d_D_couldUse_0 rfl rfl ?_
  refine g_iload_n X 1 d_D_couldUse_1 rfl rfl ?_
  refine d_callV X (c_D_fits l D a q σ p hp hS) d_D_couldUse_2 lk_D_150 im_D_fits sl_D_fits k_D_fits ok_D_fits rfl (by decide) rfl (Nat.le_of_ble_eq_true rfl) (fun v2 σ2 hp2 => ?_)
  obtain ⟨rfl, hp2⟩ := hp2
  rcases hp2 with ⟨rfl, hF⟩ | ⟨rfl, hF⟩
  · refine g_if_ne X (tgt := 10) d_D_couldUse_5 (by decide) (by omega) (fun h5 => ?_) (fun h5 => ?_)
    · refine g_aload_n X 0 d_D_couldUse_10 rfl rfl ?_
      refine d_callV X (c_D_least l D a q σ2 hS) d_D_couldUse_11 lk_D_143 im_D_least sl_D_least k_D_least ok_D_least rfl (by decide) rfl (Nat.le_of_ble_eq_true rfl) (fun v3 σ3 hp3 => ?_)
      obtain ⟨hD, now, rfl, hnow⟩ := hp3
      have hnb := Opt_12 (by omega) ho (fun k a1 a2 _ => (hw k a1 a2).2) hnow
      have Fz : ∀ τ, DF σ2 τ → ¬ CU (σ2 1) (σ2 0 0) (σ2 2) p → G Γ [(0, .ref (q 0)), (1, vI p), (2, vI now)] τ 32 [] := by
        intro τ h1 h2
        refine g_iconst X d_D_couldUse_32 ?_
        refine g_zret X d_D_couldUse_33 rfl (by decide) ?_
        exact ⟨h1, Or.inr ⟨rfl, h2⟩⟩
      refine g_istore_n X 2 d_D_couldUse_14 rfl (by decide) ?_
      refine g_iload_n X 2 d_D_couldUse_15 rfl rfl ?_
      refine g_if_le X (tgt := 32) d_D_couldUse_16 (by decide) (by omega) (fun h16 => ?_) (fun h16 => ?_)
      · refine Fz σ3 hD ?_
        rintro ⟨-, c, c0, c1, -⟩
        have := Opt_uniq hnow c1
        omega
      · have hiff := CU_iff2 hF (by omega) hnow
        refine g_aload_n X 0 d_D_couldUse_19 rfl rfl ?_
        refine g_iload_n X 1 d_D_couldUse_20 rfl rfl ?_
        refine g_iload_n X 2 d_D_couldUse_21 rfl rfl ?_
        refine d_callV X (c_D_leavesOneLess l D a q σ3 p now ⟨hF.1, hF.2.1⟩ hnb (hD.si hS)) d_D_couldUse_22 lk_D_153 im_D_leavesOneLess sl_D_leavesOneLess k_D_leavesOneLess ok_D_leavesOneLess rfl (by decide) rfl (Nat.le_of_ble_eq_true rfl) (fun v4 σ4 hp4 => ?_)
        obtain ⟨hD4, hv⟩ := hp4
        rw [hD.1, hD.2.1, hD.2.2] at hv
        rcases hv with ⟨rfl, hO⟩ | ⟨rfl, hO⟩
        · refine g_if_eq X (tgt := 32) d_D_couldUse_25 (by decide) (by omega) (fun h25 => ?_) (fun h25 => ?_)
          · omega
          · refine g_iconst X d_D_couldUse_28 ?_
            refine g_goto X (tgt := 33) d_D_couldUse_29 (by decide) ?_
            refine g_zret X d_D_couldUse_33 rfl (by decide) ?_
            exact ⟨hD.tr hD4, Or.inl ⟨rfl, hiff.mpr hO⟩⟩
        · refine g_if_eq X (tgt := 32) d_D_couldUse_25 (by decide) (by omega) (fun h25 => ?_) (fun h25 => ?_)
          · exact Fz σ4 (hD.tr hD4) (fun h => hO (hiff.mp h))
          · omega
    · omega
  · refine g_if_ne X (tgt := 10) d_D_couldUse_5 (by decide) (by omega) (fun h5 => ?_) (fun h5 => ?_)
    · omega
    · refine g_iconst X d_D_couldUse_8 ?_
      refine g_zret X d_D_couldUse_9 rfl (by decide) ?_
      exact ⟨⟨rfl, rfl, rfl⟩, Or.inr ⟨rfl, fun h => hF h.1⟩⟩
theorem c_D_greatestUse (hS : SI σ) :
    K_D_greatestUse l D a q [.ref (q 0)] σ (fun v τ => DF σ τ ∧ ∃ x, v = some (vI x) ∧ GU (σ 1) (σ 0 0) (σ 2) x) := by
  refine Con.of (by decide) (dw_ad a q) (Nat.le_of_ble_eq_true rfl) (fun Γ X => ?_)
  have X : Cx Γ "CutDesk" b_D_greatestUse (some .int) 3 7 167 (dw a q) _ l D (tysA a) := X
  show G Γ [(0, .ref (q 0))] σ 0 []
  obtain ⟨hR, hw, ho⟩ := id hS
  refine g_aload_n X 0 d_D_greatestUse_0 rfl rfl ?_
  refine d_callV X (c_D_least l D a q σ hS) d_D_greatestUse_1 lk_D_143 im_D_least sl_D_least k_D_least ok_D_least rfl (by decide) rfl (Nat.le_of_ble_eq_true rfl) (fun v2 σ2 hp2 => ?_)
  obtain ⟨hD, now, rfl, hnow⟩ := hp2
  have hnb := Opt_12 (by omega) ho (fun k a1 a2 _ => (hw k a1 a2).2) hnow
  have L : 0 < now → ∀ (n : Nat) (p : Int) (τ : zS), p = (n : Int) → p ≤ 255 → DF σ τ → (∀ j, p < j → j ≤ 255 → ¬ CU (σ 1) (σ 0 0) (σ 2) j) → G Γ [(0, .ref (q 0)), (1, vI now), (2, vI p)] τ 15 [] := by
    intro hpos n
    induction n with
    | zero =>
      intro p τ hpn hp h1 hj
      refine g_iload_n X 2 d_D_greatestUse_15 rfl rfl ?_
      refine g_if_le X (tgt := 44) d_D_greatestUse_16 (by decide) (by omega) (fun h16 => ?_) (fun h16 => ?_)
      · refine g_iconst X d_D_greatestUse_44 ?_
        refine g_iret X d_D_greatestUse_45 rfl ?_
        exact ⟨h1, -1, rfl, Or.inl ⟨rfl, fun j a1 a2 => hj j (by omega) a2⟩⟩
      · omega
    | succ n ih =>
      intro p τ hpn hp h1 hj
      have go : ∀ ρ, DF σ ρ → ¬ CU (σ 1) (σ 0 0) (σ 2) p → G Γ [(0, .ref (q 0)), (1, vI now), (2, vI p)] ρ 38 [] := by
        intro ρ r1 h
        refine g_iinc X d_D_greatestUse_38 rfl (by decide) ?_
        refine g_goto X (tgt := 15) d_D_greatestUse_41 (by decide) ?_
        refine ih (p + -1) ρ (by omega) (by omega) r1 (fun j a1 a2 => ?_)
        by_cases e : j = p
        · subst e; exact h
        · exact hj j (by omega) a2
      refine g_iload_n X 2 d_D_greatestUse_15 rfl rfl ?_
      refine g_if_le X (tgt := 44) d_D_greatestUse_16 (by decide) (by omega) (fun h16 => ?_) (fun h16 => ?_)
      · omega
      · refine g_aload_n X 0 d_D_greatestUse_19 rfl rfl ?_
        refine g_iload_n X 2 d_D_greatestUse_20 rfl rfl ?_
        refine d_callV X (c_D_fits l D a q τ p (by omega) (h1.si hS)) d_D_greatestUse_21 lk_D_150 im_D_fits sl_D_fits k_D_fits ok_D_fits rfl (by decide) rfl (Nat.le_of_ble_eq_true rfl) (fun v3 σ3 hp3 => ?_)
        obtain ⟨rfl, hv⟩ := hp3
        rw [h1.1, h1.2.1] at hv
        rcases hv with ⟨rfl, hF⟩ | ⟨rfl, hF⟩
        · have hiff := CU_iff2 hF hpos hnow
          refine g_if_eq X (tgt := 38) d_D_greatestUse_24 (by decide) (by omega) (fun h24 => ?_) (fun h24 => ?_)
          · omega
          · refine g_aload_n X 0 d_D_greatestUse_27 rfl rfl ?_
            refine g_iload_n X 2 d_D_greatestUse_28 rfl rfl ?_
            refine g_iload_n X 1 d_D_greatestUse_29 rfl rfl ?_
            refine d_callV X (c_D_leavesOneLess l D a q σ3 p now (by omega) hnb (h1.si hS)) d_D_greatestUse_30 lk_D_153 im_D_leavesOneLess sl_D_leavesOneLess k_D_leavesOneLess ok_D_leavesOneLess rfl (by decide) rfl (Nat.le_of_ble_eq_true rfl) (fun v4 σ4 hp4 => ?_)
            obtain ⟨hD4, hv⟩ := hp4
            rw [h1.1, h1.2.1, h1.2.2] at hv
            rcases hv with ⟨rfl, hO⟩ | ⟨rfl, hO⟩
            · refine g_if_eq X (tgt := 38) d_D_greatestUse_33 (by decide) (by omega) (fun h33 => ?_) (fun h33 => ?_)
              · omega
              · refine g_iload_n X 2 d_D_greatestUse_36 rfl rfl ?_
                refine g_iret X d_D_greatestUse_37 rfl ?_
                exact ⟨h1.tr hD4, p, rfl, Or.inr ⟨by omega, hp, hiff.mpr hO, hj⟩⟩
            · refine g_if_eq X (tgt := 38) d_D_greatestUse_33 (by decide) (by omega) (fun h33 => ?_) (fun h33 => ?_)
              · exact go σ4 (h1.tr hD4) (fun h => hO (hiff.mp h))
              · omega
        · refine g_if_eq X (tgt := 38) d_D_greatestUse_24 (by decide) (by omega) (fun h24 => ?_) (fun h24 => ?_)
          · exact go σ3 h1 (fun h => hF h.1)
          · omega
  refine g_istore_n X 1 d_D_greatestUse_4 rfl (by decide) ?_
  refine g_iload_n X 1 d_D_greatestUse_5 rfl rfl ?_
  refine g_if_ne X (tgt := 11) d_D_greatestUse_6 (by decide) (by omega) (fun h6 => ?_) (fun h6 => ?_)
  · refine g_sipush X d_D_greatestUse_11 (by decide) ?_
    refine g_istore_n X 2 d_D_greatestUse_14 rfl (by decide) ?_
    exact L (by omega) 255 255 σ2 (by omega) (by omega) hD (fun j a1 a2 => by omega)
  · refine g_iconst X d_D_greatestUse_9 ?_
    refine g_iret X d_D_greatestUse_10 rfl ?_
    refine ⟨hD, -1, rfl, Or.inl ⟨rfl, fun j a1 a2 => ?_⟩⟩
    rintro ⟨-, c, c0, c1, -⟩
    have := Opt_uniq hnow c1
    omega
end S28
end
section
-- CONSTRUCTORS (printed by ctor.py)
theorem W_imp {p : Program} {l : Launch} {e : Env} {R : Room} {s : State} {m : MethodId} {args : Array Value} {below : List Frame} {meth : Method} {c : Code} {H : Heap} {locs : List Loc} {cells slots : Nat} {Q Q2 : State → Prop} {g : JFrame} (h : ∀ t, Q t → Q2 t) (k : W p l e R s m args below meth c H locs cells slots Q g) : W p l e R s m args below meth c H locs cells slots Q2 g := by
  intro T hT X
  obtain ⟨t, a1, b1⟩ := k T hT X
  exact ⟨t, a1, h t b1⟩
theorem arr_same {D : va_G} {cl : List vw_C} {tys : List (ClassId × FieldType)} {s : State} {cA cB : ClassId} {ty : FieldType} (hK : va_K D cl tys s) (i j : Nat) (hi : tys[i]? = some (cA, ty)) (hj : tys[j]? = some (cB, ty)) (hty : ∀ C, ty ≠ .object C) : cB = cA := by
  have h1 := (hK.2 i _ hi).2
  have h2 := (hK.2 j _ hj).2
  cases ty with
  | object C => exact absurd rfl (hty C)
  | _ => exact Option.some.inj (h2.symm.trans h1)
def clampR (w : Int) : Int := if w < 1 then 1 else if 20 < w then 20 else w
/-- a new desk: the roll's width, widths of one, no orders -/
def IP (σ : zS) (w : Int) : Prop := σ 0 0 = clampR w ∧ (∀ k, 0 ≤ k → k < 4 → σ 1 k = 1) ∧ ∀ k, 0 ≤ k → k < 4 → σ 2 k = 0
theorem IP.si {σ : zS} {w : Int} (h : IP σ w) : SI σ := by
  obtain ⟨h1, h2, h3⟩ := h
  have hc : 1 ≤ clampR w ∧ clampR w ≤ 20 := by unfold clampR; split; decide; split <;> omega
  refine ⟨by rw [h1]; exact hc, fun k a1 a2 => by rw [h2 k a1 a2, h1]; omega, fun k a1 a2 => by rw [h3 k a1 a2]; omega⟩

theorem g_D_init {l : Launch} {D : va_G} {a : Nat → ClassId} {q : Nat → Nat} {Γ : Cx0} (w : Int) (hw : -2147483648 ≤ w ∧ w < 2147483648) (X : Cx Γ "CutDesk" b_D_init none 3 1 20 (dw a q) (fun v σ => v = none ∧ IP σ w) l D (tysA a)) : G Γ [(0, .ref (q 0)), (1, vI w)] (fun _ _ => 0) 109 [] := by
  have L : ∀ (n : Nat) (k : Int) (τ : zS), k + n = 4 → 0 ≤ k → τ 0 0 = clampR w → (∀ j, 0 ≤ j → j < k → τ 1 j = 1) → (∀ j, 0 ≤ j → j < 4 → τ 2 j = 0) → G Γ [(0, .ref (q 0)), (1, vI w), (2, vI k)] τ 136 [] := by
    intro n
    induction n with
    | zero =>
      intro k τ hk h0 f1 f2 f3
      refine g_iload_n X 2 d_D_init_136 rfl rfl ?_
      refine g_iconst X d_D_init_137 ?_
      refine g_icmp_ge X (tgt := 154) d_D_init_138 (by decide) (by omega) (by omega) (fun h138 => ?_) (fun h138 => ?_)
      · refine g_vret X d_D_init_154 rfl ?_
        exact ⟨rfl, f1, fun j a1 a2 => f2 j a1 (by omega), f3⟩
      · omega
    | succ n ih =>
      intro k τ hk h0 f1 f2 f3
      refine g_iload_n X 2 d_D_init_136 rfl rfl ?_
      refine g_iconst X d_D_init_137 ?_
      refine g_icmp_ge X (tgt := 154) d_D_init_138 (by decide) (by omega) (by omega) (fun h138 => ?_) (fun h138 => ?_)
      · omega
      · refine g_aload_n X 0 d_D_init_141 rfl rfl ?_
        refine d_get X 1 d_D_init_142 lk_D_7 (by decide) rfl rfl ?_
        refine g_iload_n X 2 d_D_init_145 rfl rfl ?_
        refine g_iconst X d_D_init_146 ?_
        refine d_bast X d_D_init_147 (by rfl) (by rfl) (by omega) (by decide) (by omega) ?_
        refine g_iinc X d_D_init_148 rfl (by decide) ?_
        refine g_goto X (tgt := 136) d_D_init_151 (by decide) ?_
        refine ih (k + 1) _ (by omega) (by omega) f1 (fun j a1 a2 => ?_) f3
        rw [up_if]
        split
        · rfl
        · exact f2 j a1 (by omega)
  have J : G Γ [(0, .ref (q 0)), (1, vI w)] (fun _ _ => 0) 131 [vI (clampR w), .ref (q 0)] := by
    refine d_putI X (z := 0) 0 d_D_init_131 lk_D_54 (by decide) rfl rfl rfl (by rfl) ?_
    refine g_iconst X d_D_init_134 ?_
    refine g_istore_n X 2 d_D_init_135 rfl (by decide) ?_
    exact L 4 0 _ (by omega) (by omega) (up_eq _ _ _ _) (fun j a1 a2 => by omega) (fun j a1 a2 => rfl)
  refine g_aload_n X 0 d_D_init_109 rfl rfl ?_
  refine g_iload_n X 1 d_D_init_110 rfl rfl ?_
  refine g_iconst X d_D_init_111 ?_
  refine g_icmp_ge X (tgt := 119) d_D_init_112 (by decide) (by omega) (by omega) (fun h112 => ?_) (fun h112 => ?_)
  · refine g_iload_n X 1 d_D_init_119 rfl rfl ?_
    refine g_bipush X d_D_init_120 (by decide) ?_
    refine g_icmp_le X (tgt := 130) d_D_init_122 (by decide) (by omega) (by omega) (fun h122 => ?_) (fun h122 => ?_)
    · refine g_iload_n X 1 d_D_init_130 rfl rfl ?_
      rw [show clampR w = w by unfold clampR; rw [if_neg (by omega), if_neg (by omega)]] at J
      exact J
    · refine g_bipush X d_D_init_125 (by decide) ?_
      refine g_goto X (tgt := 131) d_D_init_127 (by decide) ?_
      rw [show clampR w = 20 by unfold clampR; rw [if_neg (by omega), if_pos (by omega)]] at J
      exact J
  · refine g_iconst X d_D_init_115 ?_
    refine g_goto X (tgt := 131) d_D_init_116 (by decide) ?_
    rw [show clampR w = 1 by unfold clampR; rw [if_pos (by omega)]] at J
    exact J
theorem g_M_init {l : Launch} {D : va_G} {a : Nat → ClassId} {q : Nat → Nat} {Γ : Cx0} (w : Int) (hw : -2147483648 ≤ w ∧ w < 2147483648) (X : Cx Γ "CutDeskModel" b_M_init none 3 1 20 (mw a q) (fun v σ => v = none ∧ IP σ w) l D (tysA a)) : G Γ [(0, .ref (q 0)), (1, vI w)] (fun _ _ => 0) 27 [] := by
  have L : ∀ (n : Nat) (k : Int) (τ : zS), k + n = 4 → 0 ≤ k → τ 0 0 = clampR w → (∀ j, 0 ≤ j → j < k → τ 1 j = 1) → (∀ j, 0 ≤ j → j < 4 → τ 2 j = 0) → G Γ [(0, .ref (q 0)), (1, vI w), (2, vI k)] τ 54 [] := by
    intro n
    induction n with
    | zero =>
      intro k τ hk h0 f1 f2 f3
      refine g_iload_n X 2 d_M_init_54 rfl rfl ?_
      refine g_iconst X d_M_init_55 ?_
      refine g_icmp_ge X (tgt := 72) d_M_init_56 (by decide) (by omega) (by omega) (fun h56 => ?_) (fun h56 => ?_)
      · refine g_vret X d_M_init_72 rfl ?_
        exact ⟨rfl, f1, fun j a1 a2 => f2 j a1 (by omega), f3⟩
      · omega
    | succ n ih =>
      intro k τ hk h0 f1 f2 f3
      refine g_iload_n X 2 d_M_init_54 rfl rfl ?_
      refine g_iconst X d_M_init_55 ?_
      refine g_icmp_ge X (tgt := 72) d_M_init_56 (by decide) (by omega) (by omega) (fun h56 => ?_) (fun h56 => ?_)
      · omega
      · refine g_aload_n X 0 d_M_init_59 rfl rfl ?_
        refine m_get X 1 d_M_init_60 lk_M_7 (by decide) rfl rfl ?_
        refine g_iload_n X 2 d_M_init_63 rfl rfl ?_
        refine g_iconst X d_M_init_64 ?_
        refine m_iast X d_M_init_65 (by rfl) (by rfl) (by omega) (by decide) ?_
        refine g_iinc X d_M_init_66 rfl (by decide) ?_
        refine g_goto X (tgt := 54) d_M_init_69 (by decide) ?_
        refine ih (k + 1) _ (by omega) (by omega) f1 (fun j a1 a2 => ?_) f3
        rw [up_if]
        split
        · rfl
        · exact f2 j a1 (by omega)
  have J : G Γ [(0, .ref (q 0)), (1, vI w)] (fun _ _ => 0) 49 [vI (clampR w), .ref (q 0)] := by
    refine m_putI X (z := 0) 0 d_M_init_49 lk_M_19 (by decide) rfl rfl rfl (by rfl) ?_
    refine g_iconst X d_M_init_52 ?_
    refine g_istore_n X 2 d_M_init_53 rfl (by decide) ?_
    exact L 4 0 _ (by omega) (by omega) (up_eq _ _ _ _) (fun j a1 a2 => by omega) (fun j a1 a2 => rfl)
  refine g_aload_n X 0 d_M_init_27 rfl rfl ?_
  refine g_iload_n X 1 d_M_init_28 rfl rfl ?_
  refine g_iconst X d_M_init_29 ?_
  refine g_icmp_ge X (tgt := 37) d_M_init_30 (by decide) (by omega) (by omega) (fun h30 => ?_) (fun h30 => ?_)
  · refine g_iload_n X 1 d_M_init_37 rfl rfl ?_
    refine g_bipush X d_M_init_38 (by decide) ?_
    refine g_icmp_le X (tgt := 48) d_M_init_40 (by decide) (by omega) (by omega) (fun h40 => ?_) (fun h40 => ?_)
    · refine g_iload_n X 1 d_M_init_48 rfl rfl ?_
      rw [show clampR w = w by unfold clampR; rw [if_neg (by omega), if_neg (by omega)]] at J
      exact J
    · refine g_bipush X d_M_init_43 (by decide) ?_
      refine g_goto X (tgt := 49) d_M_init_45 (by decide) ?_
      rw [show clampR w = 20 by unfold clampR; rw [if_neg (by omega), if_pos (by omega)]] at J
      exact J
  · refine g_iconst X d_M_init_33 ?_
    refine g_goto X (tgt := 49) d_M_init_34 (by decide) ?_
    rw [show clampR w = 1 by unfold clampR; rw [if_pos (by omega)]] at J
    exact J
def fD0 : List Value := [vI 0, .null, .null, vI 0, .null, .null, .null, vL 0, .null, vL 0, .null, .null, .null, .null, .null, .null, .null, .null, vI 0]
set_option maxHeartbeats 4000000 in
set_option maxRecDepth 100000 in
theorem c_D_init (l : Launch) (D : va_G) (a : Nat → ClassId) (h0 sz : Nat) (w : Int) (hw : -2147483648 ≤ w ∧ w < 2147483648) : Met l y_D_init (Cond.code y_D_init b_D_init 3 none :: tb) ({ frames := 1, cells := 14, slots := 276, locals := 20 }) (va_Pc [.ref h0, vI w] (fun U => U.heap.size = sz ∧ va_P D classes [(h0, .inr (0, fD0))] U.heap ∧ va_K D classes (tysA a) U ∧ va_D (fun _ => True) [(h0, .inr (0, fD0))])) (va_Qv (fun u : (Nat → Nat) × zS => u.1 0 = h0 ∧ IP u.2 w) (fun u t => va_P D classes (dw a u.1 u.2) t.heap ∧ va_D (va_A [(h0, .inr (0, fD0))] sz) (dw a u.1 u.2)) (va_A [(h0, .inr (0, fD0))] sz)) 14 276 (va_A [(h0, .inr (0, fD0))] sz) := by
  refine Met.ofW (cc := b_D_init) (maxL := 3) (ret := none) (by decide) rfl ?_
  intro p e s m args below meth c s₁ B hml hv
  obtain ⟨rfl, hsz, hP, hK, hD0⟩ := hv
  have hx := B.exec
  have hb := B.bytes
  have hr := B.returns
  have hts0 := atoms_spec (ws := Cond.code y_D_init b_D_init 3 none :: tb) B.pre
  have hts : ∀ w ∈ tb, w.before _ s = true := fun w hw => hts0 w (List.mem_cons_of_mem _ hw)
  have hown : s.vm.findClass "CutDesk" = some m.cls := findClass_of_methodNamed B.named
  have hlocks := B.notSynchronized
  have hin : meth.name = "<init>" := (name_of_methodNamed B.named B.method).1
  subst hsz
  have hD := hD0.self (sz := s.heap.size)
  generalize hAe : va_A [(h0, .inr (0, fD0))] s.heap.size = A at hD ⊢
  have hA : ∀ q : Nat, s.heap.size ≤ q → A q := fun q h => by rw [← hAe]; exact Or.inr h
  have hS : va_S A s.heap s.heap [] := va_S.rf
  have hl := lv_entry ([.ref h0, vI w]) (n := 3) (Nat.le_of_ble_eq_true rfl)
  rw [lg_entry_eq]
  generalize (lg_sl ([.ref h0, vI w]) ++ List.replicate (3 - (lg_sl ([.ref h0, vI w])).length) Slot.unset).toArray = ls at hl ⊢
  have hl : lv_has ls 3 [(0, .ref h0), (1, vI w)] := hl
  refine lv_aload_n hx hb d_D_init_0 rfl (lv_at hl 0 rfl) ?_
  refine W.objInit hx hb hown (hts _ lk_D_1) (hts _ im_O) (hts _ k_O) rfl (by rw [hml]; exact hl.1) rfl d_D_init_1 (Nat.le_of_ble_eq_true rfl) (Nat.le_of_ble_eq_true rfl) ?_
  refine W.eq (g2 := F0 m 4 ls []) rfl ?_
  have hP : va_P D classes [(h0, .inr (0, [vI 0, .null, .null, vI 0, .null, .null, .null, vL 0, .null, vL 0, .null, .null, .null, .null, .null, .null, .null, .null, vI 0]))] s.heap := hP
  have hD : va_D A [(h0, .inr (0, [vI 0, .null, .null, vI 0, .null, .null, .null, vL 0, .null, vL 0, .null, .null, .null, .null, .null, .null, .null, .null, vI 0]))] := hD
  refine lv_aload_n hx hb d_D_init_4 rfl (lv_at hl 0 rfl) ?_
  refine lv_iconst (v := 4) hx hb d_D_init_5 (by decide) ?_
  refine va_newa (atype := .byte) (ty := .byte) (N' := 4) (a0 := (4, .inl (fun _ : Nat => zI 0))) hx hb (hts _ ac_byte) rfl hK hP hD hS hA (fun _ => rfl) (by decide) rfl (by decide) (Nat.le_of_ble_eq_true rfl) (Nat.le_of_ble_eq_true rfl) d_D_init_6 (fun q1 cA H hK2 hP hD hS => ?_)
  have eA : cA = a 0 := arr_same hK2 0 4 rfl rfl (fun _ h => by cases h)
  subst eA
  have hP : va_P D classes [(h0, .inr (0, [vI 0, .null, .null, vI 0, .null, .null, .null, vL 0, .null, vL 0, .null, .null, .null, .null, .null, .null, .null, .null, vI 0])), (q1, .inl (a 0, 4, .inl (fun _ : Nat => zI 0)))] H := hP
  have hD : va_D A [(h0, .inr (0, [vI 0, .null, .null, vI 0, .null, .null, .null, vL 0, .null, vL 0, .null, .null, .null, .null, .null, .null, .null, .null, vI 0])), (q1, .inl (a 0, 4, .inl (fun _ : Nat => zI 0)))] := hD
  refine W.widen (k := 1) (n := 4) (Nat.le_of_ble_eq_true rfl) (Nat.le_of_ble_eq_true rfl) ?_
  refine va_putF (D := D) (ci := 0) (v := .ref q1) (ty := .array .byte) (C := R_D) (T := F_D) (N := 19) hx hb hts i_D t_D t_D_ok n_D hown hK hP hD hS 0 rfl rfl 1 (by decide) (hts _ lk_D_7) (fun _ h9 => h9) rfl hin rfl (by decide +kernel) rfl rfl (Nat.le_of_ble_eq_true rfl) d_D_init_8 (fun H locs hP hD hS => ?_)
  have hP : va_P D classes [(h0, .inr (0, [vI 0, .ref q1, .null, vI 0, .null, .null, .null, vL 0, .null, vL 0, .null, .null, .null, .null, .null, .null, .null, .null, vI 0])), (q1, .inl (a 0, 4, .inl (fun _ : Nat => zI 0)))] H := hP
  have hD : va_D A [(h0, .inr (0, [vI 0, .ref q1, .null, vI 0, .null, .null, .null, vL 0, .null, vL 0, .null, .null, .null, .null, .null, .null, .null, .null, vI 0])), (q1, .inl (a 0, 4, .inl (fun _ : Nat => zI 0)))] := hD
  refine lv_aload_n hx hb d_D_init_11 rfl (lv_at hl 0 rfl) ?_
  refine lv_iconst (v := 4) hx hb d_D_init_12 (by decide) ?_
  refine va_newa (atype := .byte) (ty := .byte) (N' := 4) (a0 := (4, .inl (fun _ : Nat => zI 0))) hx hb (hts _ ac_byte) rfl hK hP hD hS hA (fun _ => rfl) (by decide) rfl (by decide) (Nat.le_of_ble_eq_true rfl) (Nat.le_of_ble_eq_true rfl) d_D_init_13 (fun q2 cA H hK2 hP hD hS => ?_)
  have eA : cA = a 0 := arr_same hK2 0 4 rfl rfl (fun _ h => by cases h)
  subst eA
  have hP : va_P D classes [(h0, .inr (0, [vI 0, .ref q1, .null, vI 0, .null, .null, .null, vL 0, .null, vL 0, .null, .null, .null, .null, .null, .null, .null, .null, vI 0])), (q1, .inl (a 0, 4, .inl (fun _ : Nat => zI 0))), (q2, .inl (a 0, 4, .inl (fun _ : Nat => zI 0)))] H := hP
  have hD : va_D A [(h0, .inr (0, [vI 0, .ref q1, .null, vI 0, .null, .null, .null, vL 0, .null, vL 0, .null, .null, .null, .null, .null, .null, .null, .null, vI 0])), (q1, .inl (a 0, 4, .inl (fun _ : Nat => zI 0))), (q2, .inl (a 0, 4, .inl (fun _ : Nat => zI 0)))] := hD
  refine W.widen (k := 2) (n := 8) (Nat.le_of_ble_eq_true rfl) (Nat.le_of_ble_eq_true rfl) ?_
  refine va_putF (D := D) (ci := 0) (v := .ref q2) (ty := .array .byte) (C := R_D) (T := F_D) (N := 19) hx hb hts i_D t_D t_D_ok n_D hown hK hP hD hS 0 rfl rfl 2 (by decide) (hts _ lk_D_13) (fun _ h9 => h9) rfl hin rfl (by decide +kernel) rfl rfl (Nat.le_of_ble_eq_true rfl) d_D_init_15 (fun H locs hP hD hS => ?_)
  have hP : va_P D classes [(h0, .inr (0, [vI 0, .ref q1, .ref q2, vI 0, .null, .null, .null, vL 0, .null, vL 0, .null, .null, .null, .null, .null, .null, .null, .null, vI 0])), (q1, .inl (a 0, 4, .inl (fun _ : Nat => zI 0))), (q2, .inl (a 0, 4, .inl (fun _ : Nat => zI 0)))] H := hP
  have hD : va_D A [(h0, .inr (0, [vI 0, .ref q1, .ref q2, vI 0, .null, .null, .null, vL 0, .null, vL 0, .null, .null, .null, .null, .null, .null, .null, .null, vI 0])), (q1, .inl (a 0, 4, .inl (fun _ : Nat => zI 0))), (q2, .inl (a 0, 4, .inl (fun _ : Nat => zI 0)))] := hD
  refine lv_aload_n hx hb d_D_init_18 rfl (lv_at hl 0 rfl) ?_
  refine lv_iconst (v := 4) hx hb d_D_init_19 (by decide) ?_
  refine va_newa (atype := .byte) (ty := .byte) (N' := 4) (a0 := (4, .inl (fun _ : Nat => zI 0))) hx hb (hts _ ac_byte) rfl hK hP hD hS hA (fun _ => rfl) (by decide) rfl (by decide) (Nat.le_of_ble_eq_true rfl) (Nat.le_of_ble_eq_true rfl) d_D_init_20 (fun q3 cA H hK2 hP hD hS => ?_)
  have eA : cA = a 0 := arr_same hK2 0 4 rfl rfl (fun _ h => by cases h)
  subst eA
  have hP : va_P D classes [(h0, .inr (0, [vI 0, .ref q1, .ref q2, vI 0, .null, .null, .null, vL 0, .null, vL 0, .null, .null, .null, .null, .null, .null, .null, .null, vI 0])), (q1, .inl (a 0, 4, .inl (fun _ : Nat => zI 0))), (q2, .inl (a 0, 4, .inl (fun _ : Nat => zI 0))), (q3, .inl (a 0, 4, .inl (fun _ : Nat => zI 0)))] H := hP
  have hD : va_D A [(h0, .inr (0, [vI 0, .ref q1, .ref q2, vI 0, .null, .null, .null, vL 0, .null, vL 0, .null, .null, .null, .null, .null, .null, .null, .null, vI 0])), (q1, .inl (a 0, 4, .inl (fun _ : Nat => zI 0))), (q2, .inl (a 0, 4, .inl (fun _ : Nat => zI 0))), (q3, .inl (a 0, 4, .inl (fun _ : Nat => zI 0)))] := hD
  refine W.widen (k := 3) (n := 12) (Nat.le_of_ble_eq_true rfl) (Nat.le_of_ble_eq_true rfl) ?_
  refine va_putF (D := D) (ci := 0) (v := .ref q3) (ty := .array .byte) (C := R_D) (T := F_D) (N := 19) hx hb hts i_D t_D t_D_ok n_D hown hK hP hD hS 0 rfl rfl 4 (by decide) (hts _ lk_D_16) (fun _ h9 => h9) rfl hin rfl (by decide +kernel) rfl rfl (Nat.le_of_ble_eq_true rfl) d_D_init_22 (fun H locs hP hD hS => ?_)
  have hP : va_P D classes [(h0, .inr (0, [vI 0, .ref q1, .ref q2, vI 0, .ref q3, .null, .null, vL 0, .null, vL 0, .null, .null, .null, .null, .null, .null, .null, .null, vI 0])), (q1, .inl (a 0, 4, .inl (fun _ : Nat => zI 0))), (q2, .inl (a 0, 4, .inl (fun _ : Nat => zI 0))), (q3, .inl (a 0, 4, .inl (fun _ : Nat => zI 0)))] H := hP
  have hD : va_D A [(h0, .inr (0, [vI 0, .ref q1, .ref q2, vI 0, .ref q3, .null, .null, vL 0, .null, vL 0, .null, .null, .null, .null, .null, .null, .null, .null, vI 0])), (q1, .inl (a 0, 4, .inl (fun _ : Nat => zI 0))), (q2, .inl (a 0, 4, .inl (fun _ : Nat => zI 0))), (q3, .inl (a 0, 4, .inl (fun _ : Nat => zI 0)))] := hD
  refine lv_aload_n hx hb d_D_init_25 rfl (lv_at hl 0 rfl) ?_
  refine lv_bipush (v := 16) hx hb d_D_init_26 (by decide) ?_
  refine va_newa (atype := .byte) (ty := .byte) (N' := 16) (a0 := (16, .inl (fun _ : Nat => zI 0))) hx hb (hts _ ac_byte) rfl hK hP hD hS hA (fun _ => rfl) (by decide) rfl (by decide) (Nat.le_of_ble_eq_true rfl) (Nat.le_of_ble_eq_true rfl) d_D_init_28 (fun q4 cA H hK2 hP hD hS => ?_)
  have eA : cA = a 0 := arr_same hK2 0 4 rfl rfl (fun _ h => by cases h)
  subst eA
  have hP : va_P D classes [(h0, .inr (0, [vI 0, .ref q1, .ref q2, vI 0, .ref q3, .null, .null, vL 0, .null, vL 0, .null, .null, .null, .null, .null, .null, .null, .null, vI 0])), (q1, .inl (a 0, 4, .inl (fun _ : Nat => zI 0))), (q2, .inl (a 0, 4, .inl (fun _ : Nat => zI 0))), (q3, .inl (a 0, 4, .inl (fun _ : Nat => zI 0))), (q4, .inl (a 0, 16, .inl (fun _ : Nat => zI 0)))] H := hP
  have hD : va_D A [(h0, .inr (0, [vI 0, .ref q1, .ref q2, vI 0, .ref q3, .null, .null, vL 0, .null, vL 0, .null, .null, .null, .null, .null, .null, .null, .null, vI 0])), (q1, .inl (a 0, 4, .inl (fun _ : Nat => zI 0))), (q2, .inl (a 0, 4, .inl (fun _ : Nat => zI 0))), (q3, .inl (a 0, 4, .inl (fun _ : Nat => zI 0))), (q4, .inl (a 0, 16, .inl (fun _ : Nat => zI 0)))] := hD
  refine W.widen (k := 4) (n := 28) (Nat.le_of_ble_eq_true rfl) (Nat.le_of_ble_eq_true rfl) ?_
  refine va_putF (D := D) (ci := 0) (v := .ref q4) (ty := .array .byte) (C := R_D) (T := F_D) (N := 19) hx hb hts i_D t_D t_D_ok n_D hown hK hP hD hS 0 rfl rfl 5 (by decide) (hts _ lk_D_19) (fun _ h9 => h9) rfl hin rfl (by decide +kernel) rfl rfl (Nat.le_of_ble_eq_true rfl) d_D_init_30 (fun H locs hP hD hS => ?_)
  have hP : va_P D classes [(h0, .inr (0, [vI 0, .ref q1, .ref q2, vI 0, .ref q3, .ref q4, .null, vL 0, .null, vL 0, .null, .null, .null, .null, .null, .null, .null, .null, vI 0])), (q1, .inl (a 0, 4, .inl (fun _ : Nat => zI 0))), (q2, .inl (a 0, 4, .inl (fun _ : Nat => zI 0))), (q3, .inl (a 0, 4, .inl (fun _ : Nat => zI 0))), (q4, .inl (a 0, 16, .inl (fun _ : Nat => zI 0)))] H := hP
  have hD : va_D A [(h0, .inr (0, [vI 0, .ref q1, .ref q2, vI 0, .ref q3, .ref q4, .null, vL 0, .null, vL 0, .null, .null, .null, .null, .null, .null, .null, .null, vI 0])), (q1, .inl (a 0, 4, .inl (fun _ : Nat => zI 0))), (q2, .inl (a 0, 4, .inl (fun _ : Nat => zI 0))), (q3, .inl (a 0, 4, .inl (fun _ : Nat => zI 0))), (q4, .inl (a 0, 16, .inl (fun _ : Nat => zI 0)))] := hD
  refine lv_aload_n hx hb d_D_init_33 rfl (lv_at hl 0 rfl) ?_
  refine lv_bipush (v := 24) hx hb d_D_init_34 (by decide) ?_
  refine va_newa (atype := .long) (ty := .long) (N' := 24) (a0 := (24, .inr (.inl (fun _ : Nat => zL 0)))) hx hb (hts _ ac_long) rfl hK hP hD hS hA (fun _ => rfl) (by decide) rfl (by decide) (Nat.le_of_ble_eq_true rfl) (Nat.le_of_ble_eq_true rfl) d_D_init_36 (fun q5 cA H hK2 hP hD hS => ?_)
  have eA : cA = a 2 := arr_same hK2 2 4 rfl rfl (fun _ h => by cases h)
  subst eA
  have hP : va_P D classes [(h0, .inr (0, [vI 0, .ref q1, .ref q2, vI 0, .ref q3, .ref q4, .null, vL 0, .null, vL 0, .null, .null, .null, .null, .null, .null, .null, .null, vI 0])), (q1, .inl (a 0, 4, .inl (fun _ : Nat => zI 0))), (q2, .inl (a 0, 4, .inl (fun _ : Nat => zI 0))), (q3, .inl (a 0, 4, .inl (fun _ : Nat => zI 0))), (q4, .inl (a 0, 16, .inl (fun _ : Nat => zI 0))), (q5, .inl (a 2, 24, .inr (.inl (fun _ : Nat => zL 0))))] H := hP
  have hD : va_D A [(h0, .inr (0, [vI 0, .ref q1, .ref q2, vI 0, .ref q3, .ref q4, .null, vL 0, .null, vL 0, .null, .null, .null, .null, .null, .null, .null, .null, vI 0])), (q1, .inl (a 0, 4, .inl (fun _ : Nat => zI 0))), (q2, .inl (a 0, 4, .inl (fun _ : Nat => zI 0))), (q3, .inl (a 0, 4, .inl (fun _ : Nat => zI 0))), (q4, .inl (a 0, 16, .inl (fun _ : Nat => zI 0))), (q5, .inl (a 2, 24, .inr (.inl (fun _ : Nat => zL 0))))] := hD
  refine W.widen (k := 5) (n := 52) (Nat.le_of_ble_eq_true rfl) (Nat.le_of_ble_eq_true rfl) ?_
  refine va_putF (D := D) (ci := 0) (v := .ref q5) (ty := .array .long) (C := R_D) (T := F_D) (N := 19) hx hb hts i_D t_D t_D_ok n_D hown hK hP hD hS 0 rfl rfl 6 (by decide) (hts _ lk_D_22) (fun _ h9 => h9) rfl hin rfl (by decide +kernel) rfl rfl (Nat.le_of_ble_eq_true rfl) d_D_init_38 (fun H locs hP hD hS => ?_)
  have hP : va_P D classes [(h0, .inr (0, [vI 0, .ref q1, .ref q2, vI 0, .ref q3, .ref q4, .ref q5, vL 0, .null, vL 0, .null, .null, .null, .null, .null, .null, .null, .null, vI 0])), (q1, .inl (a 0, 4, .inl (fun _ : Nat => zI 0))), (q2, .inl (a 0, 4, .inl (fun _ : Nat => zI 0))), (q3, .inl (a 0, 4, .inl (fun _ : Nat => zI 0))), (q4, .inl (a 0, 16, .inl (fun _ : Nat => zI 0))), (q5, .inl (a 2, 24, .inr (.inl (fun _ : Nat => zL 0))))] H := hP
  have hD : va_D A [(h0, .inr (0, [vI 0, .ref q1, .ref q2, vI 0, .ref q3, .ref q4, .ref q5, vL 0, .null, vL 0, .null, .null, .null, .null, .null, .null, .null, .null, vI 0])), (q1, .inl (a 0, 4, .inl (fun _ : Nat => zI 0))), (q2, .inl (a 0, 4, .inl (fun _ : Nat => zI 0))), (q3, .inl (a 0, 4, .inl (fun _ : Nat => zI 0))), (q4, .inl (a 0, 16, .inl (fun _ : Nat => zI 0))), (q5, .inl (a 2, 24, .inr (.inl (fun _ : Nat => zL 0))))] := hD
  refine lv_aload_n hx hb d_D_init_41 rfl (lv_at hl 0 rfl) ?_
  refine lv_iconst (v := 4) hx hb d_D_init_42 (by decide) ?_
  refine va_newa (atype := .long) (ty := .long) (N' := 4) (a0 := (4, .inr (.inl (fun _ : Nat => zL 0)))) hx hb (hts _ ac_long) rfl hK hP hD hS hA (fun _ => rfl) (by decide) rfl (by decide) (Nat.le_of_ble_eq_true rfl) (Nat.le_of_ble_eq_true rfl) d_D_init_43 (fun q6 cA H hK2 hP hD hS => ?_)
  have eA : cA = a 2 := arr_same hK2 2 4 rfl rfl (fun _ h => by cases h)
  subst eA
  have hP : va_P D classes [(h0, .inr (0, [vI 0, .ref q1, .ref q2, vI 0, .ref q3, .ref q4, .ref q5, vL 0, .null, vL 0, .null, .null, .null, .null, .null, .null, .null, .null, vI 0])), (q1, .inl (a 0, 4, .inl (fun _ : Nat => zI 0))), (q2, .inl (a 0, 4, .inl (fun _ : Nat => zI 0))), (q3, .inl (a 0, 4, .inl (fun _ : Nat => zI 0))), (q4, .inl (a 0, 16, .inl (fun _ : Nat => zI 0))), (q5, .inl (a 2, 24, .inr (.inl (fun _ : Nat => zL 0)))), (q6, .inl (a 2, 4, .inr (.inl (fun _ : Nat => zL 0))))] H := hP
  have hD : va_D A [(h0, .inr (0, [vI 0, .ref q1, .ref q2, vI 0, .ref q3, .ref q4, .ref q5, vL 0, .null, vL 0, .null, .null, .null, .null, .null, .null, .null, .null, vI 0])), (q1, .inl (a 0, 4, .inl (fun _ : Nat => zI 0))), (q2, .inl (a 0, 4, .inl (fun _ : Nat => zI 0))), (q3, .inl (a 0, 4, .inl (fun _ : Nat => zI 0))), (q4, .inl (a 0, 16, .inl (fun _ : Nat => zI 0))), (q5, .inl (a 2, 24, .inr (.inl (fun _ : Nat => zL 0)))), (q6, .inl (a 2, 4, .inr (.inl (fun _ : Nat => zL 0))))] := hD
  refine W.widen (k := 6) (n := 56) (Nat.le_of_ble_eq_true rfl) (Nat.le_of_ble_eq_true rfl) ?_
  refine va_putF (D := D) (ci := 0) (v := .ref q6) (ty := .array .long) (C := R_D) (T := F_D) (N := 19) hx hb hts i_D t_D t_D_ok n_D hown hK hP hD hS 0 rfl rfl 8 (by decide) (hts _ lk_D_26) (fun _ h9 => h9) rfl hin rfl (by decide +kernel) rfl rfl (Nat.le_of_ble_eq_true rfl) d_D_init_45 (fun H locs hP hD hS => ?_)
  have hP : va_P D classes [(h0, .inr (0, [vI 0, .ref q1, .ref q2, vI 0, .ref q3, .ref q4, .ref q5, vL 0, .ref q6, vL 0, .null, .null, .null, .null, .null, .null, .null, .null, vI 0])), (q1, .inl (a 0, 4, .inl (fun _ : Nat => zI 0))), (q2, .inl (a 0, 4, .inl (fun _ : Nat => zI 0))), (q3, .inl (a 0, 4, .inl (fun _ : Nat => zI 0))), (q4, .inl (a 0, 16, .inl (fun _ : Nat => zI 0))), (q5, .inl (a 2, 24, .inr (.inl (fun _ : Nat => zL 0)))), (q6, .inl (a 2, 4, .inr (.inl (fun _ : Nat => zL 0))))] H := hP
  have hD : va_D A [(h0, .inr (0, [vI 0, .ref q1, .ref q2, vI 0, .ref q3, .ref q4, .ref q5, vL 0, .ref q6, vL 0, .null, .null, .null, .null, .null, .null, .null, .null, vI 0])), (q1, .inl (a 0, 4, .inl (fun _ : Nat => zI 0))), (q2, .inl (a 0, 4, .inl (fun _ : Nat => zI 0))), (q3, .inl (a 0, 4, .inl (fun _ : Nat => zI 0))), (q4, .inl (a 0, 16, .inl (fun _ : Nat => zI 0))), (q5, .inl (a 2, 24, .inr (.inl (fun _ : Nat => zL 0)))), (q6, .inl (a 2, 4, .inr (.inl (fun _ : Nat => zL 0))))] := hD
  refine lv_aload_n hx hb d_D_init_48 rfl (lv_at hl 0 rfl) ?_
  refine lv_iconst (v := 4) hx hb d_D_init_49 (by decide) ?_
  refine va_newa (atype := .long) (ty := .long) (N' := 4) (a0 := (4, .inr (.inl (fun _ : Nat => zL 0)))) hx hb (hts _ ac_long) rfl hK hP hD hS hA (fun _ => rfl) (by decide) rfl (by decide) (Nat.le_of_ble_eq_true rfl) (Nat.le_of_ble_eq_true rfl) d_D_init_50 (fun q7 cA H hK2 hP hD hS => ?_)
  have eA : cA = a 2 := arr_same hK2 2 4 rfl rfl (fun _ h => by cases h)
  subst eA
  have hP : va_P D classes [(h0, .inr (0, [vI 0, .ref q1, .ref q2, vI 0, .ref q3, .ref q4, .ref q5, vL 0, .ref q6, vL 0, .null, .null, .null, .null, .null, .null, .null, .null, vI 0])), (q1, .inl (a 0, 4, .inl (fun _ : Nat => zI 0))), (q2, .inl (a 0, 4, .inl (fun _ : Nat => zI 0))), (q3, .inl (a 0, 4, .inl (fun _ : Nat => zI 0))), (q4, .inl (a 0, 16, .inl (fun _ : Nat => zI 0))), (q5, .inl (a 2, 24, .inr (.inl (fun _ : Nat => zL 0)))), (q6, .inl (a 2, 4, .inr (.inl (fun _ : Nat => zL 0)))), (q7, .inl (a 2, 4, .inr (.inl (fun _ : Nat => zL 0))))] H := hP
  have hD : va_D A [(h0, .inr (0, [vI 0, .ref q1, .ref q2, vI 0, .ref q3, .ref q4, .ref q5, vL 0, .ref q6, vL 0, .null, .null, .null, .null, .null, .null, .null, .null, vI 0])), (q1, .inl (a 0, 4, .inl (fun _ : Nat => zI 0))), (q2, .inl (a 0, 4, .inl (fun _ : Nat => zI 0))), (q3, .inl (a 0, 4, .inl (fun _ : Nat => zI 0))), (q4, .inl (a 0, 16, .inl (fun _ : Nat => zI 0))), (q5, .inl (a 2, 24, .inr (.inl (fun _ : Nat => zL 0)))), (q6, .inl (a 2, 4, .inr (.inl (fun _ : Nat => zL 0)))), (q7, .inl (a 2, 4, .inr (.inl (fun _ : Nat => zL 0))))] := hD
  refine W.widen (k := 7) (n := 60) (Nat.le_of_ble_eq_true rfl) (Nat.le_of_ble_eq_true rfl) ?_
  refine va_putF (D := D) (ci := 0) (v := .ref q7) (ty := .array .long) (C := R_D) (T := F_D) (N := 19) hx hb hts i_D t_D t_D_ok n_D hown hK hP hD hS 0 rfl rfl 10 (by decide) (hts _ lk_D_29) (fun _ h9 => h9) rfl hin rfl (by decide +kernel) rfl rfl (Nat.le_of_ble_eq_true rfl) d_D_init_52 (fun H locs hP hD hS => ?_)
  have hP : va_P D classes [(h0, .inr (0, [vI 0, .ref q1, .ref q2, vI 0, .ref q3, .ref q4, .ref q5, vL 0, .ref q6, vL 0, .ref q7, .null, .null, .null, .null, .null, .null, .null, vI 0])), (q1, .inl (a 0, 4, .inl (fun _ : Nat => zI 0))), (q2, .inl (a 0, 4, .inl (fun _ : Nat => zI 0))), (q3, .inl (a 0, 4, .inl (fun _ : Nat => zI 0))), (q4, .inl (a 0, 16, .inl (fun _ : Nat => zI 0))), (q5, .inl (a 2, 24, .inr (.inl (fun _ : Nat => zL 0)))), (q6, .inl (a 2, 4, .inr (.inl (fun _ : Nat => zL 0)))), (q7, .inl (a 2, 4, .inr (.inl (fun _ : Nat => zL 0))))] H := hP
  have hD : va_D A [(h0, .inr (0, [vI 0, .ref q1, .ref q2, vI 0, .ref q3, .ref q4, .ref q5, vL 0, .ref q6, vL 0, .ref q7, .null, .null, .null, .null, .null, .null, .null, vI 0])), (q1, .inl (a 0, 4, .inl (fun _ : Nat => zI 0))), (q2, .inl (a 0, 4, .inl (fun _ : Nat => zI 0))), (q3, .inl (a 0, 4, .inl (fun _ : Nat => zI 0))), (q4, .inl (a 0, 16, .inl (fun _ : Nat => zI 0))), (q5, .inl (a 2, 24, .inr (.inl (fun _ : Nat => zL 0)))), (q6, .inl (a 2, 4, .inr (.inl (fun _ : Nat => zL 0)))), (q7, .inl (a 2, 4, .inr (.inl (fun _ : Nat => zL 0))))] := hD
  refine lv_aload_n hx hb d_D_init_55 rfl (lv_at hl 0 rfl) ?_
  refine lv_iconst (v := 4) hx hb d_D_init_56 (by decide) ?_
  refine va_newa (atype := .long) (ty := .long) (N' := 4) (a0 := (4, .inr (.inl (fun _ : Nat => zL 0)))) hx hb (hts _ ac_long) rfl hK hP hD hS hA (fun _ => rfl) (by decide) rfl (by decide) (Nat.le_of_ble_eq_true rfl) (Nat.le_of_ble_eq_true rfl) d_D_init_57 (fun q8 cA H hK2 hP hD hS => ?_)
  have eA : cA = a 2 := arr_same hK2 2 4 rfl rfl (fun _ h => by cases h)
  subst eA
  have hP : va_P D classes [(h0, .inr (0, [vI 0, .ref q1, .ref q2, vI 0, .ref q3, .ref q4, .ref q5, vL 0, .ref q6, vL 0, .ref q7, .null, .null, .null, .null, .null, .null, .null, vI 0])), (q1, .inl (a 0, 4, .inl (fun _ : Nat => zI 0))), (q2, .inl (a 0, 4, .inl (fun _ : Nat => zI 0))), (q3, .inl (a 0, 4, .inl (fun _ : Nat => zI 0))), (q4, .inl (a 0, 16, .inl (fun _ : Nat => zI 0))), (q5, .inl (a 2, 24, .inr (.inl (fun _ : Nat => zL 0)))), (q6, .inl (a 2, 4, .inr (.inl (fun _ : Nat => zL 0)))), (q7, .inl (a 2, 4, .inr (.inl (fun _ : Nat => zL 0)))), (q8, .inl (a 2, 4, .inr (.inl (fun _ : Nat => zL 0))))] H := hP
  have hD : va_D A [(h0, .inr (0, [vI 0, .ref q1, .ref q2, vI 0, .ref q3, .ref q4, .ref q5, vL 0, .ref q6, vL 0, .ref q7, .null, .null, .null, .null, .null, .null, .null, vI 0])), (q1, .inl (a 0, 4, .inl (fun _ : Nat => zI 0))), (q2, .inl (a 0, 4, .inl (fun _ : Nat => zI 0))), (q3, .inl (a 0, 4, .inl (fun _ : Nat => zI 0))), (q4, .inl (a 0, 16, .inl (fun _ : Nat => zI 0))), (q5, .inl (a 2, 24, .inr (.inl (fun _ : Nat => zL 0)))), (q6, .inl (a 2, 4, .inr (.inl (fun _ : Nat => zL 0)))), (q7, .inl (a 2, 4, .inr (.inl (fun _ : Nat => zL 0)))), (q8, .inl (a 2, 4, .inr (.inl (fun _ : Nat => zL 0))))] := hD
  refine W.widen (k := 8) (n := 64) (Nat.le_of_ble_eq_true rfl) (Nat.le_of_ble_eq_true rfl) ?_
  refine va_putF (D := D) (ci := 0) (v := .ref q8) (ty := .array .long) (C := R_D) (T := F_D) (N := 19) hx hb hts i_D t_D t_D_ok n_D hown hK hP hD hS 0 rfl rfl 11 (by decide) (hts _ lk_D_32) (fun _ h9 => h9) rfl hin rfl (by decide +kernel) rfl rfl (Nat.le_of_ble_eq_true rfl) d_D_init_59 (fun H locs hP hD hS => ?_)
  have hP : va_P D classes [(h0, .inr (0, [vI 0, .ref q1, .ref q2, vI 0, .ref q3, .ref q4, .ref q5, vL 0, .ref q6, vL 0, .ref q7, .ref q8, .null, .null, .null, .null, .null, .null, vI 0])), (q1, .inl (a 0, 4, .inl (fun _ : Nat => zI 0))), (q2, .inl (a 0, 4, .inl (fun _ : Nat => zI 0))), (q3, .inl (a 0, 4, .inl (fun _ : Nat => zI 0))), (q4, .inl (a 0, 16, .inl (fun _ : Nat => zI 0))), (q5, .inl (a 2, 24, .inr (.inl (fun _ : Nat => zL 0)))), (q6, .inl (a 2, 4, .inr (.inl (fun _ : Nat => zL 0)))), (q7, .inl (a 2, 4, .inr (.inl (fun _ : Nat => zL 0)))), (q8, .inl (a 2, 4, .inr (.inl (fun _ : Nat => zL 0))))] H := hP
  have hD : va_D A [(h0, .inr (0, [vI 0, .ref q1, .ref q2, vI 0, .ref q3, .ref q4, .ref q5, vL 0, .ref q6, vL 0, .ref q7, .ref q8, .null, .null, .null, .null, .null, .null, vI 0])), (q1, .inl (a 0, 4, .inl (fun _ : Nat => zI 0))), (q2, .inl (a 0, 4, .inl (fun _ : Nat => zI 0))), (q3, .inl (a 0, 4, .inl (fun _ : Nat => zI 0))), (q4, .inl (a 0, 16, .inl (fun _ : Nat => zI 0))), (q5, .inl (a 2, 24, .inr (.inl (fun _ : Nat => zL 0)))), (q6, .inl (a 2, 4, .inr (.inl (fun _ : Nat => zL 0)))), (q7, .inl (a 2, 4, .inr (.inl (fun _ : Nat => zL 0)))), (q8, .inl (a 2, 4, .inr (.inl (fun _ : Nat => zL 0))))] := hD
  refine lv_aload_n hx hb d_D_init_62 rfl (lv_at hl 0 rfl) ?_
  refine lv_bipush (v := 41) hx hb d_D_init_63 (by decide) ?_
  refine va_newa (atype := .long) (ty := .long) (N' := 41) (a0 := (41, .inr (.inl (fun _ : Nat => zL 0)))) hx hb (hts _ ac_long) rfl hK hP hD hS hA (fun _ => rfl) (by decide) rfl (by decide) (Nat.le_of_ble_eq_true rfl) (Nat.le_of_ble_eq_true rfl) d_D_init_65 (fun q9 cA H hK2 hP hD hS => ?_)
  have eA : cA = a 2 := arr_same hK2 2 4 rfl rfl (fun _ h => by cases h)
  subst eA
  have hP : va_P D classes [(h0, .inr (0, [vI 0, .ref q1, .ref q2, vI 0, .ref q3, .ref q4, .ref q5, vL 0, .ref q6, vL 0, .ref q7, .ref q8, .null, .null, .null, .null, .null, .null, vI 0])), (q1, .inl (a 0, 4, .inl (fun _ : Nat => zI 0))), (q2, .inl (a 0, 4, .inl (fun _ : Nat => zI 0))), (q3, .inl (a 0, 4, .inl (fun _ : Nat => zI 0))), (q4, .inl (a 0, 16, .inl (fun _ : Nat => zI 0))), (q5, .inl (a 2, 24, .inr (.inl (fun _ : Nat => zL 0)))), (q6, .inl (a 2, 4, .inr (.inl (fun _ : Nat => zL 0)))), (q7, .inl (a 2, 4, .inr (.inl (fun _ : Nat => zL 0)))), (q8, .inl (a 2, 4, .inr (.inl (fun _ : Nat => zL 0)))), (q9, .inl (a 2, 41, .inr (.inl (fun _ : Nat => zL 0))))] H := hP
  have hD : va_D A [(h0, .inr (0, [vI 0, .ref q1, .ref q2, vI 0, .ref q3, .ref q4, .ref q5, vL 0, .ref q6, vL 0, .ref q7, .ref q8, .null, .null, .null, .null, .null, .null, vI 0])), (q1, .inl (a 0, 4, .inl (fun _ : Nat => zI 0))), (q2, .inl (a 0, 4, .inl (fun _ : Nat => zI 0))), (q3, .inl (a 0, 4, .inl (fun _ : Nat => zI 0))), (q4, .inl (a 0, 16, .inl (fun _ : Nat => zI 0))), (q5, .inl (a 2, 24, .inr (.inl (fun _ : Nat => zL 0)))), (q6, .inl (a 2, 4, .inr (.inl (fun _ : Nat => zL 0)))), (q7, .inl (a 2, 4, .inr (.inl (fun _ : Nat => zL 0)))), (q8, .inl (a 2, 4, .inr (.inl (fun _ : Nat => zL 0)))), (q9, .inl (a 2, 41, .inr (.inl (fun _ : Nat => zL 0))))] := hD
  refine W.widen (k := 9) (n := 105) (Nat.le_of_ble_eq_true rfl) (Nat.le_of_ble_eq_true rfl) ?_
  refine va_putF (D := D) (ci := 0) (v := .ref q9) (ty := .array .long) (C := R_D) (T := F_D) (N := 19) hx hb hts i_D t_D t_D_ok n_D hown hK hP hD hS 0 rfl rfl 12 (by decide) (hts _ lk_D_35) (fun _ h9 => h9) rfl hin rfl (by decide +kernel) rfl rfl (Nat.le_of_ble_eq_true rfl) d_D_init_67 (fun H locs hP hD hS => ?_)
  have hP : va_P D classes [(h0, .inr (0, [vI 0, .ref q1, .ref q2, vI 0, .ref q3, .ref q4, .ref q5, vL 0, .ref q6, vL 0, .ref q7, .ref q8, .ref q9, .null, .null, .null, .null, .null, vI 0])), (q1, .inl (a 0, 4, .inl (fun _ : Nat => zI 0))), (q2, .inl (a 0, 4, .inl (fun _ : Nat => zI 0))), (q3, .inl (a 0, 4, .inl (fun _ : Nat => zI 0))), (q4, .inl (a 0, 16, .inl (fun _ : Nat => zI 0))), (q5, .inl (a 2, 24, .inr (.inl (fun _ : Nat => zL 0)))), (q6, .inl (a 2, 4, .inr (.inl (fun _ : Nat => zL 0)))), (q7, .inl (a 2, 4, .inr (.inl (fun _ : Nat => zL 0)))), (q8, .inl (a 2, 4, .inr (.inl (fun _ : Nat => zL 0)))), (q9, .inl (a 2, 41, .inr (.inl (fun _ : Nat => zL 0))))] H := hP
  have hD : va_D A [(h0, .inr (0, [vI 0, .ref q1, .ref q2, vI 0, .ref q3, .ref q4, .ref q5, vL 0, .ref q6, vL 0, .ref q7, .ref q8, .ref q9, .null, .null, .null, .null, .null, vI 0])), (q1, .inl (a 0, 4, .inl (fun _ : Nat => zI 0))), (q2, .inl (a 0, 4, .inl (fun _ : Nat => zI 0))), (q3, .inl (a 0, 4, .inl (fun _ : Nat => zI 0))), (q4, .inl (a 0, 16, .inl (fun _ : Nat => zI 0))), (q5, .inl (a 2, 24, .inr (.inl (fun _ : Nat => zL 0)))), (q6, .inl (a 2, 4, .inr (.inl (fun _ : Nat => zL 0)))), (q7, .inl (a 2, 4, .inr (.inl (fun _ : Nat => zL 0)))), (q8, .inl (a 2, 4, .inr (.inl (fun _ : Nat => zL 0)))), (q9, .inl (a 2, 41, .inr (.inl (fun _ : Nat => zL 0))))] := hD
  refine lv_aload_n hx hb d_D_init_70 rfl (lv_at hl 0 rfl) ?_
  refine lv_bipush (v := 41) hx hb d_D_init_71 (by decide) ?_
  refine va_newa (atype := .byte) (ty := .byte) (N' := 41) (a0 := (41, .inl (fun _ : Nat => zI 0))) hx hb (hts _ ac_byte) rfl hK hP hD hS hA (fun _ => rfl) (by decide) rfl (by decide) (Nat.le_of_ble_eq_true rfl) (Nat.le_of_ble_eq_true rfl) d_D_init_73 (fun q10 cA H hK2 hP hD hS => ?_)
  have eA : cA = a 0 := arr_same hK2 0 4 rfl rfl (fun _ h => by cases h)
  subst eA
  have hP : va_P D classes [(h0, .inr (0, [vI 0, .ref q1, .ref q2, vI 0, .ref q3, .ref q4, .ref q5, vL 0, .ref q6, vL 0, .ref q7, .ref q8, .ref q9, .null, .null, .null, .null, .null, vI 0])), (q1, .inl (a 0, 4, .inl (fun _ : Nat => zI 0))), (q2, .inl (a 0, 4, .inl (fun _ : Nat => zI 0))), (q3, .inl (a 0, 4, .inl (fun _ : Nat => zI 0))), (q4, .inl (a 0, 16, .inl (fun _ : Nat => zI 0))), (q5, .inl (a 2, 24, .inr (.inl (fun _ : Nat => zL 0)))), (q6, .inl (a 2, 4, .inr (.inl (fun _ : Nat => zL 0)))), (q7, .inl (a 2, 4, .inr (.inl (fun _ : Nat => zL 0)))), (q8, .inl (a 2, 4, .inr (.inl (fun _ : Nat => zL 0)))), (q9, .inl (a 2, 41, .inr (.inl (fun _ : Nat => zL 0)))), (q10, .inl (a 0, 41, .inl (fun _ : Nat => zI 0)))] H := hP
  have hD : va_D A [(h0, .inr (0, [vI 0, .ref q1, .ref q2, vI 0, .ref q3, .ref q4, .ref q5, vL 0, .ref q6, vL 0, .ref q7, .ref q8, .ref q9, .null, .null, .null, .null, .null, vI 0])), (q1, .inl (a 0, 4, .inl (fun _ : Nat => zI 0))), (q2, .inl (a 0, 4, .inl (fun _ : Nat => zI 0))), (q3, .inl (a 0, 4, .inl (fun _ : Nat => zI 0))), (q4, .inl (a 0, 16, .inl (fun _ : Nat => zI 0))), (q5, .inl (a 2, 24, .inr (.inl (fun _ : Nat => zL 0)))), (q6, .inl (a 2, 4, .inr (.inl (fun _ : Nat => zL 0)))), (q7, .inl (a 2, 4, .inr (.inl (fun _ : Nat => zL 0)))), (q8, .inl (a 2, 4, .inr (.inl (fun _ : Nat => zL 0)))), (q9, .inl (a 2, 41, .inr (.inl (fun _ : Nat => zL 0)))), (q10, .inl (a 0, 41, .inl (fun _ : Nat => zI 0)))] := hD
  refine W.widen (k := 10) (n := 146) (Nat.le_of_ble_eq_true rfl) (Nat.le_of_ble_eq_true rfl) ?_
  refine va_putF (D := D) (ci := 0) (v := .ref q10) (ty := .array .byte) (C := R_D) (T := F_D) (N := 19) hx hb hts i_D t_D t_D_ok n_D hown hK hP hD hS 0 rfl rfl 13 (by decide) (hts _ lk_D_38) (fun _ h9 => h9) rfl hin rfl (by decide +kernel) rfl rfl (Nat.le_of_ble_eq_true rfl) d_D_init_75 (fun H locs hP hD hS => ?_)
  have hP : va_P D classes [(h0, .inr (0, [vI 0, .ref q1, .ref q2, vI 0, .ref q3, .ref q4, .ref q5, vL 0, .ref q6, vL 0, .ref q7, .ref q8, .ref q9, .ref q10, .null, .null, .null, .null, vI 0])), (q1, .inl (a 0, 4, .inl (fun _ : Nat => zI 0))), (q2, .inl (a 0, 4, .inl (fun _ : Nat => zI 0))), (q3, .inl (a 0, 4, .inl (fun _ : Nat => zI 0))), (q4, .inl (a 0, 16, .inl (fun _ : Nat => zI 0))), (q5, .inl (a 2, 24, .inr (.inl (fun _ : Nat => zL 0)))), (q6, .inl (a 2, 4, .inr (.inl (fun _ : Nat => zL 0)))), (q7, .inl (a 2, 4, .inr (.inl (fun _ : Nat => zL 0)))), (q8, .inl (a 2, 4, .inr (.inl (fun _ : Nat => zL 0)))), (q9, .inl (a 2, 41, .inr (.inl (fun _ : Nat => zL 0)))), (q10, .inl (a 0, 41, .inl (fun _ : Nat => zI 0)))] H := hP
  have hD : va_D A [(h0, .inr (0, [vI 0, .ref q1, .ref q2, vI 0, .ref q3, .ref q4, .ref q5, vL 0, .ref q6, vL 0, .ref q7, .ref q8, .ref q9, .ref q10, .null, .null, .null, .null, vI 0])), (q1, .inl (a 0, 4, .inl (fun _ : Nat => zI 0))), (q2, .inl (a 0, 4, .inl (fun _ : Nat => zI 0))), (q3, .inl (a 0, 4, .inl (fun _ : Nat => zI 0))), (q4, .inl (a 0, 16, .inl (fun _ : Nat => zI 0))), (q5, .inl (a 2, 24, .inr (.inl (fun _ : Nat => zL 0)))), (q6, .inl (a 2, 4, .inr (.inl (fun _ : Nat => zL 0)))), (q7, .inl (a 2, 4, .inr (.inl (fun _ : Nat => zL 0)))), (q8, .inl (a 2, 4, .inr (.inl (fun _ : Nat => zL 0)))), (q9, .inl (a 2, 41, .inr (.inl (fun _ : Nat => zL 0)))), (q10, .inl (a 0, 41, .inl (fun _ : Nat => zI 0)))] := hD
  refine lv_aload_n hx hb d_D_init_78 rfl (lv_at hl 0 rfl) ?_
  refine lv_iconst (v := 4) hx hb d_D_init_79 (by decide) ?_
  refine va_newa (atype := .byte) (ty := .byte) (N' := 4) (a0 := (4, .inl (fun _ : Nat => zI 0))) hx hb (hts _ ac_byte) rfl hK hP hD hS hA (fun _ => rfl) (by decide) rfl (by decide) (Nat.le_of_ble_eq_true rfl) (Nat.le_of_ble_eq_true rfl) d_D_init_80 (fun q11 cA H hK2 hP hD hS => ?_)
  have eA : cA = a 0 := arr_same hK2 0 4 rfl rfl (fun _ h => by cases h)
  subst eA
  have hP : va_P D classes [(h0, .inr (0, [vI 0, .ref q1, .ref q2, vI 0, .ref q3, .ref q4, .ref q5, vL 0, .ref q6, vL 0, .ref q7, .ref q8, .ref q9, .ref q10, .null, .null, .null, .null, vI 0])), (q1, .inl (a 0, 4, .inl (fun _ : Nat => zI 0))), (q2, .inl (a 0, 4, .inl (fun _ : Nat => zI 0))), (q3, .inl (a 0, 4, .inl (fun _ : Nat => zI 0))), (q4, .inl (a 0, 16, .inl (fun _ : Nat => zI 0))), (q5, .inl (a 2, 24, .inr (.inl (fun _ : Nat => zL 0)))), (q6, .inl (a 2, 4, .inr (.inl (fun _ : Nat => zL 0)))), (q7, .inl (a 2, 4, .inr (.inl (fun _ : Nat => zL 0)))), (q8, .inl (a 2, 4, .inr (.inl (fun _ : Nat => zL 0)))), (q9, .inl (a 2, 41, .inr (.inl (fun _ : Nat => zL 0)))), (q10, .inl (a 0, 41, .inl (fun _ : Nat => zI 0))), (q11, .inl (a 0, 4, .inl (fun _ : Nat => zI 0)))] H := hP
  have hD : va_D A [(h0, .inr (0, [vI 0, .ref q1, .ref q2, vI 0, .ref q3, .ref q4, .ref q5, vL 0, .ref q6, vL 0, .ref q7, .ref q8, .ref q9, .ref q10, .null, .null, .null, .null, vI 0])), (q1, .inl (a 0, 4, .inl (fun _ : Nat => zI 0))), (q2, .inl (a 0, 4, .inl (fun _ : Nat => zI 0))), (q3, .inl (a 0, 4, .inl (fun _ : Nat => zI 0))), (q4, .inl (a 0, 16, .inl (fun _ : Nat => zI 0))), (q5, .inl (a 2, 24, .inr (.inl (fun _ : Nat => zL 0)))), (q6, .inl (a 2, 4, .inr (.inl (fun _ : Nat => zL 0)))), (q7, .inl (a 2, 4, .inr (.inl (fun _ : Nat => zL 0)))), (q8, .inl (a 2, 4, .inr (.inl (fun _ : Nat => zL 0)))), (q9, .inl (a 2, 41, .inr (.inl (fun _ : Nat => zL 0)))), (q10, .inl (a 0, 41, .inl (fun _ : Nat => zI 0))), (q11, .inl (a 0, 4, .inl (fun _ : Nat => zI 0)))] := hD
  refine W.widen (k := 11) (n := 150) (Nat.le_of_ble_eq_true rfl) (Nat.le_of_ble_eq_true rfl) ?_
  refine va_putF (D := D) (ci := 0) (v := .ref q11) (ty := .array .byte) (C := R_D) (T := F_D) (N := 19) hx hb hts i_D t_D t_D_ok n_D hown hK hP hD hS 0 rfl rfl 14 (by decide) (hts _ lk_D_41) (fun _ h9 => h9) rfl hin rfl (by decide +kernel) rfl rfl (Nat.le_of_ble_eq_true rfl) d_D_init_82 (fun H locs hP hD hS => ?_)
  have hP : va_P D classes [(h0, .inr (0, [vI 0, .ref q1, .ref q2, vI 0, .ref q3, .ref q4, .ref q5, vL 0, .ref q6, vL 0, .ref q7, .ref q8, .ref q9, .ref q10, .ref q11, .null, .null, .null, vI 0])), (q1, .inl (a 0, 4, .inl (fun _ : Nat => zI 0))), (q2, .inl (a 0, 4, .inl (fun _ : Nat => zI 0))), (q3, .inl (a 0, 4, .inl (fun _ : Nat => zI 0))), (q4, .inl (a 0, 16, .inl (fun _ : Nat => zI 0))), (q5, .inl (a 2, 24, .inr (.inl (fun _ : Nat => zL 0)))), (q6, .inl (a 2, 4, .inr (.inl (fun _ : Nat => zL 0)))), (q7, .inl (a 2, 4, .inr (.inl (fun _ : Nat => zL 0)))), (q8, .inl (a 2, 4, .inr (.inl (fun _ : Nat => zL 0)))), (q9, .inl (a 2, 41, .inr (.inl (fun _ : Nat => zL 0)))), (q10, .inl (a 0, 41, .inl (fun _ : Nat => zI 0))), (q11, .inl (a 0, 4, .inl (fun _ : Nat => zI 0)))] H := hP
  have hD : va_D A [(h0, .inr (0, [vI 0, .ref q1, .ref q2, vI 0, .ref q3, .ref q4, .ref q5, vL 0, .ref q6, vL 0, .ref q7, .ref q8, .ref q9, .ref q10, .ref q11, .null, .null, .null, vI 0])), (q1, .inl (a 0, 4, .inl (fun _ : Nat => zI 0))), (q2, .inl (a 0, 4, .inl (fun _ : Nat => zI 0))), (q3, .inl (a 0, 4, .inl (fun _ : Nat => zI 0))), (q4, .inl (a 0, 16, .inl (fun _ : Nat => zI 0))), (q5, .inl (a 2, 24, .inr (.inl (fun _ : Nat => zL 0)))), (q6, .inl (a 2, 4, .inr (.inl (fun _ : Nat => zL 0)))), (q7, .inl (a 2, 4, .inr (.inl (fun _ : Nat => zL 0)))), (q8, .inl (a 2, 4, .inr (.inl (fun _ : Nat => zL 0)))), (q9, .inl (a 2, 41, .inr (.inl (fun _ : Nat => zL 0)))), (q10, .inl (a 0, 41, .inl (fun _ : Nat => zI 0))), (q11, .inl (a 0, 4, .inl (fun _ : Nat => zI 0)))] := hD
  refine lv_aload_n hx hb d_D_init_85 rfl (lv_at hl 0 rfl) ?_
  refine lv_bipush (v := 56) hx hb d_D_init_86 (by decide) ?_
  refine va_newa (atype := .byte) (ty := .byte) (N' := 56) (a0 := (56, .inl (fun _ : Nat => zI 0))) hx hb (hts _ ac_byte) rfl hK hP hD hS hA (fun _ => rfl) (by decide) rfl (by decide) (Nat.le_of_ble_eq_true rfl) (Nat.le_of_ble_eq_true rfl) d_D_init_88 (fun q12 cA H hK2 hP hD hS => ?_)
  have eA : cA = a 0 := arr_same hK2 0 4 rfl rfl (fun _ h => by cases h)
  subst eA
  have hP : va_P D classes [(h0, .inr (0, [vI 0, .ref q1, .ref q2, vI 0, .ref q3, .ref q4, .ref q5, vL 0, .ref q6, vL 0, .ref q7, .ref q8, .ref q9, .ref q10, .ref q11, .null, .null, .null, vI 0])), (q1, .inl (a 0, 4, .inl (fun _ : Nat => zI 0))), (q2, .inl (a 0, 4, .inl (fun _ : Nat => zI 0))), (q3, .inl (a 0, 4, .inl (fun _ : Nat => zI 0))), (q4, .inl (a 0, 16, .inl (fun _ : Nat => zI 0))), (q5, .inl (a 2, 24, .inr (.inl (fun _ : Nat => zL 0)))), (q6, .inl (a 2, 4, .inr (.inl (fun _ : Nat => zL 0)))), (q7, .inl (a 2, 4, .inr (.inl (fun _ : Nat => zL 0)))), (q8, .inl (a 2, 4, .inr (.inl (fun _ : Nat => zL 0)))), (q9, .inl (a 2, 41, .inr (.inl (fun _ : Nat => zL 0)))), (q10, .inl (a 0, 41, .inl (fun _ : Nat => zI 0))), (q11, .inl (a 0, 4, .inl (fun _ : Nat => zI 0))), (q12, .inl (a 0, 56, .inl (fun _ : Nat => zI 0)))] H := hP
  have hD : va_D A [(h0, .inr (0, [vI 0, .ref q1, .ref q2, vI 0, .ref q3, .ref q4, .ref q5, vL 0, .ref q6, vL 0, .ref q7, .ref q8, .ref q9, .ref q10, .ref q11, .null, .null, .null, vI 0])), (q1, .inl (a 0, 4, .inl (fun _ : Nat => zI 0))), (q2, .inl (a 0, 4, .inl (fun _ : Nat => zI 0))), (q3, .inl (a 0, 4, .inl (fun _ : Nat => zI 0))), (q4, .inl (a 0, 16, .inl (fun _ : Nat => zI 0))), (q5, .inl (a 2, 24, .inr (.inl (fun _ : Nat => zL 0)))), (q6, .inl (a 2, 4, .inr (.inl (fun _ : Nat => zL 0)))), (q7, .inl (a 2, 4, .inr (.inl (fun _ : Nat => zL 0)))), (q8, .inl (a 2, 4, .inr (.inl (fun _ : Nat => zL 0)))), (q9, .inl (a 2, 41, .inr (.inl (fun _ : Nat => zL 0)))), (q10, .inl (a 0, 41, .inl (fun _ : Nat => zI 0))), (q11, .inl (a 0, 4, .inl (fun _ : Nat => zI 0))), (q12, .inl (a 0, 56, .inl (fun _ : Nat => zI 0)))] := hD
  refine W.widen (k := 12) (n := 206) (Nat.le_of_ble_eq_true rfl) (Nat.le_of_ble_eq_true rfl) ?_
  refine va_putF (D := D) (ci := 0) (v := .ref q12) (ty := .array .byte) (C := R_D) (T := F_D) (N := 19) hx hb hts i_D t_D t_D_ok n_D hown hK hP hD hS 0 rfl rfl 15 (by decide) (hts _ lk_D_44) (fun _ h9 => h9) rfl hin rfl (by decide +kernel) rfl rfl (Nat.le_of_ble_eq_true rfl) d_D_init_90 (fun H locs hP hD hS => ?_)
  have hP : va_P D classes [(h0, .inr (0, [vI 0, .ref q1, .ref q2, vI 0, .ref q3, .ref q4, .ref q5, vL 0, .ref q6, vL 0, .ref q7, .ref q8, .ref q9, .ref q10, .ref q11, .ref q12, .null, .null, vI 0])), (q1, .inl (a 0, 4, .inl (fun _ : Nat => zI 0))), (q2, .inl (a 0, 4, .inl (fun _ : Nat => zI 0))), (q3, .inl (a 0, 4, .inl (fun _ : Nat => zI 0))), (q4, .inl (a 0, 16, .inl (fun _ : Nat => zI 0))), (q5, .inl (a 2, 24, .inr (.inl (fun _ : Nat => zL 0)))), (q6, .inl (a 2, 4, .inr (.inl (fun _ : Nat => zL 0)))), (q7, .inl (a 2, 4, .inr (.inl (fun _ : Nat => zL 0)))), (q8, .inl (a 2, 4, .inr (.inl (fun _ : Nat => zL 0)))), (q9, .inl (a 2, 41, .inr (.inl (fun _ : Nat => zL 0)))), (q10, .inl (a 0, 41, .inl (fun _ : Nat => zI 0))), (q11, .inl (a 0, 4, .inl (fun _ : Nat => zI 0))), (q12, .inl (a 0, 56, .inl (fun _ : Nat => zI 0)))] H := hP
  have hD : va_D A [(h0, .inr (0, [vI 0, .ref q1, .ref q2, vI 0, .ref q3, .ref q4, .ref q5, vL 0, .ref q6, vL 0, .ref q7, .ref q8, .ref q9, .ref q10, .ref q11, .ref q12, .null, .null, vI 0])), (q1, .inl (a 0, 4, .inl (fun _ : Nat => zI 0))), (q2, .inl (a 0, 4, .inl (fun _ : Nat => zI 0))), (q3, .inl (a 0, 4, .inl (fun _ : Nat => zI 0))), (q4, .inl (a 0, 16, .inl (fun _ : Nat => zI 0))), (q5, .inl (a 2, 24, .inr (.inl (fun _ : Nat => zL 0)))), (q6, .inl (a 2, 4, .inr (.inl (fun _ : Nat => zL 0)))), (q7, .inl (a 2, 4, .inr (.inl (fun _ : Nat => zL 0)))), (q8, .inl (a 2, 4, .inr (.inl (fun _ : Nat => zL 0)))), (q9, .inl (a 2, 41, .inr (.inl (fun _ : Nat => zL 0)))), (q10, .inl (a 0, 41, .inl (fun _ : Nat => zI 0))), (q11, .inl (a 0, 4, .inl (fun _ : Nat => zI 0))), (q12, .inl (a 0, 56, .inl (fun _ : Nat => zI 0)))] := hD
  refine lv_aload_n hx hb d_D_init_93 rfl (lv_at hl 0 rfl) ?_
  refine lv_bipush (v := 56) hx hb d_D_init_94 (by decide) ?_
  refine va_newa (atype := .byte) (ty := .byte) (N' := 56) (a0 := (56, .inl (fun _ : Nat => zI 0))) hx hb (hts _ ac_byte) rfl hK hP hD hS hA (fun _ => rfl) (by decide) rfl (by decide) (Nat.le_of_ble_eq_true rfl) (Nat.le_of_ble_eq_true rfl) d_D_init_96 (fun q13 cA H hK2 hP hD hS => ?_)
  have eA : cA = a 0 := arr_same hK2 0 4 rfl rfl (fun _ h => by cases h)
  subst eA
  have hP : va_P D classes [(h0, .inr (0, [vI 0, .ref q1, .ref q2, vI 0, .ref q3, .ref q4, .ref q5, vL 0, .ref q6, vL 0, .ref q7, .ref q8, .ref q9, .ref q10, .ref q11, .ref q12, .null, .null, vI 0])), (q1, .inl (a 0, 4, .inl (fun _ : Nat => zI 0))), (q2, .inl (a 0, 4, .inl (fun _ : Nat => zI 0))), (q3, .inl (a 0, 4, .inl (fun _ : Nat => zI 0))), (q4, .inl (a 0, 16, .inl (fun _ : Nat => zI 0))), (q5, .inl (a 2, 24, .inr (.inl (fun _ : Nat => zL 0)))), (q6, .inl (a 2, 4, .inr (.inl (fun _ : Nat => zL 0)))), (q7, .inl (a 2, 4, .inr (.inl (fun _ : Nat => zL 0)))), (q8, .inl (a 2, 4, .inr (.inl (fun _ : Nat => zL 0)))), (q9, .inl (a 2, 41, .inr (.inl (fun _ : Nat => zL 0)))), (q10, .inl (a 0, 41, .inl (fun _ : Nat => zI 0))), (q11, .inl (a 0, 4, .inl (fun _ : Nat => zI 0))), (q12, .inl (a 0, 56, .inl (fun _ : Nat => zI 0))), (q13, .inl (a 0, 56, .inl (fun _ : Nat => zI 0)))] H := hP
  have hD : va_D A [(h0, .inr (0, [vI 0, .ref q1, .ref q2, vI 0, .ref q3, .ref q4, .ref q5, vL 0, .ref q6, vL 0, .ref q7, .ref q8, .ref q9, .ref q10, .ref q11, .ref q12, .null, .null, vI 0])), (q1, .inl (a 0, 4, .inl (fun _ : Nat => zI 0))), (q2, .inl (a 0, 4, .inl (fun _ : Nat => zI 0))), (q3, .inl (a 0, 4, .inl (fun _ : Nat => zI 0))), (q4, .inl (a 0, 16, .inl (fun _ : Nat => zI 0))), (q5, .inl (a 2, 24, .inr (.inl (fun _ : Nat => zL 0)))), (q6, .inl (a 2, 4, .inr (.inl (fun _ : Nat => zL 0)))), (q7, .inl (a 2, 4, .inr (.inl (fun _ : Nat => zL 0)))), (q8, .inl (a 2, 4, .inr (.inl (fun _ : Nat => zL 0)))), (q9, .inl (a 2, 41, .inr (.inl (fun _ : Nat => zL 0)))), (q10, .inl (a 0, 41, .inl (fun _ : Nat => zI 0))), (q11, .inl (a 0, 4, .inl (fun _ : Nat => zI 0))), (q12, .inl (a 0, 56, .inl (fun _ : Nat => zI 0))), (q13, .inl (a 0, 56, .inl (fun _ : Nat => zI 0)))] := hD
  refine W.widen (k := 13) (n := 262) (Nat.le_of_ble_eq_true rfl) (Nat.le_of_ble_eq_true rfl) ?_
  refine va_putF (D := D) (ci := 0) (v := .ref q13) (ty := .array .byte) (C := R_D) (T := F_D) (N := 19) hx hb hts i_D t_D t_D_ok n_D hown hK hP hD hS 0 rfl rfl 16 (by decide) (hts _ lk_D_47) (fun _ h9 => h9) rfl hin rfl (by decide +kernel) rfl rfl (Nat.le_of_ble_eq_true rfl) d_D_init_98 (fun H locs hP hD hS => ?_)
  have hP : va_P D classes [(h0, .inr (0, [vI 0, .ref q1, .ref q2, vI 0, .ref q3, .ref q4, .ref q5, vL 0, .ref q6, vL 0, .ref q7, .ref q8, .ref q9, .ref q10, .ref q11, .ref q12, .ref q13, .null, vI 0])), (q1, .inl (a 0, 4, .inl (fun _ : Nat => zI 0))), (q2, .inl (a 0, 4, .inl (fun _ : Nat => zI 0))), (q3, .inl (a 0, 4, .inl (fun _ : Nat => zI 0))), (q4, .inl (a 0, 16, .inl (fun _ : Nat => zI 0))), (q5, .inl (a 2, 24, .inr (.inl (fun _ : Nat => zL 0)))), (q6, .inl (a 2, 4, .inr (.inl (fun _ : Nat => zL 0)))), (q7, .inl (a 2, 4, .inr (.inl (fun _ : Nat => zL 0)))), (q8, .inl (a 2, 4, .inr (.inl (fun _ : Nat => zL 0)))), (q9, .inl (a 2, 41, .inr (.inl (fun _ : Nat => zL 0)))), (q10, .inl (a 0, 41, .inl (fun _ : Nat => zI 0))), (q11, .inl (a 0, 4, .inl (fun _ : Nat => zI 0))), (q12, .inl (a 0, 56, .inl (fun _ : Nat => zI 0))), (q13, .inl (a 0, 56, .inl (fun _ : Nat => zI 0)))] H := hP
  have hD : va_D A [(h0, .inr (0, [vI 0, .ref q1, .ref q2, vI 0, .ref q3, .ref q4, .ref q5, vL 0, .ref q6, vL 0, .ref q7, .ref q8, .ref q9, .ref q10, .ref q11, .ref q12, .ref q13, .null, vI 0])), (q1, .inl (a 0, 4, .inl (fun _ : Nat => zI 0))), (q2, .inl (a 0, 4, .inl (fun _ : Nat => zI 0))), (q3, .inl (a 0, 4, .inl (fun _ : Nat => zI 0))), (q4, .inl (a 0, 16, .inl (fun _ : Nat => zI 0))), (q5, .inl (a 2, 24, .inr (.inl (fun _ : Nat => zL 0)))), (q6, .inl (a 2, 4, .inr (.inl (fun _ : Nat => zL 0)))), (q7, .inl (a 2, 4, .inr (.inl (fun _ : Nat => zL 0)))), (q8, .inl (a 2, 4, .inr (.inl (fun _ : Nat => zL 0)))), (q9, .inl (a 2, 41, .inr (.inl (fun _ : Nat => zL 0)))), (q10, .inl (a 0, 41, .inl (fun _ : Nat => zI 0))), (q11, .inl (a 0, 4, .inl (fun _ : Nat => zI 0))), (q12, .inl (a 0, 56, .inl (fun _ : Nat => zI 0))), (q13, .inl (a 0, 56, .inl (fun _ : Nat => zI 0)))] := hD
  refine lv_aload_n hx hb d_D_init_101 rfl (lv_at hl 0 rfl) ?_
  refine lv_bipush (v := 14) hx hb d_D_init_102 (by decide) ?_
  refine va_newa (atype := .boolean) (ty := .boolean) (N' := 14) (a0 := (14, .inl (fun _ : Nat => zI 0))) hx hb (hts _ ac_boolean) rfl hK hP hD hS hA (fun _ => rfl) (by decide) rfl (by decide) (Nat.le_of_ble_eq_true rfl) (Nat.le_of_ble_eq_true rfl) d_D_init_104 (fun q14 cA H hK2 hP hD hS => ?_)
  have eA : cA = a 1 := arr_same hK2 1 4 rfl rfl (fun _ h => by cases h)
  subst eA
  have hP : va_P D classes [(h0, .inr (0, [vI 0, .ref q1, .ref q2, vI 0, .ref q3, .ref q4, .ref q5, vL 0, .ref q6, vL 0, .ref q7, .ref q8, .ref q9, .ref q10, .ref q11, .ref q12, .ref q13, .null, vI 0])), (q1, .inl (a 0, 4, .inl (fun _ : Nat => zI 0))), (q2, .inl (a 0, 4, .inl (fun _ : Nat => zI 0))), (q3, .inl (a 0, 4, .inl (fun _ : Nat => zI 0))), (q4, .inl (a 0, 16, .inl (fun _ : Nat => zI 0))), (q5, .inl (a 2, 24, .inr (.inl (fun _ : Nat => zL 0)))), (q6, .inl (a 2, 4, .inr (.inl (fun _ : Nat => zL 0)))), (q7, .inl (a 2, 4, .inr (.inl (fun _ : Nat => zL 0)))), (q8, .inl (a 2, 4, .inr (.inl (fun _ : Nat => zL 0)))), (q9, .inl (a 2, 41, .inr (.inl (fun _ : Nat => zL 0)))), (q10, .inl (a 0, 41, .inl (fun _ : Nat => zI 0))), (q11, .inl (a 0, 4, .inl (fun _ : Nat => zI 0))), (q12, .inl (a 0, 56, .inl (fun _ : Nat => zI 0))), (q13, .inl (a 0, 56, .inl (fun _ : Nat => zI 0))), (q14, .inl (a 1, 14, .inl (fun _ : Nat => zI 0)))] H := hP
  have hD : va_D A [(h0, .inr (0, [vI 0, .ref q1, .ref q2, vI 0, .ref q3, .ref q4, .ref q5, vL 0, .ref q6, vL 0, .ref q7, .ref q8, .ref q9, .ref q10, .ref q11, .ref q12, .ref q13, .null, vI 0])), (q1, .inl (a 0, 4, .inl (fun _ : Nat => zI 0))), (q2, .inl (a 0, 4, .inl (fun _ : Nat => zI 0))), (q3, .inl (a 0, 4, .inl (fun _ : Nat => zI 0))), (q4, .inl (a 0, 16, .inl (fun _ : Nat => zI 0))), (q5, .inl (a 2, 24, .inr (.inl (fun _ : Nat => zL 0)))), (q6, .inl (a 2, 4, .inr (.inl (fun _ : Nat => zL 0)))), (q7, .inl (a 2, 4, .inr (.inl (fun _ : Nat => zL 0)))), (q8, .inl (a 2, 4, .inr (.inl (fun _ : Nat => zL 0)))), (q9, .inl (a 2, 41, .inr (.inl (fun _ : Nat => zL 0)))), (q10, .inl (a 0, 41, .inl (fun _ : Nat => zI 0))), (q11, .inl (a 0, 4, .inl (fun _ : Nat => zI 0))), (q12, .inl (a 0, 56, .inl (fun _ : Nat => zI 0))), (q13, .inl (a 0, 56, .inl (fun _ : Nat => zI 0))), (q14, .inl (a 1, 14, .inl (fun _ : Nat => zI 0)))] := hD
  refine W.widen (k := 14) (n := 276) (Nat.le_of_ble_eq_true rfl) (Nat.le_of_ble_eq_true rfl) ?_
  refine va_putF (D := D) (ci := 0) (v := .ref q14) (ty := .array .boolean) (C := R_D) (T := F_D) (N := 19) hx hb hts i_D t_D t_D_ok n_D hown hK hP hD hS 0 rfl rfl 17 (by decide) (hts _ lk_D_50) (fun _ h9 => h9) rfl hin rfl (by decide +kernel) rfl rfl (Nat.le_of_ble_eq_true rfl) d_D_init_106 (fun H locs hP hD hS => ?_)
  have hP : va_P D classes [(h0, .inr (0, [vI 0, .ref q1, .ref q2, vI 0, .ref q3, .ref q4, .ref q5, vL 0, .ref q6, vL 0, .ref q7, .ref q8, .ref q9, .ref q10, .ref q11, .ref q12, .ref q13, .ref q14, vI 0])), (q1, .inl (a 0, 4, .inl (fun _ : Nat => zI 0))), (q2, .inl (a 0, 4, .inl (fun _ : Nat => zI 0))), (q3, .inl (a 0, 4, .inl (fun _ : Nat => zI 0))), (q4, .inl (a 0, 16, .inl (fun _ : Nat => zI 0))), (q5, .inl (a 2, 24, .inr (.inl (fun _ : Nat => zL 0)))), (q6, .inl (a 2, 4, .inr (.inl (fun _ : Nat => zL 0)))), (q7, .inl (a 2, 4, .inr (.inl (fun _ : Nat => zL 0)))), (q8, .inl (a 2, 4, .inr (.inl (fun _ : Nat => zL 0)))), (q9, .inl (a 2, 41, .inr (.inl (fun _ : Nat => zL 0)))), (q10, .inl (a 0, 41, .inl (fun _ : Nat => zI 0))), (q11, .inl (a 0, 4, .inl (fun _ : Nat => zI 0))), (q12, .inl (a 0, 56, .inl (fun _ : Nat => zI 0))), (q13, .inl (a 0, 56, .inl (fun _ : Nat => zI 0))), (q14, .inl (a 1, 14, .inl (fun _ : Nat => zI 0)))] H := hP
  have hD : va_D A [(h0, .inr (0, [vI 0, .ref q1, .ref q2, vI 0, .ref q3, .ref q4, .ref q5, vL 0, .ref q6, vL 0, .ref q7, .ref q8, .ref q9, .ref q10, .ref q11, .ref q12, .ref q13, .ref q14, vI 0])), (q1, .inl (a 0, 4, .inl (fun _ : Nat => zI 0))), (q2, .inl (a 0, 4, .inl (fun _ : Nat => zI 0))), (q3, .inl (a 0, 4, .inl (fun _ : Nat => zI 0))), (q4, .inl (a 0, 16, .inl (fun _ : Nat => zI 0))), (q5, .inl (a 2, 24, .inr (.inl (fun _ : Nat => zL 0)))), (q6, .inl (a 2, 4, .inr (.inl (fun _ : Nat => zL 0)))), (q7, .inl (a 2, 4, .inr (.inl (fun _ : Nat => zL 0)))), (q8, .inl (a 2, 4, .inr (.inl (fun _ : Nat => zL 0)))), (q9, .inl (a 2, 41, .inr (.inl (fun _ : Nat => zL 0)))), (q10, .inl (a 0, 41, .inl (fun _ : Nat => zI 0))), (q11, .inl (a 0, 4, .inl (fun _ : Nat => zI 0))), (q12, .inl (a 0, 56, .inl (fun _ : Nat => zI 0))), (q13, .inl (a 0, 56, .inl (fun _ : Nat => zI 0))), (q14, .inl (a 1, 14, .inl (fun _ : Nat => zI 0)))] := hD
  have hPq : va_P D classes (dw a (fun i : Nat => [h0, q1, q2, q3, q4, q5, q6, q7, q8, q9, q10, q11, q12, q13, q14].getD i 0) (fun _ _ => 0)) H := hP
  have hDq : va_D A (dw a (fun i : Nat => [h0, q1, q2, q3, q4, q5, q6, q7, q8, q9, q10, q11, q12, q13, q14].getD i 0) (fun _ _ => 0)) := hD
  have hq0 : (fun i : Nat => [h0, q1, q2, q3, q4, q5, q6, q7, q8, q9, q10, q11, q12, q13, q14].getD i 0) 0 = h0 := rfl
  generalize hqf : (fun i : Nat => [h0, q1, q2, q3, q4, q5, q6, q7, q8, q9, q10, q11, q12, q13, q14].getD i 0) = qf at hPq hDq hq0
  subst hq0
  refine W_imp (Q := MQ below (qG D (dw a qf) (fun v σ => v = none ∧ IP σ w) A) ([.ref (qf 0), vI w] : List Value).toArray s 14 276 A) (fun t ht => ?_) ?_
  · obtain ⟨oc, t1, t2, ⟨⟨v, σ2, rfl, ⟨rfl, hip⟩, hP2⟩, hF⟩, t4⟩ := ht
    exact ⟨_, t1, t2, ⟨⟨(qf, σ2), rfl, ⟨rfl, hip⟩, hP2, va_D_ad (dw_ad a qf _ σ2) hDq⟩, hF⟩, t4⟩
  · exact g_D_init (D := D) (a := a) (q := qf) (Γ := (p, l, e, _, s, m, _, below, meth, c, D, tysA a, A, dw a qf, _, 3, 14, 276, _)) w hw ⟨hx, hb, fun _ => ⟨hr, rfl⟩, hml, rfl, hlocks, hown, hts, hK, hA, rfl, rfl, dw_ad a qf, ⟨Nat.le_refl _, Nat.le_refl _⟩, rfl, rfl, rfl, rfl, rfl⟩ H locs ls hPq hDq hS hl
def fM0 : List Value := [vI 0, .null, .null, .null]
set_option maxHeartbeats 4000000 in
set_option maxRecDepth 100000 in
theorem c_M_init (l : Launch) (D : va_G) (a : Nat → ClassId) (h0 sz : Nat) (w : Int) (hw : -2147483648 ≤ w ∧ w < 2147483648) : Met l y_M_init (Cond.code y_M_init b_M_init 3 none :: tb) ({ frames := 1, cells := 3, slots := 264, locals := 20 }) (va_Pc [.ref h0, vI w] (fun U => U.heap.size = sz ∧ va_P D classes [(h0, .inr (1, fM0))] U.heap ∧ va_K D classes (tysA a) U ∧ va_D (fun _ => True) [(h0, .inr (1, fM0))])) (va_Qv (fun u : (Nat → Nat) × zS => u.1 0 = h0 ∧ IP u.2 w) (fun u t => va_P D classes (mw a u.1 u.2) t.heap ∧ va_D (va_A [(h0, .inr (1, fM0))] sz) (mw a u.1 u.2)) (va_A [(h0, .inr (1, fM0))] sz)) 3 264 (va_A [(h0, .inr (1, fM0))] sz) := by
  refine Met.ofW (cc := b_M_init) (maxL := 3) (ret := none) (by decide) rfl ?_
  intro p e s m args below meth c s₁ B hml hv
  obtain ⟨rfl, hsz, hP, hK, hD0⟩ := hv
  have hx := B.exec
  have hb := B.bytes
  have hr := B.returns
  have hts0 := atoms_spec (ws := Cond.code y_M_init b_M_init 3 none :: tb) B.pre
  have hts : ∀ w ∈ tb, w.before _ s = true := fun w hw => hts0 w (List.mem_cons_of_mem _ hw)
  have hown : s.vm.findClass "CutDeskModel" = some m.cls := findClass_of_methodNamed B.named
  have hlocks := B.notSynchronized
  have hin : meth.name = "<init>" := (name_of_methodNamed B.named B.method).1
  subst hsz
  have hD := hD0.self (sz := s.heap.size)
  generalize hAe : va_A [(h0, .inr (1, fM0))] s.heap.size = A at hD ⊢
  have hA : ∀ q : Nat, s.heap.size ≤ q → A q := fun q h => by rw [← hAe]; exact Or.inr h
  have hS : va_S A s.heap s.heap [] := va_S.rf
  have hl := lv_entry ([.ref h0, vI w]) (n := 3) (Nat.le_of_ble_eq_true rfl)
  rw [lg_entry_eq]
  generalize (lg_sl ([.ref h0, vI w]) ++ List.replicate (3 - (lg_sl ([.ref h0, vI w])).length) Slot.unset).toArray = ls at hl ⊢
  have hl : lv_has ls 3 [(0, .ref h0), (1, vI w)] := hl
  refine lv_aload_n hx hb d_M_init_0 rfl (lv_at hl 0 rfl) ?_
  refine W.objInit hx hb hown (hts _ lk_M_1) (hts _ im_O) (hts _ k_O) rfl (by rw [hml]; exact hl.1) rfl d_M_init_1 (Nat.le_of_ble_eq_true rfl) (Nat.le_of_ble_eq_true rfl) ?_
  refine W.eq (g2 := F0 m 4 ls []) rfl ?_
  have hP : va_P D classes [(h0, .inr (1, [vI 0, .null, .null, .null]))] s.heap := hP
  have hD : va_D A [(h0, .inr (1, [vI 0, .null, .null, .null]))] := hD
  refine lv_aload_n hx hb d_M_init_4 rfl (lv_at hl 0 rfl) ?_
  refine lv_iconst (v := 4) hx hb d_M_init_5 (by decide) ?_
  refine va_newa (atype := .int) (ty := .int) (N' := 4) (a0 := (4, .inl (fun _ : Nat => zI 0))) hx hb (hts _ ac_int) rfl hK hP hD hS hA (fun _ => rfl) (by decide) rfl (by decide) (Nat.le_of_ble_eq_true rfl) (Nat.le_of_ble_eq_true rfl) d_M_init_6 (fun q1 cA H hK2 hP hD hS => ?_)
  have eA : cA = a 3 := arr_same hK2 3 4 rfl rfl (fun _ h => by cases h)
  subst eA
  have hP : va_P D classes [(h0, .inr (1, [vI 0, .null, .null, .null])), (q1, .inl (a 3, 4, .inl (fun _ : Nat => zI 0)))] H := hP
  have hD : va_D A [(h0, .inr (1, [vI 0, .null, .null, .null])), (q1, .inl (a 3, 4, .inl (fun _ : Nat => zI 0)))] := hD
  refine W.widen (k := 1) (n := 4) (Nat.le_of_ble_eq_true rfl) (Nat.le_of_ble_eq_true rfl) ?_
  refine va_put (D := D) (ci := 1) (v := .ref q1) (ty := .array .int) (C := R_M) (T := F_M) (N := 4) hx hb hts i_M t_M t_M_ok n_M hown hK hP hD hS 0 rfl rfl 1 (by decide) (hts _ lk_M_7) (fun _ h9 => h9) rfl (by decide +kernel) rfl rfl (Nat.le_of_ble_eq_true rfl) d_M_init_8 (fun H locs hP hD hS => ?_)
  have hP : va_P D classes [(h0, .inr (1, [vI 0, .ref q1, .null, .null])), (q1, .inl (a 3, 4, .inl (fun _ : Nat => zI 0)))] H := hP
  have hD : va_D A [(h0, .inr (1, [vI 0, .ref q1, .null, .null])), (q1, .inl (a 3, 4, .inl (fun _ : Nat => zI 0)))] := hD
  refine lv_aload_n hx hb d_M_init_11 rfl (lv_at hl 0 rfl) ?_
  refine lv_iconst (v := 4) hx hb d_M_init_12 (by decide) ?_
  refine va_newa (atype := .int) (ty := .int) (N' := 4) (a0 := (4, .inl (fun _ : Nat => zI 0))) hx hb (hts _ ac_int) rfl hK hP hD hS hA (fun _ => rfl) (by decide) rfl (by decide) (Nat.le_of_ble_eq_true rfl) (Nat.le_of_ble_eq_true rfl) d_M_init_13 (fun q2 cA H hK2 hP hD hS => ?_)
  have eA : cA = a 3 := arr_same hK2 3 4 rfl rfl (fun _ h => by cases h)
  subst eA
  have hP : va_P D classes [(h0, .inr (1, [vI 0, .ref q1, .null, .null])), (q1, .inl (a 3, 4, .inl (fun _ : Nat => zI 0))), (q2, .inl (a 3, 4, .inl (fun _ : Nat => zI 0)))] H := hP
  have hD : va_D A [(h0, .inr (1, [vI 0, .ref q1, .null, .null])), (q1, .inl (a 3, 4, .inl (fun _ : Nat => zI 0))), (q2, .inl (a 3, 4, .inl (fun _ : Nat => zI 0)))] := hD
  refine W.widen (k := 2) (n := 8) (Nat.le_of_ble_eq_true rfl) (Nat.le_of_ble_eq_true rfl) ?_
  refine va_put (D := D) (ci := 1) (v := .ref q2) (ty := .array .int) (C := R_M) (T := F_M) (N := 4) hx hb hts i_M t_M t_M_ok n_M hown hK hP hD hS 0 rfl rfl 2 (by decide) (hts _ lk_M_13) (fun _ h9 => h9) rfl (by decide +kernel) rfl rfl (Nat.le_of_ble_eq_true rfl) d_M_init_15 (fun H locs hP hD hS => ?_)
  have hP : va_P D classes [(h0, .inr (1, [vI 0, .ref q1, .ref q2, .null])), (q1, .inl (a 3, 4, .inl (fun _ : Nat => zI 0))), (q2, .inl (a 3, 4, .inl (fun _ : Nat => zI 0)))] H := hP
  have hD : va_D A [(h0, .inr (1, [vI 0, .ref q1, .ref q2, .null])), (q1, .inl (a 3, 4, .inl (fun _ : Nat => zI 0))), (q2, .inl (a 3, 4, .inl (fun _ : Nat => zI 0)))] := hD
  refine lv_aload_n hx hb d_M_init_18 rfl (lv_at hl 0 rfl) ?_
  refine lv_sipush (v := 256) hx hb d_M_init_19 (by decide) ?_
  refine va_newa (atype := .int) (ty := .int) (N' := 256) (a0 := (256, .inl (fun _ : Nat => zI 0))) hx hb (hts _ ac_int) rfl hK hP hD hS hA (fun _ => rfl) (by decide) rfl (by decide) (Nat.le_of_ble_eq_true rfl) (Nat.le_of_ble_eq_true rfl) d_M_init_22 (fun q3 cA H hK2 hP hD hS => ?_)
  have eA : cA = a 3 := arr_same hK2 3 4 rfl rfl (fun _ h => by cases h)
  subst eA
  have hP : va_P D classes [(h0, .inr (1, [vI 0, .ref q1, .ref q2, .null])), (q1, .inl (a 3, 4, .inl (fun _ : Nat => zI 0))), (q2, .inl (a 3, 4, .inl (fun _ : Nat => zI 0))), (q3, .inl (a 3, 256, .inl (fun _ : Nat => zI 0)))] H := hP
  have hD : va_D A [(h0, .inr (1, [vI 0, .ref q1, .ref q2, .null])), (q1, .inl (a 3, 4, .inl (fun _ : Nat => zI 0))), (q2, .inl (a 3, 4, .inl (fun _ : Nat => zI 0))), (q3, .inl (a 3, 256, .inl (fun _ : Nat => zI 0)))] := hD
  refine W.widen (k := 3) (n := 264) (Nat.le_of_ble_eq_true rfl) (Nat.le_of_ble_eq_true rfl) ?_
  refine va_put (D := D) (ci := 1) (v := .ref q3) (ty := .array .int) (C := R_M) (T := F_M) (N := 4) hx hb hts i_M t_M t_M_ok n_M hown hK hP hD hS 0 rfl rfl 3 (by decide) (hts _ lk_M_16) (fun _ h9 => h9) rfl (by decide +kernel) rfl rfl (Nat.le_of_ble_eq_true rfl) d_M_init_24 (fun H locs hP hD hS => ?_)
  have hP : va_P D classes [(h0, .inr (1, [vI 0, .ref q1, .ref q2, .ref q3])), (q1, .inl (a 3, 4, .inl (fun _ : Nat => zI 0))), (q2, .inl (a 3, 4, .inl (fun _ : Nat => zI 0))), (q3, .inl (a 3, 256, .inl (fun _ : Nat => zI 0)))] H := hP
  have hD : va_D A [(h0, .inr (1, [vI 0, .ref q1, .ref q2, .ref q3])), (q1, .inl (a 3, 4, .inl (fun _ : Nat => zI 0))), (q2, .inl (a 3, 4, .inl (fun _ : Nat => zI 0))), (q3, .inl (a 3, 256, .inl (fun _ : Nat => zI 0)))] := hD
  have hPq : va_P D classes (mw a (fun i : Nat => [h0, q1, q2, q3].getD i 0) (fun _ _ => 0)) H := hP
  have hDq : va_D A (mw a (fun i : Nat => [h0, q1, q2, q3].getD i 0) (fun _ _ => 0)) := hD
  have hq0 : (fun i : Nat => [h0, q1, q2, q3].getD i 0) 0 = h0 := rfl
  generalize hqf : (fun i : Nat => [h0, q1, q2, q3].getD i 0) = qf at hPq hDq hq0
  subst hq0
  refine W_imp (Q := MQ below (qG D (mw a qf) (fun v σ => v = none ∧ IP σ w) A) ([.ref (qf 0), vI w] : List Value).toArray s 3 264 A) (fun t ht => ?_) ?_
  · obtain ⟨oc, t1, t2, ⟨⟨v, σ2, rfl, ⟨rfl, hip⟩, hP2⟩, hF⟩, t4⟩ := ht
    exact ⟨_, t1, t2, ⟨⟨(qf, σ2), rfl, ⟨rfl, hip⟩, hP2, va_D_ad (mw_ad a qf _ σ2) hDq⟩, hF⟩, t4⟩
  · exact g_M_init (D := D) (a := a) (q := qf) (Γ := (p, l, e, _, s, m, _, below, meth, c, D, tysA a, A, mw a qf, _, 3, 3, 264, _)) w hw ⟨hx, hb, fun _ => ⟨hr, rfl⟩, hml, rfl, hlocks, hown, hts, hK, hA, rfl, rfl, mw_ad a qf, ⟨Nat.le_refl _, Nat.le_refl _⟩, rfl, rfl, rfl, rfl, rfl⟩ H locs ls hPq hDq hS hl
end
section
-- the law's own rows: the script, the switch, calls on two objects
def lwd (a : Nat → ClassId) (q1 q2 : Nat → Nat) (σ : zS) : va_W := dw a q1 σ ++ mw a q2 (fun i => σ (20 + i))
def cmb (σ τ : zS) : zS := fun i => if i < 20 then σ i else τ (i - 20)
theorem lwd_ad (a : Nat → ClassId) (q1 q2 : Nat → Nat) (σ σ2 : zS) : (lwd a q1 q2 σ).map Prod.fst = (lwd a q1 q2 σ2).map Prod.fst := rfl
theorem lwd_cmb (a : Nat → ClassId) (q1 q2 : Nat → Nat) (σ τ : zS) : lwd a q1 q2 (cmb σ τ) = dw a q1 σ ++ mw a q2 τ := rfl
def GX (Γ : Cx0) (b L : Nat) (xs : Nat → Int32) : Prop := match Γ with
  | (_, _, _, _, s, _, _, _, _, _, _, _, A, _, _, _, _, _, _) => va_X b L xs s s.heap ∧ b < s.heap.size ∧ ¬ A b
section LAWR
variable {Γ : Cx0} {own : String} {cc : ByteArray} {ret : Option FieldType} {nL fr lo : Nat} {wd : zS → va_W} {Post : Option Value → zS → Prop} {l : Launch} {D : va_G} {tys : List (ClassId × FieldType)}
variable {lv : List (Nat × Value)} {σ τ : zS} {pc : Nat} {st stk : List Value} {b L : Nat} {xs : Nat → Int32}
theorem g_sld (X : Cx Γ own cc ret nL fr lo wd Post l D tys) (hX : GX Γ b L xs) {z : Int} (hd : decode cc pc = .ok (.iaload, 1)) (hz : 0 ≤ z ∧ z < L) (hL : L < 2147483648) (k : G Γ lv σ (pc + 1) (vI (xs z.toNat).toInt :: st)) : G Γ lv σ pc (vI z :: .ref b :: st) := by
  have hc : (zI z).toNatClampNeg = z.toNat := zI_clamp (by omega)
  obtain ⟨p, l', e, R, s, m, args, below, meth, c, D', tys', A, wd', Post', nL', nc, ns, Q⟩ := Γ
  obtain ⟨hx, hb, hr, hml, rfl, hlk, hown, hts, hK, hA, hfr, hlo, had, hcs, rfl, rfl, rfl, rfl, rfl⟩ := X
  obtain ⟨x1, x2, x3⟩ := hX
  intro H locs ls hP hD hS hl
  refine va_sld hx hb x1 x2 x3 hS (zI_in hz hL) hd ?_
  have k := k H locs ls hP hD hS hl
  rw [hc, vI_of]
  exact k
theorem g_slen (X : Cx Γ own cc ret nL fr lo wd Post l D tys) (hX : GX Γ b L xs) (hd : decode cc pc = .ok (.arraylength, 1)) (hL : L < 2147483648) (k : G Γ lv σ (pc + 1) (vI (L : Int) :: st)) : G Γ lv σ pc (.ref b :: st) := by
  obtain ⟨p, l', e, R, s, m, args, below, meth, c, D', tys', A, wd', Post', nL', nc, ns, Q⟩ := Γ
  obtain ⟨hx, hb, hr, hml, rfl, hlk, hown, hts, hK, hA, hfr, hlo, had, hcs, rfl, rfl, rfl, rfl, rfl⟩ := X
  obtain ⟨x1, x2, x3⟩ := hX
  intro H locs ls hP hD hS hl
  refine va_slen hx hb x1 x2 x3 hS hd ?_
  have k := k H locs ls hP hD hS hl
  have e : (Int32.ofNat L) = zI (L : Int) := Int32.ofInt_eq_ofNat.symm
  rw [e]
  exact k
theorem g_and15 (X : Cx Γ own cc ret nL fr lo wd Post l D tys) {a : Int} (hd : decode cc pc = .ok (.iand, 1)) (k : G Γ lv σ (pc + 1) (vI (a % 16) :: st)) : G Γ lv σ pc (vI 15 :: vI a :: st) := by
  obtain ⟨p, l', e, R, s, m, args, below, meth, c, D', tys', A, wd', Post', nL', nc, ns, Q⟩ := Γ
  obtain ⟨hx, hb, hr, hml, rfl, hlk, hown, hts, hK, hA, hfr, hlo, had, hcs, rfl, rfl, rfl, rfl, rfl⟩ := X
  intro H locs ls hP hD hS hl
  have k := k H locs ls hP hD hS hl
  rw [show vI (a % 16) = Value.int (zI a &&& zI 15) from by unfold vI; rw [zI_and15]] at k
  exact lv_iand hx hb hd k
theorem g_tsIn (X : Cx Γ own cc ret nL fr lo wd Post l D tys) {z dflt lo2 hi off : Int} {offs : Array Int} {len tgt : Nat} (hd : decode cc pc = .ok (.tableswitch dflt lo2 hi offs, len)) (hz : -2147483648 ≤ z ∧ z < 2147483648) (h1 : ¬ z < lo2) (h2 : ¬ hi < z) (ho : offs[(z - lo2).toNat]? = some off) (ht : (pc : Int) + off = (tgt : Int)) (k : G Γ lv σ tgt st) : G Γ lv σ pc (vI z :: st) := by
  obtain ⟨p, l', e, R, s, m, args, below, meth, c, D', tys', A, wd', Post', nL', nc, ns, Q⟩ := Γ
  obtain ⟨hx, hb, hr, hml, rfl, hlk, hown, hts, hK, hA, hfr, hlo, had, hcs, rfl, rfl, rfl, rfl, rfl⟩ := X
  intro H locs ls hP hD hS hl
  have e0 := zI_toInt hz
  exact lv_tableIn hx hb hd (by rw [e0]; exact h1) (by rw [e0]; exact h2) (by rw [e0]; exact ho) ht (k H locs ls hP hD hS hl)
theorem g_tsOut (X : Cx Γ own cc ret nL fr lo wd Post l D tys) {z dflt lo2 hi : Int} {offs : Array Int} {len tgt : Nat} (hd : decode cc pc = .ok (.tableswitch dflt lo2 hi offs, len)) (hz : -2147483648 ≤ z ∧ z < 2147483648) (h : z < lo2 ∨ hi < z) (ht : (pc : Int) + dflt = (tgt : Int)) (k : G Γ lv σ tgt st) : G Γ lv σ pc (vI z :: st) := by
  obtain ⟨p, l', e, R, s, m, args, below, meth, c, D', tys', A, wd', Post', nL', nc, ns, Q⟩ := Γ
  obtain ⟨hx, hb, hr, hml, rfl, hlk, hown, hts, hK, hA, hfr, hlo, had, hcs, rfl, rfl, rfl, rfl, rfl⟩ := X
  intro H locs ls hP hD hS hl
  have e0 := zI_toInt hz
  exact lv_tableOut hx hb hd (by rw [e0]; exact h) ht (k H locs ls hP hD hS hl)
variable {a : Nat → ClassId} {q1 q2 : Nat → Nat}
/-- a call on the class's object, beside the reference's -/
theorem l_callD (X : Cx Γ own cc ret nL fr lo (lwd a q1 q2) Post l D (tysA a)) {idx n maxL fr2 lo2 : Nat} {y : MethodName} {bb : ByteArray} {ret2 : Option FieldType} {as : List Value} {Post2 : Option Value → zS → Prop} (hM : Con l D (tysA a) y bb maxL ret2 fr2 lo2 (dw a q1) (.ref (q1 0) :: as) σ Post2) (hd : decode cc pc = .ok (.invokevirtual idx, 3)) (h1 : Cond.methodLink own idx y ∈ tb) (h2 : Cond.instanceMethod y ∈ tb) (h3 : Cond.selects R_D y y ∈ tb) (h5 : Cond.code y bb maxL ret2 ∈ tb) (hy : mOk y R_D n)
    (hn : as.length = n) (hR : fr2 + 1 ≤ fr ∧ 8 + (maxL + 11) + lo2 ≤ lo) (hs : stk = as.reverse ++ .ref (q1 0) :: st) (hst : (st.map fun v => v.category).sum ≤ 8)
    (kk : ∀ (v : Option Value) (σ' : zS), Post2 v σ' → G Γ lv (cmb σ' τ) (pc + 3) (v.toList ++ st)) : G Γ lv (cmb σ τ) pc stk := by
  obtain ⟨p, l', e, R, s, m, args, below, meth, c, D', tys', A, wd', Post', nL', nc, ns, Q⟩ := Γ
  obtain ⟨hx, hb, hr, hml, rfl, hlk, hown, hts, hK, hA, hfr, hlo, had, hcs, rfl, rfl, rfl, rfl, rfl⟩ := X
  intro H locs ls hP hD hS hl
  have hP : va_P D' classes (dw a q1 σ ++ mw a q2 τ) H := hP
  have hD : va_D A (dw a q1 σ ++ mw a q2 τ) := hD
  have hPc : va_P D' classes (dw a q1 σ) H := hP.sub (ws' := dw a q1 σ) [0, 1, 2, 3, 4, 5, 6, 7, 8, 9, 10, 11, 12, 13, 14] rfl
  have hDc : va_D A (dw a q1 σ) := hD.sub (ws' := dw a q1 σ) [0, 1, 2, 3, 4, 5, 6, 7, 8, 9, 10, 11, 12, 13, 14] (by decide) rfl
  have hFc := va_free (wc := dw a q1 σ) hD hS hA [0, 1, 2, 3, 4, 5, 6, 7, 8, 9, 10, 11, 12, 13, 14] rfl
  have hcw : CallW R s args own R_D idx y bb maxL ret2 (Cond.code y bb maxL ret2 :: tb) { frames := fr2, cells := 0, slots := 0, locals := lo2 } 0 0 n := cwV n hts (tb_goodV h1 h2 h3 in_D h5) rfl rfl rfl hy ⟨by rw [hfr]; exact hR.1, by rw [hlo]; exact hR.2⟩
  have run := va_runV (e := e) (below := below) (meth := meth) (locs := locs) (cells := nc) (slots := ns) (g := F0 m pc ls stk) (As := as) (rest := st) ⟨hx, hb, hml, hown, hts⟩ (hM H.size) hcw ⟨con_blind, va_recv hK hPc (ci := 0) (q0 := 0) rfl rfl, fun U hU hW => ⟨rfl, by rw [hU], by rw [hU]; exact hPc, va_K.moved hW.alike hK, hDc.weaken (fun _ _ _ _ => trivial)⟩⟩ rfl hn hl.1 hs (lv_room hst) hd hcs
  intro T hT XX
  obtain ⟨v, st₀, t, T', L', h0, X', hL, e1, e2, ⟨⟨v', σ', hv, hp, hP'⟩, hz, hk⟩, stp⟩ := run T hT XX
  cases hv
  rw [h0] at hz hk
  obtain ⟨hPj, hDj⟩ := va_join (wr := mw a q2 τ) (w1 := dw a q1 σ') hP hD [0, 1, 2, 3, 4, 5, 6, 7, 8, 9, 10, 11, 12, 13, 14] [15, 16, 17, 18] rfl rfl (by decide) (by decide) hk hFc hP' (va_D_ad (dw_ad a q1 σ σ') (hDc.self (sz := H.size)))
  have hPn : va_P D' classes (dw a q1 σ' ++ mw a q2 τ) t.heap := hPj.sub (ws' := dw a q1 σ' ++ mw a q2 τ) [4, 5, 6, 7, 8, 9, 10, 11, 12, 13, 14, 15, 16, 17, 18, 0, 1, 2, 3] rfl
  have hDn : va_D A (dw a q1 σ' ++ mw a q2 τ) := va_D_ad (lwd_ad a q1 q2 (cmb σ τ) (cmb σ' τ)) hD
  obtain ⟨t2, a1, b1⟩ := kk v σ' hp T'.heap (locs ++ L') ls (by rw [e1]; exact hPn) hDn
    ⟨Nat.le_trans hS.1 (by rw [e1]; exact hz), fun q h1 h2 => by rw [e1, hk q (Nat.lt_of_lt_of_le h1 hS.1) (fun z => h2 (hFc q z))]; exact hS.2.1 q h1 h2, fun q hq => by
      rcases List.mem_append.mp hq with h | h
      · exact hS.2.2 q h
      · exact hFc _ (hL q h)⟩ hl T' rfl X'
  exact ⟨t2, stp t2 a1, b1⟩
/-- a call on the reference's object -/
theorem l_callM (X : Cx Γ own cc ret nL fr lo (lwd a q1 q2) Post l D (tysA a)) {idx n maxL fr2 lo2 : Nat} {y : MethodName} {bb : ByteArray} {ret2 : Option FieldType} {as : List Value} {Post2 : Option Value → zS → Prop} (hM : Con l D (tysA a) y bb maxL ret2 fr2 lo2 (mw a q2) (.ref (q2 0) :: as) τ Post2) (hd : decode cc pc = .ok (.invokevirtual idx, 3)) (h1 : Cond.methodLink own idx y ∈ tb) (h2 : Cond.instanceMethod y ∈ tb) (h3 : Cond.selects R_M y y ∈ tb) (h5 : Cond.code y bb maxL ret2 ∈ tb) (hy : mOk y R_M n)
    (hn : as.length = n) (hR : fr2 + 1 ≤ fr ∧ 8 + (maxL + 11) + lo2 ≤ lo) (hs : stk = as.reverse ++ .ref (q2 0) :: st) (hst : (st.map fun v => v.category).sum ≤ 8)
    (kk : ∀ (v : Option Value) (τ' : zS), Post2 v τ' → G Γ lv (cmb σ τ') (pc + 3) (v.toList ++ st)) : G Γ lv (cmb σ τ) pc stk := by
  obtain ⟨p, l', e, R, s, m, args, below, meth, c, D', tys', A, wd', Post', nL', nc, ns, Q⟩ := Γ
  obtain ⟨hx, hb, hr, hml, rfl, hlk, hown, hts, hK, hA, hfr, hlo, had, hcs, rfl, rfl, rfl, rfl, rfl⟩ := X
  intro H locs ls hP hD hS hl
  have hP : va_P D' classes (dw a q1 σ ++ mw a q2 τ) H := hP
  have hD : va_D A (dw a q1 σ ++ mw a q2 τ) := hD
  have hPc : va_P D' classes (mw a q2 τ) H := hP.sub (ws' := mw a q2 τ) [15, 16, 17, 18] rfl
  have hDc : va_D A (mw a q2 τ) := hD.sub (ws' := mw a q2 τ) [15, 16, 17, 18] (by decide) rfl
  have hFc := va_free (wc := mw a q2 τ) hD hS hA [15, 16, 17, 18] rfl
  have hcw : CallW R s args own R_M idx y bb maxL ret2 (Cond.code y bb maxL ret2 :: tb) { frames := fr2, cells := 0, slots := 0, locals := lo2 } 0 0 n := cwV n hts (tb_goodV h1 h2 h3 in_M h5) rfl rfl rfl hy ⟨by rw [hfr]; exact hR.1, by rw [hlo]; exact hR.2⟩
  have run := va_runV (e := e) (below := below) (meth := meth) (locs := locs) (cells := nc) (slots := ns) (g := F0 m pc ls stk) (As := as) (rest := st) ⟨hx, hb, hml, hown, hts⟩ (hM H.size) hcw ⟨con_blind, va_recv hK hPc (ci := 1) (q0 := 0) rfl rfl, fun U hU hW => ⟨rfl, by rw [hU], by rw [hU]; exact hPc, va_K.moved hW.alike hK, hDc.weaken (fun _ _ _ _ => trivial)⟩⟩ rfl hn hl.1 hs (lv_room hst) hd hcs
  intro T hT XX
  obtain ⟨v, st₀, t, T', L', h0, X', hL, e1, e2, ⟨⟨v', τ', hv, hp, hP'⟩, hz, hk⟩, stp⟩ := run T hT XX
  cases hv
  rw [h0] at hz hk
  obtain ⟨hPj, hDj⟩ := va_join (wr := dw a q1 σ) (w1 := mw a q2 τ') hP hD [15, 16, 17, 18] [0, 1, 2, 3, 4, 5, 6, 7, 8, 9, 10, 11, 12, 13, 14] rfl rfl (by decide) (by decide) hk hFc hP' (va_D_ad (mw_ad a q2 τ τ') (hDc.self (sz := H.size)))
  have hDn : va_D A (dw a q1 σ ++ mw a q2 τ') := va_D_ad (lwd_ad a q1 q2 (cmb σ τ) (cmb σ τ')) hD
  obtain ⟨t2, a1, b1⟩ := kk v τ' hp T'.heap (locs ++ L') ls (by rw [e1]; exact hPj) hDn
    ⟨Nat.le_trans hS.1 (by rw [e1]; exact hz), fun q h1 h2 => by rw [e1, hk q (Nat.lt_of_lt_of_le h1 hS.1) (fun z => h2 (hFc q z))]; exact hS.2.1 q h1 h2, fun q hq => by
      rcases List.mem_append.mp hq with h | h
      · exact hS.2.2 q h
      · exact hFc _ (hL q h)⟩ hl T' rfl X'
  exact ⟨t2, stp t2 a1, b1⟩
end LAWR
-- what the two objects share
def AR (σ τ : zS) : Prop := σ 0 0 = τ 0 0 ∧ (∀ k, 0 ≤ k → k < 4 → σ 1 k = τ 1 k) ∧ ∀ k, 0 ≤ k → k < 4 → σ 2 k = τ 2 k
theorem AR_keep {σ τ σ2 τ2 : zS} (h : AR σ τ) (h1 : DF σ σ2) (h2 : ∀ i, i ≠ 3 → τ2 i = τ i) : AR σ2 τ2 := by
  obtain ⟨a1, a2, a3⟩ := h
  obtain ⟨b1, b2, b3⟩ := h1
  unfold AR
  rw [b1, b2, b3, h2 0 (by decide), h2 1 (by decide), h2 2 (by decide)]
  exact ⟨a1, a2, a3⟩
theorem SI_keep {τ τ2 : zS} (h : SI τ) (h2 : ∀ i, i ≠ 3 → τ2 i = τ i) : SI τ2 := by
  unfold SI
  rw [h2 0 (by decide), h2 1 (by decide), h2 2 (by decide)]
  exact h
theorem SI_width {σ : zS} {k w : Int} (h : SI σ) (hw : 1 ≤ w ∧ w ≤ σ 0 0) : SI (up σ 1 k w) := by
  obtain ⟨a1, a2, a3⟩ := h
  refine ⟨a1, fun j b1 b2 => ?_, a3⟩
  show 1 ≤ up σ 1 k w 1 j ∧ up σ 1 k w 1 j ≤ σ 0 0
  rw [up_if]
  split
  · exact hw
  · exact a2 j b1 b2
theorem SI_order {σ : zS} {k n : Int} (h : SI σ) (hn : 0 ≤ n ∧ n ≤ 3) : SI (up σ 2 k n) := by
  obtain ⟨a1, a2, a3⟩ := h
  refine ⟨a1, a2, fun j b1 b2 => ?_⟩
  rw [up_if]
  split
  · exact hn
  · exact a3 j b1 b2
theorem SI_roll {σ : zS} {w : Int} (h : SI σ) (hw : 1 ≤ w ∧ w ≤ 20) (hk : ∀ k, 0 ≤ k → k < 4 → σ 1 k ≤ w) : SI (up σ 0 0 w) := by
  obtain ⟨a1, a2, a3⟩ := h
  refine ⟨by rw [up_eq]; exact hw, fun j b1 b2 => ?_, a3⟩
  rw [up_eq]
  exact ⟨(a2 j b1 b2).1, hk j b1 b2⟩
theorem AR_width {σ τ : zS} {k w : Int} (h : AR σ τ) : AR (up σ 1 k w) (up τ 1 k w) := by
  obtain ⟨a1, a2, a3⟩ := h
  refine ⟨a1, fun j b1 b2 => ?_, a3⟩
  rw [up_if, up_if, a2 j b1 b2]
theorem AR_order {σ τ : zS} {k w : Int} (h : AR σ τ) : AR (up σ 2 k w) (up τ 2 k w) := by
  obtain ⟨a1, a2, a3⟩ := h
  refine ⟨a1, a2, fun j b1 b2 => ?_⟩
  rw [up_if, up_if, a3 j b1 b2]
theorem AR_roll {σ τ : zS} {w : Int} (h : AR σ τ) : AR (up σ 0 0 w) (up τ 0 0 w) := by
  obtain ⟨a1, a2, a3⟩ := h
  exact ⟨by rw [up_eq, up_eq], a2, a3⟩
theorem DF.rf (σ : zS) : DF σ σ := ⟨rfl, rfl, rfl⟩
end
section
section S32
variable {l : Launch} {D : va_G} {a : Nat → ClassId} {q1 q2 : Nat → Nat} {Γ : Cx0} {Post : Option Value → zS → Prop} {b L : Nat} {xs : Nat → Int32}
set_option maxHeartbeats 4000000 in
/-- the law's loop: the two objects answer alike -/
theorem law_loop (hL : L ≤ 1537) (X : Cx Γ "CutDeskLaw" code (some .byte) 4 10 380 (lwd a q1 q2) Post l D (tysA a)) (hX : GX Γ b L xs) (RET : ∀ (lv : List (Nat × Value)) (σ : zS) (pc : Nat), decode code pc = .ok (.ireturn, 1) → G Γ lv σ pc [vI 1]) :
    ∀ (n : Nat) (i : Int) (σ τ : zS), (L : Int) + 3 ≤ i + n → 1 ≤ i → i ≤ 1600 → SI σ → SI τ → AR σ τ → G Γ [(0, .ref b), (1, .ref (q1 0)), (2, .ref (q2 0)), (3, vI i)] (cmb σ τ) 28 [] := by
  intro n
  induction n with
  | zero =>
    intro i σ τ hn hi1 hi2 hS hT hA
    refine g_iload_n X 3 d_law_28 rfl rfl ?_
    refine g_aload_n X 0 d_law_29 rfl rfl ?_
    refine g_slen X hX d_law_30 (by omega) ?_
    refine g_iconst X d_law_31 ?_
    refine g_isub X d_law_32 ?_
    refine g_icmp_gt X (tgt := 413) d_law_33 (by decide) (by omega) (by omega) (fun h33 => ?_) (fun h33 => ?_)
    · refine g_iconst X d_law_413 ?_
      exact RET _ _ _ d_law_414
    · omega
  | succ n ih =>
    intro i σ τ hn hi1 hi2 hS hT hA
    obtain ⟨eR, ew, eo⟩ := id hA
    refine g_iload_n X 3 d_law_28 rfl rfl ?_
    refine g_aload_n X 0 d_law_29 rfl rfl ?_
    refine g_slen X hX d_law_30 (by omega) ?_
    refine g_iconst X d_law_31 ?_
    refine g_isub X d_law_32 ?_
    refine g_icmp_gt X (tgt := 413) d_law_33 (by decide) (by omega) (by omega) (fun h33 => ?_) (fun h33 => ?_)
    · refine g_iconst X d_law_413 ?_
      exact RET _ _ _ d_law_414
    · have NX : ∀ σ2 τ2, SI σ2 → SI τ2 → AR σ2 τ2 → G Γ [(0, .ref b), (1, .ref (q1 0)), (2, .ref (q2 0)), (3, vI i)] (cmb σ2 τ2) 407 [] := by
        intro σ2 τ2 s1 s2 s3
        refine g_iinc X d_law_407 rfl (by decide) ?_
        refine g_goto X (tgt := 28) d_law_410 (by decide) ?_
        exact ih (i + 3) σ2 τ2 (by omega) (by omega) (by omega) s1 s2 s3
      refine g_aload_n X 0 d_law_36 rfl rfl ?_
      refine g_iload_n X 3 d_law_37 rfl rfl ?_
      refine g_sld X hX d_law_38 (by omega) (by omega) ?_
      refine g_bipush X d_law_39 (by decide) ?_
      refine g_and15 X d_law_41 ?_
      refine g_nameI (fun z ez => ?_)
      have hz : 0 ≤ z ∧ z < 16 := by omega
      clear ez
      by_cases h13 : 12 < z
      · refine g_tsOut X d_law_42 (by omega) (Or.inr h13) (tgt := 407) (by decide) ?_
        exact NX σ τ hS hT hA
      rcases (show z = 0 ∨ z = 1 ∨ z = 2 ∨ z = 3 ∨ z = 4 ∨ z = 5 ∨ z = 6 ∨ z = 7 ∨ z = 8 ∨ z = 9 ∨ z = 10 ∨ z = 11 ∨ z = 12 by omega) with rfl | rfl | rfl | rfl | rfl | rfl | rfl | rfl | rfl | rfl | rfl | rfl | rfl
      · refine g_tsIn X d_law_42 (off := 66) (tgt := 108) (by decide) (by decide) (by decide) rfl (by decide) ?_
        refine g_aload_n X 1 d_law_108 rfl rfl ?_
        refine g_aload_n X 0 d_law_109 rfl rfl ?_
        refine g_iload_n X 3 d_law_110 rfl rfl ?_
        refine g_iconst X d_law_111 ?_
        refine g_iadd X d_law_112 ?_
        refine g_sld X hX d_law_113 (by omega) (by omega) ?_
        refine g_aload_n X 0 d_law_114 rfl rfl ?_
        refine g_iload_n X 3 d_law_115 rfl rfl ?_
        refine g_iconst X d_law_116 ?_
        refine g_iadd X d_law_117 ?_
        refine g_sld X hX d_law_118 (by omega) (by omega) ?_
        refine l_callD X (c_D_setWidth l D a q1 σ (xs (i + 1).toNat).toInt (xs (i + 2).toNat).toInt (zI_rng _) (zI_rng _) hS) d_law_119 lk_L_21 im_D_setWidth sl_D_setWidth k_D_setWidth ok_D_setWidth rfl (by decide) rfl (Nat.le_of_ble_eq_true rfl) (fun v1 σ2 hp1 => ?_)
        rcases hp1 with ⟨rfl, c1, rfl⟩ | ⟨rfl, c1, rfl⟩
        · refine g_aload_n X 2 d_law_122 rfl rfl ?_
          refine g_aload_n X 0 d_law_123 rfl rfl ?_
          refine g_iload_n X 3 d_law_124 rfl rfl ?_
          refine g_iconst X d_law_125 ?_
          refine g_iadd X d_law_126 ?_
          refine g_sld X hX d_law_127 (by omega) (by omega) ?_
          refine g_aload_n X 0 d_law_128 rfl rfl ?_
          refine g_iload_n X 3 d_law_129 rfl rfl ?_
          refine g_iconst X d_law_130 ?_
          refine g_iadd X d_law_131 ?_
          refine g_sld X hX d_law_132 (by omega) (by omega) ?_
          refine l_callM X (c_M_setWidth l D a q2 τ (xs (i + 1).toNat).toInt (xs (i + 2).toNat).toInt (zI_rng _) (zI_rng _) hT) d_law_133 lk_L_25 im_M_setWidth sl_M_setWidth k_M_setWidth ok_M_setWidth rfl (by decide) rfl (Nat.le_of_ble_eq_true rfl) (fun v2 τ2 hp2 => ?_)
          rcases hp2 with ⟨rfl, c2, rfl⟩ | ⟨rfl, c2, rfl⟩
          · refine g_icmp_eq X (tgt := 407) d_law_136 (by decide) (by decide) (by decide) (fun hc => ?_) (fun hc => ?_)
            · exact NX _ _ (SI_width hS c1.2) (SI_width hT c2.2) (AR_width hA)
            · exact absurd (rfl) hc
          · exact absurd (⟨c1.1, c1.2.1, by have := c1.2.2; omega⟩) (c2)
        · refine g_aload_n X 2 d_law_122 rfl rfl ?_
          refine g_aload_n X 0 d_law_123 rfl rfl ?_
          refine g_iload_n X 3 d_law_124 rfl rfl ?_
          refine g_iconst X d_law_125 ?_
          refine g_iadd X d_law_126 ?_
          refine g_sld X hX d_law_127 (by omega) (by omega) ?_
          refine g_aload_n X 0 d_law_128 rfl rfl ?_
          refine g_iload_n X 3 d_law_129 rfl rfl ?_
          refine g_iconst X d_law_130 ?_
          refine g_iadd X d_law_131 ?_
          refine g_sld X hX d_law_132 (by omega) (by omega) ?_
          refine l_callM X (c_M_setWidth l D a q2 τ (xs (i + 1).toNat).toInt (xs (i + 2).toNat).toInt (zI_rng _) (zI_rng _) hT) d_law_133 lk_L_25 im_M_setWidth sl_M_setWidth k_M_setWidth ok_M_setWidth rfl (by decide) rfl (Nat.le_of_ble_eq_true rfl) (fun v2 τ2 hp2 => ?_)
          rcases hp2 with ⟨rfl, c2, rfl⟩ | ⟨rfl, c2, rfl⟩
          · exact absurd (⟨c2.1, c2.2.1, by have := c2.2.2; omega⟩) (c1)
          · refine g_icmp_eq X (tgt := 407) d_law_136 (by decide) (by decide) (by decide) (fun hc => ?_) (fun hc => ?_)
            · exact NX _ _ hS hT hA
            · exact absurd (rfl) hc
      · refine g_tsIn X d_law_42 (off := 99) (tgt := 141) (by decide) (by decide) (by decide) rfl (by decide) ?_
        refine g_aload_n X 1 d_law_141 rfl rfl ?_
        refine g_aload_n X 0 d_law_142 rfl rfl ?_
        refine g_iload_n X 3 d_law_143 rfl rfl ?_
        refine g_iconst X d_law_144 ?_
        refine g_iadd X d_law_145 ?_
        refine g_sld X hX d_law_146 (by omega) (by omega) ?_
        refine g_aload_n X 0 d_law_147 rfl rfl ?_
        refine g_iload_n X 3 d_law_148 rfl rfl ?_
        refine g_iconst X d_law_149 ?_
        refine g_iadd X d_law_150 ?_
        refine g_sld X hX d_law_151 (by omega) (by omega) ?_
        refine l_callD X (c_D_order l D a q1 σ (xs (i + 1).toNat).toInt (xs (i + 2).toNat).toInt (zI_rng _) (zI_rng _)) d_law_152 lk_L_26 im_D_order sl_D_order k_D_order ok_D_order rfl (by decide) rfl (Nat.le_of_ble_eq_true rfl) (fun v1 σ2 hp1 => ?_)
        rcases hp1 with ⟨rfl, c1, rfl⟩ | ⟨rfl, c1, rfl⟩
        · refine g_aload_n X 2 d_law_155 rfl rfl ?_
          refine g_aload_n X 0 d_law_156 rfl rfl ?_
          refine g_iload_n X 3 d_law_157 rfl rfl ?_
          refine g_iconst X d_law_158 ?_
          refine g_iadd X d_law_159 ?_
          refine g_sld X hX d_law_160 (by omega) (by omega) ?_
          refine g_aload_n X 0 d_law_161 rfl rfl ?_
          refine g_iload_n X 3 d_law_162 rfl rfl ?_
          refine g_iconst X d_law_163 ?_
          refine g_iadd X d_law_164 ?_
          refine g_sld X hX d_law_165 (by omega) (by omega) ?_
          refine l_callM X (c_M_order l D a q2 τ (xs (i + 1).toNat).toInt (xs (i + 2).toNat).toInt (zI_rng _) (zI_rng _)) d_law_166 lk_L_29 im_M_order sl_M_order k_M_order ok_M_order rfl (by decide) rfl (Nat.le_of_ble_eq_true rfl) (fun v2 τ2 hp2 => ?_)
          rcases hp2 with ⟨rfl, c2, rfl⟩ | ⟨rfl, c2, rfl⟩
          · refine g_icmp_eq X (tgt := 407) d_law_169 (by decide) (by decide) (by decide) (fun hc => ?_) (fun hc => ?_)
            · exact NX _ _ (SI_order hS c1.2) (SI_order hT c2.2) (AR_order hA)
            · exact absurd (rfl) hc
          · exact absurd (c1) (c2)
        · refine g_aload_n X 2 d_law_155 rfl rfl ?_
          refine g_aload_n X 0 d_law_156 rfl rfl ?_
          refine g_iload_n X 3 d_law_157 rfl rfl ?_
          refine g_iconst X d_law_158 ?_
          refine g_iadd X d_law_159 ?_
          refine g_sld X hX d_law_160 (by omega) (by omega) ?_
          refine g_aload_n X 0 d_law_161 rfl rfl ?_
          refine g_iload_n X 3 d_law_162 rfl rfl ?_
          refine g_iconst X d_law_163 ?_
          refine g_iadd X d_law_164 ?_
          refine g_sld X hX d_law_165 (by omega) (by omega) ?_
          refine l_callM X (c_M_order l D a q2 τ (xs (i + 1).toNat).toInt (xs (i + 2).toNat).toInt (zI_rng _) (zI_rng _)) d_law_166 lk_L_29 im_M_order sl_M_order k_M_order ok_M_order rfl (by decide) rfl (Nat.le_of_ble_eq_true rfl) (fun v2 τ2 hp2 => ?_)
          rcases hp2 with ⟨rfl, c2, rfl⟩ | ⟨rfl, c2, rfl⟩
          · exact absurd (c2) (c1)
          · refine g_icmp_eq X (tgt := 407) d_law_169 (by decide) (by decide) (by decide) (fun hc => ?_) (fun hc => ?_)
            · exact NX _ _ hS hT hA
            · exact absurd (rfl) hc
      · refine g_tsIn X d_law_42 (off := 132) (tgt := 174) (by decide) (by decide) (by decide) rfl (by decide) ?_
        refine g_aload_n X 1 d_law_174 rfl rfl ?_
        refine g_aload_n X 0 d_law_175 rfl rfl ?_
        refine g_iload_n X 3 d_law_176 rfl rfl ?_
        refine g_iconst X d_law_177 ?_
        refine g_iadd X d_law_178 ?_
        refine g_sld X hX d_law_179 (by omega) (by omega) ?_
        refine l_callD X (c_D_setRoll l D a q1 σ (xs (i + 1).toNat).toInt (zI_rng _) hS) d_law_180 lk_L_30 im_D_setRoll sl_D_setRoll k_D_setRoll ok_D_setRoll rfl (by decide) rfl (Nat.le_of_ble_eq_true rfl) (fun v1 σ2 hp1 => ?_)
        rcases hp1 with ⟨rfl, c1, rfl⟩ | ⟨rfl, c1, rfl⟩
        · refine g_aload_n X 2 d_law_183 rfl rfl ?_
          refine g_aload_n X 0 d_law_184 rfl rfl ?_
          refine g_iload_n X 3 d_law_185 rfl rfl ?_
          refine g_iconst X d_law_186 ?_
          refine g_iadd X d_law_187 ?_
          refine g_sld X hX d_law_188 (by omega) (by omega) ?_
          refine l_callM X (c_M_setRoll l D a q2 τ (xs (i + 1).toNat).toInt (zI_rng _) hT) d_law_189 lk_L_34 im_M_setRoll sl_M_setRoll k_M_setRoll ok_M_setRoll rfl (by decide) rfl (Nat.le_of_ble_eq_true rfl) (fun v2 τ2 hp2 => ?_)
          rcases hp2 with ⟨rfl, c2, rfl⟩ | ⟨rfl, c2, rfl⟩
          · refine g_icmp_eq X (tgt := 407) d_law_192 (by decide) (by decide) (by decide) (fun hc => ?_) (fun hc => ?_)
            · exact NX _ _ (SI_roll hS c1.1 c1.2) (SI_roll hT c2.1 c2.2) (AR_roll hA)
            · exact absurd (rfl) hc
          · exact absurd (⟨c1.1, fun k b1 b2 => by rw [← ew k b1 b2]; exact c1.2 k b1 b2⟩) (c2)
        · refine g_aload_n X 2 d_law_183 rfl rfl ?_
          refine g_aload_n X 0 d_law_184 rfl rfl ?_
          refine g_iload_n X 3 d_law_185 rfl rfl ?_
          refine g_iconst X d_law_186 ?_
          refine g_iadd X d_law_187 ?_
          refine g_sld X hX d_law_188 (by omega) (by omega) ?_
          refine l_callM X (c_M_setRoll l D a q2 τ (xs (i + 1).toNat).toInt (zI_rng _) hT) d_law_189 lk_L_34 im_M_setRoll sl_M_setRoll k_M_setRoll ok_M_setRoll rfl (by decide) rfl (Nat.le_of_ble_eq_true rfl) (fun v2 τ2 hp2 => ?_)
          rcases hp2 with ⟨rfl, c2, rfl⟩ | ⟨rfl, c2, rfl⟩
          · exact absurd (⟨c2.1, fun k b1 b2 => by rw [ew k b1 b2]; exact c2.2 k b1 b2⟩) (c1)
          · refine g_icmp_eq X (tgt := 407) d_law_192 (by decide) (by decide) (by decide) (fun hc => ?_) (fun hc => ?_)
            · exact NX _ _ hS hT hA
            · exact absurd (rfl) hc
      · refine g_tsIn X d_law_42 (off := 155) (tgt := 197) (by decide) (by decide) (by decide) rfl (by decide) ?_
        refine g_aload_n X 1 d_law_197 rfl rfl ?_
        refine l_callD X (c_D_roll l D a q1 σ) d_law_198 lk_L_35 im_D_roll sl_D_roll k_D_roll ok_D_roll rfl (by decide) rfl (Nat.le_of_ble_eq_true rfl) (fun v1 σ2 hp1 => ?_)
        obtain ⟨rfl, rfl⟩ := hp1
        refine g_aload_n X 2 d_law_201 rfl rfl ?_
        refine l_callM X (c_M_roll l D a q2 τ) d_law_202 lk_L_39 im_M_roll sl_M_roll k_M_roll ok_M_roll rfl (by decide) rfl (Nat.le_of_ble_eq_true rfl) (fun v2 τ2 hp2 => ?_)
        obtain ⟨rfl, rfl⟩ := hp2
        refine g_icmp_eq X (tgt := 407) d_law_205 (by decide) (by have := hS.1; omega) (by have := hT.1; omega) (fun hc => ?_) (fun hc => ?_)
        · exact NX _ _ hS hT hA
        · exact absurd (eR) hc
      · refine g_tsIn X d_law_42 (off := 168) (tgt := 210) (by decide) (by decide) (by decide) rfl (by decide) ?_
        refine g_aload_n X 1 d_law_210 rfl rfl ?_
        refine g_aload_n X 0 d_law_211 rfl rfl ?_
        refine g_iload_n X 3 d_law_212 rfl rfl ?_
        refine g_iconst X d_law_213 ?_
        refine g_iadd X d_law_214 ?_
        refine g_sld X hX d_law_215 (by omega) (by omega) ?_
        refine l_callD X (c_D_width l D a q1 σ (xs (i + 1).toNat).toInt (zI_rng _)) d_law_216 lk_L_40 im_D_width sl_D_width k_D_width ok_D_width rfl (by decide) rfl (Nat.le_of_ble_eq_true rfl) (fun v1 σ2 hp1 => ?_)
        obtain ⟨rfl, hp1⟩ := hp1
        rcases hp1 with ⟨rfl, c1⟩ | ⟨rfl, c1⟩
        · refine g_aload_n X 2 d_law_219 rfl rfl ?_
          refine g_aload_n X 0 d_law_220 rfl rfl ?_
          refine g_iload_n X 3 d_law_221 rfl rfl ?_
          refine g_iconst X d_law_222 ?_
          refine g_iadd X d_law_223 ?_
          refine g_sld X hX d_law_224 (by omega) (by omega) ?_
          refine l_callM X (c_M_width l D a q2 τ (xs (i + 1).toNat).toInt (zI_rng _)) d_law_225 lk_L_44 im_M_width sl_M_width k_M_width ok_M_width rfl (by decide) rfl (Nat.le_of_ble_eq_true rfl) (fun v2 τ2 hp2 => ?_)
          obtain ⟨rfl, hp2⟩ := hp2
          rcases hp2 with ⟨rfl, c2⟩ | ⟨rfl, c2⟩
          · refine g_icmp_eq X (tgt := 407) d_law_228 (by decide) (by have := hS.2.1 _ c1.1 c1.2; have := hS.1; omega) (by have := hT.2.1 _ c2.1 c2.2; have := hT.1; omega) (fun hc => ?_) (fun hc => ?_)
            · exact NX _ _ hS hT hA
            · exact absurd (ew _ c1.1 c1.2) hc
          · exact absurd (c1) (c2)
        · refine g_aload_n X 2 d_law_219 rfl rfl ?_
          refine g_aload_n X 0 d_law_220 rfl rfl ?_
          refine g_iload_n X 3 d_law_221 rfl rfl ?_
          refine g_iconst X d_law_222 ?_
          refine g_iadd X d_law_223 ?_
          refine g_sld X hX d_law_224 (by omega) (by omega) ?_
          refine l_callM X (c_M_width l D a q2 τ (xs (i + 1).toNat).toInt (zI_rng _)) d_law_225 lk_L_44 im_M_width sl_M_width k_M_width ok_M_width rfl (by decide) rfl (Nat.le_of_ble_eq_true rfl) (fun v2 τ2 hp2 => ?_)
          obtain ⟨rfl, hp2⟩ := hp2
          rcases hp2 with ⟨rfl, c2⟩ | ⟨rfl, c2⟩
          · exact absurd (c2) (c1)
          · refine g_icmp_eq X (tgt := 407) d_law_228 (by decide) (by decide) (by decide) (fun hc => ?_) (fun hc => ?_)
            · exact NX _ _ hS hT hA
            · exact absurd (rfl) hc
      · refine g_tsIn X d_law_42 (off := 191) (tgt := 233) (by decide) (by decide) (by decide) rfl (by decide) ?_
        refine g_aload_n X 1 d_law_233 rfl rfl ?_
        refine g_aload_n X 0 d_law_234 rfl rfl ?_
        refine g_iload_n X 3 d_law_235 rfl rfl ?_
        refine g_iconst X d_law_236 ?_
        refine g_iadd X d_law_237 ?_
        refine g_sld X hX d_law_238 (by omega) (by omega) ?_
        refine l_callD X (c_D_ordered l D a q1 σ (xs (i + 1).toNat).toInt (zI_rng _)) d_law_239 lk_L_45 im_D_ordered sl_D_ordered k_D_ordered ok_D_ordered rfl (by decide) rfl (Nat.le_of_ble_eq_true rfl) (fun v1 σ2 hp1 => ?_)
        obtain ⟨rfl, hp1⟩ := hp1
        rcases hp1 with ⟨rfl, c1⟩ | ⟨rfl, c1⟩
        · refine g_aload_n X 2 d_law_242 rfl rfl ?_
          refine g_aload_n X 0 d_law_243 rfl rfl ?_
          refine g_iload_n X 3 d_law_244 rfl rfl ?_
          refine g_iconst X d_law_245 ?_
          refine g_iadd X d_law_246 ?_
          refine g_sld X hX d_law_247 (by omega) (by omega) ?_
          refine l_callM X (c_M_ordered l D a q2 τ (xs (i + 1).toNat).toInt (zI_rng _)) d_law_248 lk_L_48 im_M_ordered sl_M_ordered k_M_ordered ok_M_ordered rfl (by decide) rfl (Nat.le_of_ble_eq_true rfl) (fun v2 τ2 hp2 => ?_)
          obtain ⟨rfl, hp2⟩ := hp2
          rcases hp2 with ⟨rfl, c2⟩ | ⟨rfl, c2⟩
          · refine g_icmp_eq X (tgt := 407) d_law_251 (by decide) (by have := hS.2.2 _ c1.1 c1.2; have := hS.1; omega) (by have := hT.2.2 _ c2.1 c2.2; have := hT.1; omega) (fun hc => ?_) (fun hc => ?_)
            · exact NX _ _ hS hT hA
            · exact absurd (eo _ c1.1 c1.2) hc
          · exact absurd (c1) (c2)
        · refine g_aload_n X 2 d_law_242 rfl rfl ?_
          refine g_aload_n X 0 d_law_243 rfl rfl ?_
          refine g_iload_n X 3 d_law_244 rfl rfl ?_
          refine g_iconst X d_law_245 ?_
          refine g_iadd X d_law_246 ?_
          refine g_sld X hX d_law_247 (by omega) (by omega) ?_
          refine l_callM X (c_M_ordered l D a q2 τ (xs (i + 1).toNat).toInt (zI_rng _)) d_law_248 lk_L_48 im_M_ordered sl_M_ordered k_M_ordered ok_M_ordered rfl (by decide) rfl (Nat.le_of_ble_eq_true rfl) (fun v2 τ2 hp2 => ?_)
          obtain ⟨rfl, hp2⟩ := hp2
          rcases hp2 with ⟨rfl, c2⟩ | ⟨rfl, c2⟩
          · exact absurd (c2) (c1)
          · refine g_icmp_eq X (tgt := 407) d_law_251 (by decide) (by decide) (by decide) (fun hc => ?_) (fun hc => ?_)
            · exact NX _ _ hS hT hA
            · exact absurd (rfl) hc
      · refine g_tsIn X d_law_42 (off := 214) (tgt := 256) (by decide) (by decide) (by decide) rfl (by decide) ?_
        refine g_aload_n X 1 d_law_256 rfl rfl ?_
        refine l_callD X (c_D_least l D a q1 σ hS) d_law_257 lk_L_49 im_D_least sl_D_least k_D_least ok_D_least rfl (by decide) rfl (Nat.le_of_ble_eq_true rfl) (fun v1 σ2 hp1 => ?_)
        obtain ⟨hD, n1, rfl, hO1⟩ := hp1
        refine g_aload_n X 2 d_law_260 rfl rfl ?_
        refine l_callM X (c_M_least l D a q2 τ hT.1 hT.2.1 hT.2.2) d_law_261 lk_L_52 im_M_least sl_M_least k_M_least ok_M_least rfl (by decide) rfl (Nat.le_of_ble_eq_true rfl) (fun v2 τ2 hp2 => ?_)
        obtain ⟨n2, rfl, hO2, hMT⟩ := hp2
        have hq := Opt_uniq (Opt_congr ew eo (eR ▸ hO1)) hO2
        have hb := Opt_12 (by have := hT.1; omega) hT.2.2 (fun k b1 b2 _ => (hT.2.1 k b1 b2).2) hO2
        subst hq
        refine g_icmp_eq X (tgt := 407) d_law_264 (by decide) (by omega) (by omega) (fun hc => ?_) (fun hc => ?_)
        · exact NX _ _ (hD.si hS) (SI_keep hT hMT.1) (AR_keep hA hD hMT.1)
        · exact absurd rfl hc
      · refine g_tsIn X d_law_42 (off := 227) (tgt := 269) (by decide) (by decide) (by decide) rfl (by decide) ?_
        refine g_aload_n X 1 d_law_269 rfl rfl ?_
        refine g_aload_n X 0 d_law_270 rfl rfl ?_
        refine g_iload_n X 3 d_law_271 rfl rfl ?_
        refine g_iconst X d_law_272 ?_
        refine g_iadd X d_law_273 ?_
        refine g_sld X hX d_law_274 (by omega) (by omega) ?_
        refine g_aload_n X 0 d_law_275 rfl rfl ?_
        refine g_iload_n X 3 d_law_276 rfl rfl ?_
        refine g_iconst X d_law_277 ?_
        refine g_iadd X d_law_278 ?_
        refine g_sld X hX d_law_279 (by omega) (by omega) ?_
        refine l_callD X (c_D_leastWith l D a q1 σ (xs (i + 1).toNat).toInt (xs (i + 2).toNat).toInt (zI_rng _) (zI_rng _) hS) d_law_280 lk_L_53 im_D_leastWith sl_D_leastWith k_D_leastWith ok_D_leastWith rfl (by decide) rfl (Nat.le_of_ble_eq_true rfl) (fun v1 σ2 hp1 => ?_)
        obtain ⟨hD, hp1⟩ := hp1
        rcases hp1 with ⟨c1, n1, rfl, hO1⟩ | ⟨c1, rfl⟩
        · refine g_aload_n X 2 d_law_283 rfl rfl ?_
          refine g_aload_n X 0 d_law_284 rfl rfl ?_
          refine g_iload_n X 3 d_law_285 rfl rfl ?_
          refine g_iconst X d_law_286 ?_
          refine g_iadd X d_law_287 ?_
          refine g_sld X hX d_law_288 (by omega) (by omega) ?_
          refine g_aload_n X 0 d_law_289 rfl rfl ?_
          refine g_iload_n X 3 d_law_290 rfl rfl ?_
          refine g_iconst X d_law_291 ?_
          refine g_iadd X d_law_292 ?_
          refine g_sld X hX d_law_293 (by omega) (by omega) ?_
          refine l_callM X (c_M_leastWith l D a q2 τ (xs (i + 1).toNat).toInt (xs (i + 2).toNat).toInt (zI_rng _) (zI_rng _) hT) d_law_294 lk_L_57 im_M_leastWith sl_M_leastWith k_M_leastWith ok_M_leastWith rfl (by decide) rfl (Nat.le_of_ble_eq_true rfl) (fun v2 τ2 hp2 => ?_)
          obtain ⟨hF, hp2⟩ := hp2
          rcases hp2 with ⟨c2, n2, rfl, hO2⟩ | ⟨c2, rfl⟩
          · have hq := Opt_uniq (Opt_congr ew (fun j b1 b2 => by unfold setv; split; rfl; exact eo j b1 b2) (eR ▸ hO1)) hO2
            have hb := Opt_12 (by have := hT.1; omega) (fun j b1 b2 => by have := hT.2.2 j b1 b2; unfold setv; split <;> omega) (fun k b1 b2 _ => (hT.2.1 k b1 b2).2) hO2
            subst hq
            refine g_icmp_eq X (tgt := 407) d_law_297 (by decide) (by omega) (by omega) (fun hc => ?_) (fun hc => ?_)
            · exact NX _ _ (hD.si hS) (SI_keep hT hF) (AR_keep hA hD hF)
            · exact absurd rfl hc
          · exact absurd (c1) (c2)
        · refine g_aload_n X 2 d_law_283 rfl rfl ?_
          refine g_aload_n X 0 d_law_284 rfl rfl ?_
          refine g_iload_n X 3 d_law_285 rfl rfl ?_
          refine g_iconst X d_law_286 ?_
          refine g_iadd X d_law_287 ?_
          refine g_sld X hX d_law_288 (by omega) (by omega) ?_
          refine g_aload_n X 0 d_law_289 rfl rfl ?_
          refine g_iload_n X 3 d_law_290 rfl rfl ?_
          refine g_iconst X d_law_291 ?_
          refine g_iadd X d_law_292 ?_
          refine g_sld X hX d_law_293 (by omega) (by omega) ?_
          refine l_callM X (c_M_leastWith l D a q2 τ (xs (i + 1).toNat).toInt (xs (i + 2).toNat).toInt (zI_rng _) (zI_rng _) hT) d_law_294 lk_L_57 im_M_leastWith sl_M_leastWith k_M_leastWith ok_M_leastWith rfl (by decide) rfl (Nat.le_of_ble_eq_true rfl) (fun v2 τ2 hp2 => ?_)
          obtain ⟨hF, hp2⟩ := hp2
          rcases hp2 with ⟨c2, n2, rfl, hO2⟩ | ⟨c2, rfl⟩
          · exact absurd (c2) (c1)
          · refine g_icmp_eq X (tgt := 407) d_law_297 (by decide) (by decide) (by decide) (fun hc => ?_) (fun hc => ?_)
            · exact NX _ _ (hD.si hS) (SI_keep hT hF) (AR_keep hA hD hF)
            · exact absurd (rfl) hc
      · refine g_tsIn X d_law_42 (off := 260) (tgt := 302) (by decide) (by decide) (by decide) rfl (by decide) ?_
        refine g_aload_n X 1 d_law_302 rfl rfl ?_
        refine g_aload_n X 0 d_law_303 rfl rfl ?_
        refine g_iload_n X 3 d_law_304 rfl rfl ?_
        refine g_iconst X d_law_305 ?_
        refine g_iadd X d_law_306 ?_
        refine g_sld X hX d_law_307 (by omega) (by omega) ?_
        refine l_callD X (c_D_leastFor l D a q1 σ (xs (i + 1).toNat).toInt (zI_rng _) hS) d_law_308 lk_L_58 im_D_leastFor sl_D_leastFor k_D_leastFor ok_D_leastFor rfl (by decide) rfl (Nat.le_of_ble_eq_true rfl) (fun v1 σ2 hp1 => ?_)
        obtain ⟨hD, hp1⟩ := hp1
        rcases hp1 with ⟨c1, rfl⟩ | ⟨c1, n1, rfl, hO1⟩
        · refine g_aload_n X 2 d_law_311 rfl rfl ?_
          refine g_aload_n X 0 d_law_312 rfl rfl ?_
          refine g_iload_n X 3 d_law_313 rfl rfl ?_
          refine g_iconst X d_law_314 ?_
          refine g_iadd X d_law_315 ?_
          refine g_sld X hX d_law_316 (by omega) (by omega) ?_
          refine l_callM X (c_M_leastFor l D a q2 τ (xs (i + 1).toNat).toInt (zI_rng _) hT) d_law_317 lk_L_61 im_M_leastFor sl_M_leastFor k_M_leastFor ok_M_leastFor rfl (by decide) rfl (Nat.le_of_ble_eq_true rfl) (fun v2 τ2 hp2 => ?_)
          obtain ⟨hF, hp2⟩ := hp2
          rcases hp2 with ⟨c2, rfl⟩ | ⟨c2, n2, rfl, hO2⟩
          · refine g_icmp_eq X (tgt := 407) d_law_320 (by decide) (by decide) (by decide) (fun hc => ?_) (fun hc => ?_)
            · exact NX _ _ (hD.si hS) (SI_keep hT hF) (AR_keep hA hD hF)
            · exact absurd (rfl) hc
          · exact absurd ((LB_congr ew eo c1)) (c2)
        · refine g_aload_n X 2 d_law_311 rfl rfl ?_
          refine g_aload_n X 0 d_law_312 rfl rfl ?_
          refine g_iload_n X 3 d_law_313 rfl rfl ?_
          refine g_iconst X d_law_314 ?_
          refine g_iadd X d_law_315 ?_
          refine g_sld X hX d_law_316 (by omega) (by omega) ?_
          refine l_callM X (c_M_leastFor l D a q2 τ (xs (i + 1).toNat).toInt (zI_rng _) hT) d_law_317 lk_L_61 im_M_leastFor sl_M_leastFor k_M_leastFor ok_M_leastFor rfl (by decide) rfl (Nat.le_of_ble_eq_true rfl) (fun v2 τ2 hp2 => ?_)
          obtain ⟨hF, hp2⟩ := hp2
          rcases hp2 with ⟨c2, rfl⟩ | ⟨c2, n2, rfl, hO2⟩
          · exact absurd ((LB_congr (fun k b1 b2 => (ew k b1 b2).symm) (fun k b1 b2 => (eo k b1 b2).symm) c2)) (c1)
          · have hq := Opt_uniq (Opt_congr ew eo hO1) hO2
            have hb := Opt_12 (by by_cases c : 1 ≤ (xs (i + 1).toNat).toInt ∧ (xs (i + 1).toNat).toInt ≤ 40; omega; exact absurd (Or.inl c) c2) hT.2.2 (fun k b1 b2 b3 => by by_cases c : (xs (i + 1).toNat).toInt < τ 1 k; exact absurd (Or.inr ⟨k, b1, b2, b3, c⟩) c2; omega) hO2
            subst hq
            refine g_icmp_eq X (tgt := 407) d_law_320 (by decide) (by omega) (by omega) (fun hc => ?_) (fun hc => ?_)
            · exact NX _ _ (hD.si hS) (SI_keep hT hF) (AR_keep hA hD hF)
            · exact absurd rfl hc
      · refine g_tsIn X d_law_42 (off := 283) (tgt := 325) (by decide) (by decide) (by decide) rfl (by decide) ?_
        refine g_aload_n X 1 d_law_325 rfl rfl ?_
        refine g_aload_n X 0 d_law_326 rfl rfl ?_
        refine g_iload_n X 3 d_law_327 rfl rfl ?_
        refine g_iconst X d_law_328 ?_
        refine g_iadd X d_law_329 ?_
        refine g_sld X hX d_law_330 (by omega) (by omega) ?_
        refine l_callD X (c_D_freeOrder l D a q1 σ (xs (i + 1).toNat).toInt (zI_rng _) hS) d_law_331 lk_L_62 im_D_freeOrder sl_D_freeOrder k_D_freeOrder ok_D_freeOrder rfl (by decide) rfl (Nat.le_of_ble_eq_true rfl) (fun v1 σ2 hp1 => ?_)
        obtain ⟨hD, hp1⟩ := hp1
        rcases hp1 with ⟨c1, rfl⟩ | ⟨c1, n1, rfl, hO1⟩
        · refine g_aload_n X 2 d_law_334 rfl rfl ?_
          refine g_aload_n X 0 d_law_335 rfl rfl ?_
          refine g_iload_n X 3 d_law_336 rfl rfl ?_
          refine g_iconst X d_law_337 ?_
          refine g_iadd X d_law_338 ?_
          refine g_sld X hX d_law_339 (by omega) (by omega) ?_
          refine l_callM X (c_M_freeOrder l D a q2 τ (xs (i + 1).toNat).toInt (zI_rng _) hT) d_law_340 lk_L_65 im_M_freeOrder sl_M_freeOrder k_M_freeOrder ok_M_freeOrder rfl (by decide) rfl (Nat.le_of_ble_eq_true rfl) (fun v2 τ2 hp2 => ?_)
          obtain ⟨hF, hp2⟩ := hp2
          rcases hp2 with ⟨c2, rfl⟩ | ⟨c2, n2, rfl, hO2⟩
          · refine g_icmp_eq X (tgt := 407) d_law_343 (by decide) (by decide) (by decide) (fun hc => ?_) (fun hc => ?_)
            · exact NX _ _ (hD.si hS) (SI_keep hT hF) (AR_keep hA hD hF)
            · exact absurd (rfl) hc
          · exact absurd (c2) (c1)
        · refine g_aload_n X 2 d_law_334 rfl rfl ?_
          refine g_aload_n X 0 d_law_335 rfl rfl ?_
          refine g_iload_n X 3 d_law_336 rfl rfl ?_
          refine g_iconst X d_law_337 ?_
          refine g_iadd X d_law_338 ?_
          refine g_sld X hX d_law_339 (by omega) (by omega) ?_
          refine l_callM X (c_M_freeOrder l D a q2 τ (xs (i + 1).toNat).toInt (zI_rng _) hT) d_law_340 lk_L_65 im_M_freeOrder sl_M_freeOrder k_M_freeOrder ok_M_freeOrder rfl (by decide) rfl (Nat.le_of_ble_eq_true rfl) (fun v2 τ2 hp2 => ?_)
          obtain ⟨hF, hp2⟩ := hp2
          rcases hp2 with ⟨c2, rfl⟩ | ⟨c2, n2, rfl, hO2⟩
          · exact absurd (c1) (c2)
          · have hq := FO_uniq (FO_congr c1 ew eo (eR ▸ hO1)) hO2
            have hb : 0 ≤ n2 ∧ n2 ≤ 12 := by have := hT.2.2 _ c2.1 c2.2; rcases hO2.1 with h | h <;> omega
            subst hq
            refine g_icmp_eq X (tgt := 407) d_law_343 (by decide) (by omega) (by omega) (fun hc => ?_) (fun hc => ?_)
            · exact NX _ _ (hD.si hS) (SI_keep hT hF) (AR_keep hA hD hF)
            · exact absurd rfl hc
      · refine g_tsIn X d_law_42 (off := 306) (tgt := 348) (by decide) (by decide) (by decide) rfl (by decide) ?_
        refine g_aload_n X 1 d_law_348 rfl rfl ?_
        refine g_aload_n X 0 d_law_349 rfl rfl ?_
        refine g_iload_n X 3 d_law_350 rfl rfl ?_
        refine g_iconst X d_law_351 ?_
        refine g_iadd X d_law_352 ?_
        refine g_sld X hX d_law_353 (by omega) (by omega) ?_
        refine l_callD X (c_D_fits l D a q1 σ (xs (i + 1).toNat).toInt (zI_rng _) hS) d_law_354 lk_L_66 im_D_fits sl_D_fits k_D_fits ok_D_fits rfl (by decide) rfl (Nat.le_of_ble_eq_true rfl) (fun v1 σ2 hp1 => ?_)
        obtain ⟨rfl, hp1⟩ := hp1
        rcases hp1 with ⟨rfl, c1⟩ | ⟨rfl, c1⟩
        · refine g_aload_n X 2 d_law_357 rfl rfl ?_
          refine g_aload_n X 0 d_law_358 rfl rfl ?_
          refine g_iload_n X 3 d_law_359 rfl rfl ?_
          refine g_iconst X d_law_360 ?_
          refine g_iadd X d_law_361 ?_
          refine g_sld X hX d_law_362 (by omega) (by omega) ?_
          refine l_callM X (c_M_fits l D a q2 τ (xs (i + 1).toNat).toInt (zI_rng _) hT) d_law_363 lk_L_69 im_M_fits sl_M_fits k_M_fits ok_M_fits rfl (by decide) rfl (Nat.le_of_ble_eq_true rfl) (fun v2 τ2 hp2 => ?_)
          obtain ⟨rfl, hp2⟩ := hp2
          rcases hp2 with ⟨rfl, c2⟩ | ⟨rfl, c2⟩
          · refine g_icmp_eq X (tgt := 407) d_law_366 (by decide) (by decide) (by decide) (fun hc => ?_) (fun hc => ?_)
            · exact NX _ _ hS hT hA
            · exact absurd (rfl) hc
          · exact absurd (((FT_congr ew).mp (eR ▸ c1))) (c2)
        · refine g_aload_n X 2 d_law_357 rfl rfl ?_
          refine g_aload_n X 0 d_law_358 rfl rfl ?_
          refine g_iload_n X 3 d_law_359 rfl rfl ?_
          refine g_iconst X d_law_360 ?_
          refine g_iadd X d_law_361 ?_
          refine g_sld X hX d_law_362 (by omega) (by omega) ?_
          refine l_callM X (c_M_fits l D a q2 τ (xs (i + 1).toNat).toInt (zI_rng _) hT) d_law_363 lk_L_69 im_M_fits sl_M_fits k_M_fits ok_M_fits rfl (by decide) rfl (Nat.le_of_ble_eq_true rfl) (fun v2 τ2 hp2 => ?_)
          obtain ⟨rfl, hp2⟩ := hp2
          rcases hp2 with ⟨rfl, c2⟩ | ⟨rfl, c2⟩
          · exact absurd (((FT_congr ew).mpr (eR.symm ▸ c2))) (c1)
          · refine g_icmp_eq X (tgt := 407) d_law_366 (by decide) (by decide) (by decide) (fun hc => ?_) (fun hc => ?_)
            · exact NX _ _ hS hT hA
            · exact absurd (rfl) hc
      · refine g_tsIn X d_law_42 (off := 329) (tgt := 371) (by decide) (by decide) (by decide) rfl (by decide) ?_
        refine g_aload_n X 1 d_law_371 rfl rfl ?_
        refine g_aload_n X 0 d_law_372 rfl rfl ?_
        refine g_iload_n X 3 d_law_373 rfl rfl ?_
        refine g_iconst X d_law_374 ?_
        refine g_iadd X d_law_375 ?_
        refine g_sld X hX d_law_376 (by omega) (by omega) ?_
        refine l_callD X (c_D_couldUse l D a q1 σ (xs (i + 1).toNat).toInt (zI_rng _) hS) d_law_377 lk_L_70 im_D_couldUse sl_D_couldUse k_D_couldUse ok_D_couldUse rfl (by decide) rfl (Nat.le_of_ble_eq_true rfl) (fun v1 σ2 hp1 => ?_)
        obtain ⟨hD, hp1⟩ := hp1
        rcases hp1 with ⟨rfl, c1⟩ | ⟨rfl, c1⟩
        · refine g_aload_n X 2 d_law_380 rfl rfl ?_
          refine g_aload_n X 0 d_law_381 rfl rfl ?_
          refine g_iload_n X 3 d_law_382 rfl rfl ?_
          refine g_iconst X d_law_383 ?_
          refine g_iadd X d_law_384 ?_
          refine g_sld X hX d_law_385 (by omega) (by omega) ?_
          refine l_callM X (c_M_couldUse l D a q2 τ (xs (i + 1).toNat).toInt (zI_rng _) hT) d_law_386 lk_L_73 im_M_couldUse sl_M_couldUse k_M_couldUse ok_M_couldUse rfl (by decide) rfl (Nat.le_of_ble_eq_true rfl) (fun v2 τ2 hp2 => ?_)
          obtain ⟨hF, hp2⟩ := hp2
          rcases hp2 with ⟨rfl, c2⟩ | ⟨rfl, c2⟩
          · refine g_icmp_eq X (tgt := 407) d_law_389 (by decide) (by decide) (by decide) (fun hc => ?_) (fun hc => ?_)
            · exact NX _ _ (hD.si hS) (SI_keep hT hF) (AR_keep hA hD hF)
            · exact absurd (rfl) hc
          · exact absurd (((CU_congr ew eo).mp (eR ▸ c1))) (c2)
        · refine g_aload_n X 2 d_law_380 rfl rfl ?_
          refine g_aload_n X 0 d_law_381 rfl rfl ?_
          refine g_iload_n X 3 d_law_382 rfl rfl ?_
          refine g_iconst X d_law_383 ?_
          refine g_iadd X d_law_384 ?_
          refine g_sld X hX d_law_385 (by omega) (by omega) ?_
          refine l_callM X (c_M_couldUse l D a q2 τ (xs (i + 1).toNat).toInt (zI_rng _) hT) d_law_386 lk_L_73 im_M_couldUse sl_M_couldUse k_M_couldUse ok_M_couldUse rfl (by decide) rfl (Nat.le_of_ble_eq_true rfl) (fun v2 τ2 hp2 => ?_)
          obtain ⟨hF, hp2⟩ := hp2
          rcases hp2 with ⟨rfl, c2⟩ | ⟨rfl, c2⟩
          · exact absurd (((CU_congr ew eo).mpr (eR.symm ▸ c2))) (c1)
          · refine g_icmp_eq X (tgt := 407) d_law_389 (by decide) (by decide) (by decide) (fun hc => ?_) (fun hc => ?_)
            · exact NX _ _ (hD.si hS) (SI_keep hT hF) (AR_keep hA hD hF)
            · exact absurd (rfl) hc
      · refine g_tsIn X d_law_42 (off := 352) (tgt := 394) (by decide) (by decide) (by decide) rfl (by decide) ?_
        refine g_aload_n X 1 d_law_394 rfl rfl ?_
        refine l_callD X (c_D_greatestUse l D a q1 σ hS) d_law_395 lk_L_74 im_D_greatestUse sl_D_greatestUse k_D_greatestUse ok_D_greatestUse rfl (by decide) rfl (Nat.le_of_ble_eq_true rfl) (fun v1 σ2 hp1 => ?_)
        obtain ⟨hD, n1, rfl, hO1⟩ := hp1
        refine g_aload_n X 2 d_law_398 rfl rfl ?_
        refine l_callM X (c_M_greatestUse l D a q2 τ hT) d_law_399 lk_L_77 im_M_greatestUse sl_M_greatestUse k_M_greatestUse ok_M_greatestUse rfl (by decide) rfl (Nat.le_of_ble_eq_true rfl) (fun v2 τ2 hp2 => ?_)
        obtain ⟨hF, n2, rfl, hO2⟩ := hp2
        have hq := GU_uniq (GU_congr ew eo (eR ▸ hO1)) hO2
        have hb : -1 ≤ n2 ∧ n2 ≤ 255 := by rcases hO2 with ⟨h, -⟩ | ⟨h1, h2, -⟩ <;> omega
        subst hq
        refine g_icmp_eq X (tgt := 407) d_law_402 (by decide) (by omega) (by omega) (fun hc => ?_) (fun hc => ?_)
        · exact NX _ _ (hD.si hS) (SI_keep hT hF) (AR_keep hA hD hF)
        · exact absurd rfl hc
end S32
end
section
/-! THE CLAIM OUT OF ONE WALK OF THE LAW'S BODY. Your part is whole_start (and what it stands on); all else here is the same for every law, but numbers. -/
def R_law : String := "CutDeskLaw"
def lw_P (b : Addr) (xs : List Int32) (args : Array Value) (s : State) : Prop := args = #[.ref b] ∧ s.IntsAt b xs ∧ xs.length ≤ 1537 ∧ (Jvm.Cond.and given_1 narrow_1).before args s = true
def lw_Q (_ : Array Value) (s : State) (o : Outcome) (t : State) : Prop := o = .returned (some (.int 1)) ∧ Framed s o t [] 19 563
def lw_Z (below : List Frame) (a : Array Value) (s : State) : State → Prop := fun t => ∃ o, t.status = .running ∧ Ended t below o ∧ lw_Q a s o t
/-- the law's own end, with 1 on the stack, nothing written that was there before, its room as the claim has it -/
theorem lw_ret {p : Program} {l : Launch} {e : Env} {s : State} {m : MethodId} {below : List Frame} {meth : Method} {c : Code} {b : Nat} (hx : p.tables.exec = Jvm.exec) (hb : c.code = code) (hr : meth.sig.returnType = ret) (hlocks : meth.locks = false) {pc : Nat} {H : Heap} {ls : Array Slot} (hdg : decode code pc = .ok (.ireturn, 1)) : W p l e room_1 s m #[Value.ref b] below meth c H [] 19 563 (lw_Z below #[Value.ref b] s) (F0 m pc ls [.int 1]) := by
  intro T hT X
  obtain ⟨fs, hret, hrun, hended, hW, hframe⟩ := X.leave (v := some (.int 1)) (hlocks := hlocks) (fun h => by rw [hr] at h; cases h)
  have hmeth' : T.vm.method? m = some meth := X.method'
  refine ⟨T.setFrames fs, ?_, .returned (some (.int 1)), hrun, hended, rfl, ⟨_, rfl⟩, hW, hframe⟩
  jvm_step X.here [X.here.top, hx, hb, hdg, hmeth', hr, ret, narrow_b1]
  (try refine ⟨rfl, ?_⟩); (try refine ⟨rfl, ?_⟩)
  first | (intro acts; rw [hret _ acts rfl rfl rfl]) | rw [hret _ _ rfl rfl rfl]
  exact Steps.refl _
/-- what holds at the law's entry: the machine, the code, the tables' words (any of lw_tbl by 'hts w (by decide +kernel)'), the script of L ints xs at the cell b, what the Statement gives of the start (any of its parts by flat_of_before) -/
def lw_At (p : Program) (s : State) (m : MethodId) (meth : Method) (c : Code) (b L : Nat) (xs : Nat → Int32) : Prop :=
  p.tables.exec = Jvm.exec ∧ c.code = code ∧ meth.sig.returnType = ret ∧ c.maxLocals = 4 ∧ s.vm.findClass R_law = some m.cls ∧ (∀ w ∈ lw_tbl, w.before #[Value.ref b] s = true) ∧ va_X b L xs s s.heap ∧ b < s.heap.size ∧ meth.locks = false ∧ (Jvm.Cond.and given_1 narrow_1).before #[Value.ref b] s = true

theorem ok_L_cell : mOk y_L_cell "CutDeskLaw" 2 := by unfold mOk; decide +kernel
set_option maxHeartbeats 4000000 in
/-- cell(script, 0): the script's first int, or 0 -/
theorem c_L_cell (l : Launch) (b L sz : Nat) (xs : Nat → Int32) (hL : L ≤ 1537) : Met l y_L_cell (Cond.code y_L_cell b_L_cell 2 (some .int) :: tb) ({ frames := 0, cells := 0, slots := 0, locals := 0 }) (va_Pc [.ref b, .int 0] (fun U => U.heap.size = sz ∧ b < sz ∧ va_X b L xs U U.heap)) (va_Qi (fun (r : Int32) (_ : Unit) => r = (if 0 < L then xs 0 else 0)) (fun _ _ => True) (fun _ => False)) 0 0 (fun _ => False) := by
  refine Met.ofW (cc := b_L_cell) (maxL := 2) (ret := some .int) (by decide) rfl ?_
  intro p e s m args below meth c s₁ B hml hv
  obtain ⟨rfl, hsz, hbl, hX⟩ := hv
  have hx := B.exec
  have hb := B.bytes
  have hr := B.returns
  have hlocks := B.notSynchronized
  subst hsz
  have hS : va_S (fun _ => False) s.heap s.heap [] := va_S.rf
  have hl := lv_entry ([.ref b, .int 0]) (n := 2) (Nat.le_of_ble_eq_true rfl)
  rw [lg_entry_eq]
  generalize (lg_sl ([.ref b, .int 0]) ++ List.replicate (2 - (lg_sl ([.ref b, .int 0])).length) Slot.unset).toArray = ls at hl ⊢
  have hl : lv_has ls 2 [(0, .ref b), (1, .int 0)] := hl
  refine lv_iload_n hx hb d_L_cell_0 rfl (lv_at hl 1 rfl) ?_
  refine lv_aload_n hx hb d_L_cell_1 rfl (lv_at hl 0 rfl) ?_
  refine va_slen hx hb hX hbl (fun h => h) hS d_L_cell_2 ?_
  refine lv_icmp_ge (tgt := 12) hx hb d_L_cell_3 (by decide) (fun hc => ?_) (fun hc => ?_)
  · have h0 : L = 0 := by
      rcases Nat.eq_zero_or_pos L with h | h
      · exact h
      · exact absurd hc (nI_nle h (by omega))
    refine lv_iconst (v := 0) hx hb d_L_cell_12 (by decide) ?_
    exact W.iret (v := 0) hx hb hr (fun t ht hW => ⟨⟨0, (), rfl, by rw [if_neg (by omega)], trivial⟩, hS.F ht⟩) hS.2.2 d_L_cell_13
  · have h0 : 0 < L := by
      rcases Nat.eq_zero_or_pos L with h | h
      · subst h; exact absurd (by decide) hc
      · exact h
    refine lv_aload_n hx hb d_L_cell_6 rfl (lv_at hl 0 rfl) ?_
    refine lv_iload_n hx hb d_L_cell_7 rfl (lv_at hl 1 rfl) ?_
    refine va_sld hx hb hX hbl (fun h => h) hS (vp_in_nI (n := 0) h0 (by omega)) d_L_cell_8 ?_
    refine lv_goto (tgt := 13) hx hb d_L_cell_9 (by decide) ?_
    exact W.iret (v := xs 0) hx hb hr (fun t ht hW => ⟨⟨xs 0, (), rfl, by rw [if_pos h0], trivial⟩, hS.F ht⟩) hS.2.2 d_L_cell_13
theorem tb_goodI {y : MethodName} {bb : ByteArray} {maxL : Nat} {r : Option FieldType} (h5 : Cond.code y bb maxL r ∈ tb) : GoodIn tb (Cond.code y bb maxL r :: tb) := by
  intro w hw
  refine tb_good w ?_
  rcases List.mem_cons.mp hw with rfl | hw
  · exact h5
  · exact hw
end
section
set_option maxHeartbeats 4000000 in
set_option maxRecDepth 100000 in
/-- from the entry, for every script of at most 1537 ints, the law comes to its end with true -/
theorem whole_start {p : Program} {e : Env} {s : State} {m : MethodId} {below : List Frame} {meth : Method} {c : Code} (l : Launch) {b L : Nat} {xs : Nat → Int32} (hL : L ≤ 1537) (C0 : lw_At p s m meth c b L xs) : W p l e room_1 s m #[Value.ref b] below meth c s.heap [] 0 0 (lw_Z below #[Value.ref b] s) (entryFrame m ([Value.ref b] : List Value).toArray 4) := by
  obtain ⟨hx, hb, hr, hml, hown, hts0, hX, hbl, hlocks, hgv⟩ := id C0
  have hown : s.vm.findClass "CutDeskLaw" = some m.cls := hown
  have hts : ∀ w ∈ tb, w.before #[Value.ref b] s = true := fun w hw => hts0 w (tb_sub w hw)
  have hA : ∀ q : Nat, s.heap.size ≤ q → (fun q : Nat => s.heap.size ≤ q) q := fun _ h => h
  have hbA : ¬ (fun q : Nat => s.heap.size ≤ q) b := Nat.not_le.mpr hbl
  obtain ⟨c0, iS0, hKn0⟩ := u_known (C := R_D) (T := F_D) (N := 19) (n := 19) hts i_D (hts _ it_D)
  obtain ⟨c1, iS1, hKn1⟩ := u_known (C := R_M) (T := F_M) (N := 4) (n := 4) hts i_M (hts _ it_M)
  obtain ⟨D, hKc⟩ : ∃ D : va_G, ∀ (k : Nat) (q : vw_C), classes[k]? = some q → u_Kn s q.1 q.2.1 q.2.2 (D.1 k) (D.2 k) := by
    refine ⟨(fun k => if k = 0 then c0 else c1, fun k => if k = 0 then iS0 else iS1), ?_⟩
    intro k q hq
    match k, hq with
    | 0, hq => cases hq; exact hKn0
    | 1, hq => cases hq; exact hKn1
    | k + 2, hq => simp [classes] at hq
  obtain ⟨a, hKa⟩ : ∃ a : Nat → ClassId, ∀ (k : Nat) (q : ClassId × FieldType), (tysA a)[k]? = some q → ArrOfT s q.1 q.2 ∧ va_RA s q.1 q.2 := by
    obtain ⟨cB, kB, pB, b1, b2, b3⟩ := Cond.arrayClass_spec (hts _ ac_byte)
    obtain ⟨cZ, kZ, pZ, z1, z2, z3⟩ := Cond.arrayClass_spec (hts _ ac_boolean)
    obtain ⟨cJ, kJ, pJ, j1, j2, j3⟩ := Cond.arrayClass_spec (hts _ ac_long)
    obtain ⟨cI, kI, pI, i1, i2, i3⟩ := Cond.arrayClass_spec (hts _ ac_int)
    refine ⟨fun i => if i = 0 then cB else if i = 1 then cZ else if i = 2 then cJ else cI, ?_⟩
    intro k q hq
    match k, hq with
    | 0, hq => cases hq; exact ⟨fun n z => ⟨fun k h => (by cases h), kB, b2, pB, b3⟩, b1⟩
    | 1, hq => cases hq; exact ⟨fun n z => ⟨fun k h => (by cases h), kZ, z2, pZ, z3⟩, z1⟩
    | 2, hq => cases hq; exact ⟨fun n z => ⟨fun k h => (by cases h), kJ, j2, pJ, j3⟩, j1⟩
    | 3, hq => cases hq; exact ⟨fun n z => ⟨fun k h => (by cases h), kI, i2, pI, i3⟩, i1⟩
    | k + 4, hq => simp [tysA] at hq
  have hS : va_S (fun q : Nat => s.heap.size ≤ q) s.heap s.heap [] := va_S.rf
  have hK : va_K D classes (tysA a) s := ⟨hKc, hKa⟩
  have hP : va_P D classes [] s.heap := fun k q h => by simp at h
  have hD : va_D (fun q : Nat => s.heap.size ≤ q) [] := ⟨fun i j p q h => by simp at h, fun k q h => by simp at h⟩
  have hl := lv_entry ([.ref b]) (n := 4) (Nat.le_of_ble_eq_true rfl)
  rw [lg_entry_eq]
  generalize (lg_sl ([.ref b]) ++ List.replicate (4 - (lg_sl ([.ref b])).length) Slot.unset).toArray = ls at hl ⊢
  have hl : lv_has ls 4 [(0, .ref b)] := hl
  -- the class's object
  refine va_new (ci := 0) (fs := fD0) (C := R_D) (T := F_D) (N := 19) hx hb hts i_D t_D t_D_ok hown (hts _ lk_L_7) (hts _ it_D) (hts _ in_D) hK hP hD hS hA rfl (fun j hj => by rcases (show j = 0 ∨ j = 1 ∨ j = 2 ∨ j = 3 ∨ j = 4 ∨ j = 5 ∨ j = 6 ∨ j = 7 ∨ j = 8 ∨ j = 9 ∨ j = 10 ∨ j = 11 ∨ j = 12 ∨ j = 13 ∨ j = 14 ∨ j = 15 ∨ j = 16 ∨ j = 17 ∨ j = 18 by omega) with rfl | rfl | rfl | rfl | rfl | rfl | rfl | rfl | rfl | rfl | rfl | rfl | rfl | rfl | rfl | rfl | rfl | rfl | rfl <;> rfl) (Nat.le_of_ble_eq_true rfl) (Nat.le_of_ble_eq_true rfl) d_law_0 (fun h0 H hP hD hS => ?_)
  have hP : va_P D classes [(h0, .inr (0, fD0))] H := hP
  have hD : va_D (fun q : Nat => s.heap.size ≤ q) [(h0, .inr (0, fD0))] := hD
  refine W.widen (k := 1) (n := 19) (Nat.le_of_ble_eq_true rfl) (Nat.le_of_ble_eq_true rfl) ?_
  refine lv_dup hx hb d_law_3 rfl ?_
  refine lv_aload_n hx hb d_law_4 rfl (lv_at hl 0 rfl) ?_
  refine lv_iconst (v := 0) hx hb d_law_5 (by decide) ?_
  refine va_calli (va_runS (As := [.ref b, .int 0]) (rest := [.ref h0, .ref h0]) ⟨hx, hb, hml, hown, hts⟩ (c_L_cell l b L H.size xs hL) (cwS 2 hts (tb_goodS lk_L_9 sm_L_cell in_L k_L_cell) rfl rfl rfl ok_L_cell ⟨Nat.le_of_ble_eq_true rfl, Nat.le_of_ble_eq_true rfl⟩) ⟨fun a U g mk q => by obtain ⟨y0, y1, y2, y3⟩ := q; exact ⟨y0, y1, y2, va_X.moved (u := U) (U := U.calling g mk a) (Vm.Alike.refl U.vm) y3⟩, fun U hU hW => ⟨rfl, by rw [hU], Nat.lt_of_lt_of_le hbl hS.1, by rw [hU]; exact va_X.moved hW.alike (hX.kept (hS.2.1 b hbl hbA))⟩⟩ rfl rfl hl.1 rfl (lv_room (Nat.le_of_ble_eq_true rfl)) d_law_6 ⟨Nat.le_of_ble_eq_true rfl, Nat.le_of_ble_eq_true rfl⟩) hS (fun q _ h => h.elim) (fun q h => h.elim) (fun r6 u t H1 locs ht hvm hr6 hB hz1 hk1 hS => ?_)
  have hP : va_P D classes [(h0, .inr (0, fD0))] H1 := hP.kept (fun k x hx => hk1 x.1 ((hP k x hx).lt) (fun h => h))
  generalize H1 = H at hP hS ⊢
  refine W.widen (k := 1) (n := 19) (Nat.le_of_ble_eq_true rfl) (Nat.le_of_ble_eq_true rfl) ?_
  rw [vI_of r6]
  have hFc := va_free (wc := [(h0, .inr (0, fD0))]) hD hS hA [0] rfl
  refine va_callv (va_runI (As := [vI r6.toInt]) (rest := [.ref h0]) ⟨hx, hb, hml, hown, hts⟩ (c_D_init l D a h0 H.size r6.toInt (zI_rng r6)) (cwI 1 hts (tb_goodI k_D_init) rfl rfl rfl (hts _ in_D) (hts _ lk_L_15) (hts _ im_D_init) rfl ok_D_init.2 ⟨Nat.le_of_ble_eq_true rfl, Nat.le_of_ble_eq_true rfl⟩) ⟨fun a U g mk q => by obtain ⟨y0, y1, yP, yK, yD⟩ := q; exact ⟨y0, y1, yP, va_K.moved (u := U) (U := U.calling g mk a) (Vm.Alike.refl U.vm) yK, yD⟩, fun U hU hW => ⟨rfl, by rw [hU], by rw [hU]; exact hP, va_K.moved hW.alike hK, hD.weaken (fun _ _ _ _ => trivial)⟩⟩ rfl rfl hl.1 rfl (lv_room (Nat.le_of_ble_eq_true rfl)) d_law_9 ⟨Nat.le_of_ble_eq_true rfl, Nat.le_of_ble_eq_true rfl⟩) hS (fun q _ h => hFc q h) hFc (fun u t H1 locs ht hvm hw hB hz1 hk1 hS => ?_)
  obtain ⟨q1, σ⟩ := u
  obtain ⟨hq1, hipD⟩ := hw
  have hq1 : q1 0 = h0 := hq1
  have hipD : IP σ r6.toInt := hipD
  obtain ⟨hP1, hD1⟩ := hB
  rw [ht] at hP1
  obtain ⟨hPj, hDj⟩ := va_join (wr := []) (w1 := dw a q1 σ) hP hD [0] [] rfl rfl (by decide) (by decide) hk1 hFc hP1 hD1
  have hPd : va_P D classes (dw a q1 σ) H1 := hPj
  have hDd : va_D (fun q : Nat => s.heap.size ≤ q) (dw a q1 σ) := hDj
  have hSd : va_S (fun q : Nat => s.heap.size ≤ q) s.heap H1 locs := hS
  refine W.widen (k := 15) (n := 295) (Nat.le_of_ble_eq_true rfl) (Nat.le_of_ble_eq_true rfl) ?_
  refine lv_astore_n (lv' := [(1, .ref h0), (0, .ref b)]) hx hb d_law_12 rfl hl (by decide) rfl (fun ls hl => ?_)
  -- the reference's object
  refine va_new (ci := 1) (fs := fM0) (C := R_M) (T := F_M) (N := 4) hx hb hts i_M t_M t_M_ok hown (hts _ lk_L_18) (hts _ it_M) (hts _ in_M) hK hPd hDd hSd hA rfl (fun j hj => by rcases (show j = 0 ∨ j = 1 ∨ j = 2 ∨ j = 3 by omega) with rfl | rfl | rfl | rfl <;> rfl) (Nat.le_of_ble_eq_true rfl) (Nat.le_of_ble_eq_true rfl) d_law_13 (fun h1 H hP hD hS => ?_)
  refine W.widen (k := 16) (n := 299) (Nat.le_of_ble_eq_true rfl) (Nat.le_of_ble_eq_true rfl) ?_
  refine lv_dup hx hb d_law_16 rfl ?_
  refine lv_aload_n hx hb d_law_17 rfl (lv_at hl 1 rfl) ?_
  refine lv_iconst (v := 0) hx hb d_law_18 (by decide) ?_
  refine va_calli (va_runS (As := [.ref b, .int 0]) (rest := [.ref h1, .ref h1]) ⟨hx, hb, hml, hown, hts⟩ (c_L_cell l b L H.size xs hL) (cwS 2 hts (tb_goodS lk_L_9 sm_L_cell in_L k_L_cell) rfl rfl rfl ok_L_cell ⟨Nat.le_of_ble_eq_true rfl, Nat.le_of_ble_eq_true rfl⟩) ⟨fun a U g mk q => by obtain ⟨y0, y1, y2, y3⟩ := q; exact ⟨y0, y1, y2, va_X.moved (u := U) (U := U.calling g mk a) (Vm.Alike.refl U.vm) y3⟩, fun U hU hW => ⟨rfl, by rw [hU], Nat.lt_of_lt_of_le hbl hS.1, by rw [hU]; exact va_X.moved hW.alike (hX.kept (hS.2.1 b hbl hbA))⟩⟩ rfl rfl hl.1 rfl (lv_room (Nat.le_of_ble_eq_true rfl)) d_law_19 ⟨Nat.le_of_ble_eq_true rfl, Nat.le_of_ble_eq_true rfl⟩) hS (fun q _ h => h.elim) (fun q h => h.elim) (fun r19 u t H1 locs ht hvm hr19 hB hz1 hk1 hS => ?_)
  have hP : va_P D classes (dw a q1 σ ++ [(h1, .inr (1, fM0))]) H1 := hP.kept (fun k x hx => hk1 x.1 ((hP k x hx).lt) (fun h => h))
  generalize H1 = H at hP hS ⊢
  refine W.widen (k := 16) (n := 299) (Nat.le_of_ble_eq_true rfl) (Nat.le_of_ble_eq_true rfl) ?_
  rw [vI_of r19]
  have hPc : va_P D classes [(h1, .inr (1, fM0))] H := hP.sub (ws' := [(h1, .inr (1, fM0))]) [15] rfl
  have hDc : va_D (fun q : Nat => s.heap.size ≤ q) [(h1, .inr (1, fM0))] := hD.sub (ws' := [(h1, .inr (1, fM0))]) [15] (by decide) rfl
  have hFc2 := va_free (wc := [(h1, .inr (1, fM0))]) hD hS hA [15] rfl
  refine va_callv (va_runI (As := [vI r19.toInt]) (rest := [.ref h1]) ⟨hx, hb, hml, hown, hts⟩ (c_M_init l D a h1 H.size r19.toInt (zI_rng r19)) (cwI 1 hts (tb_goodI k_M_init) rfl rfl rfl (hts _ in_M) (hts _ lk_L_20) (hts _ im_M_init) rfl ok_M_init.2 ⟨Nat.le_of_ble_eq_true rfl, Nat.le_of_ble_eq_true rfl⟩) ⟨fun a U g mk q => by obtain ⟨y0, y1, yP, yK, yD⟩ := q; exact ⟨y0, y1, yP, va_K.moved (u := U) (U := U.calling g mk a) (Vm.Alike.refl U.vm) yK, yD⟩, fun U hU hW => ⟨rfl, by rw [hU], by rw [hU]; exact hPc, va_K.moved hW.alike hK, hDc.weaken (fun _ _ _ _ => trivial)⟩⟩ rfl rfl hl.1 rfl (lv_room (Nat.le_of_ble_eq_true rfl)) d_law_22 ⟨Nat.le_of_ble_eq_true rfl, Nat.le_of_ble_eq_true rfl⟩) hS (fun q _ h => hFc2 q h) hFc2 (fun u t H1 locs ht hvm hw hB hz1 hk1 hS => ?_)
  obtain ⟨q2, τ⟩ := u
  obtain ⟨hq2, hipM⟩ := hw
  have hq2 : q2 0 = h1 := hq2
  have hipM : IP τ r19.toInt := hipM
  obtain ⟨hP1, hD1⟩ := hB
  rw [ht] at hP1
  obtain ⟨hPj, hDj⟩ := va_join (wr := dw a q1 σ) (w1 := mw a q2 τ) hP hD [15] [0, 1, 2, 3, 4, 5, 6, 7, 8, 9, 10, 11, 12, 13, 14] rfl rfl (by decide) (by decide) hk1 hFc2 hP1 hD1
  refine W.widen (k := 19) (n := 563) (Nat.le_of_ble_eq_true rfl) (Nat.le_of_ble_eq_true rfl) ?_
  refine lv_astore_n (lv' := [(2, .ref h1), (1, .ref h0), (0, .ref b)]) hx hb d_law_25 rfl hl (by decide) rfl (fun ls hl => ?_)
  refine lv_iconst (v := zI 1) hx hb d_law_26 rfl ?_
  refine lv_istore_n (lv' := [(3, vI 1), (2, .ref h1), (1, .ref h0), (0, .ref b)]) hx hb d_law_27 rfl hl (by decide) rfl (fun ls hl => ?_)
  have hrr : r19 = r6 := by rw [hr19, hr6]
  rw [hrr] at hipM
  have har : AR σ τ := ⟨by rw [hipD.1, hipM.1], fun k b1 b2 => by rw [hipD.2.1 k b1 b2, hipM.2.1 k b1 b2], fun k b1 b2 => by rw [hipD.2.2 k b1 b2, hipM.2.2 k b1 b2]⟩
  have hl4 : lv_has ls 4 [(0, .ref b), (1, .ref (q1 0)), (2, .ref (q2 0)), (3, vI 1)] := by
    rw [hq1, hq2]
    exact lv_sub hl [3, 2, 1, 0] rfl
  exact law_loop (l := l) (D := D) (a := a) (q1 := q1) (q2 := q2) (Post := fun _ _ => True) (Γ := (p, l, e, room_1, s, m, #[Value.ref b], below, meth, c, D, tysA a, (fun q : Nat => s.heap.size ≤ q), lwd a q1 q2, (fun _ _ => True), 4, 19, 563, lw_Z below #[Value.ref b] s)) (b := b) (L := L) (xs := xs) hL
    ⟨hx, hb, fun h => by unfold okRet at h; simp at h, hml, rfl, hlocks, hown, hts, hK, hA, rfl, rfl, lwd_ad a q1 q2, ⟨Nat.le_refl _, Nat.le_refl _⟩, rfl, rfl, rfl, rfl, rfl⟩ ⟨hX, hbl, hbA⟩
    (fun lv σ pc hd H locs ls hP hD hS hl => va_forget (fun q hq => hS.2.2 q hq) (lw_ret hx hb hr hlocks hd))
    (L + 3) 1 σ τ (by omega) (by omega) (by omega) hipD.si hipM.si har H1 locs ls hPj hDj hS hl4
end
section
set_option maxHeartbeats 4000000 in
theorem lw_walk (l : Launch) (b : Addr) (xs : List Int32) : MetFree l x (headSpec (Jvm.Cond.code x code maxLocals ret :: tables_1) room_1) (lw_P b xs) (fun _ _ _ _ _ => True) lw_Q := by
  refine MetFree.of_bodyS (code := code) (maxLocals := maxLocals) (ret := ret) (by decide) ?_ ?_
  · intro args s m h hn
    obtain ⟨meth, c, h1, h2, h3, h4, h5, h6, -, -⟩ := Cond.code_spec hn (atoms_spec (ws := Jvm.Cond.code x code maxLocals ret :: tables_1) h _ List.mem_cons_self)
    exact ⟨meth, c, h1, h2, h3, h4, h5, h6⟩
  · intro p e s m args below meth c s₁ B hml0 hP _
    obtain ⟨rfl, hx, hbd, hgv⟩ := hP
    obtain ⟨scr, harrAt, hlist, hof, hsmall⟩ := hx
    obtain ⟨hcb, hkn, -, -⟩ := State.arrayAt?_spec harrAt
    have hown : s.vm.findClass R_law = some m.cls := findClass_of_methodNamed B.named
    have hts0 : ∀ c ∈ (Jvm.Cond.code x code maxLocals ret :: tables_1), c.before #[Value.ref b] s = true := atoms_spec (ws := Jvm.Cond.code x code maxLocals ret :: tables_1) B.pre
    have hts : ∀ w ∈ lw_tbl, w.before #[Value.ref b] s = true := k2_hts_sels lw_privs (fun w hw => hts0 w (List.mem_cons_of_mem _ hw)) lw_privs_ok
    have hml : c.maxLocals = 4 := B.maxLocals_eq (hts0 _ List.mem_cons_self)
    have X₀ : Stand p l e room_1 s m #[Value.ref b] below meth c s₁ [] 0 0 := Stand.of_body B
    have hh0 : s₁.heap = s.heap := by rw [B.state]; rfl
    have hsz : scr.slots.size = xs.length := by rw [← Array.length_toList, hlist, List.length_map]
    have hval : ∀ j : Nat, j < xs.length → scr.slots[j]? = some (.int (xs.getD j 0)) := fun j hj => by
      rw [← Array.getElem?_toList, hlist]
      simp [hj]
    have hbl : b < s.heap.size := (Array.getElem?_eq_some_iff.mp hcb).1
    have hX : va_X b xs.length (fun j => xs.getD j 0) s s.heap := ⟨scr, hcb, hof, hkn, hsz, hval⟩
    have K : W p l e room_1 s m #[Value.ref b] below meth c s₁.heap [] 0 0 (lw_Z below #[Value.ref b] s) (entryFrame m ([Value.ref b] : List Value).toArray 4) := by
      rw [hh0]
      exact whole_start l hbd ⟨B.exec, B.bytes, B.returns, hml, hown, hts, hX, hbl, B.notSynchronized, hgv⟩
    obtain ⟨t, a1, o, b1, b2, b3⟩ := K s₁ rfl X₀
    exact ⟨t, o, a1, b1, b2, b3⟩
theorem lw_pre_spec {args : Array Value} {s : State} (h : (Jvm.Cond.and given_1 narrow_1).before args s = true) (hr : rest_1_c.before args s = true) : ∃ (b : Addr) (xs : List Int32), lw_P b xs args s := by
  have hs := flat_of_before _ h
  have hq := flat_of_before _ hr
  have hc : (Cond.count 1).before args s = true := hs _ (by decide +kernel)
  have harr : (Cond.arrayOf (.arg 0) .int).before args s = true := hs _ (by decide +kernel)
  have hle : (Cond.le (.length (.arg 0)) (.int 1537)).before args s = true := hs _ (by decide +kernel)
  have hlen : (Cond.isInt (.length (.arg 0))).before args s = true := hq _ (by decide +kernel)
  have hall : (Cond.all (.arg 0) (.isInt (.elem (.arg 0) (.index 0)))).before args s = true := hq _ (by decide +kernel)
  obtain ⟨b, xs, hb, hx⟩ := State.ints_of_pre rfl harr hlen hall
  have hsm : xs.length < 2 ^ 31 := hx.choose_spec.2.2.2
  have hev : (Term.length (.arg 0)).eval args s none [] s = some (.int xs.length.toInt32) := hx.length_eval hb
  have hv := Cond.le_ints hev (show (Term.int 1537).eval args s none [] s = some (.int 1537) from rfl)
  have hd : xs.length.toInt32 ≤ 1537 := by
    simpa [Cond.before, Cond.holds, hv] using hle
  have hN : xs.length ≤ 1537 := (Int32.ofNat_le_ofNat hsm (by decide)).mp (show Int32.ofNat xs.length ≤ Int32.ofNat 1537 from hd)
  exact ⟨b, xs, Cond.one_arg hc (show args[0]? = some (.ref b) from hb), hx, hN, h⟩
theorem lw_comes (l : Launch) : Comes l x (Jvm.Cond.code x code maxLocals ret :: tables_1) room_1 (fun tb e args s => Calls_1 tb e args s ∧ rest_1 tb e args s ∧ Pre_1 tb e args s)
    (fun _ _ args s o t => lw_Q args s o t) := by
  intro p e ha hc hk s m args below hf hfit hheap happ hpre
  obtain ⟨b, xs, hP⟩ := lw_pre_spec hpre.2.2 hpre.2.1
  obtain ⟨k, o, h1, h2, h3, hQ⟩ := lw_walk l b xs p e ha hc hk s m args below hf ((Spec.applies_iff_loose hf).mp happ).1 hP trivial
  exact ⟨k, o, h1, h2, h3, hQ⟩
theorem lw_frame {s t : State} {o : Outcome} {args : Array Value} (h : Framed s o t [] 19 563) :
    Framed s o t (fieldLocs frame_1_writes args s ++ arrayLocs frame_1_arrays args s ++ staticLocs frame_1_statics s) 19 563 := h
theorem lw_limb (L : Cond) (hL : ∀ (args : Array Value) (s t : State), L.after args s (.returned (some (.int 1))) t = true) :
    ArmFor flags0 classFile x code maxLocals ret World_1 tables_1 room_1 Calls_1 rest_1 Pre_1
      (fun tb e a s o t => postC L tb e a s o t ∧ Framed s o t (fieldLocs frame_1_writes a s ++ arrayLocs frame_1_arrays a s ++ staticLocs frame_1_statics s) 19 563) := by
  intro l _ _ _ p e ha hc hk s m args below hf hfit hheap happ hpre
  obtain ⟨k, o, h1, h2, h3, rfl, hF⟩ := lw_comes l p e ha hc hk s m args below hf hfit hheap happ hpre
  exact ⟨k, _, h1, h2, h3, hL args s _, lw_frame hF⟩
theorem i_vc : Claimed_1_1 ∧ Claimed_1_2 := ⟨lw_limb limb_1_1 (fun args s t => by simp [limb_1_1, Cond.after, Cond.holds, Cond.value]), lw_limb limb_1_2 (fun args s t => Cond.after_iff.mpr (by
  first | (rw [show limb_1_2 = Cond.eq .result (.int 1) from rfl, Cond.eq_ints (x := 1) (y := 1) rfl rfl]; simp; done) | (simp [limb_1_2, Cond.value, Term.eval]; done)))⟩
end
