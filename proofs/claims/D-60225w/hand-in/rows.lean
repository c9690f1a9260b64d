section
-- ===== PART A: goes FIRST, ahead of the names: the tables' words, and 'selects' of the private methods out of them =====
/-- a private method of a class that the tables say can be made, by its rows of tables_1 -/
def lw_okq (q : MethodName × Nat) : Prop := (q.1.cls ≠ "java/lang/invoke/MethodHandle" ∧ q.1.cls ≠ "java/lang/invoke/VarHandle") ∧ Cond.instantiable q.1.cls q.2 ∈ tables_1 ∧ Cond.privateMethod q.1 ∈ tables_1 ∧ Cond.instanceMethod q.1 ∈ tables_1
theorem lw_p0 : lw_okq (⟨"LazySeries", "force", "(I)Z"⟩, 9) := ⟨⟨by decide +kernel, by decide +kernel⟩, List.mem_of_getElem? (i := 4) (by decide +kernel), List.mem_of_getElem? (i := 59) (by decide +kernel), List.mem_of_getElem? (i := 60) (by decide +kernel)⟩
theorem lw_p1 : lw_okq (⟨"LazySeries", "enter", "(II)V"⟩, 9) := ⟨⟨by decide +kernel, by decide +kernel⟩, List.mem_of_getElem? (i := 4) (by decide +kernel), List.mem_of_getElem? (i := 63) (by decide +kernel), List.mem_of_getElem? (i := 64) (by decide +kernel)⟩
theorem lw_p2 : lw_okq (⟨"LazySeries", "need", "(II)I"⟩, 9) := ⟨⟨by decide +kernel, by decide +kernel⟩, List.mem_of_getElem? (i := 4) (by decide +kernel), List.mem_of_getElem? (i := 67) (by decide +kernel), List.mem_of_getElem? (i := 68) (by decide +kernel)⟩
theorem lw_p3 : lw_okq (⟨"LazySeries", "compute", "(I)Z"⟩, 9) := ⟨⟨by decide +kernel, by decide +kernel⟩, List.mem_of_getElem? (i := 4) (by decide +kernel), List.mem_of_getElem? (i := 71) (by decide +kernel), List.mem_of_getElem? (i := 72) (by decide +kernel)⟩
theorem lw_p4 : lw_okq (⟨"LazySeries", "computeLong", "(I)Z"⟩, 9) := ⟨⟨by decide +kernel, by decide +kernel⟩, List.mem_of_getElem? (i := 4) (by decide +kernel), List.mem_of_getElem? (i := 75) (by decide +kernel), List.mem_of_getElem? (i := 76) (by decide +kernel)⟩
theorem lw_p5 : lw_okq (⟨"LazySeries", "product", "(IIII)I"⟩, 9) := ⟨⟨by decide +kernel, by decide +kernel⟩, List.mem_of_getElem? (i := 4) (by decide +kernel), List.mem_of_getElem? (i := 79) (by decide +kernel), List.mem_of_getElem? (i := 80) (by decide +kernel)⟩
theorem lw_p6 : lw_okq (⟨"LazySeries", "composed", "(III)I"⟩, 9) := ⟨⟨by decide +kernel, by decide +kernel⟩, List.mem_of_getElem? (i := 4) (by decide +kernel), List.mem_of_getElem? (i := 83) (by decide +kernel), List.mem_of_getElem? (i := 84) (by decide +kernel)⟩
theorem lw_p7 : lw_okq (⟨"LazySeries", "timesInner", "(II)I"⟩, 9) := ⟨⟨by decide +kernel, by decide +kernel⟩, List.mem_of_getElem? (i := 4) (by decide +kernel), List.mem_of_getElem? (i := 87) (by decide +kernel), List.mem_of_getElem? (i := 88) (by decide +kernel)⟩
theorem lw_p8 : lw_okq (⟨"LazySeriesModel", "bad", "(I)Z"⟩, 8) := ⟨⟨by decide +kernel, by decide +kernel⟩, List.mem_of_getElem? (i := 119) (by decide +kernel), List.mem_of_getElem? (i := 155) (by decide +kernel), List.mem_of_getElem? (i := 156) (by decide +kernel)⟩
theorem lw_p9 : lw_okq (⟨"LazySeriesModel", "reduced", "(I)I"⟩, 8) := ⟨⟨by decide +kernel, by decide +kernel⟩, List.mem_of_getElem? (i := 119) (by decide +kernel), List.mem_of_getElem? (i := 159) (by decide +kernel), List.mem_of_getElem? (i := 160) (by decide +kernel)⟩
theorem lw_p10 : lw_okq (⟨"LazySeriesModel", "workOut", "()V"⟩, 8) := ⟨⟨by decide +kernel, by decide +kernel⟩, List.mem_of_getElem? (i := 119) (by decide +kernel), List.mem_of_getElem? (i := 171) (by decide +kernel), List.mem_of_getElem? (i := 172) (by decide +kernel)⟩
theorem lw_p11 : lw_okq (⟨"LazySeriesModel", "pass", "()Z"⟩, 8) := ⟨⟨by decide +kernel, by decide +kernel⟩, List.mem_of_getElem? (i := 119) (by decide +kernel), List.mem_of_getElem? (i := 175) (by decide +kernel), List.mem_of_getElem? (i := 176) (by decide +kernel)⟩
theorem lw_p12 : lw_okq (⟨"LazySeriesModel", "ready", "(II)Z"⟩, 8) := ⟨⟨by decide +kernel, by decide +kernel⟩, List.mem_of_getElem? (i := 119) (by decide +kernel), List.mem_of_getElem? (i := 179) (by decide +kernel), List.mem_of_getElem? (i := 180) (by decide +kernel)⟩
theorem lw_p13 : lw_okq (⟨"LazySeriesModel", "direct", "(IIII)Z"⟩, 8) := ⟨⟨by decide +kernel, by decide +kernel⟩, List.mem_of_getElem? (i := 119) (by decide +kernel), List.mem_of_getElem? (i := 183) (by decide +kernel), List.mem_of_getElem? (i := 184) (by decide +kernel)⟩
theorem lw_p14 : lw_okq (⟨"LazySeriesModel", "barren", "(II)Z"⟩, 8) := ⟨⟨by decide +kernel, by decide +kernel⟩, List.mem_of_getElem? (i := 119) (by decide +kernel), List.mem_of_getElem? (i := 187) (by decide +kernel), List.mem_of_getElem? (i := 188) (by decide +kernel)⟩
theorem lw_p15 : lw_okq (⟨"LazySeriesModel", "worked", "(II)I"⟩, 8) := ⟨⟨by decide +kernel, by decide +kernel⟩, List.mem_of_getElem? (i := 119) (by decide +kernel), List.mem_of_getElem? (i := 191) (by decide +kernel), List.mem_of_getElem? (i := 192) (by decide +kernel)⟩
def lw_privs_1 : List (MethodName × Nat) := [(⟨"LazySeries", "force", "(I)Z"⟩, 9), (⟨"LazySeries", "enter", "(II)V"⟩, 9), (⟨"LazySeries", "need", "(II)I"⟩, 9), (⟨"LazySeries", "compute", "(I)Z"⟩, 9), (⟨"LazySeries", "computeLong", "(I)Z"⟩, 9), (⟨"LazySeries", "product", "(IIII)I"⟩, 9), (⟨"LazySeries", "composed", "(III)I"⟩, 9), (⟨"LazySeries", "timesInner", "(II)I"⟩, 9), (⟨"LazySeriesModel", "bad", "(I)Z"⟩, 8), (⟨"LazySeriesModel", "reduced", "(I)I"⟩, 8), (⟨"LazySeriesModel", "workOut", "()V"⟩, 8), (⟨"LazySeriesModel", "pass", "()Z"⟩, 8), (⟨"LazySeriesModel", "ready", "(II)Z"⟩, 8), (⟨"LazySeriesModel", "direct", "(IIII)Z"⟩, 8), (⟨"LazySeriesModel", "barren", "(II)Z"⟩, 8), (⟨"LazySeriesModel", "worked", "(II)I"⟩, 8)]
theorem lw_r1 : ∀ q ∈ lw_privs_1, lw_okq q := List.forall_mem_cons.mpr ⟨lw_p0, List.forall_mem_cons.mpr ⟨lw_p1, List.forall_mem_cons.mpr ⟨lw_p2, List.forall_mem_cons.mpr ⟨lw_p3, List.forall_mem_cons.mpr ⟨lw_p4, List.forall_mem_cons.mpr ⟨lw_p5, List.forall_mem_cons.mpr ⟨lw_p6, List.forall_mem_cons.mpr ⟨lw_p7, List.forall_mem_cons.mpr ⟨lw_p8, List.forall_mem_cons.mpr ⟨lw_p9, List.forall_mem_cons.mpr ⟨lw_p10, List.forall_mem_cons.mpr ⟨lw_p11, List.forall_mem_cons.mpr ⟨lw_p12, List.forall_mem_cons.mpr ⟨lw_p13, List.forall_mem_cons.mpr ⟨lw_p14, List.forall_mem_cons.mpr ⟨lw_p15, fun _ h => absurd h List.not_mem_nil⟩⟩⟩⟩⟩⟩⟩⟩⟩⟩⟩⟩⟩⟩⟩⟩
theorem lw_p16 : lw_okq (⟨"LazySeriesModel", "convolved", "(II)I"⟩, 8) := ⟨⟨by decide +kernel, by decide +kernel⟩, List.mem_of_getElem? (i := 119) (by decide +kernel), List.mem_of_getElem? (i := 195) (by decide +kernel), List.mem_of_getElem? (i := 196) (by decide +kernel)⟩
theorem lw_p17 : lw_okq (⟨"LazySeriesModel", "reciprocal", "(II)I"⟩, 8) := ⟨⟨by decide +kernel, by decide +kernel⟩, List.mem_of_getElem? (i := 119) (by decide +kernel), List.mem_of_getElem? (i := 199) (by decide +kernel), List.mem_of_getElem? (i := 200) (by decide +kernel)⟩
theorem lw_p18 : lw_okq (⟨"LazySeriesModel", "quotient", "(II)I"⟩, 8) := ⟨⟨by decide +kernel, by decide +kernel⟩, List.mem_of_getElem? (i := 119) (by decide +kernel), List.mem_of_getElem? (i := 203) (by decide +kernel), List.mem_of_getElem? (i := 204) (by decide +kernel)⟩
theorem lw_p19 : lw_okq (⟨"LazySeriesModel", "composed", "(II)I"⟩, 8) := ⟨⟨by decide +kernel, by decide +kernel⟩, List.mem_of_getElem? (i := 119) (by decide +kernel), List.mem_of_getElem? (i := 207) (by decide +kernel), List.mem_of_getElem? (i := 208) (by decide +kernel)⟩
theorem lw_p20 : lw_okq (⟨"LazySeriesModel", "raise", "(II)V"⟩, 8) := ⟨⟨by decide +kernel, by decide +kernel⟩, List.mem_of_getElem? (i := 119) (by decide +kernel), List.mem_of_getElem? (i := 211) (by decide +kernel), List.mem_of_getElem? (i := 212) (by decide +kernel)⟩
theorem lw_p21 : lw_okq (⟨"LazySeriesModel", "spread", "(I)Z"⟩, 8) := ⟨⟨by decide +kernel, by decide +kernel⟩, List.mem_of_getElem? (i := 119) (by decide +kernel), List.mem_of_getElem? (i := 243) (by decide +kernel), List.mem_of_getElem? (i := 244) (by decide +kernel)⟩
def lw_privs_2 : List (MethodName × Nat) := [(⟨"LazySeriesModel", "convolved", "(II)I"⟩, 8), (⟨"LazySeriesModel", "reciprocal", "(II)I"⟩, 8), (⟨"LazySeriesModel", "quotient", "(II)I"⟩, 8), (⟨"LazySeriesModel", "composed", "(II)I"⟩, 8), (⟨"LazySeriesModel", "raise", "(II)V"⟩, 8), (⟨"LazySeriesModel", "spread", "(I)Z"⟩, 8)]
theorem lw_r2 : ∀ q ∈ lw_privs_2, lw_okq q := List.forall_mem_cons.mpr ⟨lw_p16, List.forall_mem_cons.mpr ⟨lw_p17, List.forall_mem_cons.mpr ⟨lw_p18, List.forall_mem_cons.mpr ⟨lw_p19, List.forall_mem_cons.mpr ⟨lw_p20, List.forall_mem_cons.mpr ⟨lw_p21, fun _ h => absurd h List.not_mem_nil⟩⟩⟩⟩⟩⟩
def lw_privs : List (MethodName × Nat) := lw_privs_1 ++ (lw_privs_2)
def lw_tbl : List Cond := k2_sels lw_privs ++ tables_1
theorem lw_privs_ok : ∀ q ∈ lw_privs, lw_okq q := by
  show ∀ q ∈ lw_privs_1 ++ (lw_privs_2), lw_okq q
  exact List.forall_mem_append.mpr ⟨lw_r1, lw_r2⟩
end
section
def R_L : String := "LazySeries"
def R_M : String := "LazySeriesModel"
def F_L : u_T := fun k => match k with
  | 0 => ("LazySeries", "kinds", "[I", true)
  | 1 => ("LazySeries", "firstPart", "[I", true)
  | 2 => ("LazySeries", "secondPart", "[I", true)
  | 3 => ("LazySeries", "state", "[I", true)
  | 4 => ("LazySeries", "value", "[I", true)
  | 5 => ("LazySeries", "stack", "[I", true)
  | 6 => ("LazySeries", "turn", "[I", true)
  | 7 => ("LazySeries", "scratch", "[I", true)
  | _ => ("LazySeries", "inverses", "[I", true)
def t_L : Nat → FieldType := fun k => match k with
  | 0 => .array .int
  | 1 => .array .int
  | 2 => .array .int
  | 3 => .array .int
  | 4 => .array .int
  | 5 => .array .int
  | 6 => .array .int
  | 7 => .array .int
  | _ => .array .int
def F_M : u_T := fun k => match k with
  | 0 => ("LazySeriesModel", "kind", "[I", false)
  | 1 => ("LazySeriesModel", "a", "[I", false)
  | 2 => ("LazySeriesModel", "b", "[I", false)
  | 3 => ("LazySeriesModel", "has", "[Z", false)
  | 4 => ("LazySeriesModel", "value", "[I", false)
  | 5 => ("LazySeriesModel", "needed", "[Z", false)
  | 6 => ("LazySeriesModel", "power", "[I", false)
  | _ => ("LazySeriesModel", "product", "[I", false)
def t_M : Nat → FieldType := fun k => match k with
  | 0 => .array .int
  | 1 => .array .int
  | 2 => .array .int
  | 3 => .array .boolean
  | 4 => .array .int
  | 5 => .array .boolean
  | 6 => .array .int
  | _ => .array .int
abbrev classes : List vw_C := [(R_L, F_L, 9), (R_M, F_M, 8)]
def wA : List Cond := lw_tbl.filter goodWord
theorem inA {w : Cond} (h : w ∈ lw_tbl) (g : goodWord w = true) : w ∈ wA := List.mem_filter.mpr ⟨h, g⟩
theorem tbl_good : ∀ w ∈ wA, (w.onTables && w.keeps) = true ∨ ∃ ty, w = .arrayClass ty := fun w h => good_of_word (List.mem_filter.mp h).2
theorem n_L : ∀ a, a < 9 → ∀ b, b < 9 → a ≠ b → (F_L a).2.1 ≠ (F_L b).2.1 := by decide +kernel
theorem t_L_ok : ∀ k, k < 9 → parseFieldDescriptor (F_L k).2.2.1 = some (t_L k) := by decide +kernel
theorem i_L : ∀ w ∈ u_ws R_L F_L 9, w ∈ wA := by decide +kernel
theorem n_M : ∀ a, a < 8 → ∀ b, b < 8 → a ≠ b → (F_M a).2.1 ≠ (F_M b).2.1 := by decide +kernel
theorem t_M_ok : ∀ k, k < 8 → parseFieldDescriptor (F_M k).2.2.1 = some (t_M k) := by decide +kernel
theorem i_M : ∀ w ∈ u_ws R_M F_M 8, w ∈ wA := by decide +kernel
def KV (own : String) (idx ci : Nat) (y : MethodName) (b : ByteArray) (n : Nat) (rt : Option FieldType) (k : Nat) : Prop := Cond.methodLink own idx y ∈ wA ∧ Cond.instanceMethod y ∈ wA ∧ Cond.selects y.cls y y ∈ wA ∧ Cond.initialized y.cls ∈ wA ∧ Cond.code y b n rt ∈ wA ∧ (∃ T N, classes[ci]? = some (y.cls, T, N)) ∧ (y.cls ≠ "java/lang/invoke/MethodHandle" ∧ y.cls ≠ "java/lang/invoke/VarHandle" ∧ (parseMethodDescriptor y.desc).map (fun d => d.parameters.length) = some k)
def KS (own : String) (idx : Nat) (y : MethodName) (b : ByteArray) (n : Nat) (rt : Option FieldType) (k : Nat) : Prop := Cond.methodLink own idx y ∈ wA ∧ Cond.static y ∈ wA ∧ Cond.initialized own ∈ wA ∧ Cond.code y b n rt ∈ wA ∧ (y.cls = own ∧ y.cls ≠ "java/lang/invoke/MethodHandle" ∧ y.cls ≠ "java/lang/invoke/VarHandle" ∧ (parseMethodDescriptor y.desc).map (fun d => d.parameters.length) = some k)
def FF (ci : Nat) (own : String) (idx k : Nat) : Prop := ∃ (C : String) (T : u_T) (N : Nat), classes[ci]? = some (C, T, N) ∧ (∀ w ∈ u_ws C T N, w ∈ wA) ∧ k < N ∧ Cond.fieldLink own idx (T k).1 (T k).2.1 (T k).2.2.1 ∈ wA
theorem ff_L_0 : FF 0 "LazySeries" 7 0 := ⟨R_L, F_L, 9, rfl, i_L, by decide, inA (List.mem_of_getElem? (i := 33) (by decide +kernel)) rfl⟩
theorem ff_L_1 : FF 0 "LazySeries" 13 1 := ⟨R_L, F_L, 9, rfl, i_L, by decide, inA (List.mem_of_getElem? (i := 34) (by decide +kernel)) rfl⟩
theorem ff_L_2 : FF 0 "LazySeries" 16 2 := ⟨R_L, F_L, 9, rfl, i_L, by decide, inA (List.mem_of_getElem? (i := 35) (by decide +kernel)) rfl⟩
theorem ff_L_3 : FF 0 "LazySeries" 19 3 := ⟨R_L, F_L, 9, rfl, i_L, by decide, inA (List.mem_of_getElem? (i := 36) (by decide +kernel)) rfl⟩
theorem ff_L_4 : FF 0 "LazySeries" 22 4 := ⟨R_L, F_L, 9, rfl, i_L, by decide, inA (List.mem_of_getElem? (i := 37) (by decide +kernel)) rfl⟩
theorem ff_L_5 : FF 0 "LazySeries" 25 5 := ⟨R_L, F_L, 9, rfl, i_L, by decide, inA (List.mem_of_getElem? (i := 38) (by decide +kernel)) rfl⟩
theorem ff_L_6 : FF 0 "LazySeries" 28 6 := ⟨R_L, F_L, 9, rfl, i_L, by decide, inA (List.mem_of_getElem? (i := 39) (by decide +kernel)) rfl⟩
theorem ff_L_7 : FF 0 "LazySeries" 31 7 := ⟨R_L, F_L, 9, rfl, i_L, by decide, inA (List.mem_of_getElem? (i := 40) (by decide +kernel)) rfl⟩
theorem ff_L_8 : FF 0 "LazySeries" 34 8 := ⟨R_L, F_L, 9, rfl, i_L, by decide, inA (List.mem_of_getElem? (i := 41) (by decide +kernel)) rfl⟩
theorem ff_M_0 : FF 1 "LazySeriesModel" 7 0 := ⟨R_M, F_M, 8, rfl, i_M, by decide, inA (List.mem_of_getElem? (i := 146) (by decide +kernel)) rfl⟩
theorem ff_M_1 : FF 1 "LazySeriesModel" 13 1 := ⟨R_M, F_M, 8, rfl, i_M, by decide, inA (List.mem_of_getElem? (i := 147) (by decide +kernel)) rfl⟩
theorem ff_M_2 : FF 1 "LazySeriesModel" 16 2 := ⟨R_M, F_M, 8, rfl, i_M, by decide, inA (List.mem_of_getElem? (i := 148) (by decide +kernel)) rfl⟩
theorem ff_M_3 : FF 1 "LazySeriesModel" 19 3 := ⟨R_M, F_M, 8, rfl, i_M, by decide, inA (List.mem_of_getElem? (i := 149) (by decide +kernel)) rfl⟩
theorem ff_M_4 : FF 1 "LazySeriesModel" 23 4 := ⟨R_M, F_M, 8, rfl, i_M, by decide, inA (List.mem_of_getElem? (i := 150) (by decide +kernel)) rfl⟩
theorem ff_M_5 : FF 1 "LazySeriesModel" 26 5 := ⟨R_M, F_M, 8, rfl, i_M, by decide, inA (List.mem_of_getElem? (i := 151) (by decide +kernel)) rfl⟩
theorem ff_M_6 : FF 1 "LazySeriesModel" 29 6 := ⟨R_M, F_M, 8, rfl, i_M, by decide, inA (List.mem_of_getElem? (i := 152) (by decide +kernel)) rfl⟩
theorem ff_M_7 : FF 1 "LazySeriesModel" 32 7 := ⟨R_M, F_M, 8, rfl, i_M, by decide, inA (List.mem_of_getElem? (i := 153) (by decide +kernel)) rfl⟩
abbrev b_L_init : ByteArray := prog_1_method_1_code
def y_L_init : MethodName := ⟨"LazySeries", "<init>", "()V"⟩
abbrev b_L_define : ByteArray := prog_1_method_2_code
def y_L_define : MethodName := ⟨"LazySeries", "define", "(IIII)I"⟩
theorem kl_L_define : KV "LazySeriesLaw" 13 0 y_L_define b_L_define 8 (some .int) 4 := ⟨inA (List.mem_of_getElem? (i := 62) (by decide +kernel)) rfl, inA (List.mem_of_getElem? (i := 63) (by decide +kernel)) rfl, inA (List.mem_of_getElem? (i := 64) (by decide +kernel)) rfl, inA (List.mem_of_getElem? (i := 23) (by decide +kernel)) rfl, inA (List.mem_of_getElem? (i := 65) rfl) rfl, ⟨_, _, rfl⟩, by decide +kernel⟩
abbrev b_L_isSeries : ByteArray := prog_1_method_12_code
def y_L_isSeries : MethodName := ⟨"LazySeries", "isSeries", "(I)Z"⟩
theorem k_L_isSeries : KS "LazySeries" 37 y_L_isSeries b_L_isSeries 1 (some .boolean) 1 := ⟨inA (List.mem_of_getElem? (i := 66) (by decide +kernel)) rfl, inA (List.mem_of_getElem? (i := 67) (by decide +kernel)) rfl, inA (List.mem_of_getElem? (i := 23) (by decide +kernel)) rfl, inA (List.mem_of_getElem? (i := 68) rfl) rfl, by decide +kernel⟩
abbrev b_L_reduced : ByteArray := prog_1_method_13_code
def y_L_reduced : MethodName := ⟨"LazySeries", "reduced", "(I)I"⟩
theorem k_L_reduced : KS "LazySeries" 41 y_L_reduced b_L_reduced 2 (some .int) 1 := ⟨inA (List.mem_of_getElem? (i := 69) (by decide +kernel)) rfl, inA (List.mem_of_getElem? (i := 70) (by decide +kernel)) rfl, inA (List.mem_of_getElem? (i := 23) (by decide +kernel)) rfl, inA (List.mem_of_getElem? (i := 71) rfl) rfl, by decide +kernel⟩
abbrev b_L_kindOf : ByteArray := prog_1_method_3_code
def y_L_kindOf : MethodName := ⟨"LazySeries", "kindOf", "(I)I"⟩
theorem kl_L_kindOf : KV "LazySeriesLaw" 18 0 y_L_kindOf b_L_kindOf 2 (some .int) 1 := ⟨inA (List.mem_of_getElem? (i := 72) (by decide +kernel)) rfl, inA (List.mem_of_getElem? (i := 73) (by decide +kernel)) rfl, inA (List.mem_of_getElem? (i := 74) (by decide +kernel)) rfl, inA (List.mem_of_getElem? (i := 23) (by decide +kernel)) rfl, inA (List.mem_of_getElem? (i := 75) rfl) rfl, ⟨_, _, rfl⟩, by decide +kernel⟩
abbrev b_L_coefficient : ByteArray := prog_1_method_4_code
def y_L_coefficient : MethodName := ⟨"LazySeries", "coefficient", "(II)I"⟩
theorem kl_L_coefficient : KV "LazySeriesLaw" 23 0 y_L_coefficient b_L_coefficient 4 (some .int) 2 := ⟨inA (List.mem_of_getElem? (i := 76) (by decide +kernel)) rfl, inA (List.mem_of_getElem? (i := 77) (by decide +kernel)) rfl, inA (List.mem_of_getElem? (i := 78) (by decide +kernel)) rfl, inA (List.mem_of_getElem? (i := 23) (by decide +kernel)) rfl, inA (List.mem_of_getElem? (i := 79) rfl) rfl, ⟨_, _, rfl⟩, by decide +kernel⟩
abbrev b_L_force : ByteArray := prog_1_method_15_code
def y_L_force : MethodName := ⟨"LazySeries", "force", "(I)Z"⟩
theorem k_L_force : KV "LazySeries" 45 0 y_L_force b_L_force 6 (some .boolean) 1 := ⟨inA (List.mem_of_getElem? (i := 80) (by decide +kernel)) rfl, inA (List.mem_of_getElem? (i := 82) (by decide +kernel)) rfl, inA (List.mem_of_getElem? (i := 0) (by decide +kernel)) rfl, inA (List.mem_of_getElem? (i := 23) (by decide +kernel)) rfl, inA (List.mem_of_getElem? (i := 83) rfl) rfl, ⟨_, _, rfl⟩, by decide +kernel⟩
abbrev b_L_enter : ByteArray := prog_1_method_16_code
def y_L_enter : MethodName := ⟨"LazySeries", "enter", "(II)V"⟩
theorem k_L_enter : KV "LazySeries" 52 0 y_L_enter b_L_enter 3 none 2 := ⟨inA (List.mem_of_getElem? (i := 84) (by decide +kernel)) rfl, inA (List.mem_of_getElem? (i := 86) (by decide +kernel)) rfl, inA (List.mem_of_getElem? (i := 1) (by decide +kernel)) rfl, inA (List.mem_of_getElem? (i := 23) (by decide +kernel)) rfl, inA (List.mem_of_getElem? (i := 87) rfl) rfl, ⟨_, _, rfl⟩, by decide +kernel⟩
abbrev b_L_need : ByteArray := prog_1_method_14_code
def y_L_need : MethodName := ⟨"LazySeries", "need", "(II)I"⟩
theorem k_L_need : KV "LazySeries" 48 0 y_L_need b_L_need 7 (some .int) 2 := ⟨inA (List.mem_of_getElem? (i := 88) (by decide +kernel)) rfl, inA (List.mem_of_getElem? (i := 90) (by decide +kernel)) rfl, inA (List.mem_of_getElem? (i := 2) (by decide +kernel)) rfl, inA (List.mem_of_getElem? (i := 23) (by decide +kernel)) rfl, inA (List.mem_of_getElem? (i := 91) rfl) rfl, ⟨_, _, rfl⟩, by decide +kernel⟩
abbrev b_L_compute : ByteArray := prog_1_method_17_code
def y_L_compute : MethodName := ⟨"LazySeries", "compute", "(I)Z"⟩
theorem k_L_compute : KV "LazySeries" 56 0 y_L_compute b_L_compute 8 (some .boolean) 1 := ⟨inA (List.mem_of_getElem? (i := 92) (by decide +kernel)) rfl, inA (List.mem_of_getElem? (i := 94) (by decide +kernel)) rfl, inA (List.mem_of_getElem? (i := 3) (by decide +kernel)) rfl, inA (List.mem_of_getElem? (i := 23) (by decide +kernel)) rfl, inA (List.mem_of_getElem? (i := 95) rfl) rfl, ⟨_, _, rfl⟩, by decide +kernel⟩
abbrev b_L_computeLong : ByteArray := prog_1_method_18_code
def y_L_computeLong : MethodName := ⟨"LazySeries", "computeLong", "(I)Z"⟩
theorem k_L_computeLong : KV "LazySeries" 59 0 y_L_computeLong b_L_computeLong 8 (some .boolean) 1 := ⟨inA (List.mem_of_getElem? (i := 96) (by decide +kernel)) rfl, inA (List.mem_of_getElem? (i := 98) (by decide +kernel)) rfl, inA (List.mem_of_getElem? (i := 4) (by decide +kernel)) rfl, inA (List.mem_of_getElem? (i := 23) (by decide +kernel)) rfl, inA (List.mem_of_getElem? (i := 99) rfl) rfl, ⟨_, _, rfl⟩, by decide +kernel⟩
abbrev b_L_product : ByteArray := prog_1_method_19_code
def y_L_product : MethodName := ⟨"LazySeries", "product", "(IIII)I"⟩
theorem k_L_product : KV "LazySeries" 62 0 y_L_product b_L_product 7 (some .int) 4 := ⟨inA (List.mem_of_getElem? (i := 100) (by decide +kernel)) rfl, inA (List.mem_of_getElem? (i := 102) (by decide +kernel)) rfl, inA (List.mem_of_getElem? (i := 5) (by decide +kernel)) rfl, inA (List.mem_of_getElem? (i := 23) (by decide +kernel)) rfl, inA (List.mem_of_getElem? (i := 103) rfl) rfl, ⟨_, _, rfl⟩, by decide +kernel⟩
abbrev b_L_composed : ByteArray := prog_1_method_20_code
def y_L_composed : MethodName := ⟨"LazySeries", "composed", "(III)I"⟩
theorem k_L_composed : KV "LazySeries" 66 0 y_L_composed b_L_composed 6 (some .int) 3 := ⟨inA (List.mem_of_getElem? (i := 104) (by decide +kernel)) rfl, inA (List.mem_of_getElem? (i := 106) (by decide +kernel)) rfl, inA (List.mem_of_getElem? (i := 6) (by decide +kernel)) rfl, inA (List.mem_of_getElem? (i := 23) (by decide +kernel)) rfl, inA (List.mem_of_getElem? (i := 107) rfl) rfl, ⟨_, _, rfl⟩, by decide +kernel⟩
abbrev b_L_timesInner : ByteArray := prog_1_method_21_code
def y_L_timesInner : MethodName := ⟨"LazySeries", "timesInner", "(II)I"⟩
theorem k_L_timesInner : KV "LazySeries" 70 0 y_L_timesInner b_L_timesInner 5 (some .int) 2 := ⟨inA (List.mem_of_getElem? (i := 108) (by decide +kernel)) rfl, inA (List.mem_of_getElem? (i := 110) (by decide +kernel)) rfl, inA (List.mem_of_getElem? (i := 7) (by decide +kernel)) rfl, inA (List.mem_of_getElem? (i := 23) (by decide +kernel)) rfl, inA (List.mem_of_getElem? (i := 111) rfl) rfl, ⟨_, _, rfl⟩, by decide +kernel⟩
abbrev b_L_known : ByteArray := prog_1_method_5_code
def y_L_known : MethodName := ⟨"LazySeries", "known", "(I)I"⟩
theorem kl_L_known : KV "LazySeriesLaw" 28 0 y_L_known b_L_known 3 (some .int) 1 := ⟨inA (List.mem_of_getElem? (i := 112) (by decide +kernel)) rfl, inA (List.mem_of_getElem? (i := 113) (by decide +kernel)) rfl, inA (List.mem_of_getElem? (i := 114) (by decide +kernel)) rfl, inA (List.mem_of_getElem? (i := 23) (by decide +kernel)) rfl, inA (List.mem_of_getElem? (i := 115) rfl) rfl, ⟨_, _, rfl⟩, by decide +kernel⟩
abbrev b_L_valued : ByteArray := prog_1_method_6_code
def y_L_valued : MethodName := ⟨"LazySeries", "valued", "(I)I"⟩
theorem kl_L_valued : KV "LazySeriesLaw" 32 0 y_L_valued b_L_valued 4 (some .int) 1 := ⟨inA (List.mem_of_getElem? (i := 116) (by decide +kernel)) rfl, inA (List.mem_of_getElem? (i := 117) (by decide +kernel)) rfl, inA (List.mem_of_getElem? (i := 118) (by decide +kernel)) rfl, inA (List.mem_of_getElem? (i := 23) (by decide +kernel)) rfl, inA (List.mem_of_getElem? (i := 119) rfl) rfl, ⟨_, _, rfl⟩, by decide +kernel⟩
abbrev b_L_order : ByteArray := prog_1_method_7_code
def y_L_order : MethodName := ⟨"LazySeries", "order", "(I)I"⟩
theorem kl_L_order : KV "LazySeriesLaw" 36 0 y_L_order b_L_order 3 (some .int) 1 := ⟨inA (List.mem_of_getElem? (i := 120) (by decide +kernel)) rfl, inA (List.mem_of_getElem? (i := 121) (by decide +kernel)) rfl, inA (List.mem_of_getElem? (i := 122) (by decide +kernel)) rfl, inA (List.mem_of_getElem? (i := 23) (by decide +kernel)) rfl, inA (List.mem_of_getElem? (i := 123) rfl) rfl, ⟨_, _, rfl⟩, by decide +kernel⟩
abbrev b_L_agreeing : ByteArray := prog_1_method_8_code
def y_L_agreeing : MethodName := ⟨"LazySeries", "agreeing", "(II)I"⟩
theorem kl_L_agreeing : KV "LazySeriesLaw" 40 0 y_L_agreeing b_L_agreeing 4 (some .int) 2 := ⟨inA (List.mem_of_getElem? (i := 124) (by decide +kernel)) rfl, inA (List.mem_of_getElem? (i := 125) (by decide +kernel)) rfl, inA (List.mem_of_getElem? (i := 126) (by decide +kernel)) rfl, inA (List.mem_of_getElem? (i := 23) (by decide +kernel)) rfl, inA (List.mem_of_getElem? (i := 127) rfl) rfl, ⟨_, _, rfl⟩, by decide +kernel⟩
abbrev b_L_evaluate : ByteArray := prog_1_method_9_code
def y_L_evaluate : MethodName := ⟨"LazySeries", "evaluate", "(III)I"⟩
theorem kl_L_evaluate : KV "LazySeriesLaw" 44 0 y_L_evaluate b_L_evaluate 7 (some .int) 3 := ⟨inA (List.mem_of_getElem? (i := 128) (by decide +kernel)) rfl, inA (List.mem_of_getElem? (i := 129) (by decide +kernel)) rfl, inA (List.mem_of_getElem? (i := 130) (by decide +kernel)) rfl, inA (List.mem_of_getElem? (i := 23) (by decide +kernel)) rfl, inA (List.mem_of_getElem? (i := 131) rfl) rfl, ⟨_, _, rfl⟩, by decide +kernel⟩
abbrev b_L_sum : ByteArray := prog_1_method_10_code
def y_L_sum : MethodName := ⟨"LazySeries", "sum", "(III)I"⟩
theorem kl_L_sum : KV "LazySeriesLaw" 49 0 y_L_sum b_L_sum 6 (some .int) 3 := ⟨inA (List.mem_of_getElem? (i := 132) (by decide +kernel)) rfl, inA (List.mem_of_getElem? (i := 133) (by decide +kernel)) rfl, inA (List.mem_of_getElem? (i := 134) (by decide +kernel)) rfl, inA (List.mem_of_getElem? (i := 23) (by decide +kernel)) rfl, inA (List.mem_of_getElem? (i := 135) rfl) rfl, ⟨_, _, rfl⟩, by decide +kernel⟩
abbrev b_L_needs : ByteArray := prog_1_method_11_code
def y_L_needs : MethodName := ⟨"LazySeries", "needs", "(II)I"⟩
theorem kl_L_needs : KV "LazySeriesLaw" 53 0 y_L_needs b_L_needs 7 (some .int) 2 := ⟨inA (List.mem_of_getElem? (i := 136) (by decide +kernel)) rfl, inA (List.mem_of_getElem? (i := 137) (by decide +kernel)) rfl, inA (List.mem_of_getElem? (i := 138) (by decide +kernel)) rfl, inA (List.mem_of_getElem? (i := 23) (by decide +kernel)) rfl, inA (List.mem_of_getElem? (i := 139) rfl) rfl, ⟨_, _, rfl⟩, by decide +kernel⟩
abbrev b_M_init : ByteArray := prog_3_method_1_code
def y_M_init : MethodName := ⟨"LazySeriesModel", "<init>", "()V"⟩
abbrev b_M_define : ByteArray := prog_3_method_4_code
def y_M_define : MethodName := ⟨"LazySeriesModel", "define", "(IIII)I"⟩
theorem kl_M_define : KV "LazySeriesLaw" 17 1 y_M_define b_M_define 7 (some .int) 4 := ⟨inA (List.mem_of_getElem? (i := 172) (by decide +kernel)) rfl, inA (List.mem_of_getElem? (i := 173) (by decide +kernel)) rfl, inA (List.mem_of_getElem? (i := 174) (by decide +kernel)) rfl, inA (List.mem_of_getElem? (i := 24) (by decide +kernel)) rfl, inA (List.mem_of_getElem? (i := 175) rfl) rfl, ⟨_, _, rfl⟩, by decide +kernel⟩
abbrev b_M_bad : ByteArray := prog_3_method_2_code
def y_M_bad : MethodName := ⟨"LazySeriesModel", "bad", "(I)Z"⟩
theorem k_M_bad : KV "LazySeriesModel" 35 1 y_M_bad b_M_bad 2 (some .boolean) 1 := ⟨inA (List.mem_of_getElem? (i := 176) (by decide +kernel)) rfl, inA (List.mem_of_getElem? (i := 178) (by decide +kernel)) rfl, inA (List.mem_of_getElem? (i := 8) (by decide +kernel)) rfl, inA (List.mem_of_getElem? (i := 24) (by decide +kernel)) rfl, inA (List.mem_of_getElem? (i := 179) rfl) rfl, ⟨_, _, rfl⟩, by decide +kernel⟩
abbrev b_M_reduced : ByteArray := prog_3_method_3_code
def y_M_reduced : MethodName := ⟨"LazySeriesModel", "reduced", "(I)I"⟩
theorem k_M_reduced : KV "LazySeriesModel" 39 1 y_M_reduced b_M_reduced 3 (some .int) 1 := ⟨inA (List.mem_of_getElem? (i := 180) (by decide +kernel)) rfl, inA (List.mem_of_getElem? (i := 182) (by decide +kernel)) rfl, inA (List.mem_of_getElem? (i := 9) (by decide +kernel)) rfl, inA (List.mem_of_getElem? (i := 24) (by decide +kernel)) rfl, inA (List.mem_of_getElem? (i := 183) rfl) rfl, ⟨_, _, rfl⟩, by decide +kernel⟩
abbrev b_M_kindOf : ByteArray := prog_3_method_5_code
def y_M_kindOf : MethodName := ⟨"LazySeriesModel", "kindOf", "(I)I"⟩
theorem kl_M_kindOf : KV "LazySeriesLaw" 22 1 y_M_kindOf b_M_kindOf 2 (some .int) 1 := ⟨inA (List.mem_of_getElem? (i := 184) (by decide +kernel)) rfl, inA (List.mem_of_getElem? (i := 185) (by decide +kernel)) rfl, inA (List.mem_of_getElem? (i := 186) (by decide +kernel)) rfl, inA (List.mem_of_getElem? (i := 24) (by decide +kernel)) rfl, inA (List.mem_of_getElem? (i := 187) rfl) rfl, ⟨_, _, rfl⟩, by decide +kernel⟩
abbrev b_M_coefficient : ByteArray := prog_3_method_17_code
def y_M_coefficient : MethodName := ⟨"LazySeriesModel", "coefficient", "(II)I"⟩
theorem kl_M_coefficient : KV "LazySeriesLaw" 27 1 y_M_coefficient b_M_coefficient 3 (some .int) 2 := ⟨inA (List.mem_of_getElem? (i := 188) (by decide +kernel)) rfl, inA (List.mem_of_getElem? (i := 189) (by decide +kernel)) rfl, inA (List.mem_of_getElem? (i := 190) (by decide +kernel)) rfl, inA (List.mem_of_getElem? (i := 24) (by decide +kernel)) rfl, inA (List.mem_of_getElem? (i := 191) rfl) rfl, ⟨_, _, rfl⟩, by decide +kernel⟩
abbrev b_M_workOut : ByteArray := prog_3_method_16_code
def y_M_workOut : MethodName := ⟨"LazySeriesModel", "workOut", "()V"⟩
theorem k_M_workOut : KV "LazySeriesModel" 78 1 y_M_workOut b_M_workOut 3 none 0 := ⟨inA (List.mem_of_getElem? (i := 192) (by decide +kernel)) rfl, inA (List.mem_of_getElem? (i := 194) (by decide +kernel)) rfl, inA (List.mem_of_getElem? (i := 10) (by decide +kernel)) rfl, inA (List.mem_of_getElem? (i := 24) (by decide +kernel)) rfl, inA (List.mem_of_getElem? (i := 195) rfl) rfl, ⟨_, _, rfl⟩, by decide +kernel⟩
abbrev b_M_pass : ByteArray := prog_3_method_15_code
def y_M_pass : MethodName := ⟨"LazySeriesModel", "pass", "()Z"⟩
theorem k_M_pass : KV "LazySeriesModel" 74 1 y_M_pass b_M_pass 4 (some .boolean) 0 := ⟨inA (List.mem_of_getElem? (i := 196) (by decide +kernel)) rfl, inA (List.mem_of_getElem? (i := 198) (by decide +kernel)) rfl, inA (List.mem_of_getElem? (i := 11) (by decide +kernel)) rfl, inA (List.mem_of_getElem? (i := 24) (by decide +kernel)) rfl, inA (List.mem_of_getElem? (i := 199) rfl) rfl, ⟨_, _, rfl⟩, by decide +kernel⟩
abbrev b_M_ready : ByteArray := prog_3_method_7_code
def y_M_ready : MethodName := ⟨"LazySeriesModel", "ready", "(II)Z"⟩
theorem k_M_ready : KV "LazySeriesModel" 64 1 y_M_ready b_M_ready 5 (some .boolean) 2 := ⟨inA (List.mem_of_getElem? (i := 200) (by decide +kernel)) rfl, inA (List.mem_of_getElem? (i := 202) (by decide +kernel)) rfl, inA (List.mem_of_getElem? (i := 12) (by decide +kernel)) rfl, inA (List.mem_of_getElem? (i := 24) (by decide +kernel)) rfl, inA (List.mem_of_getElem? (i := 203) rfl) rfl, ⟨_, _, rfl⟩, by decide +kernel⟩
abbrev b_M_direct : ByteArray := prog_3_method_6_code
def y_M_direct : MethodName := ⟨"LazySeriesModel", "direct", "(IIII)Z"⟩
theorem k_M_direct : KV "LazySeriesModel" 43 1 y_M_direct b_M_direct 6 (some .boolean) 4 := ⟨inA (List.mem_of_getElem? (i := 204) (by decide +kernel)) rfl, inA (List.mem_of_getElem? (i := 206) (by decide +kernel)) rfl, inA (List.mem_of_getElem? (i := 13) (by decide +kernel)) rfl, inA (List.mem_of_getElem? (i := 24) (by decide +kernel)) rfl, inA (List.mem_of_getElem? (i := 207) rfl) rfl, ⟨_, _, rfl⟩, by decide +kernel⟩
abbrev b_M_barren : ByteArray := prog_3_method_13_code
def y_M_barren : MethodName := ⟨"LazySeriesModel", "barren", "(II)Z"⟩
theorem k_M_barren : KV "LazySeriesModel" 68 1 y_M_barren b_M_barren 3 (some .boolean) 2 := ⟨inA (List.mem_of_getElem? (i := 208) (by decide +kernel)) rfl, inA (List.mem_of_getElem? (i := 210) (by decide +kernel)) rfl, inA (List.mem_of_getElem? (i := 14) (by decide +kernel)) rfl, inA (List.mem_of_getElem? (i := 24) (by decide +kernel)) rfl, inA (List.mem_of_getElem? (i := 211) rfl) rfl, ⟨_, _, rfl⟩, by decide +kernel⟩
abbrev b_M_worked : ByteArray := prog_3_method_14_code
def y_M_worked : MethodName := ⟨"LazySeriesModel", "worked", "(II)I"⟩
theorem k_M_worked : KV "LazySeriesModel" 71 1 y_M_worked b_M_worked 5 (some .int) 2 := ⟨inA (List.mem_of_getElem? (i := 212) (by decide +kernel)) rfl, inA (List.mem_of_getElem? (i := 214) (by decide +kernel)) rfl, inA (List.mem_of_getElem? (i := 15) (by decide +kernel)) rfl, inA (List.mem_of_getElem? (i := 24) (by decide +kernel)) rfl, inA (List.mem_of_getElem? (i := 215) rfl) rfl, ⟨_, _, rfl⟩, by decide +kernel⟩
abbrev b_M_convolved : ByteArray := prog_3_method_9_code
def y_M_convolved : MethodName := ⟨"LazySeriesModel", "convolved", "(II)I"⟩
theorem k_M_convolved : KV "LazySeriesModel" 55 1 y_M_convolved b_M_convolved 5 (some .int) 2 := ⟨inA (List.mem_of_getElem? (i := 216) (by decide +kernel)) rfl, inA (List.mem_of_getElem? (i := 218) (by decide +kernel)) rfl, inA (List.mem_of_getElem? (i := 16) (by decide +kernel)) rfl, inA (List.mem_of_getElem? (i := 24) (by decide +kernel)) rfl, inA (List.mem_of_getElem? (i := 219) rfl) rfl, ⟨_, _, rfl⟩, by decide +kernel⟩
abbrev b_M_reciprocal : ByteArray := prog_3_method_10_code
def y_M_reciprocal : MethodName := ⟨"LazySeriesModel", "reciprocal", "(II)I"⟩
theorem k_M_reciprocal : KV "LazySeriesModel" 58 1 y_M_reciprocal b_M_reciprocal 6 (some .int) 2 := ⟨inA (List.mem_of_getElem? (i := 220) (by decide +kernel)) rfl, inA (List.mem_of_getElem? (i := 222) (by decide +kernel)) rfl, inA (List.mem_of_getElem? (i := 17) (by decide +kernel)) rfl, inA (List.mem_of_getElem? (i := 24) (by decide +kernel)) rfl, inA (List.mem_of_getElem? (i := 223) rfl) rfl, ⟨_, _, rfl⟩, by decide +kernel⟩
abbrev b_M_quotient : ByteArray := prog_3_method_8_code
def y_M_quotient : MethodName := ⟨"LazySeriesModel", "quotient", "(II)I"⟩
theorem k_M_quotient : KV "LazySeriesModel" 47 1 y_M_quotient b_M_quotient 4 (some .int) 2 := ⟨inA (List.mem_of_getElem? (i := 224) (by decide +kernel)) rfl, inA (List.mem_of_getElem? (i := 226) (by decide +kernel)) rfl, inA (List.mem_of_getElem? (i := 18) (by decide +kernel)) rfl, inA (List.mem_of_getElem? (i := 24) (by decide +kernel)) rfl, inA (List.mem_of_getElem? (i := 227) rfl) rfl, ⟨_, _, rfl⟩, by decide +kernel⟩
abbrev b_M_composed : ByteArray := prog_3_method_12_code
def y_M_composed : MethodName := ⟨"LazySeriesModel", "composed", "(II)I"⟩
theorem k_M_composed : KV "LazySeriesModel" 61 1 y_M_composed b_M_composed 5 (some .int) 2 := ⟨inA (List.mem_of_getElem? (i := 228) (by decide +kernel)) rfl, inA (List.mem_of_getElem? (i := 230) (by decide +kernel)) rfl, inA (List.mem_of_getElem? (i := 19) (by decide +kernel)) rfl, inA (List.mem_of_getElem? (i := 24) (by decide +kernel)) rfl, inA (List.mem_of_getElem? (i := 231) rfl) rfl, ⟨_, _, rfl⟩, by decide +kernel⟩
abbrev b_M_raise : ByteArray := prog_3_method_11_code
def y_M_raise : MethodName := ⟨"LazySeriesModel", "raise", "(II)V"⟩
theorem k_M_raise : KV "LazySeriesModel" 51 1 y_M_raise b_M_raise 6 none 2 := ⟨inA (List.mem_of_getElem? (i := 232) (by decide +kernel)) rfl, inA (List.mem_of_getElem? (i := 234) (by decide +kernel)) rfl, inA (List.mem_of_getElem? (i := 20) (by decide +kernel)) rfl, inA (List.mem_of_getElem? (i := 24) (by decide +kernel)) rfl, inA (List.mem_of_getElem? (i := 235) rfl) rfl, ⟨_, _, rfl⟩, by decide +kernel⟩
abbrev b_M_known : ByteArray := prog_3_method_18_code
def y_M_known : MethodName := ⟨"LazySeriesModel", "known", "(I)I"⟩
theorem kl_M_known : KV "LazySeriesLaw" 31 1 y_M_known b_M_known 3 (some .int) 1 := ⟨inA (List.mem_of_getElem? (i := 236) (by decide +kernel)) rfl, inA (List.mem_of_getElem? (i := 237) (by decide +kernel)) rfl, inA (List.mem_of_getElem? (i := 238) (by decide +kernel)) rfl, inA (List.mem_of_getElem? (i := 24) (by decide +kernel)) rfl, inA (List.mem_of_getElem? (i := 239) rfl) rfl, ⟨_, _, rfl⟩, by decide +kernel⟩
abbrev b_M_valued : ByteArray := prog_3_method_19_code
def y_M_valued : MethodName := ⟨"LazySeriesModel", "valued", "(I)I"⟩
theorem kl_M_valued : KV "LazySeriesLaw" 35 1 y_M_valued b_M_valued 4 (some .int) 1 := ⟨inA (List.mem_of_getElem? (i := 240) (by decide +kernel)) rfl, inA (List.mem_of_getElem? (i := 241) (by decide +kernel)) rfl, inA (List.mem_of_getElem? (i := 242) (by decide +kernel)) rfl, inA (List.mem_of_getElem? (i := 24) (by decide +kernel)) rfl, inA (List.mem_of_getElem? (i := 243) rfl) rfl, ⟨_, _, rfl⟩, by decide +kernel⟩
abbrev b_M_order : ByteArray := prog_3_method_20_code
def y_M_order : MethodName := ⟨"LazySeriesModel", "order", "(I)I"⟩
theorem kl_M_order : KV "LazySeriesLaw" 39 1 y_M_order b_M_order 3 (some .int) 1 := ⟨inA (List.mem_of_getElem? (i := 244) (by decide +kernel)) rfl, inA (List.mem_of_getElem? (i := 245) (by decide +kernel)) rfl, inA (List.mem_of_getElem? (i := 246) (by decide +kernel)) rfl, inA (List.mem_of_getElem? (i := 24) (by decide +kernel)) rfl, inA (List.mem_of_getElem? (i := 247) rfl) rfl, ⟨_, _, rfl⟩, by decide +kernel⟩
abbrev b_M_agreeing : ByteArray := prog_3_method_21_code
def y_M_agreeing : MethodName := ⟨"LazySeriesModel", "agreeing", "(II)I"⟩
theorem kl_M_agreeing : KV "LazySeriesLaw" 43 1 y_M_agreeing b_M_agreeing 4 (some .int) 2 := ⟨inA (List.mem_of_getElem? (i := 248) (by decide +kernel)) rfl, inA (List.mem_of_getElem? (i := 249) (by decide +kernel)) rfl, inA (List.mem_of_getElem? (i := 250) (by decide +kernel)) rfl, inA (List.mem_of_getElem? (i := 24) (by decide +kernel)) rfl, inA (List.mem_of_getElem? (i := 251) rfl) rfl, ⟨_, _, rfl⟩, by decide +kernel⟩
abbrev b_M_evaluate : ByteArray := prog_3_method_22_code
def y_M_evaluate : MethodName := ⟨"LazySeriesModel", "evaluate", "(III)I"⟩
theorem kl_M_evaluate : KV "LazySeriesLaw" 48 1 y_M_evaluate b_M_evaluate 7 (some .int) 3 := ⟨inA (List.mem_of_getElem? (i := 252) (by decide +kernel)) rfl, inA (List.mem_of_getElem? (i := 253) (by decide +kernel)) rfl, inA (List.mem_of_getElem? (i := 254) (by decide +kernel)) rfl, inA (List.mem_of_getElem? (i := 24) (by decide +kernel)) rfl, inA (List.mem_of_getElem? (i := 255) rfl) rfl, ⟨_, _, rfl⟩, by decide +kernel⟩
abbrev b_M_sum : ByteArray := prog_3_method_23_code
def y_M_sum : MethodName := ⟨"LazySeriesModel", "sum", "(III)I"⟩
theorem kl_M_sum : KV "LazySeriesLaw" 52 1 y_M_sum b_M_sum 6 (some .int) 3 := ⟨inA (List.mem_of_getElem? (i := 256) (by decide +kernel)) rfl, inA (List.mem_of_getElem? (i := 257) (by decide +kernel)) rfl, inA (List.mem_of_getElem? (i := 258) (by decide +kernel)) rfl, inA (List.mem_of_getElem? (i := 24) (by decide +kernel)) rfl, inA (List.mem_of_getElem? (i := 259) rfl) rfl, ⟨_, _, rfl⟩, by decide +kernel⟩
abbrev b_M_needs : ByteArray := prog_3_method_25_code
def y_M_needs : MethodName := ⟨"LazySeriesModel", "needs", "(II)I"⟩
theorem kl_M_needs : KV "LazySeriesLaw" 56 1 y_M_needs b_M_needs 6 (some .int) 2 := ⟨inA (List.mem_of_getElem? (i := 260) (by decide +kernel)) rfl, inA (List.mem_of_getElem? (i := 261) (by decide +kernel)) rfl, inA (List.mem_of_getElem? (i := 262) (by decide +kernel)) rfl, inA (List.mem_of_getElem? (i := 24) (by decide +kernel)) rfl, inA (List.mem_of_getElem? (i := 263) rfl) rfl, ⟨_, _, rfl⟩, by decide +kernel⟩
abbrev b_M_spread : ByteArray := prog_3_method_24_code
def y_M_spread : MethodName := ⟨"LazySeriesModel", "spread", "(I)Z"⟩
theorem k_M_spread : KV "LazySeriesModel" 81 1 y_M_spread b_M_spread 4 (some .boolean) 1 := ⟨inA (List.mem_of_getElem? (i := 264) (by decide +kernel)) rfl, inA (List.mem_of_getElem? (i := 266) (by decide +kernel)) rfl, inA (List.mem_of_getElem? (i := 21) (by decide +kernel)) rfl, inA (List.mem_of_getElem? (i := 24) (by decide +kernel)) rfl, inA (List.mem_of_getElem? (i := 267) rfl) rfl, ⟨_, _, rfl⟩, by decide +kernel⟩
end
section
/-! THE MACHINE'S ROWS OVER NUMBERS: a state of a method is (σ, pc, locals, stack); σ k j is the number at place j of the object's k-th array -/
abbrev SG : Type := Nat → Nat → Nat
abbrev LV : Type := List (Nat × Value)
def nO (ci : Nat) : Nat := if ci = 0 then 9 else 8
def lnO (ci k : Nat) : Nat := if ci = 0 then ([8, 8, 8, 128, 128, 128, 128, 16, 97] : List Nat).getD k 0 else ([8, 8, 8, 128, 128, 128, 16, 16] : List Nat).getD k 0
def bzO (ci k : Nat) : Bool := decide (ci = 1) && (decide (k = 3) || decide (k = 5))
def tz (z : Bool → ClassId) : List (ClassId × FieldType) := [(z false, .int), (z true, .boolean)]
def wO (z : Bool → ClassId) (ci h : Nat) (a : Nat → Nat) (σ : SG) : va_W :=
  (h, .inr (ci, (List.range (nO ci)).map (fun k => Value.ref (a k)))) :: (List.range (nO ci)).map (fun k => (a k, .inl (z (bzO ci k), lnO ci k, .inl (fun j => nI (σ k j)))))
def AO (ci h : Nat) (a : Nat → Nat) (sz : Nat) : Nat → Prop := fun q => q = h ∨ (∃ k, k < nO ci ∧ q = a k) ∨ sz ≤ q
def apart (ci h : Nat) (a : Nat → Nat) : Prop := (∀ k, k < nO ci → a k ≠ h) ∧ ∀ k j, k < nO ci → j < nO ci → a k = a j → k = j
def st2 (σ : SG) (k j x : Nat) : SG := fun k' j' => if k' = k ∧ j' = j then x else σ k' j'
theorem st2_same (σ : SG) (k j x : Nat) : st2 σ k j x k j = x := by simp [st2]
theorem st2_k {σ : SG} {k j x k' : Nat} (h : k' ≠ k) : st2 σ k j x k' = σ k' := by funext j'; simp [st2, h]
theorem st2_j {σ : SG} {k j x j' : Nat} (h : j' ≠ j) : st2 σ k j x k j' = σ k j' := by simp [st2, h]
theorem st2_at (σ : SG) (k j x j' : Nat) : st2 σ k j x k j' = if j' = j then x else σ k j' := by simp [st2]
theorem lnO_lt (ci k : Nat) : lnO ci k < 2 ^ 31 := by
  unfold lnO
  split
  · rcases k with _ | _ | _ | _ | _ | _ | _ | _ | _ | k <;> simp
  · rcases k with _ | _ | _ | _ | _ | _ | _ | _ | k <;> simp
theorem wO_at {z : Bool → ClassId} {ci h : Nat} {a : Nat → Nat} {σ : SG} {i : Nat} {p : Nat × va_E} (hi : (wO z ci h a σ)[i]? = some p) : (i = 0 ∧ p.1 = h) ∨ ∃ k, k < nO ci ∧ i = k + 1 ∧ p.1 = a k := by
  cases i with
  | zero =>
    left
    have h1 : some (h, Sum.inr (ci, (List.range (nO ci)).map (fun k => Value.ref (a k)))) = some p := hi
    cases h1
    exact ⟨rfl, rfl⟩
  | succ k =>
    right
    have h1 : ((List.range (nO ci)).map (fun k => ((a k, .inl (z (bzO ci k), lnO ci k, .inl (fun j => nI (σ k j)))) : Nat × va_E)))[k]? = some p := hi
    rw [List.getElem?_map] at h1
    by_cases hk : k < nO ci
    · rw [List.getElem?_range hk] at h1
      cases h1
      exact ⟨k, hk, rfl, rfl⟩
    · rw [List.getElem?_eq_none (by simp; omega)] at h1
      cases h1
theorem wO_get (z : Bool → ClassId) {ci : Nat} (h : Nat) (a : Nat → Nat) (σ : SG) {k : Nat} (hk : k < nO ci) : (wO z ci h a σ)[k + 1]? = some (a k, .inl (z (bzO ci k), lnO ci k, .inl (fun j => nI (σ k j)))) := by
  show ((List.range (nO ci)).map (fun k => ((a k, .inl (z (bzO ci k), lnO ci k, .inl (fun j => nI (σ k j)))) : Nat × va_E)))[k]? = _
  rw [List.getElem?_map, List.getElem?_range hk]
  rfl
theorem wO_D {z : Bool → ClassId} {ci h sz : Nat} {a : Nat → Nat} {σ : SG} (hap : apart ci h a) : va_D (AO ci h a sz) (wO z ci h a σ) := by
  refine ⟨fun i j p q hi hj e => ?_, fun k q hk => ?_⟩
  · rcases wO_at hi with ⟨rfl, e1⟩ | ⟨k1, l1, rfl, e1⟩ <;> rcases wO_at hj with ⟨rfl, e2⟩ | ⟨k2, l2, rfl, e2⟩
    · rfl
    · exact absurd (e2.symm.trans (e.symm.trans e1)) (hap.1 k2 l2)
    · exact absurd (e1.symm.trans (e.trans e2)) (hap.1 k1 l1)
    · rw [hap.2 k1 k2 l1 l2 (e1.symm.trans (e.trans e2))]
  · rcases wO_at hk with ⟨-, e1⟩ | ⟨k1, l1, -, e1⟩
    · exact Or.inl e1
    · exact Or.inr (Or.inl ⟨k1, l1, e1⟩)
theorem upd_st2 (σ : SG) (k j x : Nat) : upd (fun j => nI (σ k j)) j (nI x) = fun j' => nI (st2 σ k j x k j') := by
  funext j'
  rw [st2_at]
  unfold upd
  split <;> rfl
theorem wO_set (z : Bool → ClassId) (ci h : Nat) (a : Nat → Nat) (σ : SG) (k j x : Nat) : (wO z ci h a σ).set (k + 1) (a k, .inl (z (bzO ci k), lnO ci k, .inl (upd (fun j => nI (σ k j)) j (nI x)))) = wO z ci h a (st2 σ k j x) := by
  rw [upd_st2]
  apply List.ext_getElem?
  intro i
  cases i with
  | zero => rfl
  | succ i =>
    by_cases hi : i < nO ci
    · rw [wO_get z h a _ hi]
      by_cases e : i = k
      · subst e
        rw [List.getElem?_set_self (by simp [wO]; exact hi)]
      · rw [List.getElem?_set_ne (by omega), wO_get z h a _ hi, st2_k e]
    · rw [List.getElem?_eq_none (by simp [wO]; omega), List.getElem?_eq_none (by simp [wO]; omega)]
theorem AO_mono {ci h : Nat} {a : Nat → Nat} {s1 s2 q : Nat} (hs : s1 ≤ s2) (hq : AO ci h a s2 q) : AO ci h a s1 q := by
  rcases hq with h1 | h1 | h1
  · exact Or.inl h1
  · exact Or.inr (Or.inl h1)
  · exact Or.inr (Or.inr (Nat.le_trans hs h1))
/-- the locals: the first entry of a number counts -/
def lk (i : Nat) : LV → Option Value
  | [] => none
  | (j, v) :: t => bif Nat.beq i j then some v else lk i t
theorem lk_mem {i : Nat} {v : Value} : ∀ {l : LV}, lk i l = some v → (i, v) ∈ l
  | [], h => by cases h
  | (j, w) :: t, h => by
    unfold lk at h
    cases hb : Nat.beq i j with
    | true =>
      rw [hb] at h
      have e1 : w = v := Option.some.inj h
      have e2 : i = j := Nat.eq_of_beq_eq_true hb
      rw [e1, e2]
      exact List.mem_cons_self
    | false =>
      rw [hb] at h
      exact List.mem_cons_of_mem _ (lk_mem h)
theorem lk_same (i : Nat) (v : Value) (t : LV) : lk i ((i, v) :: t) = some v := by
  simp [lk]
theorem lk_other {i j : Nat} (h : i ≠ j) (v : Value) (t : LV) : lk i ((j, v) :: t) = lk i t := by
  show (bif Nat.beq i j then some v else lk i t) = lk i t
  rw [show Nat.beq i j = false from by
    cases hb : Nat.beq i j with
    | true => exact absurd (Nat.eq_of_beq_eq_true hb) h
    | false => rfl]
  rfl
def lvh (ls : Array Slot) (nL : Nat) (lv : LV) : Prop := ls.size = nL ∧ lv_wf ls ∧ ∀ (i : Nat) (v : Value), lk i lv = some v → ls[i]? = some (.val v) ∧ v.category = 1
def lsub (l' l : LV) : Prop := ∀ (i : Nat) (v : Value), lk i l' = some v → lk i l = some v
theorem lsub_n {l : LV} : lsub [] l := fun i v h => by cases h
theorem lsub_c {i : Nat} {v : Value} {t l : LV} (h1 : lk i l = some v) (h2 : lsub t l) : lsub ((i, v) :: t) l := by
  intro j w h
  by_cases e : j = i
  · subst e
    rw [lk_same] at h
    rw [h1, h]
  · rw [lk_other e] at h
    exact h2 j w h
/-- the locals as a list without shadows -/
def lcl (lv : LV) : LV := lv.filterMap (fun q => (lk q.1 lv).map (fun v => (q.1, v)))
theorem lcl_mem {lv : LV} {q : Nat × Value} : q ∈ lcl lv ↔ lk q.1 lv = some q.2 := by
  unfold lcl
  rw [List.mem_filterMap]
  constructor
  · rintro ⟨x, -, h⟩
    obtain ⟨v, h1, h2⟩ := Option.map_eq_some_iff.mp h
    rw [← h2]
    exact h1
  · intro h
    exact ⟨q, lk_mem h, by rw [h]; rfl⟩
theorem lvh_has {ls : Array Slot} {nL : Nat} {lv : LV} (h : lvh ls nL lv) : lv_has ls nL (lcl lv) := ⟨h.1, h.2.1, fun q hq => (h.2.2 q.1 q.2 (lcl_mem.mp hq)).1⟩
theorem lvh_set {ls ls' : Array Slot} {nL i : Nat} {lv : LV} {x : Value} (h : lvh ls nL lv) (hx : x.category = 1) (h' : lv_has ls' nL ((i, x) :: (lcl lv).filter (fun q => !(q.1 == i) && !(q.1 + 1 == i && q.2.category == 2)))) : lvh ls' nL ((i, x) :: lv) := by
  refine ⟨h'.1, h'.2.1, fun j v hj => ?_⟩
  by_cases e : j = i
  · subst e
    rw [lk_same] at hj
    cases hj
    exact ⟨h'.2.2 _ List.mem_cons_self, hx⟩
  · rw [lk_other e] at hj
    have hc := (h.2.2 j v hj).2
    refine ⟨h'.2.2 (j, v) (List.mem_cons_of_mem _ (List.mem_filter.mpr ⟨lcl_mem.mpr hj, ?_⟩)), hc⟩
    simp [e, hc]
theorem lvh_sub {ls : Array Slot} {nL : Nat} {lv lv' : LV} (h : lvh ls nL lv) (hs : lsub lv' lv) : lvh ls nL lv' := ⟨h.1, h.2.1, fun i v hi => h.2.2 i v (hs i v hi)⟩
theorem lv_args_mem : ∀ (av : List Value) (k : Nat) (q : Nat × Value), q ∈ lv_args k av → q.2 ∈ av
  | [], _, _, h => by cases h
  | v :: vs, k, q, h => by
    unfold lv_args at h
    rcases List.mem_cons.mp h with rfl | h
    · exact List.mem_cons_self
    · exact List.mem_cons_of_mem _ (lv_args_mem vs _ q h)
/-- a judgement G over (state, pc, locals, stack) that the machine with the code cc keeps -/
def PR {ω : Type} (cc : ByteArray) (nL : Nat) (G : ω → Nat → LV → List Value → Prop) : Prop :=
  ∃ (p : Program) (l : Launch) (e : Env) (R : Room) (s : State) (m : MethodId) (args : Array Value) (below : List Frame) (meth : Method) (c : Code) (cells slots : Nat) (Q : State → Prop) (Pw : ω → Heap → List Loc → Prop), p.tables.exec = Jvm.exec ∧ c.code = cc ∧ G = fun w pc lv st => ∀ (H : Heap) (locs : List Loc) (ls : Array Slot), Pw w H locs → lvh ls nL lv → W p l e R s m args below meth c H locs cells slots Q (F0 m pc ls st)
section PRrows
variable {ω : Type} {cc : ByteArray} {nL : Nat} {G : ω → Nat → LV → List Value → Prop} {w : ω} {pc : Nat} {lv : LV} {st : List Value}
theorem nv_lv (hP : PR cc nL G) {lv' : LV} (hs : lsub lv' lv) (k : G w pc lv' st) : G w pc lv st := by
  obtain ⟨p, l, e, R, s, m, args, below, meth, c, cells, slots, Q, Pw, hx, hb, rfl⟩ := hP
  intro H locs ls hw hl
  exact k H locs ls hw (lvh_sub hl hs)
theorem nv_top {x y : Int32} (h : x = y) (k : G w pc lv (.int y :: st)) : G w pc lv (.int x :: st) := h ▸ k
theorem nv_iconst (hP : PR cc nL G) {n : Int} (v : Int32) (hd : decode cc pc = .ok (.iconst n, 1)) (hv : Int32.ofInt n = v) (k : G w (pc + 1) lv (.int v :: st)) : G w pc lv st := by
  obtain ⟨p, l, e, R, s, m, args, below, meth, c, cells, slots, Q, Pw, hx, hb, rfl⟩ := hP
  intro H locs ls hw hl
  exact lv_iconst hx hb hd hv (k H locs ls hw hl)
theorem nv_bipush (hP : PR cc nL G) {n : Int} (v : Int32) (hd : decode cc pc = .ok (.bipush n, 2)) (hv : (Int8.ofInt n).toInt32 = v) (k : G w (pc + 2) lv (.int v :: st)) : G w pc lv st := by
  obtain ⟨p, l, e, R, s, m, args, below, meth, c, cells, slots, Q, Pw, hx, hb, rfl⟩ := hP
  intro H locs ls hw hl
  exact lv_bipush hx hb hd hv (k H locs ls hw hl)
theorem nv_sipush (hP : PR cc nL G) {n : Int} (v : Int32) (hd : decode cc pc = .ok (.sipush n, 3)) (hv : (Int16.ofInt n).toInt32 = v) (k : G w (pc + 3) lv (.int v :: st)) : G w pc lv st := by
  obtain ⟨p, l, e, R, s, m, args, below, meth, c, cells, slots, Q, Pw, hx, hb, rfl⟩ := hP
  intro H locs ls hw hl
  exact lv_sipush hx hb hd hv (k H locs ls hw hl)
theorem nv_iload (hP : PR cc nL G) {i : Nat} {x : Int32} (hd : decode cc pc = .ok (.iload i, 2)) (h : lk i lv = some (.int x)) (k : G w (pc + 2) lv (.int x :: st)) : G w pc lv st := by
  obtain ⟨p, l, e, R, s, m, args, below, meth, c, cells, slots, Q, Pw, hx, hb, rfl⟩ := hP
  intro H locs ls hw hl
  exact lv_iload hx hb hd (hl.2.2 _ _ h).1 (k H locs ls hw hl)
theorem nv_iload_n (hP : PR cc nL G) {j : Fin 4} (i : Nat) {x : Int32} (hd : decode cc pc = .ok (.iload_n j, 1)) (hi : (j : Nat) = i) (h : lk i lv = some (.int x)) (k : G w (pc + 1) lv (.int x :: st)) : G w pc lv st := by
  obtain ⟨p, l, e, R, s, m, args, below, meth, c, cells, slots, Q, Pw, hx, hb, rfl⟩ := hP
  intro H locs ls hw hl
  exact lv_iload_n hx hb hd hi (hl.2.2 _ _ h).1 (k H locs ls hw hl)
theorem nv_aload_n (hP : PR cc nL G) {j : Fin 4} (i : Nat) {x : Nat} (hd : decode cc pc = .ok (.aload_n j, 1)) (hi : (j : Nat) = i) (h : lk i lv = some (.ref x)) (k : G w (pc + 1) lv (.ref x :: st)) : G w pc lv st := by
  obtain ⟨p, l, e, R, s, m, args, below, meth, c, cells, slots, Q, Pw, hx, hb, rfl⟩ := hP
  intro H locs ls hw hl
  exact lv_aload_n hx hb hd hi (hl.2.2 _ _ h).1 (k H locs ls hw hl)
theorem nv_istore (hP : PR cc nL G) {i : Nat} {x : Int32} (hd : decode cc pc = .ok (.istore i, 2)) (hi : i < nL) (k : G w (pc + 2) ((i, .int x) :: lv) st) : G w pc lv (.int x :: st) := by
  obtain ⟨p, l, e, R, s, m, args, below, meth, c, cells, slots, Q, Pw, hx, hb, rfl⟩ := hP
  intro H locs ls hw hl
  exact lv_istore hx hb hd (lvh_has hl) hi rfl (fun ls' h' => k H locs ls' hw (lvh_set hl rfl h'))
theorem nv_istore_n (hP : PR cc nL G) {j : Fin 4} (i : Nat) {x : Int32} (hd : decode cc pc = .ok (.istore_n j, 1)) (hj : (j : Nat) = i) (hi : i < nL) (k : G w (pc + 1) ((i, .int x) :: lv) st) : G w pc lv (.int x :: st) := by
  obtain ⟨p, l, e, R, s, m, args, below, meth, c, cells, slots, Q, Pw, hx, hb, rfl⟩ := hP
  intro H locs ls hw hl
  exact lv_istore_n hx hb hd hj (lvh_has hl) hi rfl (fun ls' h' => k H locs ls' hw (lvh_set hl rfl h'))
theorem nv_astore_n (hP : PR cc nL G) {j : Fin 4} (i : Nat) {x : Nat} (hd : decode cc pc = .ok (.astore_n j, 1)) (hj : (j : Nat) = i) (hi : i < nL) (k : G w (pc + 1) ((i, .ref x) :: lv) st) : G w pc lv (.ref x :: st) := by
  obtain ⟨p, l, e, R, s, m, args, below, meth, c, cells, slots, Q, Pw, hx, hb, rfl⟩ := hP
  intro H locs ls hw hl
  exact lv_astore_n hx hb hd hj (lvh_has hl) hi rfl (fun ls' h' => k H locs ls' hw (lvh_set hl rfl h'))
theorem nv_iincR (hP : PR cc nL G) {i : Nat} {n : Int} {x : Int32} (hd : decode cc pc = .ok (.iinc i n, 3)) (h : lk i lv = some (.int x)) (hi : i < nL) (k : G w (pc + 3) ((i, .int (x + Int32.ofInt n)) :: lv) st) : G w pc lv st := by
  obtain ⟨p, l, e, R, s, m, args, below, meth, c, cells, slots, Q, Pw, hx, hb, rfl⟩ := hP
  intro H locs ls hw hl
  obtain ⟨q, hq⟩ := List.getElem?_of_mem (lcl_mem.mpr h : (i, Value.int x) ∈ lcl lv)
  exact lv_iinc hx hb hd (lvh_has hl) hq rfl hi rfl (fun ls' h' => k H locs ls' hw (lvh_set hl rfl h'))
theorem nv_iinc (hP : PR cc nL G) {i x : Nat} (hd : decode cc pc = .ok (.iinc i 1, 3)) (h : lk i lv = some (.int (nI x))) (hi : i < nL) (k : G w (pc + 3) ((i, .int (nI (x + 1))) :: lv) st) : G w pc lv st := by
  refine nv_iincR hP hd h hi ?_
  rw [show nI x + Int32.ofInt 1 = nI (x + 1) from nI_1 x]
  exact k
theorem nv_iinc5 (hP : PR cc nL G) {i x : Nat} (hd : decode cc pc = .ok (.iinc i 5, 3)) (h : lk i lv = some (.int (nI x))) (hi : i < nL) (k : G w (pc + 3) ((i, .int (nI (x + 5))) :: lv) st) : G w pc lv st := by
  refine nv_iincR hP hd h hi ?_
  rw [show nI x + Int32.ofInt 5 = nI (x + 5) from nI_add x 5]
  exact k
/-- a number less one: where a loop that counts down ends -/
def dn (x : Nat) : Int32 := nI x + Int32.ofInt (-1)
theorem dn_s (x : Nat) : dn (x + 1) = nI x := pk_m1 x
theorem dn_0 : dn 0 = -1 := by decide
theorem nv_iincm (hP : PR cc nL G) {i x : Nat} (hd : decode cc pc = .ok (.iinc i (-1), 3)) (h : lk i lv = some (.int (nI x))) (hi : i < nL) (k : G w (pc + 3) ((i, .int (dn x)) :: lv) st) : G w pc lv st := nv_iincR hP hd h hi k
theorem nv_iaddR (hP : PR cc nL G) {x y : Int32} (hd : decode cc pc = .ok (.iadd, 1)) (k : G w (pc + 1) lv (.int (x + y) :: st)) : G w pc lv (.int y :: .int x :: st) := by
  obtain ⟨p, l, e, R, s, m, args, below, meth, c, cells, slots, Q, Pw, hx, hb, rfl⟩ := hP
  intro H locs ls hw hl
  exact lv_iadd hx hb hd (k H locs ls hw hl)
theorem nv_isubR (hP : PR cc nL G) {x y : Int32} (hd : decode cc pc = .ok (.isub, 1)) (k : G w (pc + 1) lv (.int (x - y) :: st)) : G w pc lv (.int y :: .int x :: st) := by
  obtain ⟨p, l, e, R, s, m, args, below, meth, c, cells, slots, Q, Pw, hx, hb, rfl⟩ := hP
  intro H locs ls hw hl
  exact lv_isub hx hb hd (k H locs ls hw hl)
theorem nv_imulR (hP : PR cc nL G) {x y : Int32} (hd : decode cc pc = .ok (.imul, 1)) (k : G w (pc + 1) lv (.int (x * y) :: st)) : G w pc lv (.int y :: .int x :: st) := by
  obtain ⟨p, l, e, R, s, m, args, below, meth, c, cells, slots, Q, Pw, hx, hb, rfl⟩ := hP
  intro H locs ls hw hl
  exact lv_imul hx hb hd (k H locs ls hw hl)
theorem nv_iremR (hP : PR cc nL G) {x y : Int32} (hy : ¬ y = 0) (hd : decode cc pc = .ok (.irem, 1)) (k : G w (pc + 1) lv (.int (x - x / y * y) :: st)) : G w pc lv (.int y :: .int x :: st) := by
  obtain ⟨p, l, e, R, s, m, args, below, meth, c, cells, slots, Q, Pw, hx, hb, rfl⟩ := hP
  intro H locs ls hw hl
  exact lv_irem hx hb hd hy (k H locs ls hw hl)
theorem nv_idivR (hP : PR cc nL G) {x y : Int32} (hy : ¬ y = 0) (hd : decode cc pc = .ok (.idiv, 1)) (k : G w (pc + 1) lv (.int (x / y) :: st)) : G w pc lv (.int y :: .int x :: st) := by
  obtain ⟨p, l, e, R, s, m, args, below, meth, c, cells, slots, Q, Pw, hx, hb, rfl⟩ := hP
  intro H locs ls hw hl
  exact lv_idiv hx hb hd hy (k H locs ls hw hl)
theorem nv_iandR (hP : PR cc nL G) {x y : Int32} (hd : decode cc pc = .ok (.iand, 1)) (k : G w (pc + 1) lv (.int (x &&& y) :: st)) : G w pc lv (.int y :: .int x :: st) := by
  obtain ⟨p, l, e, R, s, m, args, below, meth, c, cells, slots, Q, Pw, hx, hb, rfl⟩ := hP
  intro H locs ls hw hl
  exact lv_iand hx hb hd (k H locs ls hw hl)
theorem nv_ishrR (hP : PR cc nL G) {x y : Int32} (hd : decode cc pc = .ok (.ishr, 1)) (k : G w (pc + 1) lv (.int (x >>> (y &&& 31)) :: st)) : G w pc lv (.int y :: .int x :: st) := by
  obtain ⟨p, l, e, R, s, m, args, below, meth, c, cells, slots, Q, Pw, hx, hb, rfl⟩ := hP
  intro H locs ls hw hl
  exact lv_ishr hx hb hd (k H locs ls hw hl)
theorem nv_iadd (hP : PR cc nL G) {x y : Nat} (hd : decode cc pc = .ok (.iadd, 1)) (k : G w (pc + 1) lv (.int (nI (x + y)) :: st)) : G w pc lv (.int (nI y) :: .int (nI x) :: st) := nv_iaddR hP hd (nI_add x y ▸ k)
theorem nv_imul (hP : PR cc nL G) {x y : Nat} (hd : decode cc pc = .ok (.imul, 1)) (k : G w (pc + 1) lv (.int (nI (x * y)) :: st)) : G w pc lv (.int (nI y) :: .int (nI x) :: st) := nv_imulR hP hd (pk_mul x y ▸ k)
theorem nv_isub (hP : PR cc nL G) {x y : Nat} (h : y ≤ x) (hd : decode cc pc = .ok (.isub, 1)) (k : G w (pc + 1) lv (.int (nI (x - y)) :: st)) : G w pc lv (.int (nI y) :: .int (nI x) :: st) := nv_isubR hP hd (pk_sub h ▸ k)
theorem nv_irem (hP : PR cc nL G) {x y : Nat} (hx : x < 2 ^ 31) (h0 : 0 < y) (hy : y < 2 ^ 31) (hd : decode cc pc = .ok (.irem, 1)) (k : G w (pc + 1) lv (.int (nI (x % y)) :: st)) : G w pc lv (.int (nI y) :: .int (nI x) :: st) := nv_iremR hP (nI_ne0 h0 hy) hd (pk_rem hx h0 hy ▸ k)
theorem nv_idiv (hP : PR cc nL G) {x y : Nat} (hx : x < 2 ^ 31) (h0 : 0 < y) (hy : y < 2 ^ 31) (hd : decode cc pc = .ok (.idiv, 1)) (k : G w (pc + 1) lv (.int (nI (x / y)) :: st)) : G w pc lv (.int (nI y) :: .int (nI x) :: st) := nv_idivR hP (nI_ne0 h0 hy) hd (pk_div hx h0 hy ▸ k)
theorem nv_iand15 (hP : PR cc nL G) {x : Nat} (hx : x < 2 ^ 31) (hd : decode cc pc = .ok (.iand, 1)) (k : G w (pc + 1) lv (.int (nI (x % 16)) :: st)) : G w pc lv (.int (nI 15) :: .int (nI x) :: st) := nv_iandR hP hd (pk_andN (n := x) (m := nI 15) (by omega) 4 (by decide) ▸ k)
theorem nv_iand7 (hP : PR cc nL G) {x : Nat} (hx : x < 2 ^ 31) (hd : decode cc pc = .ok (.iand, 1)) (k : G w (pc + 1) lv (.int (nI (x % 8)) :: st)) : G w pc lv (.int (nI 7) :: .int (nI x) :: st) := nv_iandR hP hd (pk_andN (n := x) (m := nI 7) (by omega) 3 (by decide) ▸ k)
theorem nv_ishr4 (hP : PR cc nL G) {x : Nat} (hx : x < 2 ^ 31) (hd : decode cc pc = .ok (.ishr, 1)) (k : G w (pc + 1) lv (.int (nI (x / 16)) :: st)) : G w pc lv (.int (nI 4) :: .int (nI x) :: st) := nv_ishrR hP hd (pk_shrN (n := x) hx (nI 4 &&& 31) 4 (by decide) ▸ k)
theorem nv_dup (hP : PR cc nL G) {v : Value} (hv : v.category = 1) (hd : decode cc pc = .ok (.dup, 1)) (k : G w (pc + 1) lv (v :: v :: st)) : G w pc lv (v :: st) := by
  obtain ⟨p, l, e, R, s, m, args, below, meth, c, cells, slots, Q, Pw, hx, hb, rfl⟩ := hP
  intro H locs ls hw hl
  exact lv_dup hx hb hd hv (k H locs ls hw hl)
theorem nv_dup2 (hP : PR cc nL G) {u v : Value} (hu : u.category = 1) (hv : v.category = 1) (hd : decode cc pc = .ok (.dup2, 1)) (k : G w (pc + 1) lv (u :: v :: u :: v :: st)) : G w pc lv (u :: v :: st) := by
  obtain ⟨p, l, e, R, s, m, args, below, meth, c, cells, slots, Q, Pw, hx, hb, rfl⟩ := hP
  intro H locs ls hw hl
  exact lv_dup2_11 hx hb hd hu hv (k H locs ls hw hl)
theorem nv_goto (hP : PR cc nL G) {off : Int} (tgt : Nat) (hd : decode cc pc = .ok (.goto off, 3)) (ht : (pc : Int) + off = (tgt : Int)) (k : G w tgt lv st) : G w pc lv st := by
  obtain ⟨p, l, e, R, s, m, args, below, meth, c, cells, slots, Q, Pw, hx, hb, rfl⟩ := hP
  intro H locs ls hw hl
  exact lv_goto hx hb hd ht (k H locs ls hw hl)
theorem nv_ifeqR (hP : PR cc nL G) {x : Int32} {off : Int} (tgt : Nat) (hd : decode cc pc = .ok (.ifCond .eq off, 3)) (ht : (pc : Int) + off = (tgt : Int)) (kt : x = 0 → G w tgt lv st) (kf : ¬ x = 0 → G w (pc + 3) lv st) : G w pc lv (.int x :: st) := by
  obtain ⟨p, l, e, R, s, m, args, below, meth, c, cells, slots, Q, Pw, hx, hb, rfl⟩ := hP
  intro H locs ls hw hl
  exact lv_if_eq hx hb hd ht (fun q => kt q H locs ls hw hl) (fun q => kf q H locs ls hw hl)
theorem nv_cmpeqR (hP : PR cc nL G) {x y : Int32} {off : Int} (tgt : Nat) (hd : decode cc pc = .ok (.if_icmp .eq off, 3)) (ht : (pc : Int) + off = (tgt : Int)) (kt : x = y → G w tgt lv st) (kf : ¬ x = y → G w (pc + 3) lv st) : G w pc lv (.int y :: .int x :: st) := by
  obtain ⟨p, l, e, R, s, m, args, below, meth, c, cells, slots, Q, Pw, hx, hb, rfl⟩ := hP
  intro H locs ls hw hl
  exact lv_icmp_eq hx hb hd ht (fun q => kt q H locs ls hw hl) (fun q => kf q H locs ls hw hl)
theorem nv_ifneR (hP : PR cc nL G) {x : Int32} {off : Int} (tgt : Nat) (hd : decode cc pc = .ok (.ifCond .ne off, 3)) (ht : (pc : Int) + off = (tgt : Int)) (kt : ¬ x = 0 → G w tgt lv st) (kf : x = 0 → G w (pc + 3) lv st) : G w pc lv (.int x :: st) := by
  obtain ⟨p, l, e, R, s, m, args, below, meth, c, cells, slots, Q, Pw, hx, hb, rfl⟩ := hP
  intro H locs ls hw hl
  exact lv_if_ne hx hb hd ht (fun q => kt q H locs ls hw hl) (fun q => kf q H locs ls hw hl)
theorem nv_cmpneR (hP : PR cc nL G) {x y : Int32} {off : Int} (tgt : Nat) (hd : decode cc pc = .ok (.if_icmp .ne off, 3)) (ht : (pc : Int) + off = (tgt : Int)) (kt : ¬ x = y → G w tgt lv st) (kf : x = y → G w (pc + 3) lv st) : G w pc lv (.int y :: .int x :: st) := by
  obtain ⟨p, l, e, R, s, m, args, below, meth, c, cells, slots, Q, Pw, hx, hb, rfl⟩ := hP
  intro H locs ls hw hl
  exact lv_icmp_ne hx hb hd ht (fun q => kt q H locs ls hw hl) (fun q => kf q H locs ls hw hl)
theorem nv_ifltR (hP : PR cc nL G) {x : Int32} {off : Int} (tgt : Nat) (hd : decode cc pc = .ok (.ifCond .lt off, 3)) (ht : (pc : Int) + off = (tgt : Int)) (kt : x < 0 → G w tgt lv st) (kf : ¬ x < 0 → G w (pc + 3) lv st) : G w pc lv (.int x :: st) := by
  obtain ⟨p, l, e, R, s, m, args, below, meth, c, cells, slots, Q, Pw, hx, hb, rfl⟩ := hP
  intro H locs ls hw hl
  exact lv_if_lt hx hb hd ht (fun q => kt q H locs ls hw hl) (fun q => kf q H locs ls hw hl)
theorem nv_cmpltR (hP : PR cc nL G) {x y : Int32} {off : Int} (tgt : Nat) (hd : decode cc pc = .ok (.if_icmp .lt off, 3)) (ht : (pc : Int) + off = (tgt : Int)) (kt : x < y → G w tgt lv st) (kf : ¬ x < y → G w (pc + 3) lv st) : G w pc lv (.int y :: .int x :: st) := by
  obtain ⟨p, l, e, R, s, m, args, below, meth, c, cells, slots, Q, Pw, hx, hb, rfl⟩ := hP
  intro H locs ls hw hl
  exact lv_icmp_lt hx hb hd ht (fun q => kt q H locs ls hw hl) (fun q => kf q H locs ls hw hl)
theorem nv_ifgeR (hP : PR cc nL G) {x : Int32} {off : Int} (tgt : Nat) (hd : decode cc pc = .ok (.ifCond .ge off, 3)) (ht : (pc : Int) + off = (tgt : Int)) (kt : 0 ≤ x → G w tgt lv st) (kf : ¬ 0 ≤ x → G w (pc + 3) lv st) : G w pc lv (.int x :: st) := by
  obtain ⟨p, l, e, R, s, m, args, below, meth, c, cells, slots, Q, Pw, hx, hb, rfl⟩ := hP
  intro H locs ls hw hl
  exact lv_if_ge hx hb hd ht (fun q => kt q H locs ls hw hl) (fun q => kf q H locs ls hw hl)
theorem nv_cmpgeR (hP : PR cc nL G) {x y : Int32} {off : Int} (tgt : Nat) (hd : decode cc pc = .ok (.if_icmp .ge off, 3)) (ht : (pc : Int) + off = (tgt : Int)) (kt : y ≤ x → G w tgt lv st) (kf : ¬ y ≤ x → G w (pc + 3) lv st) : G w pc lv (.int y :: .int x :: st) := by
  obtain ⟨p, l, e, R, s, m, args, below, meth, c, cells, slots, Q, Pw, hx, hb, rfl⟩ := hP
  intro H locs ls hw hl
  exact lv_icmp_ge hx hb hd ht (fun q => kt q H locs ls hw hl) (fun q => kf q H locs ls hw hl)
theorem nv_ifgtR (hP : PR cc nL G) {x : Int32} {off : Int} (tgt : Nat) (hd : decode cc pc = .ok (.ifCond .gt off, 3)) (ht : (pc : Int) + off = (tgt : Int)) (kt : 0 < x → G w tgt lv st) (kf : ¬ 0 < x → G w (pc + 3) lv st) : G w pc lv (.int x :: st) := by
  obtain ⟨p, l, e, R, s, m, args, below, meth, c, cells, slots, Q, Pw, hx, hb, rfl⟩ := hP
  intro H locs ls hw hl
  exact lv_if_gt hx hb hd ht (fun q => kt q H locs ls hw hl) (fun q => kf q H locs ls hw hl)
theorem nv_cmpgtR (hP : PR cc nL G) {x y : Int32} {off : Int} (tgt : Nat) (hd : decode cc pc = .ok (.if_icmp .gt off, 3)) (ht : (pc : Int) + off = (tgt : Int)) (kt : y < x → G w tgt lv st) (kf : ¬ y < x → G w (pc + 3) lv st) : G w pc lv (.int y :: .int x :: st) := by
  obtain ⟨p, l, e, R, s, m, args, below, meth, c, cells, slots, Q, Pw, hx, hb, rfl⟩ := hP
  intro H locs ls hw hl
  exact lv_icmp_gt hx hb hd ht (fun q => kt q H locs ls hw hl) (fun q => kf q H locs ls hw hl)
theorem nv_ifleR (hP : PR cc nL G) {x : Int32} {off : Int} (tgt : Nat) (hd : decode cc pc = .ok (.ifCond .le off, 3)) (ht : (pc : Int) + off = (tgt : Int)) (kt : x ≤ 0 → G w tgt lv st) (kf : ¬ x ≤ 0 → G w (pc + 3) lv st) : G w pc lv (.int x :: st) := by
  obtain ⟨p, l, e, R, s, m, args, below, meth, c, cells, slots, Q, Pw, hx, hb, rfl⟩ := hP
  intro H locs ls hw hl
  exact lv_if_le hx hb hd ht (fun q => kt q H locs ls hw hl) (fun q => kf q H locs ls hw hl)
theorem nv_cmpleR (hP : PR cc nL G) {x y : Int32} {off : Int} (tgt : Nat) (hd : decode cc pc = .ok (.if_icmp .le off, 3)) (ht : (pc : Int) + off = (tgt : Int)) (kt : x ≤ y → G w tgt lv st) (kf : ¬ x ≤ y → G w (pc + 3) lv st) : G w pc lv (.int y :: .int x :: st) := by
  obtain ⟨p, l, e, R, s, m, args, below, meth, c, cells, slots, Q, Pw, hx, hb, rfl⟩ := hP
  intro H locs ls hw hl
  exact lv_icmp_le hx hb hd ht (fun q => kt q H locs ls hw hl) (fun q => kf q H locs ls hw hl)
theorem nz_eq {x : Nat} (h : x < 2 ^ 31) : nI x = 0 ↔ x = 0 := nI_eq (b := 0) h (by omega)
theorem nz_lt {x : Nat} (h : x < 2 ^ 31) : 0 < nI x ↔ 0 < x := nI_ltI (a := 0) (by omega) h
theorem nz_le {x : Nat} (h : x < 2 ^ 31) : nI x ≤ 0 ↔ x ≤ 0 := nI_leI (b := 0) h (by omega)
theorem nz_ge {x : Nat} (h : x < 2 ^ 31) : 0 ≤ nI x := nI_pos' h
theorem nv_ifeq (hP : PR cc nL G) {x : Nat} (hx : x < 2 ^ 31) {off : Int} (tgt : Nat) (hd : decode cc pc = .ok (.ifCond .eq off, 3)) (ht : (pc : Int) + off = (tgt : Int)) (kt : x = 0 → G w tgt lv st) (kf : x ≠ 0 → G w (pc + 3) lv st) : G w pc lv (.int (nI x) :: st) := nv_ifeqR hP tgt hd ht (fun q => kt ((nz_eq hx).mp q)) (fun q => kf (fun z => q ((nz_eq hx).mpr z)))
theorem nv_cmpeq (hP : PR cc nL G) {x y : Nat} (hx : x < 2 ^ 31) (hy : y < 2 ^ 31) {off : Int} (tgt : Nat) (hd : decode cc pc = .ok (.if_icmp .eq off, 3)) (ht : (pc : Int) + off = (tgt : Int)) (kt : x = y → G w tgt lv st) (kf : x ≠ y → G w (pc + 3) lv st) : G w pc lv (.int (nI y) :: .int (nI x) :: st) := nv_cmpeqR hP tgt hd ht (fun q => kt ((nI_eq hx hy).mp q)) (fun q => kf (fun z => q ((nI_eq hx hy).mpr z)))
theorem nv_ifne (hP : PR cc nL G) {x : Nat} (hx : x < 2 ^ 31) {off : Int} (tgt : Nat) (hd : decode cc pc = .ok (.ifCond .ne off, 3)) (ht : (pc : Int) + off = (tgt : Int)) (kt : x ≠ 0 → G w tgt lv st) (kf : x = 0 → G w (pc + 3) lv st) : G w pc lv (.int (nI x) :: st) := nv_ifneR hP tgt hd ht (fun q => kt (fun z => q ((nz_eq hx).mpr z))) (fun q => kf ((nz_eq hx).mp q))
theorem nv_cmpne (hP : PR cc nL G) {x y : Nat} (hx : x < 2 ^ 31) (hy : y < 2 ^ 31) {off : Int} (tgt : Nat) (hd : decode cc pc = .ok (.if_icmp .ne off, 3)) (ht : (pc : Int) + off = (tgt : Int)) (kt : x ≠ y → G w tgt lv st) (kf : x = y → G w (pc + 3) lv st) : G w pc lv (.int (nI y) :: .int (nI x) :: st) := nv_cmpneR hP tgt hd ht (fun q => kt (fun z => q ((nI_eq hx hy).mpr z))) (fun q => kf ((nI_eq hx hy).mp q))
theorem nv_iflt (hP : PR cc nL G) {x : Nat} (hx : x < 2 ^ 31) {off : Int} (tgt : Nat) (hd : decode cc pc = .ok (.ifCond .lt off, 3)) (ht : (pc : Int) + off = (tgt : Int)) (kf : G w (pc + 3) lv st) : G w pc lv (.int (nI x) :: st) := nv_ifltR hP tgt hd ht (fun q => absurd q (nI_pos hx)) (fun _ => kf)
theorem nv_cmplt (hP : PR cc nL G) {x y : Nat} (hx : x < 2 ^ 31) (hy : y < 2 ^ 31) {off : Int} (tgt : Nat) (hd : decode cc pc = .ok (.if_icmp .lt off, 3)) (ht : (pc : Int) + off = (tgt : Int)) (kt : x < y → G w tgt lv st) (kf : y ≤ x → G w (pc + 3) lv st) : G w pc lv (.int (nI y) :: .int (nI x) :: st) := nv_cmpltR hP tgt hd ht (fun q => kt ((nI_ltI hx hy).mp q)) (fun q => kf (Nat.le_of_not_lt (fun z => q ((nI_ltI hx hy).mpr z))))
theorem nv_ifge (hP : PR cc nL G) {x : Nat} (hx : x < 2 ^ 31) {off : Int} (tgt : Nat) (hd : decode cc pc = .ok (.ifCond .ge off, 3)) (ht : (pc : Int) + off = (tgt : Int)) (kt : G w tgt lv st) : G w pc lv (.int (nI x) :: st) := nv_ifgeR hP tgt hd ht (fun _ => kt) (fun q => absurd (nz_ge hx) q)
theorem nv_cmpge (hP : PR cc nL G) {x y : Nat} (hx : x < 2 ^ 31) (hy : y < 2 ^ 31) {off : Int} (tgt : Nat) (hd : decode cc pc = .ok (.if_icmp .ge off, 3)) (ht : (pc : Int) + off = (tgt : Int)) (kt : y ≤ x → G w tgt lv st) (kf : x < y → G w (pc + 3) lv st) : G w pc lv (.int (nI y) :: .int (nI x) :: st) := nv_cmpgeR hP tgt hd ht (fun q => kt ((nI_leI hy hx).mp q)) (fun q => kf (Nat.lt_of_not_le (fun z => q ((nI_leI hy hx).mpr z))))
theorem nv_ifgt (hP : PR cc nL G) {x : Nat} (hx : x < 2 ^ 31) {off : Int} (tgt : Nat) (hd : decode cc pc = .ok (.ifCond .gt off, 3)) (ht : (pc : Int) + off = (tgt : Int)) (kt : 0 < x → G w tgt lv st) (kf : x = 0 → G w (pc + 3) lv st) : G w pc lv (.int (nI x) :: st) := nv_ifgtR hP tgt hd ht (fun q => kt ((nz_lt hx).mp q)) (fun q => kf (Nat.eq_zero_of_not_pos (fun z => q ((nz_lt hx).mpr z))))
theorem nv_cmpgt (hP : PR cc nL G) {x y : Nat} (hx : x < 2 ^ 31) (hy : y < 2 ^ 31) {off : Int} (tgt : Nat) (hd : decode cc pc = .ok (.if_icmp .gt off, 3)) (ht : (pc : Int) + off = (tgt : Int)) (kt : y < x → G w tgt lv st) (kf : x ≤ y → G w (pc + 3) lv st) : G w pc lv (.int (nI y) :: .int (nI x) :: st) := nv_cmpgtR hP tgt hd ht (fun q => kt ((nI_ltI hy hx).mp q)) (fun q => kf (Nat.le_of_not_lt (fun z => q ((nI_ltI hy hx).mpr z))))
theorem nv_ifle (hP : PR cc nL G) {x : Nat} (hx : x < 2 ^ 31) {off : Int} (tgt : Nat) (hd : decode cc pc = .ok (.ifCond .le off, 3)) (ht : (pc : Int) + off = (tgt : Int)) (kt : x = 0 → G w tgt lv st) (kf : 0 < x → G w (pc + 3) lv st) : G w pc lv (.int (nI x) :: st) := nv_ifleR hP tgt hd ht (fun q => kt (Nat.eq_zero_of_le_zero ((nz_le hx).mp q))) (fun q => kf (Nat.lt_of_not_le (fun z => q ((nz_le hx).mpr z))))
theorem nv_cmple (hP : PR cc nL G) {x y : Nat} (hx : x < 2 ^ 31) (hy : y < 2 ^ 31) {off : Int} (tgt : Nat) (hd : decode cc pc = .ok (.if_icmp .le off, 3)) (ht : (pc : Int) + off = (tgt : Int)) (kt : x ≤ y → G w tgt lv st) (kf : y < x → G w (pc + 3) lv st) : G w pc lv (.int (nI y) :: .int (nI x) :: st) := nv_cmpleR hP tgt hd ht (fun q => kt ((nI_leI hx hy).mp q)) (fun q => kf (Nat.lt_of_not_le (fun z => q ((nI_leI hx hy).mpr z))))
end PRrows
end
section
/-! AN OBJECT'S METHOD: contracts (MetN), the judgement of a body (Rul), fields, arrays, calls, returns -/
def Qn (D : va_G) (z : Bool → ClassId) (ci h : Nat) (a : Nat → Nat) (A : Nat → Prop) (post : Option Int32 → SG → Prop) : Array Value → State → Outcome → State → Prop := fun _ st oc t => (∃ (r : Option Int32) (σ' : SG), oc = .returned (r.map Value.int) ∧ post r σ' ∧ va_P D classes (wO z ci h a σ') t.heap) ∧ va_F A st t
/-- the contract of a method of the object at h with the arrays at a: from the contents σ, with the arguments av, it ends, and 'post answer contents' -/
def MetN (l : Launch) (y : MethodName) (b : ByteArray) (n : Nat) (rt : Option FieldType) (rm : Room) (ci h : Nat) (a : Nat → Nat) (σ : SG) (av : List Value) (post : Option Int32 → SG → Prop) : Prop :=
  ∀ (D : va_G) (z : Bool → ClassId) (sz : Nat), apart ci h a → Met l y (.code y b n rt :: wA) rm (va_Pc av (fun U => U.heap.size = sz ∧ va_P D classes (wO z ci h a σ) U.heap ∧ va_K D classes (tz z) U)) (Qn D z ci h a (AO ci h a sz) post) 0 0 (AO ci h a sz)
def pI (q : Int32 → SG → Prop) : Option Int32 → SG → Prop := fun r σ => ∃ x, r = some x ∧ q x σ
def pV (q : SG → Prop) : Option Int32 → SG → Prop := fun r σ => r = none ∧ q σ
def Rul (l : Launch) (cc : ByteArray) (nL : Nat) (own : String) (rm : Room) (ci h : Nat) (a : Nat → Nat) (rt : Option FieldType) (post : Option Int32 → SG → Prop) (G : SG → Nat → LV → List Value → Prop) : Prop :=
  ∃ (p : Program) (e : Env) (s : State) (m : MethodId) (args : Array Value) (below : List Frame) (meth : Method) (c : Code) (w0 : Cond) (D : va_G) (z : Bool → ClassId), CallFix p m c cc nL s args (w0 :: wA) own ∧ va_K D classes (tz z) s ∧ apart ci h a ∧ meth.sig.returnType = rt ∧ meth.locks = false ∧ G = fun σ pc lv st => ∀ (H : Heap) (locs : List Loc) (ls : Array Slot), (va_P D classes (wO z ci h a σ) H ∧ va_S (AO ci h a s.heap.size) s.heap H locs) → lvh ls nL lv → W p l e rm s m args below meth c H locs 0 0 (MQ below (Qn D z ci h a (AO ci h a s.heap.size) post) args s 0 0 (AO ci h a s.heap.size)) (F0 m pc ls st)
section RulRows
variable {l : Launch} {cc : ByteArray} {nL : Nat} {own : String} {rm : Room} {ci h : Nat} {a : Nat → Nat} {rt : Option FieldType} {post : Option Int32 → SG → Prop} {G : SG → Nat → LV → List Value → Prop} {σ : SG} {pc : Nat} {lv : LV} {st : List Value}
theorem Rul.pr (hG : Rul l cc nL own rm ci h a rt post G) : PR cc nL G := by
  obtain ⟨p, e, s, m, args, below, meth, c, w0, D, z, ⟨hx, hb, hml, hown, hts⟩, hK, hap, hr, hlk, hG⟩ := hG
  exact ⟨p, l, e, rm, s, m, args, below, meth, c, 0, 0, _, _, hx, hb, hG⟩
theorem nv_entry {y : MethodName} {b : ByteArray} {n : Nat} {av : List Value} (hy : plainName y.cls = true) (hn : (lg_sl av).length ≤ n) (hav : ∀ v ∈ av, v.category = 1) (body : ∀ G, Rul l b n y.cls rm ci h a rt post G → G σ 0 (lv_args 0 av) []) : MetN l y b n rt rm ci h a σ av post := by
  intro D z sz hap
  refine Met.ofW (cc := b) (maxL := n) (ret := rt) hy rfl ?_
  intro p e s m args below meth c s₁ B hml hv
  obtain ⟨rfl, hsz, hP, hK⟩ := hv
  subst hsz
  have hts := atoms_spec (ws := .code y b n rt :: wA) B.pre
  have hown : s.vm.findClass y.cls = some m.cls := findClass_of_methodNamed B.named
  have hl := lv_entry av (n := n) hn
  rw [lg_entry_eq]
  exact body _ ⟨p, e, s, m, _, below, meth, c, _, D, z, ⟨B.exec, B.bytes, hml, hown, hts⟩, hK, hap, B.returns, B.notSynchronized, rfl⟩ s.heap [] _ ⟨hP, va_S.rf⟩ ⟨hl.1, hl.2.1, fun i v hi => ⟨hl.2.2 (i, v) (lk_mem hi), hav v (lv_args_mem av 0 (i, v) (lk_mem hi))⟩⟩
theorem nv_iret (hG : Rul l cc nL own rm ci h a (some .int) post G) {r : Int32} (hd : decode cc pc = .ok (.ireturn, 1)) (hp : post (some r) σ) : G σ pc lv [.int r] := by
  obtain ⟨p, e, s, m, args, below, meth, c, w0, D, z, ⟨hx, hb, hml, hown, hts⟩, hK, hap, hr, hlk, rfl⟩ := hG
  intro H locs ls hw hl
  exact W.iret (v := r) hx hb hr (fun t ht hW => ⟨⟨some r, σ, rfl, hp, by rw [ht]; exact hw.1⟩, hw.2.F ht⟩) hw.2.2.2 hd (hlocks := hlk)
theorem nv_zret (hG : Rul l cc nL own rm ci h a (some .boolean) post G) {x : Nat} (hx1 : x ≤ 1) (hd : decode cc pc = .ok (.ireturn, 1)) (hp : post (some (nI x)) σ) : G σ pc lv [.int (nI x)] := by
  obtain ⟨p, e, s, m, args, below, meth, c, w0, D, z, ⟨hx, hb, hml, hown, hts⟩, hK, hap, hr, hlk, rfl⟩ := hG
  intro H locs ls hw hl
  have hn : narrow .boolean (.int (nI x)) = .int (nI x) := by
    rcases (show x = 0 ∨ x = 1 by omega) with rfl | rfl <;> rfl
  exact W.zret (v := nI x) hx hb hr hn (fun t ht hW => ⟨⟨some (nI x), σ, rfl, hp, by rw [ht]; exact hw.1⟩, hw.2.F ht⟩) hw.2.2.2 hd (hlocks := hlk)
theorem nv_vret (hG : Rul l cc nL own rm ci h a none post G) (hd : decode cc pc = .ok (.return_, 1)) (hp : post none σ) : G σ pc lv [] := by
  obtain ⟨p, e, s, m, args, below, meth, c, w0, D, z, ⟨hx, hb, hml, hown, hts⟩, hK, hap, hr, hlk, rfl⟩ := hG
  intro H locs ls hw hl
  exact W.vret hx hb hr (fun t ht hW => ⟨⟨none, σ, rfl, hp, by rw [ht]; exact hw.1⟩, hw.2.F ht⟩) hw.2.2.2 hd (hlocks := hlk)
theorem nv_getf (hG : Rul l cc nL own rm ci h a rt post G) {idx k : Nat} (hf : FF ci own idx k) (hk : k < nO ci) (hd : decode cc pc = .ok (.getfield idx, 3)) (kk : G σ (pc + 3) lv (.ref (a k) :: st)) : G σ pc lv (.ref h :: st) := by
  obtain ⟨p, e, s, m, args, below, meth, c, w0, D, z, ⟨hx, hb, hml, hown, hts⟩, hK, hap, hr, hlk, rfl⟩ := hG
  intro H locs ls hw hl
  obtain ⟨C, T, N, h1, h2, h3, h4⟩ := hf
  exact va_get (ref := (T k).1) (v := .ref (a k)) hx hb hts (fun w hw => List.mem_cons_of_mem _ (h2 w hw)) hown hK hw.1 0 rfl h1 k h3 (hts _ (List.mem_cons_of_mem _ h4)) (fun _ h9 => h9) (by rw [List.getElem?_map, List.getElem?_range hk]; rfl) hd (kk H locs ls hw hl)
theorem nv_iald (hG : Rul l cc nL own rm ci h a rt post G) {k j : Nat} (n : Nat) (hk : k < nO ci) (hz : bzO ci k = false) (hn : lnO ci k = n) (hj : j < n) (hd : decode cc pc = .ok (.iaload, 1)) (kk : G σ (pc + 1) lv (.int (nI (σ k j)) :: st)) : G σ pc lv (.int (nI j) :: .ref (a k) :: st) := by
  obtain ⟨p, e, s, m, args, below, meth, c, w0, D, z, ⟨hx, hb, hml, hown, hts⟩, hK, hap, hr, hlk, rfl⟩ := hG
  intro H locs ls hw hl
  have hlt := lnO_lt ci k
  have hg := wO_get z h a σ hk
  rw [hz, hn] at hg
  rw [hn] at hlt
  refine va_iald hx hb hK hw.1 (k + 1) 0 hg rfl (vp_in_nI hj hlt) hd ?_
  rw [nI_clamp (by omega)]
  exact kk H locs ls hw hl
theorem nv_zald (hG : Rul l cc nL own rm ci h a rt post G) {k j : Nat} (n : Nat) (hk : k < nO ci) (hz : bzO ci k = true) (hn : lnO ci k = n) (hj : j < n) (hd : decode cc pc = .ok (.baload, 1)) (kk : G σ (pc + 1) lv (.int (nI (σ k j)) :: st)) : G σ pc lv (.int (nI j) :: .ref (a k) :: st) := by
  obtain ⟨p, e, s, m, args, below, meth, c, w0, D, z, ⟨hx, hb, hml, hown, hts⟩, hK, hap, hr, hlk, rfl⟩ := hG
  intro H locs ls hw hl
  have hlt := lnO_lt ci k
  have hg := wO_get z h a σ hk
  rw [hz, hn] at hg
  rw [hn] at hlt
  refine va_zald hx hb hK hw.1 (k + 1) 1 hg rfl (vp_in_nI hj hlt) hd ?_
  rw [nI_clamp (by omega)]
  exact kk H locs ls hw hl
theorem nv_iast (hG : Rul l cc nL own rm ci h a rt post G) {k j x : Nat} (n : Nat) (hk : k < nO ci) (hz : bzO ci k = false) (hn : lnO ci k = n) (hj : j < n) (hd : decode cc pc = .ok (.iastore, 1)) (kk : ∀ σ' : SG, σ' = st2 σ k j x → G σ' (pc + 1) lv st) : G σ pc lv (.int (nI x) :: .int (nI j) :: .ref (a k) :: st) := by
  obtain ⟨p, e, s, m, args, below, meth, c, w0, D, z, ⟨hx, hb, hml, hown, hts⟩, hK, hap, hr, hlk, rfl⟩ := hG
  intro H locs ls hw hl
  have hlt := lnO_lt ci k
  rw [hn] at hlt
  have hg := wO_get z h a σ hk
  have hset := wO_set z ci h a σ k j x
  rw [hz] at hg hset
  refine va_iast hx hb hK hw.1 (wO_D hap) hw.2 (k + 1) 0 hg rfl (vp_in_nI (by rw [hn]; exact hj) (lnO_lt ci k)) hd (fun H1 locs1 hP hD hS => ?_)
  rw [nI_clamp (by omega), hset] at hP
  exact kk _ rfl H1 locs1 ls ⟨hP, hS⟩ hl
theorem nv_zast (hG : Rul l cc nL own rm ci h a rt post G) {k j x : Nat} (n : Nat) (hx1 : x ≤ 1) (hk : k < nO ci) (hz : bzO ci k = true) (hn : lnO ci k = n) (hj : j < n) (hd : decode cc pc = .ok (.bastore, 1)) (kk : ∀ σ' : SG, σ' = st2 σ k j x → G σ' (pc + 1) lv st) : G σ pc lv (.int (nI x) :: .int (nI j) :: .ref (a k) :: st) := by
  obtain ⟨p, e, s, m, args, below, meth, c, w0, D, z, ⟨hx, hb, hml, hown, hts⟩, hK, hap, hr, hlk, rfl⟩ := hG
  intro H locs ls hw hl
  have hlt := lnO_lt ci k
  rw [hn] at hlt
  have hg := wO_get z h a σ hk
  have hset := wO_set z ci h a σ k j x
  rw [hz] at hg hset
  have hnar : vp_nar .boolean (nI x) = nI x := by
    rcases (show x = 0 ∨ x = 1 by omega) with rfl | rfl <;> rfl
  refine va_zast hx hb hK hw.1 (wO_D hap) hw.2 (k + 1) 1 hg rfl (vp_in_nI (by rw [hn]; exact hj) (lnO_lt ci k)) hd (fun H1 locs1 hP hD hS => ?_)
  rw [nI_clamp (by omega), hnar, hset] at hP
  exact kk _ rfl H1 locs1 ls ⟨hP, hS⟩ hl
theorem va_Pc_blind {av : List Value} {D : va_G} {z : Bool → ClassId} {sz : Nat} : FrameBlind (va_Pc av (fun U => U.heap.size = sz ∧ va_P D classes (wO z ci h a σ) U.heap ∧ va_K D classes (tz z) U)) :=
  fun a U g mk q => by
    obtain ⟨q0, q1, qP, qK⟩ := q
    exact ⟨q0, q1, qP, va_K.moved (u := U) (U := U.calling g mk a) (Vm.Alike.refl U.vm) qK⟩
theorem va_S_call {s st₀ t T2 : State} {H : Heap} {locs L : List Loc} (hS : va_S (AO ci h a s.heap.size) s.heap H locs) (h0 : st₀.heap = H) (e1 : T2.heap = t.heap) (hF : va_F (AO ci h a H.size) st₀ t) (hL : ∀ q ∈ L, AO ci h a H.size q.base) : va_S (AO ci h a s.heap.size) s.heap T2.heap (locs ++ L) := by
  obtain ⟨hz, hk⟩ := hF
  rw [h0] at hz hk
  refine ⟨Nat.le_trans hS.1 (by rw [e1]; exact hz), fun q h1 h2 => ?_, fun q hq => ?_⟩
  · rw [e1, hk q (Nat.lt_of_lt_of_le h1 hS.1) (fun z => h2 (AO_mono hS.1 z))]
    exact hS.2.1 q h1 h2
  · rcases List.mem_append.mp hq with h3 | h3
    · exact hS.2.2 q h3
    · exact AO_mono hS.1 (hL q h3)
theorem nv_callV (hG : Rul l cc nL own rm ci h a rt post G) {y : MethodName} {b : ByteArray} {n : Nat} {rt' : Option FieldType} {rm' : Room} {k : Nat} {vs : List Value} {post' : Option Int32 → SG → Prop} {idx : Nat} {rest : List Value} (hM : MetN l y b n rt' rm' ci h a σ (.ref h :: vs) post') (hk : KV own idx ci y b n rt' k) (hv : vs.length = k) (hr0 : rm'.cells = 0 ∧ rm'.slots = 0) (hR : rm'.frames + 1 ≤ rm.frames ∧ 8 + (n + 11) + rm'.locals ≤ rm.locals) (hs : st = vs.reverse ++ .ref h :: rest) (hrest : (rest.map fun v => v.category).sum ≤ 8) (hd : decode cc pc = .ok (.invokevirtual idx, 3)) (kk : ∀ (r : Option Int32) (σ' : SG), post' r σ' → G σ' (pc + 3) lv ((r.map Value.int).toList ++ rest)) : G σ pc lv st := by
  obtain ⟨p, e, s, m, args, below, meth, c, w0, D, z, hC, hK, hap, hr, hlk, rfl⟩ := hG
  intro H locs ls hw hl
  obtain ⟨k1, k2, k3, k4, k5, ⟨T, N, k6⟩, k7⟩ := hk
  have hts := hC.2.2.2.2
  have hgood : GoodIn (w0 :: wA) (wsV own idx y.cls y (.code y b n rt' :: wA)) := by
    intro w hw
    have h1 : w ∈ wA := by
      simp only [wsV, List.cons_append, List.nil_append, List.mem_cons] at hw
      rcases hw with rfl | rfl | rfl | rfl | rfl | hw <;> assumption
    exact ⟨List.mem_cons_of_mem _ h1, tbl_good w h1⟩
  have hrun := va_runV (e := e) (below := below) (meth := meth) (R := rm) (As := vs) (rest := rest) (g := F0 m pc ls st) (locs := locs) (cells := 0) (slots := 0) hC (hM D z H.size hap) (cwV k hts hgood rfl hr0.1 hr0.2 ⟨rfl, k7⟩ hR) ⟨va_Pc_blind, va_recv hK hw.1 k6 (q0 := 0) rfl, fun U hU hW => ⟨rfl, by rw [hU], by rw [hU]; exact hw.1, va_K.moved hW.alike hK⟩⟩ rfl hv hl.1 hs (lv_room hrest) hd ⟨Nat.zero_le _, Nat.zero_le _⟩
  intro T' hT X
  obtain ⟨v, st₀, t, T2, L, h0, X', hL, e1, e2, ⟨⟨r, σ', hv', hp, hb⟩, hF⟩, stp⟩ := hrun T' hT X
  have hv2 : v = r.map Value.int := by injection hv'
  subst hv2
  obtain ⟨t2, a1, b1⟩ := kk r σ' hp T2.heap (locs ++ L) ls ⟨by rw [e1]; exact hb, va_S_call hw.2 h0 e1 hF hL⟩ hl T2 rfl X'
  exact ⟨t2, stp t2 a1, b1⟩
theorem nv_callS (hG : Rul l cc nL own rm ci h a rt post G) {y : MethodName} {b : ByteArray} {n : Nat} {rt' : Option FieldType} {rm' : Room} {k : Nat} {vs : List Value} {post' : Option Int32 → SG → Prop} {idx : Nat} {rest : List Value} (hM : MetN l y b n rt' rm' ci h a σ vs post') (hk : KS own idx y b n rt' k) (hv : vs.length = k) (hr0 : rm'.cells = 0 ∧ rm'.slots = 0) (hR : rm'.frames + 1 ≤ rm.frames ∧ 8 + (n + 11) + rm'.locals ≤ rm.locals) (hs : st = vs.reverse ++ rest) (hrest : (rest.map fun v => v.category).sum ≤ 8) (hd : decode cc pc = .ok (.invokestatic idx, 3)) (kk : ∀ (r : Option Int32) (σ' : SG), post' r σ' → G σ' (pc + 3) lv ((r.map Value.int).toList ++ rest)) : G σ pc lv st := by
  obtain ⟨p, e, s, m, args, below, meth, c, w0, D, z, hC, hK, hap, hr, hlk, rfl⟩ := hG
  intro H locs ls hw hl
  obtain ⟨k1, k2, k3, k5, k7⟩ := hk
  have hts := hC.2.2.2.2
  have hgood : GoodIn (w0 :: wA) (wsS own idx y (.code y b n rt' :: wA)) := by
    intro w hw
    have h1 : w ∈ wA := by
      simp only [wsS, List.cons_append, List.nil_append, List.mem_cons] at hw
      rcases hw with rfl | rfl | rfl | rfl | hw <;> assumption
    exact ⟨List.mem_cons_of_mem _ h1, tbl_good w h1⟩
  have hrun := va_runS (e := e) (below := below) (meth := meth) (R := rm) (As := vs) (rest := rest) (g := F0 m pc ls st) (locs := locs) (cells := 0) (slots := 0) (H := H) hC (hM D z H.size hap) (cwS k hts hgood rfl hr0.1 hr0.2 k7 hR) ⟨va_Pc_blind, fun U hU hW => ⟨rfl, by rw [hU], by rw [hU]; exact hw.1, va_K.moved hW.alike hK⟩⟩ rfl hv hl.1 hs (lv_room hrest) hd ⟨Nat.zero_le _, Nat.zero_le _⟩
  intro T' hT X
  obtain ⟨v, st₀, t, T2, L, h0, X', hL, e1, e2, ⟨⟨r, σ', hv', hp, hb⟩, hF⟩, stp⟩ := hrun T' hT X
  have hv2 : v = r.map Value.int := by injection hv'
  subst hv2
  obtain ⟨t2, a1, b1⟩ := kk r σ' hp T2.heap (locs ++ L) ls ⟨by rw [e1]; exact hb, va_S_call hw.2 h0 e1 hF hL⟩ hl T2 rfl X'
  exact ⟨t2, stp t2 a1, b1⟩
theorem nv_callVI (hG : Rul l cc nL own rm ci h a rt post G) {y : MethodName} {b : ByteArray} {n : Nat} {rt' : Option FieldType} {rm' : Room} {k : Nat} {vs : List Value} {q : Int32 → SG → Prop} {idx : Nat} {rest : List Value} (hM : MetN l y b n rt' rm' ci h a σ (.ref h :: vs) (pI q)) (hk : KV own idx ci y b n rt' k) (hv : vs.length = k) (hr0 : rm'.cells = 0 ∧ rm'.slots = 0) (hR : rm'.frames + 1 ≤ rm.frames ∧ 8 + (n + 11) + rm'.locals ≤ rm.locals) (hs : st = vs.reverse ++ .ref h :: rest) (hrest : (rest.map fun v => v.category).sum ≤ 8) (hd : decode cc pc = .ok (.invokevirtual idx, 3)) (kk : ∀ (r : Int32) (σ' : SG), q r σ' → G σ' (pc + 3) lv (.int r :: rest)) : G σ pc lv st :=
  nv_callV hG hM hk hv hr0 hR hs hrest hd (fun r σ' hp => by
    obtain ⟨x, rfl, hq⟩ := hp
    exact kk x σ' hq)
theorem nv_callVV (hG : Rul l cc nL own rm ci h a rt post G) {y : MethodName} {b : ByteArray} {n : Nat} {rt' : Option FieldType} {rm' : Room} {k : Nat} {vs : List Value} {q : SG → Prop} {idx : Nat} {rest : List Value} (hM : MetN l y b n rt' rm' ci h a σ (.ref h :: vs) (pV q)) (hk : KV own idx ci y b n rt' k) (hv : vs.length = k) (hr0 : rm'.cells = 0 ∧ rm'.slots = 0) (hR : rm'.frames + 1 ≤ rm.frames ∧ 8 + (n + 11) + rm'.locals ≤ rm.locals) (hs : st = vs.reverse ++ .ref h :: rest) (hrest : (rest.map fun v => v.category).sum ≤ 8) (hd : decode cc pc = .ok (.invokevirtual idx, 3)) (kk : ∀ (σ' : SG), q σ' → G σ' (pc + 3) lv rest) : G σ pc lv st :=
  nv_callV hG hM hk hv hr0 hR hs hrest hd (fun r σ' hp => by
    obtain ⟨rfl, hq⟩ := hp
    exact kk σ' hq)
theorem nv_callSI (hG : Rul l cc nL own rm ci h a rt post G) {y : MethodName} {b : ByteArray} {n : Nat} {rt' : Option FieldType} {rm' : Room} {k : Nat} {vs : List Value} {q : Int32 → SG → Prop} {idx : Nat} {rest : List Value} (hM : MetN l y b n rt' rm' ci h a σ vs (pI q)) (hk : KS own idx y b n rt' k) (hv : vs.length = k) (hr0 : rm'.cells = 0 ∧ rm'.slots = 0) (hR : rm'.frames + 1 ≤ rm.frames ∧ 8 + (n + 11) + rm'.locals ≤ rm.locals) (hs : st = vs.reverse ++ rest) (hrest : (rest.map fun v => v.category).sum ≤ 8) (hd : decode cc pc = .ok (.invokestatic idx, 3)) (kk : ∀ (r : Int32) (σ' : SG), q r σ' → G σ' (pc + 3) lv (.int r :: rest)) : G σ pc lv st :=
  nv_callS hG hM hk hv hr0 hR hs hrest hd (fun r σ' hp => by
    obtain ⟨x, rfl, hq⟩ := hp
    exact kk x σ' hq)
end RulRows
end
section
theorem d_L_init_0 : decode b_L_init 0 = .ok (.aload_n 0, 1) := by decide +kernel
theorem d_L_init_1 : decode b_L_init 1 = .ok (.invokespecial 1, 3) := by decide +kernel
theorem d_L_init_4 : decode b_L_init 4 = .ok (.aload_n 0, 1) := by decide +kernel
theorem d_L_init_5 : decode b_L_init 5 = .ok (.bipush 8, 2) := by decide +kernel
theorem d_L_init_7 : decode b_L_init 7 = .ok (.newarray .int, 2) := by decide +kernel
theorem d_L_init_9 : decode b_L_init 9 = .ok (.putfield 7, 3) := by decide +kernel
theorem d_L_init_12 : decode b_L_init 12 = .ok (.aload_n 0, 1) := by decide +kernel
theorem d_L_init_13 : decode b_L_init 13 = .ok (.bipush 8, 2) := by decide +kernel
theorem d_L_init_15 : decode b_L_init 15 = .ok (.newarray .int, 2) := by decide +kernel
theorem d_L_init_17 : decode b_L_init 17 = .ok (.putfield 13, 3) := by decide +kernel
theorem d_L_init_20 : decode b_L_init 20 = .ok (.aload_n 0, 1) := by decide +kernel
theorem d_L_init_21 : decode b_L_init 21 = .ok (.bipush 8, 2) := by decide +kernel
theorem d_L_init_23 : decode b_L_init 23 = .ok (.newarray .int, 2) := by decide +kernel
theorem d_L_init_25 : decode b_L_init 25 = .ok (.putfield 16, 3) := by decide +kernel
theorem d_L_init_28 : decode b_L_init 28 = .ok (.aload_n 0, 1) := by decide +kernel
theorem d_L_init_29 : decode b_L_init 29 = .ok (.sipush 128, 3) := by decide +kernel
theorem d_L_init_32 : decode b_L_init 32 = .ok (.newarray .int, 2) := by decide +kernel
theorem d_L_init_34 : decode b_L_init 34 = .ok (.putfield 19, 3) := by decide +kernel
theorem d_L_init_37 : decode b_L_init 37 = .ok (.aload_n 0, 1) := by decide +kernel
theorem d_L_init_38 : decode b_L_init 38 = .ok (.sipush 128, 3) := by decide +kernel
theorem d_L_init_41 : decode b_L_init 41 = .ok (.newarray .int, 2) := by decide +kernel
theorem d_L_init_43 : decode b_L_init 43 = .ok (.putfield 22, 3) := by decide +kernel
theorem d_L_init_46 : decode b_L_init 46 = .ok (.aload_n 0, 1) := by decide +kernel
theorem d_L_init_47 : decode b_L_init 47 = .ok (.sipush 128, 3) := by decide +kernel
theorem d_L_init_50 : decode b_L_init 50 = .ok (.newarray .int, 2) := by decide +kernel
theorem d_L_init_52 : decode b_L_init 52 = .ok (.putfield 25, 3) := by decide +kernel
theorem d_L_init_55 : decode b_L_init 55 = .ok (.aload_n 0, 1) := by decide +kernel
theorem d_L_init_56 : decode b_L_init 56 = .ok (.sipush 128, 3) := by decide +kernel
theorem d_L_init_59 : decode b_L_init 59 = .ok (.newarray .int, 2) := by decide +kernel
theorem d_L_init_61 : decode b_L_init 61 = .ok (.putfield 28, 3) := by decide +kernel
theorem d_L_init_64 : decode b_L_init 64 = .ok (.aload_n 0, 1) := by decide +kernel
theorem d_L_init_65 : decode b_L_init 65 = .ok (.bipush 16, 2) := by decide +kernel
theorem d_L_init_67 : decode b_L_init 67 = .ok (.newarray .int, 2) := by decide +kernel
theorem d_L_init_69 : decode b_L_init 69 = .ok (.putfield 31, 3) := by decide +kernel
theorem d_L_init_72 : decode b_L_init 72 = .ok (.aload_n 0, 1) := by decide +kernel
theorem d_L_init_73 : decode b_L_init 73 = .ok (.bipush 97, 2) := by decide +kernel
theorem d_L_init_75 : decode b_L_init 75 = .ok (.newarray .int, 2) := by decide +kernel
theorem d_L_init_77 : decode b_L_init 77 = .ok (.putfield 34, 3) := by decide +kernel
theorem d_L_init_80 : decode b_L_init 80 = .ok (.aload_n 0, 1) := by decide +kernel
theorem d_L_init_81 : decode b_L_init 81 = .ok (.getfield 34, 3) := by decide +kernel
theorem d_L_init_84 : decode b_L_init 84 = .ok (.iconst 1, 1) := by decide +kernel
theorem d_L_init_85 : decode b_L_init 85 = .ok (.iconst 1, 1) := by decide +kernel
theorem d_L_init_86 : decode b_L_init 86 = .ok (.iastore, 1) := by decide +kernel
theorem d_L_init_87 : decode b_L_init 87 = .ok (.iconst 2, 1) := by decide +kernel
theorem d_L_init_88 : decode b_L_init 88 = .ok (.istore_n 1, 1) := by decide +kernel
theorem d_L_init_89 : decode b_L_init 89 = .ok (.iload_n 1, 1) := by decide +kernel
theorem d_L_init_90 : decode b_L_init 90 = .ok (.bipush 97, 2) := by decide +kernel
theorem d_L_init_92 : decode b_L_init 92 = .ok (.if_icmp .ge 35, 3) := by decide +kernel
theorem d_L_init_95 : decode b_L_init 95 = .ok (.aload_n 0, 1) := by decide +kernel
theorem d_L_init_96 : decode b_L_init 96 = .ok (.getfield 34, 3) := by decide +kernel
theorem d_L_init_99 : decode b_L_init 99 = .ok (.iload_n 1, 1) := by decide +kernel
theorem d_L_init_100 : decode b_L_init 100 = .ok (.bipush 97, 2) := by decide +kernel
theorem d_L_init_102 : decode b_L_init 102 = .ok (.bipush 97, 2) := by decide +kernel
theorem d_L_init_104 : decode b_L_init 104 = .ok (.iload_n 1, 1) := by decide +kernel
theorem d_L_init_105 : decode b_L_init 105 = .ok (.idiv, 1) := by decide +kernel
theorem d_L_init_106 : decode b_L_init 106 = .ok (.isub, 1) := by decide +kernel
theorem d_L_init_107 : decode b_L_init 107 = .ok (.aload_n 0, 1) := by decide +kernel
theorem d_L_init_108 : decode b_L_init 108 = .ok (.getfield 34, 3) := by decide +kernel
theorem d_L_init_111 : decode b_L_init 111 = .ok (.bipush 97, 2) := by decide +kernel
theorem d_L_init_113 : decode b_L_init 113 = .ok (.iload_n 1, 1) := by decide +kernel
theorem d_L_init_114 : decode b_L_init 114 = .ok (.irem, 1) := by decide +kernel
theorem d_L_init_115 : decode b_L_init 115 = .ok (.iaload, 1) := by decide +kernel
theorem d_L_init_116 : decode b_L_init 116 = .ok (.imul, 1) := by decide +kernel
theorem d_L_init_117 : decode b_L_init 117 = .ok (.bipush 97, 2) := by decide +kernel
theorem d_L_init_119 : decode b_L_init 119 = .ok (.irem, 1) := by decide +kernel
theorem d_L_init_120 : decode b_L_init 120 = .ok (.iastore, 1) := by decide +kernel
theorem d_L_init_121 : decode b_L_init 121 = .ok (.iinc 1 1, 3) := by decide +kernel
theorem d_L_init_124 : decode b_L_init 124 = .ok (.goto (-35), 3) := by decide +kernel
theorem d_L_init_127 : decode b_L_init 127 = .ok (.return_, 1) := by decide +kernel
theorem d_L_define_0 : decode b_L_define 0 = .ok (.iload_n 1, 1) := by decide +kernel
theorem d_L_define_1 : decode b_L_define 1 = .ok (.invokestatic 37, 3) := by decide +kernel
theorem d_L_define_4 : decode b_L_define 4 = .ok (.ifCond .ne 5, 3) := by decide +kernel
theorem d_L_define_7 : decode b_L_define 7 = .ok (.iconst (-1), 1) := by decide +kernel
theorem d_L_define_8 : decode b_L_define 8 = .ok (.ireturn, 1) := by decide +kernel
theorem d_L_define_9 : decode b_L_define 9 = .ok (.iload_n 2, 1) := by decide +kernel
theorem d_L_define_10 : decode b_L_define 10 = .ok (.ifCond .lt 9, 3) := by decide +kernel
theorem d_L_define_13 : decode b_L_define 13 = .ok (.iload_n 2, 1) := by decide +kernel
theorem d_L_define_14 : decode b_L_define 14 = .ok (.bipush 9, 2) := by decide +kernel
theorem d_L_define_16 : decode b_L_define 16 = .ok (.if_icmp .le 6, 3) := by decide +kernel
theorem d_L_define_19 : decode b_L_define 19 = .ok (.bipush (-2), 2) := by decide +kernel
theorem d_L_define_21 : decode b_L_define 21 = .ok (.ireturn, 1) := by decide +kernel
theorem d_L_define_22 : decode b_L_define 22 = .ok (.iload_n 2, 1) := by decide +kernel
theorem d_L_define_23 : decode b_L_define 23 = .ok (.iconst 1, 1) := by decide +kernel
theorem d_L_define_24 : decode b_L_define 24 = .ok (.if_icmp .le 13, 3) := by decide +kernel
theorem d_L_define_27 : decode b_L_define 27 = .ok (.iload_n 3, 1) := by decide +kernel
theorem d_L_define_28 : decode b_L_define 28 = .ok (.invokestatic 37, 3) := by decide +kernel
theorem d_L_define_31 : decode b_L_define 31 = .ok (.ifCond .ne 6, 3) := by decide +kernel
theorem d_L_define_34 : decode b_L_define 34 = .ok (.bipush (-3), 2) := by decide +kernel
theorem d_L_define_36 : decode b_L_define 36 = .ok (.ireturn, 1) := by decide +kernel
theorem d_L_define_37 : decode b_L_define 37 = .ok (.iload_n 2, 1) := by decide +kernel
theorem d_L_define_38 : decode b_L_define 38 = .ok (.iconst 2, 1) := by decide +kernel
theorem d_L_define_39 : decode b_L_define 39 = .ok (.if_icmp .eq 14, 3) := by decide +kernel
theorem d_L_define_42 : decode b_L_define 42 = .ok (.iload_n 2, 1) := by decide +kernel
theorem d_L_define_43 : decode b_L_define 43 = .ok (.iconst 3, 1) := by decide +kernel
theorem d_L_define_44 : decode b_L_define 44 = .ok (.if_icmp .eq 9, 3) := by decide +kernel
theorem d_L_define_47 : decode b_L_define 47 = .ok (.iload_n 2, 1) := by decide +kernel
theorem d_L_define_48 : decode b_L_define 48 = .ok (.bipush 9, 2) := by decide +kernel
theorem d_L_define_50 : decode b_L_define 50 = .ok (.if_icmp .ne 7, 3) := by decide +kernel
theorem d_L_define_53 : decode b_L_define 53 = .ok (.iconst 1, 1) := by decide +kernel
theorem d_L_define_54 : decode b_L_define 54 = .ok (.goto 4, 3) := by decide +kernel
theorem d_L_define_57 : decode b_L_define 57 = .ok (.iconst 0, 1) := by decide +kernel
theorem d_L_define_58 : decode b_L_define 58 = .ok (.istore 5, 2) := by decide +kernel
theorem d_L_define_60 : decode b_L_define 60 = .ok (.iload 5, 2) := by decide +kernel
theorem d_L_define_62 : decode b_L_define 62 = .ok (.ifCond .eq 14, 3) := by decide +kernel
theorem d_L_define_65 : decode b_L_define 65 = .ok (.iload 4, 2) := by decide +kernel
theorem d_L_define_67 : decode b_L_define 67 = .ok (.invokestatic 37, 3) := by decide +kernel
theorem d_L_define_70 : decode b_L_define 70 = .ok (.ifCond .ne 6, 3) := by decide +kernel
theorem d_L_define_73 : decode b_L_define 73 = .ok (.bipush (-4), 2) := by decide +kernel
theorem d_L_define_75 : decode b_L_define 75 = .ok (.ireturn, 1) := by decide +kernel
theorem d_L_define_76 : decode b_L_define 76 = .ok (.aload_n 0, 1) := by decide +kernel
theorem d_L_define_77 : decode b_L_define 77 = .ok (.getfield 7, 3) := by decide +kernel
theorem d_L_define_80 : decode b_L_define 80 = .ok (.iload_n 1, 1) := by decide +kernel
theorem d_L_define_81 : decode b_L_define 81 = .ok (.iaload, 1) := by decide +kernel
theorem d_L_define_82 : decode b_L_define 82 = .ok (.istore 6, 2) := by decide +kernel
theorem d_L_define_84 : decode b_L_define 84 = .ok (.aload_n 0, 1) := by decide +kernel
theorem d_L_define_85 : decode b_L_define 85 = .ok (.getfield 7, 3) := by decide +kernel
theorem d_L_define_88 : decode b_L_define 88 = .ok (.iload_n 1, 1) := by decide +kernel
theorem d_L_define_89 : decode b_L_define 89 = .ok (.iload_n 2, 1) := by decide +kernel
theorem d_L_define_90 : decode b_L_define 90 = .ok (.iastore, 1) := by decide +kernel
theorem d_L_define_91 : decode b_L_define 91 = .ok (.aload_n 0, 1) := by decide +kernel
theorem d_L_define_92 : decode b_L_define 92 = .ok (.getfield 13, 3) := by decide +kernel
theorem d_L_define_95 : decode b_L_define 95 = .ok (.iload_n 1, 1) := by decide +kernel
theorem d_L_define_96 : decode b_L_define 96 = .ok (.iload_n 2, 1) := by decide +kernel
theorem d_L_define_97 : decode b_L_define 97 = .ok (.iconst 1, 1) := by decide +kernel
theorem d_L_define_98 : decode b_L_define 98 = .ok (.if_icmp .le 7, 3) := by decide +kernel
theorem d_L_define_101 : decode b_L_define 101 = .ok (.iload_n 3, 1) := by decide +kernel
theorem d_L_define_102 : decode b_L_define 102 = .ok (.goto 4, 3) := by decide +kernel
theorem d_L_define_105 : decode b_L_define 105 = .ok (.iconst 0, 1) := by decide +kernel
theorem d_L_define_106 : decode b_L_define 106 = .ok (.iastore, 1) := by decide +kernel
theorem d_L_define_107 : decode b_L_define 107 = .ok (.aload_n 0, 1) := by decide +kernel
theorem d_L_define_108 : decode b_L_define 108 = .ok (.getfield 16, 3) := by decide +kernel
theorem d_L_define_111 : decode b_L_define 111 = .ok (.iload_n 1, 1) := by decide +kernel
theorem d_L_define_112 : decode b_L_define 112 = .ok (.iload 5, 2) := by decide +kernel
theorem d_L_define_114 : decode b_L_define 114 = .ok (.ifCond .eq 8, 3) := by decide +kernel
theorem d_L_define_117 : decode b_L_define 117 = .ok (.iload 4, 2) := by decide +kernel
theorem d_L_define_119 : decode b_L_define 119 = .ok (.goto 8, 3) := by decide +kernel
theorem d_L_define_122 : decode b_L_define 122 = .ok (.iload 4, 2) := by decide +kernel
theorem d_L_define_124 : decode b_L_define 124 = .ok (.invokestatic 41, 3) := by decide +kernel
theorem d_L_define_127 : decode b_L_define 127 = .ok (.iastore, 1) := by decide +kernel
theorem d_L_define_128 : decode b_L_define 128 = .ok (.iconst 0, 1) := by decide +kernel
theorem d_L_define_129 : decode b_L_define 129 = .ok (.istore 7, 2) := by decide +kernel
theorem d_L_define_131 : decode b_L_define 131 = .ok (.iload 7, 2) := by decide +kernel
theorem d_L_define_133 : decode b_L_define 133 = .ok (.sipush 128, 3) := by decide +kernel
theorem d_L_define_136 : decode b_L_define 136 = .ok (.if_icmp .ge 17, 3) := by decide +kernel
theorem d_L_define_139 : decode b_L_define 139 = .ok (.aload_n 0, 1) := by decide +kernel
theorem d_L_define_140 : decode b_L_define 140 = .ok (.getfield 19, 3) := by decide +kernel
theorem d_L_define_143 : decode b_L_define 143 = .ok (.iload 7, 2) := by decide +kernel
theorem d_L_define_145 : decode b_L_define 145 = .ok (.iconst 0, 1) := by decide +kernel
theorem d_L_define_146 : decode b_L_define 146 = .ok (.iastore, 1) := by decide +kernel
theorem d_L_define_147 : decode b_L_define 147 = .ok (.iinc 7 1, 3) := by decide +kernel
theorem d_L_define_150 : decode b_L_define 150 = .ok (.goto (-19), 3) := by decide +kernel
theorem d_L_define_153 : decode b_L_define 153 = .ok (.iload 6, 2) := by decide +kernel
theorem d_L_define_155 : decode b_L_define 155 = .ok (.ireturn, 1) := by decide +kernel
theorem d_L_kindOf_0 : decode b_L_kindOf 0 = .ok (.iload_n 1, 1) := by decide +kernel
theorem d_L_kindOf_1 : decode b_L_kindOf 1 = .ok (.invokestatic 37, 3) := by decide +kernel
theorem d_L_kindOf_4 : decode b_L_kindOf 4 = .ok (.ifCond .eq 12, 3) := by decide +kernel
theorem d_L_kindOf_7 : decode b_L_kindOf 7 = .ok (.aload_n 0, 1) := by decide +kernel
theorem d_L_kindOf_8 : decode b_L_kindOf 8 = .ok (.getfield 7, 3) := by decide +kernel
theorem d_L_kindOf_11 : decode b_L_kindOf 11 = .ok (.iload_n 1, 1) := by decide +kernel
theorem d_L_kindOf_12 : decode b_L_kindOf 12 = .ok (.iaload, 1) := by decide +kernel
theorem d_L_kindOf_13 : decode b_L_kindOf 13 = .ok (.goto 4, 3) := by decide +kernel
theorem d_L_kindOf_16 : decode b_L_kindOf 16 = .ok (.iconst (-1), 1) := by decide +kernel
theorem d_L_kindOf_17 : decode b_L_kindOf 17 = .ok (.ireturn, 1) := by decide +kernel
theorem d_L_coefficient_0 : decode b_L_coefficient 0 = .ok (.iload_n 1, 1) := by decide +kernel
theorem d_L_coefficient_1 : decode b_L_coefficient 1 = .ok (.invokestatic 37, 3) := by decide +kernel
theorem d_L_coefficient_4 : decode b_L_coefficient 4 = .ok (.ifCond .ne 5, 3) := by decide +kernel
theorem d_L_coefficient_7 : decode b_L_coefficient 7 = .ok (.iconst (-1), 1) := by decide +kernel
theorem d_L_coefficient_8 : decode b_L_coefficient 8 = .ok (.ireturn, 1) := by decide +kernel
theorem d_L_coefficient_9 : decode b_L_coefficient 9 = .ok (.iload_n 2, 1) := by decide +kernel
theorem d_L_coefficient_10 : decode b_L_coefficient 10 = .ok (.ifCond .lt 9, 3) := by decide +kernel
theorem d_L_coefficient_13 : decode b_L_coefficient 13 = .ok (.iload_n 2, 1) := by decide +kernel
theorem d_L_coefficient_14 : decode b_L_coefficient 14 = .ok (.bipush 16, 2) := by decide +kernel
theorem d_L_coefficient_16 : decode b_L_coefficient 16 = .ok (.if_icmp .lt 6, 3) := by decide +kernel
theorem d_L_coefficient_19 : decode b_L_coefficient 19 = .ok (.bipush (-2), 2) := by decide +kernel
theorem d_L_coefficient_21 : decode b_L_coefficient 21 = .ok (.ireturn, 1) := by decide +kernel
theorem d_L_coefficient_22 : decode b_L_coefficient 22 = .ok (.aload_n 0, 1) := by decide +kernel
theorem d_L_coefficient_23 : decode b_L_coefficient 23 = .ok (.bipush 16, 2) := by decide +kernel
theorem d_L_coefficient_25 : decode b_L_coefficient 25 = .ok (.iload_n 1, 1) := by decide +kernel
theorem d_L_coefficient_26 : decode b_L_coefficient 26 = .ok (.imul, 1) := by decide +kernel
theorem d_L_coefficient_27 : decode b_L_coefficient 27 = .ok (.iload_n 2, 1) := by decide +kernel
theorem d_L_coefficient_28 : decode b_L_coefficient 28 = .ok (.iadd, 1) := by decide +kernel
theorem d_L_coefficient_29 : decode b_L_coefficient 29 = .ok (.invokevirtual 45, 3) := by decide +kernel
theorem d_L_coefficient_32 : decode b_L_coefficient 32 = .ok (.istore_n 3, 1) := by decide +kernel
theorem d_L_coefficient_33 : decode b_L_coefficient 33 = .ok (.iload_n 3, 1) := by decide +kernel
theorem d_L_coefficient_34 : decode b_L_coefficient 34 = .ok (.ifCond .eq 17, 3) := by decide +kernel
theorem d_L_coefficient_37 : decode b_L_coefficient 37 = .ok (.aload_n 0, 1) := by decide +kernel
theorem d_L_coefficient_38 : decode b_L_coefficient 38 = .ok (.getfield 22, 3) := by decide +kernel
theorem d_L_coefficient_41 : decode b_L_coefficient 41 = .ok (.bipush 16, 2) := by decide +kernel
theorem d_L_coefficient_43 : decode b_L_coefficient 43 = .ok (.iload_n 1, 1) := by decide +kernel
theorem d_L_coefficient_44 : decode b_L_coefficient 44 = .ok (.imul, 1) := by decide +kernel
theorem d_L_coefficient_45 : decode b_L_coefficient 45 = .ok (.iload_n 2, 1) := by decide +kernel
theorem d_L_coefficient_46 : decode b_L_coefficient 46 = .ok (.iadd, 1) := by decide +kernel
theorem d_L_coefficient_47 : decode b_L_coefficient 47 = .ok (.iaload, 1) := by decide +kernel
theorem d_L_coefficient_48 : decode b_L_coefficient 48 = .ok (.goto 5, 3) := by decide +kernel
theorem d_L_coefficient_51 : decode b_L_coefficient 51 = .ok (.bipush (-3), 2) := by decide +kernel
theorem d_L_coefficient_53 : decode b_L_coefficient 53 = .ok (.ireturn, 1) := by decide +kernel
theorem d_L_known_0 : decode b_L_known 0 = .ok (.iload_n 1, 1) := by decide +kernel
theorem d_L_known_1 : decode b_L_known 1 = .ok (.invokestatic 37, 3) := by decide +kernel
theorem d_L_known_4 : decode b_L_known 4 = .ok (.ifCond .ne 5, 3) := by decide +kernel
theorem d_L_known_7 : decode b_L_known 7 = .ok (.iconst (-1), 1) := by decide +kernel
theorem d_L_known_8 : decode b_L_known 8 = .ok (.ireturn, 1) := by decide +kernel
theorem d_L_known_9 : decode b_L_known 9 = .ok (.iconst 0, 1) := by decide +kernel
theorem d_L_known_10 : decode b_L_known 10 = .ok (.istore_n 2, 1) := by decide +kernel
theorem d_L_known_11 : decode b_L_known 11 = .ok (.iload_n 2, 1) := by decide +kernel
theorem d_L_known_12 : decode b_L_known 12 = .ok (.bipush 16, 2) := by decide +kernel
theorem d_L_known_14 : decode b_L_known 14 = .ok (.if_icmp .ge 24, 3) := by decide +kernel
theorem d_L_known_17 : decode b_L_known 17 = .ok (.aload_n 0, 1) := by decide +kernel
theorem d_L_known_18 : decode b_L_known 18 = .ok (.bipush 16, 2) := by decide +kernel
theorem d_L_known_20 : decode b_L_known 20 = .ok (.iload_n 1, 1) := by decide +kernel
theorem d_L_known_21 : decode b_L_known 21 = .ok (.imul, 1) := by decide +kernel
theorem d_L_known_22 : decode b_L_known 22 = .ok (.iload_n 2, 1) := by decide +kernel
theorem d_L_known_23 : decode b_L_known 23 = .ok (.iadd, 1) := by decide +kernel
theorem d_L_known_24 : decode b_L_known 24 = .ok (.invokevirtual 45, 3) := by decide +kernel
theorem d_L_known_27 : decode b_L_known 27 = .ok (.ifCond .ne 5, 3) := by decide +kernel
theorem d_L_known_30 : decode b_L_known 30 = .ok (.iload_n 2, 1) := by decide +kernel
theorem d_L_known_31 : decode b_L_known 31 = .ok (.ireturn, 1) := by decide +kernel
theorem d_L_known_32 : decode b_L_known 32 = .ok (.iinc 2 1, 3) := by decide +kernel
theorem d_L_known_35 : decode b_L_known 35 = .ok (.goto (-24), 3) := by decide +kernel
theorem d_L_known_38 : decode b_L_known 38 = .ok (.bipush 16, 2) := by decide +kernel
theorem d_L_known_40 : decode b_L_known 40 = .ok (.ireturn, 1) := by decide +kernel
theorem d_L_valued_0 : decode b_L_valued 0 = .ok (.iload_n 1, 1) := by decide +kernel
theorem d_L_valued_1 : decode b_L_valued 1 = .ok (.invokestatic 37, 3) := by decide +kernel
theorem d_L_valued_4 : decode b_L_valued 4 = .ok (.ifCond .ne 5, 3) := by decide +kernel
theorem d_L_valued_7 : decode b_L_valued 7 = .ok (.iconst (-1), 1) := by decide +kernel
theorem d_L_valued_8 : decode b_L_valued 8 = .ok (.ireturn, 1) := by decide +kernel
theorem d_L_valued_9 : decode b_L_valued 9 = .ok (.iconst 0, 1) := by decide +kernel
theorem d_L_valued_10 : decode b_L_valued 10 = .ok (.istore_n 2, 1) := by decide +kernel
theorem d_L_valued_11 : decode b_L_valued 11 = .ok (.iconst 0, 1) := by decide +kernel
theorem d_L_valued_12 : decode b_L_valued 12 = .ok (.istore_n 3, 1) := by decide +kernel
theorem d_L_valued_13 : decode b_L_valued 13 = .ok (.iload_n 3, 1) := by decide +kernel
theorem d_L_valued_14 : decode b_L_valued 14 = .ok (.bipush 16, 2) := by decide +kernel
theorem d_L_valued_16 : decode b_L_valued 16 = .ok (.if_icmp .ge 25, 3) := by decide +kernel
theorem d_L_valued_19 : decode b_L_valued 19 = .ok (.aload_n 0, 1) := by decide +kernel
theorem d_L_valued_20 : decode b_L_valued 20 = .ok (.bipush 16, 2) := by decide +kernel
theorem d_L_valued_22 : decode b_L_valued 22 = .ok (.iload_n 1, 1) := by decide +kernel
theorem d_L_valued_23 : decode b_L_valued 23 = .ok (.imul, 1) := by decide +kernel
theorem d_L_valued_24 : decode b_L_valued 24 = .ok (.iload_n 3, 1) := by decide +kernel
theorem d_L_valued_25 : decode b_L_valued 25 = .ok (.iadd, 1) := by decide +kernel
theorem d_L_valued_26 : decode b_L_valued 26 = .ok (.invokevirtual 45, 3) := by decide +kernel
theorem d_L_valued_29 : decode b_L_valued 29 = .ok (.ifCond .eq 6, 3) := by decide +kernel
theorem d_L_valued_32 : decode b_L_valued 32 = .ok (.iinc 2 1, 3) := by decide +kernel
theorem d_L_valued_35 : decode b_L_valued 35 = .ok (.iinc 3 1, 3) := by decide +kernel
theorem d_L_valued_38 : decode b_L_valued 38 = .ok (.goto (-25), 3) := by decide +kernel
theorem d_L_valued_41 : decode b_L_valued 41 = .ok (.iload_n 2, 1) := by decide +kernel
theorem d_L_valued_42 : decode b_L_valued 42 = .ok (.ireturn, 1) := by decide +kernel
theorem d_L_order_0 : decode b_L_order 0 = .ok (.iload_n 1, 1) := by decide +kernel
theorem d_L_order_1 : decode b_L_order 1 = .ok (.invokestatic 37, 3) := by decide +kernel
theorem d_L_order_4 : decode b_L_order 4 = .ok (.ifCond .ne 5, 3) := by decide +kernel
theorem d_L_order_7 : decode b_L_order 7 = .ok (.iconst (-1), 1) := by decide +kernel
theorem d_L_order_8 : decode b_L_order 8 = .ok (.ireturn, 1) := by decide +kernel
theorem d_L_order_9 : decode b_L_order 9 = .ok (.iconst 0, 1) := by decide +kernel
theorem d_L_order_10 : decode b_L_order 10 = .ok (.istore_n 2, 1) := by decide +kernel
theorem d_L_order_11 : decode b_L_order 11 = .ok (.iload_n 2, 1) := by decide +kernel
theorem d_L_order_12 : decode b_L_order 12 = .ok (.bipush 16, 2) := by decide +kernel
theorem d_L_order_14 : decode b_L_order 14 = .ok (.if_icmp .ge 41, 3) := by decide +kernel
theorem d_L_order_17 : decode b_L_order 17 = .ok (.aload_n 0, 1) := by decide +kernel
theorem d_L_order_18 : decode b_L_order 18 = .ok (.bipush 16, 2) := by decide +kernel
theorem d_L_order_20 : decode b_L_order 20 = .ok (.iload_n 1, 1) := by decide +kernel
theorem d_L_order_21 : decode b_L_order 21 = .ok (.imul, 1) := by decide +kernel
theorem d_L_order_22 : decode b_L_order 22 = .ok (.iload_n 2, 1) := by decide +kernel
theorem d_L_order_23 : decode b_L_order 23 = .ok (.iadd, 1) := by decide +kernel
theorem d_L_order_24 : decode b_L_order 24 = .ok (.invokevirtual 45, 3) := by decide +kernel
theorem d_L_order_27 : decode b_L_order 27 = .ok (.ifCond .ne 6, 3) := by decide +kernel
theorem d_L_order_30 : decode b_L_order 30 = .ok (.bipush (-2), 2) := by decide +kernel
theorem d_L_order_32 : decode b_L_order 32 = .ok (.ireturn, 1) := by decide +kernel
theorem d_L_order_33 : decode b_L_order 33 = .ok (.aload_n 0, 1) := by decide +kernel
theorem d_L_order_34 : decode b_L_order 34 = .ok (.getfield 22, 3) := by decide +kernel
theorem d_L_order_37 : decode b_L_order 37 = .ok (.bipush 16, 2) := by decide +kernel
theorem d_L_order_39 : decode b_L_order 39 = .ok (.iload_n 1, 1) := by decide +kernel
theorem d_L_order_40 : decode b_L_order 40 = .ok (.imul, 1) := by decide +kernel
theorem d_L_order_41 : decode b_L_order 41 = .ok (.iload_n 2, 1) := by decide +kernel
theorem d_L_order_42 : decode b_L_order 42 = .ok (.iadd, 1) := by decide +kernel
theorem d_L_order_43 : decode b_L_order 43 = .ok (.iaload, 1) := by decide +kernel
theorem d_L_order_44 : decode b_L_order 44 = .ok (.ifCond .eq 5, 3) := by decide +kernel
theorem d_L_order_47 : decode b_L_order 47 = .ok (.iload_n 2, 1) := by decide +kernel
theorem d_L_order_48 : decode b_L_order 48 = .ok (.ireturn, 1) := by decide +kernel
theorem d_L_order_49 : decode b_L_order 49 = .ok (.iinc 2 1, 3) := by decide +kernel
theorem d_L_order_52 : decode b_L_order 52 = .ok (.goto (-41), 3) := by decide +kernel
theorem d_L_order_55 : decode b_L_order 55 = .ok (.bipush (-2), 2) := by decide +kernel
theorem d_L_order_57 : decode b_L_order 57 = .ok (.ireturn, 1) := by decide +kernel
theorem d_L_agreeing_0 : decode b_L_agreeing 0 = .ok (.iload_n 1, 1) := by decide +kernel
theorem d_L_agreeing_1 : decode b_L_agreeing 1 = .ok (.invokestatic 37, 3) := by decide +kernel
theorem d_L_agreeing_4 : decode b_L_agreeing 4 = .ok (.ifCond .eq 10, 3) := by decide +kernel
theorem d_L_agreeing_7 : decode b_L_agreeing 7 = .ok (.iload_n 2, 1) := by decide +kernel
theorem d_L_agreeing_8 : decode b_L_agreeing 8 = .ok (.invokestatic 37, 3) := by decide +kernel
theorem d_L_agreeing_11 : decode b_L_agreeing 11 = .ok (.ifCond .ne 5, 3) := by decide +kernel
theorem d_L_agreeing_14 : decode b_L_agreeing 14 = .ok (.iconst (-1), 1) := by decide +kernel
theorem d_L_agreeing_15 : decode b_L_agreeing 15 = .ok (.ireturn, 1) := by decide +kernel
theorem d_L_agreeing_16 : decode b_L_agreeing 16 = .ok (.iconst 0, 1) := by decide +kernel
theorem d_L_agreeing_17 : decode b_L_agreeing 17 = .ok (.istore_n 3, 1) := by decide +kernel
theorem d_L_agreeing_18 : decode b_L_agreeing 18 = .ok (.iload_n 3, 1) := by decide +kernel
theorem d_L_agreeing_19 : decode b_L_agreeing 19 = .ok (.bipush 16, 2) := by decide +kernel
theorem d_L_agreeing_21 : decode b_L_agreeing 21 = .ok (.if_icmp .ge 64, 3) := by decide +kernel
theorem d_L_agreeing_24 : decode b_L_agreeing 24 = .ok (.aload_n 0, 1) := by decide +kernel
theorem d_L_agreeing_25 : decode b_L_agreeing 25 = .ok (.bipush 16, 2) := by decide +kernel
theorem d_L_agreeing_27 : decode b_L_agreeing 27 = .ok (.iload_n 1, 1) := by decide +kernel
theorem d_L_agreeing_28 : decode b_L_agreeing 28 = .ok (.imul, 1) := by decide +kernel
theorem d_L_agreeing_29 : decode b_L_agreeing 29 = .ok (.iload_n 3, 1) := by decide +kernel
theorem d_L_agreeing_30 : decode b_L_agreeing 30 = .ok (.iadd, 1) := by decide +kernel
theorem d_L_agreeing_31 : decode b_L_agreeing 31 = .ok (.invokevirtual 45, 3) := by decide +kernel
theorem d_L_agreeing_34 : decode b_L_agreeing 34 = .ok (.ifCond .eq 16, 3) := by decide +kernel
theorem d_L_agreeing_37 : decode b_L_agreeing 37 = .ok (.aload_n 0, 1) := by decide +kernel
theorem d_L_agreeing_38 : decode b_L_agreeing 38 = .ok (.bipush 16, 2) := by decide +kernel
theorem d_L_agreeing_40 : decode b_L_agreeing 40 = .ok (.iload_n 2, 1) := by decide +kernel
theorem d_L_agreeing_41 : decode b_L_agreeing 41 = .ok (.imul, 1) := by decide +kernel
theorem d_L_agreeing_42 : decode b_L_agreeing 42 = .ok (.iload_n 3, 1) := by decide +kernel
theorem d_L_agreeing_43 : decode b_L_agreeing 43 = .ok (.iadd, 1) := by decide +kernel
theorem d_L_agreeing_44 : decode b_L_agreeing 44 = .ok (.invokevirtual 45, 3) := by decide +kernel
theorem d_L_agreeing_47 : decode b_L_agreeing 47 = .ok (.ifCond .ne 5, 3) := by decide +kernel
theorem d_L_agreeing_50 : decode b_L_agreeing 50 = .ok (.iload_n 3, 1) := by decide +kernel
theorem d_L_agreeing_51 : decode b_L_agreeing 51 = .ok (.ireturn, 1) := by decide +kernel
theorem d_L_agreeing_52 : decode b_L_agreeing 52 = .ok (.aload_n 0, 1) := by decide +kernel
theorem d_L_agreeing_53 : decode b_L_agreeing 53 = .ok (.getfield 22, 3) := by decide +kernel
theorem d_L_agreeing_56 : decode b_L_agreeing 56 = .ok (.bipush 16, 2) := by decide +kernel
theorem d_L_agreeing_58 : decode b_L_agreeing 58 = .ok (.iload_n 1, 1) := by decide +kernel
theorem d_L_agreeing_59 : decode b_L_agreeing 59 = .ok (.imul, 1) := by decide +kernel
theorem d_L_agreeing_60 : decode b_L_agreeing 60 = .ok (.iload_n 3, 1) := by decide +kernel
theorem d_L_agreeing_61 : decode b_L_agreeing 61 = .ok (.iadd, 1) := by decide +kernel
theorem d_L_agreeing_62 : decode b_L_agreeing 62 = .ok (.iaload, 1) := by decide +kernel
theorem d_L_agreeing_63 : decode b_L_agreeing 63 = .ok (.aload_n 0, 1) := by decide +kernel
theorem d_L_agreeing_64 : decode b_L_agreeing 64 = .ok (.getfield 22, 3) := by decide +kernel
theorem d_L_agreeing_67 : decode b_L_agreeing 67 = .ok (.bipush 16, 2) := by decide +kernel
theorem d_L_agreeing_69 : decode b_L_agreeing 69 = .ok (.iload_n 2, 1) := by decide +kernel
theorem d_L_agreeing_70 : decode b_L_agreeing 70 = .ok (.imul, 1) := by decide +kernel
theorem d_L_agreeing_71 : decode b_L_agreeing 71 = .ok (.iload_n 3, 1) := by decide +kernel
theorem d_L_agreeing_72 : decode b_L_agreeing 72 = .ok (.iadd, 1) := by decide +kernel
theorem d_L_agreeing_73 : decode b_L_agreeing 73 = .ok (.iaload, 1) := by decide +kernel
theorem d_L_agreeing_74 : decode b_L_agreeing 74 = .ok (.if_icmp .eq 5, 3) := by decide +kernel
theorem d_L_agreeing_77 : decode b_L_agreeing 77 = .ok (.iload_n 3, 1) := by decide +kernel
theorem d_L_agreeing_78 : decode b_L_agreeing 78 = .ok (.ireturn, 1) := by decide +kernel
theorem d_L_agreeing_79 : decode b_L_agreeing 79 = .ok (.iinc 3 1, 3) := by decide +kernel
theorem d_L_agreeing_82 : decode b_L_agreeing 82 = .ok (.goto (-64), 3) := by decide +kernel
theorem d_L_agreeing_85 : decode b_L_agreeing 85 = .ok (.bipush 16, 2) := by decide +kernel
theorem d_L_agreeing_87 : decode b_L_agreeing 87 = .ok (.ireturn, 1) := by decide +kernel
theorem d_L_evaluate_0 : decode b_L_evaluate 0 = .ok (.iload_n 1, 1) := by decide +kernel
theorem d_L_evaluate_1 : decode b_L_evaluate 1 = .ok (.invokestatic 37, 3) := by decide +kernel
theorem d_L_evaluate_4 : decode b_L_evaluate 4 = .ok (.ifCond .ne 5, 3) := by decide +kernel
theorem d_L_evaluate_7 : decode b_L_evaluate 7 = .ok (.iconst (-1), 1) := by decide +kernel
theorem d_L_evaluate_8 : decode b_L_evaluate 8 = .ok (.ireturn, 1) := by decide +kernel
theorem d_L_evaluate_9 : decode b_L_evaluate 9 = .ok (.iload_n 2, 1) := by decide +kernel
theorem d_L_evaluate_10 : decode b_L_evaluate 10 = .ok (.ifCond .lt 9, 3) := by decide +kernel
theorem d_L_evaluate_13 : decode b_L_evaluate 13 = .ok (.iload_n 2, 1) := by decide +kernel
theorem d_L_evaluate_14 : decode b_L_evaluate 14 = .ok (.bipush 16, 2) := by decide +kernel
theorem d_L_evaluate_16 : decode b_L_evaluate 16 = .ok (.if_icmp .le 6, 3) := by decide +kernel
theorem d_L_evaluate_19 : decode b_L_evaluate 19 = .ok (.bipush (-2), 2) := by decide +kernel
theorem d_L_evaluate_21 : decode b_L_evaluate 21 = .ok (.ireturn, 1) := by decide +kernel
theorem d_L_evaluate_22 : decode b_L_evaluate 22 = .ok (.iload_n 3, 1) := by decide +kernel
theorem d_L_evaluate_23 : decode b_L_evaluate 23 = .ok (.invokestatic 41, 3) := by decide +kernel
theorem d_L_evaluate_26 : decode b_L_evaluate 26 = .ok (.istore 4, 2) := by decide +kernel
theorem d_L_evaluate_28 : decode b_L_evaluate 28 = .ok (.iconst 0, 1) := by decide +kernel
theorem d_L_evaluate_29 : decode b_L_evaluate 29 = .ok (.istore 5, 2) := by decide +kernel
theorem d_L_evaluate_31 : decode b_L_evaluate 31 = .ok (.iload_n 2, 1) := by decide +kernel
theorem d_L_evaluate_32 : decode b_L_evaluate 32 = .ok (.iconst 1, 1) := by decide +kernel
theorem d_L_evaluate_33 : decode b_L_evaluate 33 = .ok (.isub, 1) := by decide +kernel
theorem d_L_evaluate_34 : decode b_L_evaluate 34 = .ok (.istore 6, 2) := by decide +kernel
theorem d_L_evaluate_36 : decode b_L_evaluate 36 = .ok (.iload 6, 2) := by decide +kernel
theorem d_L_evaluate_38 : decode b_L_evaluate 38 = .ok (.ifCond .lt 49, 3) := by decide +kernel
theorem d_L_evaluate_41 : decode b_L_evaluate 41 = .ok (.aload_n 0, 1) := by decide +kernel
theorem d_L_evaluate_42 : decode b_L_evaluate 42 = .ok (.bipush 16, 2) := by decide +kernel
theorem d_L_evaluate_44 : decode b_L_evaluate 44 = .ok (.iload_n 1, 1) := by decide +kernel
theorem d_L_evaluate_45 : decode b_L_evaluate 45 = .ok (.imul, 1) := by decide +kernel
theorem d_L_evaluate_46 : decode b_L_evaluate 46 = .ok (.iload 6, 2) := by decide +kernel
theorem d_L_evaluate_48 : decode b_L_evaluate 48 = .ok (.iadd, 1) := by decide +kernel
theorem d_L_evaluate_49 : decode b_L_evaluate 49 = .ok (.invokevirtual 45, 3) := by decide +kernel
theorem d_L_evaluate_52 : decode b_L_evaluate 52 = .ok (.ifCond .ne 6, 3) := by decide +kernel
theorem d_L_evaluate_55 : decode b_L_evaluate 55 = .ok (.bipush (-3), 2) := by decide +kernel
theorem d_L_evaluate_57 : decode b_L_evaluate 57 = .ok (.ireturn, 1) := by decide +kernel
theorem d_L_evaluate_58 : decode b_L_evaluate 58 = .ok (.iload 5, 2) := by decide +kernel
theorem d_L_evaluate_60 : decode b_L_evaluate 60 = .ok (.iload 4, 2) := by decide +kernel
theorem d_L_evaluate_62 : decode b_L_evaluate 62 = .ok (.imul, 1) := by decide +kernel
theorem d_L_evaluate_63 : decode b_L_evaluate 63 = .ok (.aload_n 0, 1) := by decide +kernel
theorem d_L_evaluate_64 : decode b_L_evaluate 64 = .ok (.getfield 22, 3) := by decide +kernel
theorem d_L_evaluate_67 : decode b_L_evaluate 67 = .ok (.bipush 16, 2) := by decide +kernel
theorem d_L_evaluate_69 : decode b_L_evaluate 69 = .ok (.iload_n 1, 1) := by decide +kernel
theorem d_L_evaluate_70 : decode b_L_evaluate 70 = .ok (.imul, 1) := by decide +kernel
theorem d_L_evaluate_71 : decode b_L_evaluate 71 = .ok (.iload 6, 2) := by decide +kernel
theorem d_L_evaluate_73 : decode b_L_evaluate 73 = .ok (.iadd, 1) := by decide +kernel
theorem d_L_evaluate_74 : decode b_L_evaluate 74 = .ok (.iaload, 1) := by decide +kernel
theorem d_L_evaluate_75 : decode b_L_evaluate 75 = .ok (.iadd, 1) := by decide +kernel
theorem d_L_evaluate_76 : decode b_L_evaluate 76 = .ok (.bipush 97, 2) := by decide +kernel
theorem d_L_evaluate_78 : decode b_L_evaluate 78 = .ok (.irem, 1) := by decide +kernel
theorem d_L_evaluate_79 : decode b_L_evaluate 79 = .ok (.istore 5, 2) := by decide +kernel
theorem d_L_evaluate_81 : decode b_L_evaluate 81 = .ok (.iinc 6 (-1), 3) := by decide +kernel
theorem d_L_evaluate_84 : decode b_L_evaluate 84 = .ok (.goto (-48), 3) := by decide +kernel
theorem d_L_evaluate_87 : decode b_L_evaluate 87 = .ok (.iload 5, 2) := by decide +kernel
theorem d_L_evaluate_89 : decode b_L_evaluate 89 = .ok (.ireturn, 1) := by decide +kernel
theorem d_L_sum_0 : decode b_L_sum 0 = .ok (.iload_n 1, 1) := by decide +kernel
theorem d_L_sum_1 : decode b_L_sum 1 = .ok (.invokestatic 37, 3) := by decide +kernel
theorem d_L_sum_4 : decode b_L_sum 4 = .ok (.ifCond .ne 5, 3) := by decide +kernel
theorem d_L_sum_7 : decode b_L_sum 7 = .ok (.iconst (-1), 1) := by decide +kernel
theorem d_L_sum_8 : decode b_L_sum 8 = .ok (.ireturn, 1) := by decide +kernel
theorem d_L_sum_9 : decode b_L_sum 9 = .ok (.iload_n 2, 1) := by decide +kernel
theorem d_L_sum_10 : decode b_L_sum 10 = .ok (.ifCond .lt 14, 3) := by decide +kernel
theorem d_L_sum_13 : decode b_L_sum 13 = .ok (.iload_n 2, 1) := by decide +kernel
theorem d_L_sum_14 : decode b_L_sum 14 = .ok (.iload_n 3, 1) := by decide +kernel
theorem d_L_sum_15 : decode b_L_sum 15 = .ok (.if_icmp .gt 9, 3) := by decide +kernel
theorem d_L_sum_18 : decode b_L_sum 18 = .ok (.iload_n 3, 1) := by decide +kernel
theorem d_L_sum_19 : decode b_L_sum 19 = .ok (.bipush 16, 2) := by decide +kernel
theorem d_L_sum_21 : decode b_L_sum 21 = .ok (.if_icmp .lt 6, 3) := by decide +kernel
theorem d_L_sum_24 : decode b_L_sum 24 = .ok (.bipush (-2), 2) := by decide +kernel
theorem d_L_sum_26 : decode b_L_sum 26 = .ok (.ireturn, 1) := by decide +kernel
theorem d_L_sum_27 : decode b_L_sum 27 = .ok (.iconst 0, 1) := by decide +kernel
theorem d_L_sum_28 : decode b_L_sum 28 = .ok (.istore 4, 2) := by decide +kernel
theorem d_L_sum_30 : decode b_L_sum 30 = .ok (.iload_n 2, 1) := by decide +kernel
theorem d_L_sum_31 : decode b_L_sum 31 = .ok (.istore 5, 2) := by decide +kernel
theorem d_L_sum_33 : decode b_L_sum 33 = .ok (.iload 5, 2) := by decide +kernel
theorem d_L_sum_35 : decode b_L_sum 35 = .ok (.iload_n 3, 1) := by decide +kernel
theorem d_L_sum_36 : decode b_L_sum 36 = .ok (.if_icmp .gt 46, 3) := by decide +kernel
theorem d_L_sum_39 : decode b_L_sum 39 = .ok (.aload_n 0, 1) := by decide +kernel
theorem d_L_sum_40 : decode b_L_sum 40 = .ok (.bipush 16, 2) := by decide +kernel
theorem d_L_sum_42 : decode b_L_sum 42 = .ok (.iload_n 1, 1) := by decide +kernel
theorem d_L_sum_43 : decode b_L_sum 43 = .ok (.imul, 1) := by decide +kernel
theorem d_L_sum_44 : decode b_L_sum 44 = .ok (.iload 5, 2) := by decide +kernel
theorem d_L_sum_46 : decode b_L_sum 46 = .ok (.iadd, 1) := by decide +kernel
theorem d_L_sum_47 : decode b_L_sum 47 = .ok (.invokevirtual 45, 3) := by decide +kernel
theorem d_L_sum_50 : decode b_L_sum 50 = .ok (.ifCond .ne 6, 3) := by decide +kernel
theorem d_L_sum_53 : decode b_L_sum 53 = .ok (.bipush (-3), 2) := by decide +kernel
theorem d_L_sum_55 : decode b_L_sum 55 = .ok (.ireturn, 1) := by decide +kernel
theorem d_L_sum_56 : decode b_L_sum 56 = .ok (.iload 4, 2) := by decide +kernel
theorem d_L_sum_58 : decode b_L_sum 58 = .ok (.aload_n 0, 1) := by decide +kernel
theorem d_L_sum_59 : decode b_L_sum 59 = .ok (.getfield 22, 3) := by decide +kernel
theorem d_L_sum_62 : decode b_L_sum 62 = .ok (.bipush 16, 2) := by decide +kernel
theorem d_L_sum_64 : decode b_L_sum 64 = .ok (.iload_n 1, 1) := by decide +kernel
theorem d_L_sum_65 : decode b_L_sum 65 = .ok (.imul, 1) := by decide +kernel
theorem d_L_sum_66 : decode b_L_sum 66 = .ok (.iload 5, 2) := by decide +kernel
theorem d_L_sum_68 : decode b_L_sum 68 = .ok (.iadd, 1) := by decide +kernel
theorem d_L_sum_69 : decode b_L_sum 69 = .ok (.iaload, 1) := by decide +kernel
theorem d_L_sum_70 : decode b_L_sum 70 = .ok (.iadd, 1) := by decide +kernel
theorem d_L_sum_71 : decode b_L_sum 71 = .ok (.bipush 97, 2) := by decide +kernel
theorem d_L_sum_73 : decode b_L_sum 73 = .ok (.irem, 1) := by decide +kernel
theorem d_L_sum_74 : decode b_L_sum 74 = .ok (.istore 4, 2) := by decide +kernel
theorem d_L_sum_76 : decode b_L_sum 76 = .ok (.iinc 5 1, 3) := by decide +kernel
theorem d_L_sum_79 : decode b_L_sum 79 = .ok (.goto (-46), 3) := by decide +kernel
theorem d_L_sum_82 : decode b_L_sum 82 = .ok (.iload 4, 2) := by decide +kernel
theorem d_L_sum_84 : decode b_L_sum 84 = .ok (.ireturn, 1) := by decide +kernel
theorem d_L_needs_0 : decode b_L_needs 0 = .ok (.iload_n 1, 1) := by decide +kernel
theorem d_L_needs_1 : decode b_L_needs 1 = .ok (.ifCond .lt 21, 3) := by decide +kernel
theorem d_L_needs_4 : decode b_L_needs 4 = .ok (.iload_n 1, 1) := by decide +kernel
theorem d_L_needs_5 : decode b_L_needs 5 = .ok (.sipush 128, 3) := by decide +kernel
theorem d_L_needs_8 : decode b_L_needs 8 = .ok (.if_icmp .ge 14, 3) := by decide +kernel
theorem d_L_needs_11 : decode b_L_needs 11 = .ok (.iload_n 2, 1) := by decide +kernel
theorem d_L_needs_12 : decode b_L_needs 12 = .ok (.ifCond .lt 10, 3) := by decide +kernel
theorem d_L_needs_15 : decode b_L_needs 15 = .ok (.iload_n 2, 1) := by decide +kernel
theorem d_L_needs_16 : decode b_L_needs 16 = .ok (.sipush 128, 3) := by decide +kernel
theorem d_L_needs_19 : decode b_L_needs 19 = .ok (.if_icmp .lt 5, 3) := by decide +kernel
theorem d_L_needs_22 : decode b_L_needs 22 = .ok (.iconst (-1), 1) := by decide +kernel
theorem d_L_needs_23 : decode b_L_needs 23 = .ok (.ireturn, 1) := by decide +kernel
theorem d_L_needs_24 : decode b_L_needs 24 = .ok (.iconst 0, 1) := by decide +kernel
theorem d_L_needs_25 : decode b_L_needs 25 = .ok (.istore_n 3, 1) := by decide +kernel
theorem d_L_needs_26 : decode b_L_needs 26 = .ok (.iload_n 3, 1) := by decide +kernel
theorem d_L_needs_27 : decode b_L_needs 27 = .ok (.sipush 128, 3) := by decide +kernel
theorem d_L_needs_30 : decode b_L_needs 30 = .ok (.if_icmp .ge 16, 3) := by decide +kernel
theorem d_L_needs_33 : decode b_L_needs 33 = .ok (.aload_n 0, 1) := by decide +kernel
theorem d_L_needs_34 : decode b_L_needs 34 = .ok (.getfield 28, 3) := by decide +kernel
theorem d_L_needs_37 : decode b_L_needs 37 = .ok (.iload_n 3, 1) := by decide +kernel
theorem d_L_needs_38 : decode b_L_needs 38 = .ok (.iconst 0, 1) := by decide +kernel
theorem d_L_needs_39 : decode b_L_needs 39 = .ok (.iastore, 1) := by decide +kernel
theorem d_L_needs_40 : decode b_L_needs 40 = .ok (.iinc 3 1, 3) := by decide +kernel
theorem d_L_needs_43 : decode b_L_needs 43 = .ok (.goto (-17), 3) := by decide +kernel
theorem d_L_needs_46 : decode b_L_needs 46 = .ok (.iconst 1, 1) := by decide +kernel
theorem d_L_needs_47 : decode b_L_needs 47 = .ok (.istore_n 3, 1) := by decide +kernel
theorem d_L_needs_48 : decode b_L_needs 48 = .ok (.aload_n 0, 1) := by decide +kernel
theorem d_L_needs_49 : decode b_L_needs 49 = .ok (.getfield 25, 3) := by decide +kernel
theorem d_L_needs_52 : decode b_L_needs 52 = .ok (.iconst 0, 1) := by decide +kernel
theorem d_L_needs_53 : decode b_L_needs 53 = .ok (.iload_n 1, 1) := by decide +kernel
theorem d_L_needs_54 : decode b_L_needs 54 = .ok (.iastore, 1) := by decide +kernel
theorem d_L_needs_55 : decode b_L_needs 55 = .ok (.iconst 0, 1) := by decide +kernel
theorem d_L_needs_56 : decode b_L_needs 56 = .ok (.istore 4, 2) := by decide +kernel
theorem d_L_needs_58 : decode b_L_needs 58 = .ok (.iload 4, 2) := by decide +kernel
theorem d_L_needs_60 : decode b_L_needs 60 = .ok (.sipush 128, 3) := by decide +kernel
theorem d_L_needs_63 : decode b_L_needs 63 = .ok (.if_icmp .ge 96, 3) := by decide +kernel
theorem d_L_needs_66 : decode b_L_needs 66 = .ok (.iload 4, 2) := by decide +kernel
theorem d_L_needs_68 : decode b_L_needs 68 = .ok (.iload_n 3, 1) := by decide +kernel
theorem d_L_needs_69 : decode b_L_needs 69 = .ok (.if_icmp .ge 90, 3) := by decide +kernel
theorem d_L_needs_72 : decode b_L_needs 72 = .ok (.iconst 0, 1) := by decide +kernel
theorem d_L_needs_73 : decode b_L_needs 73 = .ok (.istore 5, 2) := by decide +kernel
theorem d_L_needs_75 : decode b_L_needs 75 = .ok (.iload 5, 2) := by decide +kernel
theorem d_L_needs_77 : decode b_L_needs 77 = .ok (.bipush 32, 2) := by decide +kernel
theorem d_L_needs_79 : decode b_L_needs 79 = .ok (.if_icmp .ge 74, 3) := by decide +kernel
theorem d_L_needs_82 : decode b_L_needs 82 = .ok (.aload_n 0, 1) := by decide +kernel
theorem d_L_needs_83 : decode b_L_needs 83 = .ok (.aload_n 0, 1) := by decide +kernel
theorem d_L_needs_84 : decode b_L_needs 84 = .ok (.getfield 25, 3) := by decide +kernel
theorem d_L_needs_87 : decode b_L_needs 87 = .ok (.iload 4, 2) := by decide +kernel
theorem d_L_needs_89 : decode b_L_needs 89 = .ok (.iaload, 1) := by decide +kernel
theorem d_L_needs_90 : decode b_L_needs 90 = .ok (.iload 5, 2) := by decide +kernel
theorem d_L_needs_92 : decode b_L_needs 92 = .ok (.invokevirtual 48, 3) := by decide +kernel
theorem d_L_needs_95 : decode b_L_needs 95 = .ok (.istore 6, 2) := by decide +kernel
theorem d_L_needs_97 : decode b_L_needs 97 = .ok (.iload 6, 2) := by decide +kernel
theorem d_L_needs_99 : decode b_L_needs 99 = .ok (.iload_n 2, 1) := by decide +kernel
theorem d_L_needs_100 : decode b_L_needs 100 = .ok (.if_icmp .ne 5, 3) := by decide +kernel
theorem d_L_needs_103 : decode b_L_needs 103 = .ok (.iconst 1, 1) := by decide +kernel
theorem d_L_needs_104 : decode b_L_needs 104 = .ok (.ireturn, 1) := by decide +kernel
theorem d_L_needs_105 : decode b_L_needs 105 = .ok (.iload 6, 2) := by decide +kernel
theorem d_L_needs_107 : decode b_L_needs 107 = .ok (.iconst (-1), 1) := by decide +kernel
theorem d_L_needs_108 : decode b_L_needs 108 = .ok (.if_icmp .eq 39, 3) := by decide +kernel
theorem d_L_needs_111 : decode b_L_needs 111 = .ok (.aload_n 0, 1) := by decide +kernel
theorem d_L_needs_112 : decode b_L_needs 112 = .ok (.getfield 28, 3) := by decide +kernel
theorem d_L_needs_115 : decode b_L_needs 115 = .ok (.iload 6, 2) := by decide +kernel
theorem d_L_needs_117 : decode b_L_needs 117 = .ok (.iaload, 1) := by decide +kernel
theorem d_L_needs_118 : decode b_L_needs 118 = .ok (.ifCond .ne 29, 3) := by decide +kernel
theorem d_L_needs_121 : decode b_L_needs 121 = .ok (.iload_n 3, 1) := by decide +kernel
theorem d_L_needs_122 : decode b_L_needs 122 = .ok (.sipush 128, 3) := by decide +kernel
theorem d_L_needs_125 : decode b_L_needs 125 = .ok (.if_icmp .ge 22, 3) := by decide +kernel
theorem d_L_needs_128 : decode b_L_needs 128 = .ok (.aload_n 0, 1) := by decide +kernel
theorem d_L_needs_129 : decode b_L_needs 129 = .ok (.getfield 28, 3) := by decide +kernel
theorem d_L_needs_132 : decode b_L_needs 132 = .ok (.iload 6, 2) := by decide +kernel
theorem d_L_needs_134 : decode b_L_needs 134 = .ok (.iconst 1, 1) := by decide +kernel
theorem d_L_needs_135 : decode b_L_needs 135 = .ok (.iastore, 1) := by decide +kernel
theorem d_L_needs_136 : decode b_L_needs 136 = .ok (.aload_n 0, 1) := by decide +kernel
theorem d_L_needs_137 : decode b_L_needs 137 = .ok (.getfield 25, 3) := by decide +kernel
theorem d_L_needs_140 : decode b_L_needs 140 = .ok (.iload_n 3, 1) := by decide +kernel
theorem d_L_needs_141 : decode b_L_needs 141 = .ok (.iload 6, 2) := by decide +kernel
theorem d_L_needs_143 : decode b_L_needs 143 = .ok (.iastore, 1) := by decide +kernel
theorem d_L_needs_144 : decode b_L_needs 144 = .ok (.iinc 3 1, 3) := by decide +kernel
theorem d_L_needs_147 : decode b_L_needs 147 = .ok (.iinc 5 1, 3) := by decide +kernel
theorem d_L_needs_150 : decode b_L_needs 150 = .ok (.goto (-75), 3) := by decide +kernel
theorem d_L_needs_153 : decode b_L_needs 153 = .ok (.iinc 4 1, 3) := by decide +kernel
theorem d_L_needs_156 : decode b_L_needs 156 = .ok (.goto (-98), 3) := by decide +kernel
theorem d_L_needs_159 : decode b_L_needs 159 = .ok (.iconst 0, 1) := by decide +kernel
theorem d_L_needs_160 : decode b_L_needs 160 = .ok (.ireturn, 1) := by decide +kernel
theorem d_L_isSeries_0 : decode b_L_isSeries 0 = .ok (.iload_n 0, 1) := by decide +kernel
theorem d_L_isSeries_1 : decode b_L_isSeries 1 = .ok (.ifCond .lt 13, 3) := by decide +kernel
theorem d_L_isSeries_4 : decode b_L_isSeries 4 = .ok (.iload_n 0, 1) := by decide +kernel
theorem d_L_isSeries_5 : decode b_L_isSeries 5 = .ok (.bipush 7, 2) := by decide +kernel
theorem d_L_isSeries_7 : decode b_L_isSeries 7 = .ok (.if_icmp .gt 7, 3) := by decide +kernel
theorem d_L_isSeries_10 : decode b_L_isSeries 10 = .ok (.iconst 1, 1) := by decide +kernel
theorem d_L_isSeries_11 : decode b_L_isSeries 11 = .ok (.goto 4, 3) := by decide +kernel
theorem d_L_isSeries_14 : decode b_L_isSeries 14 = .ok (.iconst 0, 1) := by decide +kernel
theorem d_L_isSeries_15 : decode b_L_isSeries 15 = .ok (.ireturn, 1) := by decide +kernel
theorem d_L_reduced_0 : decode b_L_reduced 0 = .ok (.iload_n 0, 1) := by decide +kernel
theorem d_L_reduced_1 : decode b_L_reduced 1 = .ok (.bipush 97, 2) := by decide +kernel
theorem d_L_reduced_3 : decode b_L_reduced 3 = .ok (.irem, 1) := by decide +kernel
theorem d_L_reduced_4 : decode b_L_reduced 4 = .ok (.istore_n 1, 1) := by decide +kernel
theorem d_L_reduced_5 : decode b_L_reduced 5 = .ok (.iload_n 1, 1) := by decide +kernel
theorem d_L_reduced_6 : decode b_L_reduced 6 = .ok (.ifCond .ge 10, 3) := by decide +kernel
theorem d_L_reduced_9 : decode b_L_reduced 9 = .ok (.iload_n 1, 1) := by decide +kernel
theorem d_L_reduced_10 : decode b_L_reduced 10 = .ok (.bipush 97, 2) := by decide +kernel
theorem d_L_reduced_12 : decode b_L_reduced 12 = .ok (.iadd, 1) := by decide +kernel
theorem d_L_reduced_13 : decode b_L_reduced 13 = .ok (.goto 4, 3) := by decide +kernel
theorem d_L_reduced_16 : decode b_L_reduced 16 = .ok (.iload_n 1, 1) := by decide +kernel
theorem d_L_reduced_17 : decode b_L_reduced 17 = .ok (.ireturn, 1) := by decide +kernel
theorem d_L_need_0 : decode b_L_need 0 = .ok (.iload_n 1, 1) := by decide +kernel
theorem d_L_need_1 : decode b_L_need 1 = .ok (.iconst 4, 1) := by decide +kernel
theorem d_L_need_2 : decode b_L_need 2 = .ok (.ishr, 1) := by decide +kernel
theorem d_L_need_3 : decode b_L_need 3 = .ok (.istore_n 3, 1) := by decide +kernel
theorem d_L_need_4 : decode b_L_need 4 = .ok (.iload_n 1, 1) := by decide +kernel
theorem d_L_need_5 : decode b_L_need 5 = .ok (.bipush 15, 2) := by decide +kernel
theorem d_L_need_7 : decode b_L_need 7 = .ok (.iand, 1) := by decide +kernel
theorem d_L_need_8 : decode b_L_need 8 = .ok (.istore 4, 2) := by decide +kernel
theorem d_L_need_10 : decode b_L_need 10 = .ok (.bipush 16, 2) := by decide +kernel
theorem d_L_need_12 : decode b_L_need 12 = .ok (.aload_n 0, 1) := by decide +kernel
theorem d_L_need_13 : decode b_L_need 13 = .ok (.getfield 13, 3) := by decide +kernel
theorem d_L_need_16 : decode b_L_need 16 = .ok (.iload_n 3, 1) := by decide +kernel
theorem d_L_need_17 : decode b_L_need 17 = .ok (.iaload, 1) := by decide +kernel
theorem d_L_need_18 : decode b_L_need 18 = .ok (.imul, 1) := by decide +kernel
theorem d_L_need_19 : decode b_L_need 19 = .ok (.istore 5, 2) := by decide +kernel
theorem d_L_need_21 : decode b_L_need 21 = .ok (.aload_n 0, 1) := by decide +kernel
theorem d_L_need_22 : decode b_L_need 22 = .ok (.getfield 7, 3) := by decide +kernel
theorem d_L_need_25 : decode b_L_need 25 = .ok (.iload_n 3, 1) := by decide +kernel
theorem d_L_need_26 : decode b_L_need 26 = .ok (.iaload, 1) := by decide +kernel
theorem d_L_need_27 : decode b_L_need 27 = .ok (.istore 6, 2) := by decide +kernel
theorem d_L_need_29 : decode b_L_need 29 = .ok (.iload 6, 2) := by decide +kernel
theorem d_L_need_31 : decode b_L_need 31 = .ok (.iconst 3, 1) := by decide +kernel
theorem d_L_need_32 : decode b_L_need 32 = .ok (.if_icmp .eq 10, 3) := by decide +kernel
theorem d_L_need_35 : decode b_L_need 35 = .ok (.iload 6, 2) := by decide +kernel
theorem d_L_need_37 : decode b_L_need 37 = .ok (.bipush 9, 2) := by decide +kernel
theorem d_L_need_39 : decode b_L_need 39 = .ok (.if_icmp .ne 45, 3) := by decide +kernel
theorem d_L_need_42 : decode b_L_need 42 = .ok (.iload_n 2, 1) := by decide +kernel
theorem d_L_need_43 : decode b_L_need 43 = .ok (.iload 4, 2) := by decide +kernel
theorem d_L_need_45 : decode b_L_need 45 = .ok (.if_icmp .gt 8, 3) := by decide +kernel
theorem d_L_need_48 : decode b_L_need 48 = .ok (.iload 5, 2) := by decide +kernel
theorem d_L_need_50 : decode b_L_need 50 = .ok (.iload_n 2, 1) := by decide +kernel
theorem d_L_need_51 : decode b_L_need 51 = .ok (.iadd, 1) := by decide +kernel
theorem d_L_need_52 : decode b_L_need 52 = .ok (.ireturn, 1) := by decide +kernel
theorem d_L_need_53 : decode b_L_need 53 = .ok (.iload_n 2, 1) := by decide +kernel
theorem d_L_need_54 : decode b_L_need 54 = .ok (.iconst 2, 1) := by decide +kernel
theorem d_L_need_55 : decode b_L_need 55 = .ok (.iload 4, 2) := by decide +kernel
theorem d_L_need_57 : decode b_L_need 57 = .ok (.imul, 1) := by decide +kernel
theorem d_L_need_58 : decode b_L_need 58 = .ok (.iconst 1, 1) := by decide +kernel
theorem d_L_need_59 : decode b_L_need 59 = .ok (.iadd, 1) := by decide +kernel
theorem d_L_need_60 : decode b_L_need 60 = .ok (.if_icmp .gt 22, 3) := by decide +kernel
theorem d_L_need_63 : decode b_L_need 63 = .ok (.bipush 16, 2) := by decide +kernel
theorem d_L_need_65 : decode b_L_need 65 = .ok (.aload_n 0, 1) := by decide +kernel
theorem d_L_need_66 : decode b_L_need 66 = .ok (.getfield 16, 3) := by decide +kernel
theorem d_L_need_69 : decode b_L_need 69 = .ok (.iload_n 3, 1) := by decide +kernel
theorem d_L_need_70 : decode b_L_need 70 = .ok (.iaload, 1) := by decide +kernel
theorem d_L_need_71 : decode b_L_need 71 = .ok (.imul, 1) := by decide +kernel
theorem d_L_need_72 : decode b_L_need 72 = .ok (.iload_n 2, 1) := by decide +kernel
theorem d_L_need_73 : decode b_L_need 73 = .ok (.iadd, 1) := by decide +kernel
theorem d_L_need_74 : decode b_L_need 74 = .ok (.iload 4, 2) := by decide +kernel
theorem d_L_need_76 : decode b_L_need 76 = .ok (.isub, 1) := by decide +kernel
theorem d_L_need_77 : decode b_L_need 77 = .ok (.iconst 1, 1) := by decide +kernel
theorem d_L_need_78 : decode b_L_need 78 = .ok (.isub, 1) := by decide +kernel
theorem d_L_need_79 : decode b_L_need 79 = .ok (.goto 4, 3) := by decide +kernel
theorem d_L_need_82 : decode b_L_need 82 = .ok (.iconst (-1), 1) := by decide +kernel
theorem d_L_need_83 : decode b_L_need 83 = .ok (.ireturn, 1) := by decide +kernel
theorem d_L_need_84 : decode b_L_need 84 = .ok (.iload 6, 2) := by decide +kernel
theorem d_L_need_86 : decode b_L_need 86 = .ok (.bipush 7, 2) := by decide +kernel
theorem d_L_need_88 : decode b_L_need 88 = .ok (.if_icmp .ne 38, 3) := by decide +kernel
theorem d_L_need_91 : decode b_L_need 91 = .ok (.iload_n 2, 1) := by decide +kernel
theorem d_L_need_92 : decode b_L_need 92 = .ok (.iload 4, 2) := by decide +kernel
theorem d_L_need_94 : decode b_L_need 94 = .ok (.if_icmp .gt 8, 3) := by decide +kernel
theorem d_L_need_97 : decode b_L_need 97 = .ok (.iload 5, 2) := by decide +kernel
theorem d_L_need_99 : decode b_L_need 99 = .ok (.iload_n 2, 1) := by decide +kernel
theorem d_L_need_100 : decode b_L_need 100 = .ok (.iadd, 1) := by decide +kernel
theorem d_L_need_101 : decode b_L_need 101 = .ok (.ireturn, 1) := by decide +kernel
theorem d_L_need_102 : decode b_L_need 102 = .ok (.iload_n 2, 1) := by decide +kernel
theorem d_L_need_103 : decode b_L_need 103 = .ok (.iconst 2, 1) := by decide +kernel
theorem d_L_need_104 : decode b_L_need 104 = .ok (.iload 4, 2) := by decide +kernel
theorem d_L_need_106 : decode b_L_need 106 = .ok (.imul, 1) := by decide +kernel
theorem d_L_need_107 : decode b_L_need 107 = .ok (.if_icmp .gt 17, 3) := by decide +kernel
theorem d_L_need_110 : decode b_L_need 110 = .ok (.bipush 16, 2) := by decide +kernel
theorem d_L_need_112 : decode b_L_need 112 = .ok (.iload_n 3, 1) := by decide +kernel
theorem d_L_need_113 : decode b_L_need 113 = .ok (.imul, 1) := by decide +kernel
theorem d_L_need_114 : decode b_L_need 114 = .ok (.iload_n 2, 1) := by decide +kernel
theorem d_L_need_115 : decode b_L_need 115 = .ok (.iadd, 1) := by decide +kernel
theorem d_L_need_116 : decode b_L_need 116 = .ok (.iload 4, 2) := by decide +kernel
theorem d_L_need_118 : decode b_L_need 118 = .ok (.isub, 1) := by decide +kernel
theorem d_L_need_119 : decode b_L_need 119 = .ok (.iconst 1, 1) := by decide +kernel
theorem d_L_need_120 : decode b_L_need 120 = .ok (.isub, 1) := by decide +kernel
theorem d_L_need_121 : decode b_L_need 121 = .ok (.goto 4, 3) := by decide +kernel
theorem d_L_need_124 : decode b_L_need 124 = .ok (.iconst (-1), 1) := by decide +kernel
theorem d_L_need_125 : decode b_L_need 125 = .ok (.ireturn, 1) := by decide +kernel
theorem d_L_need_126 : decode b_L_need 126 = .ok (.iload 6, 2) := by decide +kernel
theorem d_L_need_128 : decode b_L_need 128 = .ok (.iconst 2, 1) := by decide +kernel
theorem d_L_need_129 : decode b_L_need 129 = .ok (.if_icmp .ne 21, 3) := by decide +kernel
theorem d_L_need_132 : decode b_L_need 132 = .ok (.iload_n 2, 1) := by decide +kernel
theorem d_L_need_133 : decode b_L_need 133 = .ok (.iconst 1, 1) := by decide +kernel
theorem d_L_need_134 : decode b_L_need 134 = .ok (.if_icmp .ne 16, 3) := by decide +kernel
theorem d_L_need_137 : decode b_L_need 137 = .ok (.bipush 16, 2) := by decide +kernel
theorem d_L_need_139 : decode b_L_need 139 = .ok (.aload_n 0, 1) := by decide +kernel
theorem d_L_need_140 : decode b_L_need 140 = .ok (.getfield 16, 3) := by decide +kernel
theorem d_L_need_143 : decode b_L_need 143 = .ok (.iload_n 3, 1) := by decide +kernel
theorem d_L_need_144 : decode b_L_need 144 = .ok (.iaload, 1) := by decide +kernel
theorem d_L_need_145 : decode b_L_need 145 = .ok (.imul, 1) := by decide +kernel
theorem d_L_need_146 : decode b_L_need 146 = .ok (.iload 4, 2) := by decide +kernel
theorem d_L_need_148 : decode b_L_need 148 = .ok (.iadd, 1) := by decide +kernel
theorem d_L_need_149 : decode b_L_need 149 = .ok (.ireturn, 1) := by decide +kernel
theorem d_L_need_150 : decode b_L_need 150 = .ok (.iload_n 2, 1) := by decide +kernel
theorem d_L_need_151 : decode b_L_need 151 = .ok (.ifCond .gt 9, 3) := by decide +kernel
theorem d_L_need_154 : decode b_L_need 154 = .ok (.iload 6, 2) := by decide +kernel
theorem d_L_need_156 : decode b_L_need 156 = .ok (.iconst 1, 1) := by decide +kernel
theorem d_L_need_157 : decode b_L_need 157 = .ok (.if_icmp .gt 5, 3) := by decide +kernel
theorem d_L_need_160 : decode b_L_need 160 = .ok (.iconst (-1), 1) := by decide +kernel
theorem d_L_need_161 : decode b_L_need 161 = .ok (.ireturn, 1) := by decide +kernel
theorem d_L_need_162 : decode b_L_need 162 = .ok (.iload 6, 2) := by decide +kernel
theorem d_L_need_164 : decode b_L_need 164 = .ok (.iconst 5, 1) := by decide +kernel
theorem d_L_need_165 : decode b_L_need 165 = .ok (.if_icmp .ne 22, 3) := by decide +kernel
theorem d_L_need_168 : decode b_L_need 168 = .ok (.iload 4, 2) := by decide +kernel
theorem d_L_need_170 : decode b_L_need 170 = .ok (.bipush 15, 2) := by decide +kernel
theorem d_L_need_172 : decode b_L_need 172 = .ok (.if_icmp .ge 13, 3) := by decide +kernel
theorem d_L_need_175 : decode b_L_need 175 = .ok (.iload 5, 2) := by decide +kernel
theorem d_L_need_177 : decode b_L_need 177 = .ok (.iload 4, 2) := by decide +kernel
theorem d_L_need_179 : decode b_L_need 179 = .ok (.iadd, 1) := by decide +kernel
theorem d_L_need_180 : decode b_L_need 180 = .ok (.iconst 1, 1) := by decide +kernel
theorem d_L_need_181 : decode b_L_need 181 = .ok (.iadd, 1) := by decide +kernel
theorem d_L_need_182 : decode b_L_need 182 = .ok (.goto 4, 3) := by decide +kernel
theorem d_L_need_185 : decode b_L_need 185 = .ok (.iconst (-1), 1) := by decide +kernel
theorem d_L_need_186 : decode b_L_need 186 = .ok (.ireturn, 1) := by decide +kernel
theorem d_L_need_187 : decode b_L_need 187 = .ok (.iload 6, 2) := by decide +kernel
theorem d_L_need_189 : decode b_L_need 189 = .ok (.bipush 6, 2) := by decide +kernel
theorem d_L_need_191 : decode b_L_need 191 = .ok (.if_icmp .eq 10, 3) := by decide +kernel
theorem d_L_need_194 : decode b_L_need 194 = .ok (.iload 6, 2) := by decide +kernel
theorem d_L_need_196 : decode b_L_need 196 = .ok (.bipush 8, 2) := by decide +kernel
theorem d_L_need_198 : decode b_L_need 198 = .ok (.if_icmp .ne 20, 3) := by decide +kernel
theorem d_L_need_201 : decode b_L_need 201 = .ok (.iload 4, 2) := by decide +kernel
theorem d_L_need_203 : decode b_L_need 203 = .ok (.ifCond .le 13, 3) := by decide +kernel
theorem d_L_need_206 : decode b_L_need 206 = .ok (.iload 5, 2) := by decide +kernel
theorem d_L_need_208 : decode b_L_need 208 = .ok (.iload 4, 2) := by decide +kernel
theorem d_L_need_210 : decode b_L_need 210 = .ok (.iadd, 1) := by decide +kernel
theorem d_L_need_211 : decode b_L_need 211 = .ok (.iconst 1, 1) := by decide +kernel
theorem d_L_need_212 : decode b_L_need 212 = .ok (.isub, 1) := by decide +kernel
theorem d_L_need_213 : decode b_L_need 213 = .ok (.goto 4, 3) := by decide +kernel
theorem d_L_need_216 : decode b_L_need 216 = .ok (.iconst (-1), 1) := by decide +kernel
theorem d_L_need_217 : decode b_L_need 217 = .ok (.ireturn, 1) := by decide +kernel
theorem d_L_need_218 : decode b_L_need 218 = .ok (.iload 5, 2) := by decide +kernel
theorem d_L_need_220 : decode b_L_need 220 = .ok (.iload 4, 2) := by decide +kernel
theorem d_L_need_222 : decode b_L_need 222 = .ok (.iadd, 1) := by decide +kernel
theorem d_L_need_223 : decode b_L_need 223 = .ok (.ireturn, 1) := by decide +kernel
theorem d_L_force_0 : decode b_L_force 0 = .ok (.aload_n 0, 1) := by decide +kernel
theorem d_L_force_1 : decode b_L_force 1 = .ok (.getfield 19, 3) := by decide +kernel
theorem d_L_force_4 : decode b_L_force 4 = .ok (.iload_n 1, 1) := by decide +kernel
theorem d_L_force_5 : decode b_L_force 5 = .ok (.iaload, 1) := by decide +kernel
theorem d_L_force_6 : decode b_L_force 6 = .ok (.ifCond .eq 19, 3) := by decide +kernel
theorem d_L_force_9 : decode b_L_force 9 = .ok (.aload_n 0, 1) := by decide +kernel
theorem d_L_force_10 : decode b_L_force 10 = .ok (.getfield 19, 3) := by decide +kernel
theorem d_L_force_13 : decode b_L_force 13 = .ok (.iload_n 1, 1) := by decide +kernel
theorem d_L_force_14 : decode b_L_force 14 = .ok (.iaload, 1) := by decide +kernel
theorem d_L_force_15 : decode b_L_force 15 = .ok (.iconst 2, 1) := by decide +kernel
theorem d_L_force_16 : decode b_L_force 16 = .ok (.if_icmp .ne 7, 3) := by decide +kernel
theorem d_L_force_19 : decode b_L_force 19 = .ok (.iconst 1, 1) := by decide +kernel
theorem d_L_force_20 : decode b_L_force 20 = .ok (.goto 4, 3) := by decide +kernel
theorem d_L_force_23 : decode b_L_force 23 = .ok (.iconst 0, 1) := by decide +kernel
theorem d_L_force_24 : decode b_L_force 24 = .ok (.ireturn, 1) := by decide +kernel
theorem d_L_force_25 : decode b_L_force 25 = .ok (.iconst 0, 1) := by decide +kernel
theorem d_L_force_26 : decode b_L_force 26 = .ok (.istore_n 2, 1) := by decide +kernel
theorem d_L_force_27 : decode b_L_force 27 = .ok (.aload_n 0, 1) := by decide +kernel
theorem d_L_force_28 : decode b_L_force 28 = .ok (.iconst 0, 1) := by decide +kernel
theorem d_L_force_29 : decode b_L_force 29 = .ok (.iload_n 1, 1) := by decide +kernel
theorem d_L_force_30 : decode b_L_force 30 = .ok (.invokevirtual 52, 3) := by decide +kernel
theorem d_L_force_33 : decode b_L_force 33 = .ok (.iconst 0, 1) := by decide +kernel
theorem d_L_force_34 : decode b_L_force 34 = .ok (.istore_n 3, 1) := by decide +kernel
theorem d_L_force_35 : decode b_L_force 35 = .ok (.iload_n 3, 1) := by decide +kernel
theorem d_L_force_36 : decode b_L_force 36 = .ok (.sipush 20000, 3) := by decide +kernel
theorem d_L_force_39 : decode b_L_force 39 = .ok (.if_icmp .ge 126, 3) := by decide +kernel
theorem d_L_force_42 : decode b_L_force 42 = .ok (.iload_n 2, 1) := by decide +kernel
theorem d_L_force_43 : decode b_L_force 43 = .ok (.ifCond .lt 122, 3) := by decide +kernel
theorem d_L_force_46 : decode b_L_force 46 = .ok (.aload_n 0, 1) := by decide +kernel
theorem d_L_force_47 : decode b_L_force 47 = .ok (.getfield 25, 3) := by decide +kernel
theorem d_L_force_50 : decode b_L_force 50 = .ok (.iload_n 2, 1) := by decide +kernel
theorem d_L_force_51 : decode b_L_force 51 = .ok (.iaload, 1) := by decide +kernel
theorem d_L_force_52 : decode b_L_force 52 = .ok (.istore 4, 2) := by decide +kernel
theorem d_L_force_54 : decode b_L_force 54 = .ok (.aload_n 0, 1) := by decide +kernel
theorem d_L_force_55 : decode b_L_force 55 = .ok (.iload 4, 2) := by decide +kernel
theorem d_L_force_57 : decode b_L_force 57 = .ok (.aload_n 0, 1) := by decide +kernel
theorem d_L_force_58 : decode b_L_force 58 = .ok (.getfield 28, 3) := by decide +kernel
theorem d_L_force_61 : decode b_L_force 61 = .ok (.iload_n 2, 1) := by decide +kernel
theorem d_L_force_62 : decode b_L_force 62 = .ok (.iaload, 1) := by decide +kernel
theorem d_L_force_63 : decode b_L_force 63 = .ok (.invokevirtual 48, 3) := by decide +kernel
theorem d_L_force_66 : decode b_L_force 66 = .ok (.istore 5, 2) := by decide +kernel
theorem d_L_force_68 : decode b_L_force 68 = .ok (.iload 5, 2) := by decide +kernel
theorem d_L_force_70 : decode b_L_force 70 = .ok (.iconst (-1), 1) := by decide +kernel
theorem d_L_force_71 : decode b_L_force 71 = .ok (.if_icmp .ne 30, 3) := by decide +kernel
theorem d_L_force_74 : decode b_L_force 74 = .ok (.aload_n 0, 1) := by decide +kernel
theorem d_L_force_75 : decode b_L_force 75 = .ok (.getfield 19, 3) := by decide +kernel
theorem d_L_force_78 : decode b_L_force 78 = .ok (.iload 4, 2) := by decide +kernel
theorem d_L_force_80 : decode b_L_force 80 = .ok (.aload_n 0, 1) := by decide +kernel
theorem d_L_force_81 : decode b_L_force 81 = .ok (.iload 4, 2) := by decide +kernel
theorem d_L_force_83 : decode b_L_force 83 = .ok (.invokevirtual 56, 3) := by decide +kernel
theorem d_L_force_86 : decode b_L_force 86 = .ok (.ifCond .eq 7, 3) := by decide +kernel
theorem d_L_force_89 : decode b_L_force 89 = .ok (.iconst 2, 1) := by decide +kernel
theorem d_L_force_90 : decode b_L_force 90 = .ok (.goto 4, 3) := by decide +kernel
theorem d_L_force_93 : decode b_L_force 93 = .ok (.iconst 3, 1) := by decide +kernel
theorem d_L_force_94 : decode b_L_force 94 = .ok (.iastore, 1) := by decide +kernel
theorem d_L_force_95 : decode b_L_force 95 = .ok (.iinc 2 (-1), 3) := by decide +kernel
theorem d_L_force_98 : decode b_L_force 98 = .ok (.goto 61, 3) := by decide +kernel
theorem d_L_force_101 : decode b_L_force 101 = .ok (.aload_n 0, 1) := by decide +kernel
theorem d_L_force_102 : decode b_L_force 102 = .ok (.getfield 19, 3) := by decide +kernel
theorem d_L_force_105 : decode b_L_force 105 = .ok (.iload 5, 2) := by decide +kernel
theorem d_L_force_107 : decode b_L_force 107 = .ok (.iaload, 1) := by decide +kernel
theorem d_L_force_108 : decode b_L_force 108 = .ok (.iconst 2, 1) := by decide +kernel
theorem d_L_force_109 : decode b_L_force 109 = .ok (.if_icmp .ne 16, 3) := by decide +kernel
theorem d_L_force_112 : decode b_L_force 112 = .ok (.aload_n 0, 1) := by decide +kernel
theorem d_L_force_113 : decode b_L_force 113 = .ok (.getfield 28, 3) := by decide +kernel
theorem d_L_force_116 : decode b_L_force 116 = .ok (.iload_n 2, 1) := by decide +kernel
theorem d_L_force_117 : decode b_L_force 117 = .ok (.dup2, 1) := by decide +kernel
theorem d_L_force_118 : decode b_L_force 118 = .ok (.iaload, 1) := by decide +kernel
theorem d_L_force_119 : decode b_L_force 119 = .ok (.iconst 1, 1) := by decide +kernel
theorem d_L_force_120 : decode b_L_force 120 = .ok (.iadd, 1) := by decide +kernel
theorem d_L_force_121 : decode b_L_force 121 = .ok (.iastore, 1) := by decide +kernel
theorem d_L_force_122 : decode b_L_force 122 = .ok (.goto 37, 3) := by decide +kernel
theorem d_L_force_125 : decode b_L_force 125 = .ok (.aload_n 0, 1) := by decide +kernel
theorem d_L_force_126 : decode b_L_force 126 = .ok (.getfield 19, 3) := by decide +kernel
theorem d_L_force_129 : decode b_L_force 129 = .ok (.iload 5, 2) := by decide +kernel
theorem d_L_force_131 : decode b_L_force 131 = .ok (.iaload, 1) := by decide +kernel
theorem d_L_force_132 : decode b_L_force 132 = .ok (.ifCond .ne 16, 3) := by decide +kernel
theorem d_L_force_135 : decode b_L_force 135 = .ok (.iinc 2 1, 3) := by decide +kernel
theorem d_L_force_138 : decode b_L_force 138 = .ok (.aload_n 0, 1) := by decide +kernel
theorem d_L_force_139 : decode b_L_force 139 = .ok (.iload_n 2, 1) := by decide +kernel
theorem d_L_force_140 : decode b_L_force 140 = .ok (.iload 5, 2) := by decide +kernel
theorem d_L_force_142 : decode b_L_force 142 = .ok (.invokevirtual 52, 3) := by decide +kernel
theorem d_L_force_145 : decode b_L_force 145 = .ok (.goto 14, 3) := by decide +kernel
theorem d_L_force_148 : decode b_L_force 148 = .ok (.aload_n 0, 1) := by decide +kernel
theorem d_L_force_149 : decode b_L_force 149 = .ok (.getfield 19, 3) := by decide +kernel
theorem d_L_force_152 : decode b_L_force 152 = .ok (.iload 4, 2) := by decide +kernel
theorem d_L_force_154 : decode b_L_force 154 = .ok (.iconst 3, 1) := by decide +kernel
theorem d_L_force_155 : decode b_L_force 155 = .ok (.iastore, 1) := by decide +kernel
theorem d_L_force_156 : decode b_L_force 156 = .ok (.iinc 2 (-1), 3) := by decide +kernel
theorem d_L_force_159 : decode b_L_force 159 = .ok (.iinc 3 1, 3) := by decide +kernel
theorem d_L_force_162 : decode b_L_force 162 = .ok (.goto (-127), 3) := by decide +kernel
theorem d_L_force_165 : decode b_L_force 165 = .ok (.aload_n 0, 1) := by decide +kernel
theorem d_L_force_166 : decode b_L_force 166 = .ok (.getfield 19, 3) := by decide +kernel
theorem d_L_force_169 : decode b_L_force 169 = .ok (.iload_n 1, 1) := by decide +kernel
theorem d_L_force_170 : decode b_L_force 170 = .ok (.iaload, 1) := by decide +kernel
theorem d_L_force_171 : decode b_L_force 171 = .ok (.iconst 2, 1) := by decide +kernel
theorem d_L_force_172 : decode b_L_force 172 = .ok (.if_icmp .ne 7, 3) := by decide +kernel
theorem d_L_force_175 : decode b_L_force 175 = .ok (.iconst 1, 1) := by decide +kernel
theorem d_L_force_176 : decode b_L_force 176 = .ok (.goto 4, 3) := by decide +kernel
theorem d_L_force_179 : decode b_L_force 179 = .ok (.iconst 0, 1) := by decide +kernel
theorem d_L_force_180 : decode b_L_force 180 = .ok (.ireturn, 1) := by decide +kernel
theorem d_L_enter_0 : decode b_L_enter 0 = .ok (.aload_n 0, 1) := by decide +kernel
theorem d_L_enter_1 : decode b_L_enter 1 = .ok (.getfield 25, 3) := by decide +kernel
theorem d_L_enter_4 : decode b_L_enter 4 = .ok (.iload_n 1, 1) := by decide +kernel
theorem d_L_enter_5 : decode b_L_enter 5 = .ok (.iload_n 2, 1) := by decide +kernel
theorem d_L_enter_6 : decode b_L_enter 6 = .ok (.iastore, 1) := by decide +kernel
theorem d_L_enter_7 : decode b_L_enter 7 = .ok (.aload_n 0, 1) := by decide +kernel
theorem d_L_enter_8 : decode b_L_enter 8 = .ok (.getfield 28, 3) := by decide +kernel
theorem d_L_enter_11 : decode b_L_enter 11 = .ok (.iload_n 1, 1) := by decide +kernel
theorem d_L_enter_12 : decode b_L_enter 12 = .ok (.iconst 0, 1) := by decide +kernel
theorem d_L_enter_13 : decode b_L_enter 13 = .ok (.iastore, 1) := by decide +kernel
theorem d_L_enter_14 : decode b_L_enter 14 = .ok (.aload_n 0, 1) := by decide +kernel
theorem d_L_enter_15 : decode b_L_enter 15 = .ok (.getfield 19, 3) := by decide +kernel
theorem d_L_enter_18 : decode b_L_enter 18 = .ok (.iload_n 2, 1) := by decide +kernel
theorem d_L_enter_19 : decode b_L_enter 19 = .ok (.iconst 1, 1) := by decide +kernel
theorem d_L_enter_20 : decode b_L_enter 20 = .ok (.iastore, 1) := by decide +kernel
theorem d_L_enter_21 : decode b_L_enter 21 = .ok (.return_, 1) := by decide +kernel
theorem d_L_compute_0 : decode b_L_compute 0 = .ok (.iload_n 1, 1) := by decide +kernel
theorem d_L_compute_1 : decode b_L_compute 1 = .ok (.iconst 4, 1) := by decide +kernel
theorem d_L_compute_2 : decode b_L_compute 2 = .ok (.ishr, 1) := by decide +kernel
theorem d_L_compute_3 : decode b_L_compute 3 = .ok (.istore_n 2, 1) := by decide +kernel
theorem d_L_compute_4 : decode b_L_compute 4 = .ok (.iload_n 1, 1) := by decide +kernel
theorem d_L_compute_5 : decode b_L_compute 5 = .ok (.bipush 15, 2) := by decide +kernel
theorem d_L_compute_7 : decode b_L_compute 7 = .ok (.iand, 1) := by decide +kernel
theorem d_L_compute_8 : decode b_L_compute 8 = .ok (.istore_n 3, 1) := by decide +kernel
theorem d_L_compute_9 : decode b_L_compute 9 = .ok (.bipush 16, 2) := by decide +kernel
theorem d_L_compute_11 : decode b_L_compute 11 = .ok (.aload_n 0, 1) := by decide +kernel
theorem d_L_compute_12 : decode b_L_compute 12 = .ok (.getfield 13, 3) := by decide +kernel
theorem d_L_compute_15 : decode b_L_compute 15 = .ok (.iload_n 2, 1) := by decide +kernel
theorem d_L_compute_16 : decode b_L_compute 16 = .ok (.iaload, 1) := by decide +kernel
theorem d_L_compute_17 : decode b_L_compute 17 = .ok (.imul, 1) := by decide +kernel
theorem d_L_compute_18 : decode b_L_compute 18 = .ok (.istore 4, 2) := by decide +kernel
theorem d_L_compute_20 : decode b_L_compute 20 = .ok (.aload_n 0, 1) := by decide +kernel
theorem d_L_compute_21 : decode b_L_compute 21 = .ok (.getfield 16, 3) := by decide +kernel
theorem d_L_compute_24 : decode b_L_compute 24 = .ok (.iload_n 2, 1) := by decide +kernel
theorem d_L_compute_25 : decode b_L_compute 25 = .ok (.iaload, 1) := by decide +kernel
theorem d_L_compute_26 : decode b_L_compute 26 = .ok (.istore 5, 2) := by decide +kernel
theorem d_L_compute_28 : decode b_L_compute 28 = .ok (.aload_n 0, 1) := by decide +kernel
theorem d_L_compute_29 : decode b_L_compute 29 = .ok (.getfield 7, 3) := by decide +kernel
theorem d_L_compute_32 : decode b_L_compute 32 = .ok (.iload_n 2, 1) := by decide +kernel
theorem d_L_compute_33 : decode b_L_compute 33 = .ok (.iaload, 1) := by decide +kernel
theorem d_L_compute_34 : decode b_L_compute 34 = .ok (.istore 6, 2) := by decide +kernel
theorem d_L_compute_36 : decode b_L_compute 36 = .ok (.iconst 0, 1) := by decide +kernel
theorem d_L_compute_37 : decode b_L_compute 37 = .ok (.istore 7, 2) := by decide +kernel
theorem d_L_compute_39 : decode b_L_compute 39 = .ok (.iload 6, 2) := by decide +kernel
theorem d_L_compute_41 : decode b_L_compute 41 = .ok (.ifCond .ne 18, 3) := by decide +kernel
theorem d_L_compute_44 : decode b_L_compute 44 = .ok (.iload_n 3, 1) := by decide +kernel
theorem d_L_compute_45 : decode b_L_compute 45 = .ok (.ifCond .ne 8, 3) := by decide +kernel
theorem d_L_compute_48 : decode b_L_compute 48 = .ok (.iload 5, 2) := by decide +kernel
theorem d_L_compute_50 : decode b_L_compute 50 = .ok (.goto 4, 3) := by decide +kernel
theorem d_L_compute_53 : decode b_L_compute 53 = .ok (.iconst 0, 1) := by decide +kernel
theorem d_L_compute_54 : decode b_L_compute 54 = .ok (.istore 7, 2) := by decide +kernel
theorem d_L_compute_56 : decode b_L_compute 56 = .ok (.goto 191, 3) := by decide +kernel
theorem d_L_compute_59 : decode b_L_compute 59 = .ok (.iload 6, 2) := by decide +kernel
theorem d_L_compute_61 : decode b_L_compute 61 = .ok (.iconst 1, 1) := by decide +kernel
theorem d_L_compute_62 : decode b_L_compute 62 = .ok (.if_icmp .ne 18, 3) := by decide +kernel
theorem d_L_compute_65 : decode b_L_compute 65 = .ok (.iload_n 3, 1) := by decide +kernel
theorem d_L_compute_66 : decode b_L_compute 66 = .ok (.iconst 1, 1) := by decide +kernel
theorem d_L_compute_67 : decode b_L_compute 67 = .ok (.if_icmp .ne 7, 3) := by decide +kernel
theorem d_L_compute_70 : decode b_L_compute 70 = .ok (.iconst 1, 1) := by decide +kernel
theorem d_L_compute_71 : decode b_L_compute 71 = .ok (.goto 4, 3) := by decide +kernel
theorem d_L_compute_74 : decode b_L_compute 74 = .ok (.iconst 0, 1) := by decide +kernel
theorem d_L_compute_75 : decode b_L_compute 75 = .ok (.istore 7, 2) := by decide +kernel
theorem d_L_compute_77 : decode b_L_compute 77 = .ok (.goto 170, 3) := by decide +kernel
theorem d_L_compute_80 : decode b_L_compute 80 = .ok (.iload 6, 2) := by decide +kernel
theorem d_L_compute_82 : decode b_L_compute 82 = .ok (.iconst 2, 1) := by decide +kernel
theorem d_L_compute_83 : decode b_L_compute 83 = .ok (.if_icmp .ne 30, 3) := by decide +kernel
theorem d_L_compute_86 : decode b_L_compute 86 = .ok (.aload_n 0, 1) := by decide +kernel
theorem d_L_compute_87 : decode b_L_compute 87 = .ok (.getfield 22, 3) := by decide +kernel
theorem d_L_compute_90 : decode b_L_compute 90 = .ok (.iload 4, 2) := by decide +kernel
theorem d_L_compute_92 : decode b_L_compute 92 = .ok (.iload_n 3, 1) := by decide +kernel
theorem d_L_compute_93 : decode b_L_compute 93 = .ok (.iadd, 1) := by decide +kernel
theorem d_L_compute_94 : decode b_L_compute 94 = .ok (.iaload, 1) := by decide +kernel
theorem d_L_compute_95 : decode b_L_compute 95 = .ok (.aload_n 0, 1) := by decide +kernel
theorem d_L_compute_96 : decode b_L_compute 96 = .ok (.getfield 22, 3) := by decide +kernel
theorem d_L_compute_99 : decode b_L_compute 99 = .ok (.bipush 16, 2) := by decide +kernel
theorem d_L_compute_101 : decode b_L_compute 101 = .ok (.iload 5, 2) := by decide +kernel
theorem d_L_compute_103 : decode b_L_compute 103 = .ok (.imul, 1) := by decide +kernel
theorem d_L_compute_104 : decode b_L_compute 104 = .ok (.iload_n 3, 1) := by decide +kernel
theorem d_L_compute_105 : decode b_L_compute 105 = .ok (.iadd, 1) := by decide +kernel
theorem d_L_compute_106 : decode b_L_compute 106 = .ok (.iaload, 1) := by decide +kernel
theorem d_L_compute_107 : decode b_L_compute 107 = .ok (.iadd, 1) := by decide +kernel
theorem d_L_compute_108 : decode b_L_compute 108 = .ok (.istore 7, 2) := by decide +kernel
theorem d_L_compute_110 : decode b_L_compute 110 = .ok (.goto 137, 3) := by decide +kernel
theorem d_L_compute_113 : decode b_L_compute 113 = .ok (.iload 6, 2) := by decide +kernel
theorem d_L_compute_115 : decode b_L_compute 115 = .ok (.iconst 4, 1) := by decide +kernel
theorem d_L_compute_116 : decode b_L_compute 116 = .ok (.if_icmp .ne 20, 3) := by decide +kernel
theorem d_L_compute_119 : decode b_L_compute 119 = .ok (.iload 5, 2) := by decide +kernel
theorem d_L_compute_121 : decode b_L_compute 121 = .ok (.aload_n 0, 1) := by decide +kernel
theorem d_L_compute_122 : decode b_L_compute 122 = .ok (.getfield 22, 3) := by decide +kernel
theorem d_L_compute_125 : decode b_L_compute 125 = .ok (.iload 4, 2) := by decide +kernel
theorem d_L_compute_127 : decode b_L_compute 127 = .ok (.iload_n 3, 1) := by decide +kernel
theorem d_L_compute_128 : decode b_L_compute 128 = .ok (.iadd, 1) := by decide +kernel
theorem d_L_compute_129 : decode b_L_compute 129 = .ok (.iaload, 1) := by decide +kernel
theorem d_L_compute_130 : decode b_L_compute 130 = .ok (.imul, 1) := by decide +kernel
theorem d_L_compute_131 : decode b_L_compute 131 = .ok (.istore 7, 2) := by decide +kernel
theorem d_L_compute_133 : decode b_L_compute 133 = .ok (.goto 114, 3) := by decide +kernel
theorem d_L_compute_136 : decode b_L_compute 136 = .ok (.iload 6, 2) := by decide +kernel
theorem d_L_compute_138 : decode b_L_compute 138 = .ok (.iconst 5, 1) := by decide +kernel
theorem d_L_compute_139 : decode b_L_compute 139 = .ok (.if_icmp .ne 31, 3) := by decide +kernel
theorem d_L_compute_142 : decode b_L_compute 142 = .ok (.iload_n 3, 1) := by decide +kernel
theorem d_L_compute_143 : decode b_L_compute 143 = .ok (.bipush 15, 2) := by decide +kernel
theorem d_L_compute_145 : decode b_L_compute 145 = .ok (.if_icmp .ne 5, 3) := by decide +kernel
theorem d_L_compute_148 : decode b_L_compute 148 = .ok (.iconst 0, 1) := by decide +kernel
theorem d_L_compute_149 : decode b_L_compute 149 = .ok (.ireturn, 1) := by decide +kernel
theorem d_L_compute_150 : decode b_L_compute 150 = .ok (.iload_n 3, 1) := by decide +kernel
theorem d_L_compute_151 : decode b_L_compute 151 = .ok (.iconst 1, 1) := by decide +kernel
theorem d_L_compute_152 : decode b_L_compute 152 = .ok (.iadd, 1) := by decide +kernel
theorem d_L_compute_153 : decode b_L_compute 153 = .ok (.aload_n 0, 1) := by decide +kernel
theorem d_L_compute_154 : decode b_L_compute 154 = .ok (.getfield 22, 3) := by decide +kernel
theorem d_L_compute_157 : decode b_L_compute 157 = .ok (.iload 4, 2) := by decide +kernel
theorem d_L_compute_159 : decode b_L_compute 159 = .ok (.iload_n 3, 1) := by decide +kernel
theorem d_L_compute_160 : decode b_L_compute 160 = .ok (.iadd, 1) := by decide +kernel
theorem d_L_compute_161 : decode b_L_compute 161 = .ok (.iconst 1, 1) := by decide +kernel
theorem d_L_compute_162 : decode b_L_compute 162 = .ok (.iadd, 1) := by decide +kernel
theorem d_L_compute_163 : decode b_L_compute 163 = .ok (.iaload, 1) := by decide +kernel
theorem d_L_compute_164 : decode b_L_compute 164 = .ok (.imul, 1) := by decide +kernel
theorem d_L_compute_165 : decode b_L_compute 165 = .ok (.istore 7, 2) := by decide +kernel
theorem d_L_compute_167 : decode b_L_compute 167 = .ok (.goto 80, 3) := by decide +kernel
theorem d_L_compute_170 : decode b_L_compute 170 = .ok (.iload 6, 2) := by decide +kernel
theorem d_L_compute_172 : decode b_L_compute 172 = .ok (.bipush 6, 2) := by decide +kernel
theorem d_L_compute_174 : decode b_L_compute 174 = .ok (.if_icmp .ne 35, 3) := by decide +kernel
theorem d_L_compute_177 : decode b_L_compute 177 = .ok (.iload_n 3, 1) := by decide +kernel
theorem d_L_compute_178 : decode b_L_compute 178 = .ok (.ifCond .ne 8, 3) := by decide +kernel
theorem d_L_compute_181 : decode b_L_compute 181 = .ok (.iload 5, 2) := by decide +kernel
theorem d_L_compute_183 : decode b_L_compute 183 = .ok (.goto 21, 3) := by decide +kernel
theorem d_L_compute_186 : decode b_L_compute 186 = .ok (.aload_n 0, 1) := by decide +kernel
theorem d_L_compute_187 : decode b_L_compute 187 = .ok (.getfield 22, 3) := by decide +kernel
theorem d_L_compute_190 : decode b_L_compute 190 = .ok (.iload 4, 2) := by decide +kernel
theorem d_L_compute_192 : decode b_L_compute 192 = .ok (.iload_n 3, 1) := by decide +kernel
theorem d_L_compute_193 : decode b_L_compute 193 = .ok (.iadd, 1) := by decide +kernel
theorem d_L_compute_194 : decode b_L_compute 194 = .ok (.iconst 1, 1) := by decide +kernel
theorem d_L_compute_195 : decode b_L_compute 195 = .ok (.isub, 1) := by decide +kernel
theorem d_L_compute_196 : decode b_L_compute 196 = .ok (.iaload, 1) := by decide +kernel
theorem d_L_compute_197 : decode b_L_compute 197 = .ok (.aload_n 0, 1) := by decide +kernel
theorem d_L_compute_198 : decode b_L_compute 198 = .ok (.getfield 34, 3) := by decide +kernel
theorem d_L_compute_201 : decode b_L_compute 201 = .ok (.iload_n 3, 1) := by decide +kernel
theorem d_L_compute_202 : decode b_L_compute 202 = .ok (.iaload, 1) := by decide +kernel
theorem d_L_compute_203 : decode b_L_compute 203 = .ok (.imul, 1) := by decide +kernel
theorem d_L_compute_204 : decode b_L_compute 204 = .ok (.istore 7, 2) := by decide +kernel
theorem d_L_compute_206 : decode b_L_compute 206 = .ok (.goto 41, 3) := by decide +kernel
theorem d_L_compute_209 : decode b_L_compute 209 = .ok (.iload 6, 2) := by decide +kernel
theorem d_L_compute_211 : decode b_L_compute 211 = .ok (.bipush 8, 2) := by decide +kernel
theorem d_L_compute_213 : decode b_L_compute 213 = .ok (.if_icmp .ne 28, 3) := by decide +kernel
theorem d_L_compute_216 : decode b_L_compute 216 = .ok (.iload_n 3, 1) := by decide +kernel
theorem d_L_compute_217 : decode b_L_compute 217 = .ok (.ifCond .ne 8, 3) := by decide +kernel
theorem d_L_compute_220 : decode b_L_compute 220 = .ok (.iload 5, 2) := by decide +kernel
theorem d_L_compute_222 : decode b_L_compute 222 = .ok (.goto 14, 3) := by decide +kernel
theorem d_L_compute_225 : decode b_L_compute 225 = .ok (.aload_n 0, 1) := by decide +kernel
theorem d_L_compute_226 : decode b_L_compute 226 = .ok (.getfield 22, 3) := by decide +kernel
theorem d_L_compute_229 : decode b_L_compute 229 = .ok (.iload 4, 2) := by decide +kernel
theorem d_L_compute_231 : decode b_L_compute 231 = .ok (.iload_n 3, 1) := by decide +kernel
theorem d_L_compute_232 : decode b_L_compute 232 = .ok (.iadd, 1) := by decide +kernel
theorem d_L_compute_233 : decode b_L_compute 233 = .ok (.iconst 1, 1) := by decide +kernel
theorem d_L_compute_234 : decode b_L_compute 234 = .ok (.isub, 1) := by decide +kernel
theorem d_L_compute_235 : decode b_L_compute 235 = .ok (.iaload, 1) := by decide +kernel
theorem d_L_compute_236 : decode b_L_compute 236 = .ok (.istore 7, 2) := by decide +kernel
theorem d_L_compute_238 : decode b_L_compute 238 = .ok (.goto 9, 3) := by decide +kernel
theorem d_L_compute_241 : decode b_L_compute 241 = .ok (.aload_n 0, 1) := by decide +kernel
theorem d_L_compute_242 : decode b_L_compute 242 = .ok (.iload_n 1, 1) := by decide +kernel
theorem d_L_compute_243 : decode b_L_compute 243 = .ok (.invokevirtual 59, 3) := by decide +kernel
theorem d_L_compute_246 : decode b_L_compute 246 = .ok (.ireturn, 1) := by decide +kernel
theorem d_L_compute_247 : decode b_L_compute 247 = .ok (.aload_n 0, 1) := by decide +kernel
theorem d_L_compute_248 : decode b_L_compute 248 = .ok (.getfield 22, 3) := by decide +kernel
theorem d_L_compute_251 : decode b_L_compute 251 = .ok (.iload_n 1, 1) := by decide +kernel
theorem d_L_compute_252 : decode b_L_compute 252 = .ok (.iload 7, 2) := by decide +kernel
theorem d_L_compute_254 : decode b_L_compute 254 = .ok (.bipush 97, 2) := by decide +kernel
theorem d_L_compute_256 : decode b_L_compute 256 = .ok (.irem, 1) := by decide +kernel
theorem d_L_compute_257 : decode b_L_compute 257 = .ok (.iastore, 1) := by decide +kernel
theorem d_L_compute_258 : decode b_L_compute 258 = .ok (.iconst 1, 1) := by decide +kernel
theorem d_L_compute_259 : decode b_L_compute 259 = .ok (.ireturn, 1) := by decide +kernel
theorem d_L_computeLong_0 : decode b_L_computeLong 0 = .ok (.iload_n 1, 1) := by decide +kernel
theorem d_L_computeLong_1 : decode b_L_computeLong 1 = .ok (.iconst 4, 1) := by decide +kernel
theorem d_L_computeLong_2 : decode b_L_computeLong 2 = .ok (.ishr, 1) := by decide +kernel
theorem d_L_computeLong_3 : decode b_L_computeLong 3 = .ok (.istore_n 2, 1) := by decide +kernel
theorem d_L_computeLong_4 : decode b_L_computeLong 4 = .ok (.iload_n 1, 1) := by decide +kernel
theorem d_L_computeLong_5 : decode b_L_computeLong 5 = .ok (.bipush 15, 2) := by decide +kernel
theorem d_L_computeLong_7 : decode b_L_computeLong 7 = .ok (.iand, 1) := by decide +kernel
theorem d_L_computeLong_8 : decode b_L_computeLong 8 = .ok (.istore_n 3, 1) := by decide +kernel
theorem d_L_computeLong_9 : decode b_L_computeLong 9 = .ok (.bipush 16, 2) := by decide +kernel
theorem d_L_computeLong_11 : decode b_L_computeLong 11 = .ok (.aload_n 0, 1) := by decide +kernel
theorem d_L_computeLong_12 : decode b_L_computeLong 12 = .ok (.getfield 13, 3) := by decide +kernel
theorem d_L_computeLong_15 : decode b_L_computeLong 15 = .ok (.iload_n 2, 1) := by decide +kernel
theorem d_L_computeLong_16 : decode b_L_computeLong 16 = .ok (.iaload, 1) := by decide +kernel
theorem d_L_computeLong_17 : decode b_L_computeLong 17 = .ok (.imul, 1) := by decide +kernel
theorem d_L_computeLong_18 : decode b_L_computeLong 18 = .ok (.istore 4, 2) := by decide +kernel
theorem d_L_computeLong_20 : decode b_L_computeLong 20 = .ok (.bipush 16, 2) := by decide +kernel
theorem d_L_computeLong_22 : decode b_L_computeLong 22 = .ok (.aload_n 0, 1) := by decide +kernel
theorem d_L_computeLong_23 : decode b_L_computeLong 23 = .ok (.getfield 16, 3) := by decide +kernel
theorem d_L_computeLong_26 : decode b_L_computeLong 26 = .ok (.iload_n 2, 1) := by decide +kernel
theorem d_L_computeLong_27 : decode b_L_computeLong 27 = .ok (.iaload, 1) := by decide +kernel
theorem d_L_computeLong_28 : decode b_L_computeLong 28 = .ok (.imul, 1) := by decide +kernel
theorem d_L_computeLong_29 : decode b_L_computeLong 29 = .ok (.istore 5, 2) := by decide +kernel
theorem d_L_computeLong_31 : decode b_L_computeLong 31 = .ok (.aload_n 0, 1) := by decide +kernel
theorem d_L_computeLong_32 : decode b_L_computeLong 32 = .ok (.getfield 7, 3) := by decide +kernel
theorem d_L_computeLong_35 : decode b_L_computeLong 35 = .ok (.iload_n 2, 1) := by decide +kernel
theorem d_L_computeLong_36 : decode b_L_computeLong 36 = .ok (.iaload, 1) := by decide +kernel
theorem d_L_computeLong_37 : decode b_L_computeLong 37 = .ok (.iconst 3, 1) := by decide +kernel
theorem d_L_computeLong_38 : decode b_L_computeLong 38 = .ok (.if_icmp .ne 21, 3) := by decide +kernel
theorem d_L_computeLong_41 : decode b_L_computeLong 41 = .ok (.aload_n 0, 1) := by decide +kernel
theorem d_L_computeLong_42 : decode b_L_computeLong 42 = .ok (.getfield 22, 3) := by decide +kernel
theorem d_L_computeLong_45 : decode b_L_computeLong 45 = .ok (.iload_n 1, 1) := by decide +kernel
theorem d_L_computeLong_46 : decode b_L_computeLong 46 = .ok (.aload_n 0, 1) := by decide +kernel
theorem d_L_computeLong_47 : decode b_L_computeLong 47 = .ok (.iload 4, 2) := by decide +kernel
theorem d_L_computeLong_49 : decode b_L_computeLong 49 = .ok (.iload 5, 2) := by decide +kernel
theorem d_L_computeLong_51 : decode b_L_computeLong 51 = .ok (.iconst 0, 1) := by decide +kernel
theorem d_L_computeLong_52 : decode b_L_computeLong 52 = .ok (.iload_n 3, 1) := by decide +kernel
theorem d_L_computeLong_53 : decode b_L_computeLong 53 = .ok (.invokevirtual 62, 3) := by decide +kernel
theorem d_L_computeLong_56 : decode b_L_computeLong 56 = .ok (.iastore, 1) := by decide +kernel
theorem d_L_computeLong_57 : decode b_L_computeLong 57 = .ok (.iconst 1, 1) := by decide +kernel
theorem d_L_computeLong_58 : decode b_L_computeLong 58 = .ok (.ireturn, 1) := by decide +kernel
theorem d_L_computeLong_59 : decode b_L_computeLong 59 = .ok (.aload_n 0, 1) := by decide +kernel
theorem d_L_computeLong_60 : decode b_L_computeLong 60 = .ok (.getfield 7, 3) := by decide +kernel
theorem d_L_computeLong_63 : decode b_L_computeLong 63 = .ok (.iload_n 2, 1) := by decide +kernel
theorem d_L_computeLong_64 : decode b_L_computeLong 64 = .ok (.iaload, 1) := by decide +kernel
theorem d_L_computeLong_65 : decode b_L_computeLong 65 = .ok (.bipush 7, 2) := by decide +kernel
theorem d_L_computeLong_67 : decode b_L_computeLong 67 = .ok (.if_icmp .ne 71, 3) := by decide +kernel
theorem d_L_computeLong_70 : decode b_L_computeLong 70 = .ok (.aload_n 0, 1) := by decide +kernel
theorem d_L_computeLong_71 : decode b_L_computeLong 71 = .ok (.getfield 22, 3) := by decide +kernel
theorem d_L_computeLong_74 : decode b_L_computeLong 74 = .ok (.iload 4, 2) := by decide +kernel
theorem d_L_computeLong_76 : decode b_L_computeLong 76 = .ok (.iaload, 1) := by decide +kernel
theorem d_L_computeLong_77 : decode b_L_computeLong 77 = .ok (.ifCond .ne 5, 3) := by decide +kernel
theorem d_L_computeLong_80 : decode b_L_computeLong 80 = .ok (.iconst 0, 1) := by decide +kernel
theorem d_L_computeLong_81 : decode b_L_computeLong 81 = .ok (.ireturn, 1) := by decide +kernel
theorem d_L_computeLong_82 : decode b_L_computeLong 82 = .ok (.aload_n 0, 1) := by decide +kernel
theorem d_L_computeLong_83 : decode b_L_computeLong 83 = .ok (.getfield 34, 3) := by decide +kernel
theorem d_L_computeLong_86 : decode b_L_computeLong 86 = .ok (.aload_n 0, 1) := by decide +kernel
theorem d_L_computeLong_87 : decode b_L_computeLong 87 = .ok (.getfield 22, 3) := by decide +kernel
theorem d_L_computeLong_90 : decode b_L_computeLong 90 = .ok (.iload 4, 2) := by decide +kernel
theorem d_L_computeLong_92 : decode b_L_computeLong 92 = .ok (.iaload, 1) := by decide +kernel
theorem d_L_computeLong_93 : decode b_L_computeLong 93 = .ok (.iaload, 1) := by decide +kernel
theorem d_L_computeLong_94 : decode b_L_computeLong 94 = .ok (.istore 6, 2) := by decide +kernel
theorem d_L_computeLong_96 : decode b_L_computeLong 96 = .ok (.aload_n 0, 1) := by decide +kernel
theorem d_L_computeLong_97 : decode b_L_computeLong 97 = .ok (.iload 4, 2) := by decide +kernel
theorem d_L_computeLong_99 : decode b_L_computeLong 99 = .ok (.bipush 16, 2) := by decide +kernel
theorem d_L_computeLong_101 : decode b_L_computeLong 101 = .ok (.iload_n 2, 1) := by decide +kernel
theorem d_L_computeLong_102 : decode b_L_computeLong 102 = .ok (.imul, 1) := by decide +kernel
theorem d_L_computeLong_103 : decode b_L_computeLong 103 = .ok (.iconst 1, 1) := by decide +kernel
theorem d_L_computeLong_104 : decode b_L_computeLong 104 = .ok (.iload_n 3, 1) := by decide +kernel
theorem d_L_computeLong_105 : decode b_L_computeLong 105 = .ok (.invokevirtual 62, 3) := by decide +kernel
theorem d_L_computeLong_108 : decode b_L_computeLong 108 = .ok (.istore 7, 2) := by decide +kernel
theorem d_L_computeLong_110 : decode b_L_computeLong 110 = .ok (.aload_n 0, 1) := by decide +kernel
theorem d_L_computeLong_111 : decode b_L_computeLong 111 = .ok (.getfield 22, 3) := by decide +kernel
theorem d_L_computeLong_114 : decode b_L_computeLong 114 = .ok (.iload_n 1, 1) := by decide +kernel
theorem d_L_computeLong_115 : decode b_L_computeLong 115 = .ok (.iload_n 3, 1) := by decide +kernel
theorem d_L_computeLong_116 : decode b_L_computeLong 116 = .ok (.ifCond .ne 8, 3) := by decide +kernel
theorem d_L_computeLong_119 : decode b_L_computeLong 119 = .ok (.iload 6, 2) := by decide +kernel
theorem d_L_computeLong_121 : decode b_L_computeLong 121 = .ok (.goto 14, 3) := by decide +kernel
theorem d_L_computeLong_124 : decode b_L_computeLong 124 = .ok (.bipush 97, 2) := by decide +kernel
theorem d_L_computeLong_126 : decode b_L_computeLong 126 = .ok (.iload 7, 2) := by decide +kernel
theorem d_L_computeLong_128 : decode b_L_computeLong 128 = .ok (.isub, 1) := by decide +kernel
theorem d_L_computeLong_129 : decode b_L_computeLong 129 = .ok (.iload 6, 2) := by decide +kernel
theorem d_L_computeLong_131 : decode b_L_computeLong 131 = .ok (.imul, 1) := by decide +kernel
theorem d_L_computeLong_132 : decode b_L_computeLong 132 = .ok (.bipush 97, 2) := by decide +kernel
theorem d_L_computeLong_134 : decode b_L_computeLong 134 = .ok (.irem, 1) := by decide +kernel
theorem d_L_computeLong_135 : decode b_L_computeLong 135 = .ok (.iastore, 1) := by decide +kernel
theorem d_L_computeLong_136 : decode b_L_computeLong 136 = .ok (.iconst 1, 1) := by decide +kernel
theorem d_L_computeLong_137 : decode b_L_computeLong 137 = .ok (.ireturn, 1) := by decide +kernel
theorem d_L_computeLong_138 : decode b_L_computeLong 138 = .ok (.aload_n 0, 1) := by decide +kernel
theorem d_L_computeLong_139 : decode b_L_computeLong 139 = .ok (.getfield 22, 3) := by decide +kernel
theorem d_L_computeLong_142 : decode b_L_computeLong 142 = .ok (.iload 5, 2) := by decide +kernel
theorem d_L_computeLong_144 : decode b_L_computeLong 144 = .ok (.iaload, 1) := by decide +kernel
theorem d_L_computeLong_145 : decode b_L_computeLong 145 = .ok (.ifCond .eq 5, 3) := by decide +kernel
theorem d_L_computeLong_148 : decode b_L_computeLong 148 = .ok (.iconst 0, 1) := by decide +kernel
theorem d_L_computeLong_149 : decode b_L_computeLong 149 = .ok (.ireturn, 1) := by decide +kernel
theorem d_L_computeLong_150 : decode b_L_computeLong 150 = .ok (.aload_n 0, 1) := by decide +kernel
theorem d_L_computeLong_151 : decode b_L_computeLong 151 = .ok (.getfield 22, 3) := by decide +kernel
theorem d_L_computeLong_154 : decode b_L_computeLong 154 = .ok (.iload_n 1, 1) := by decide +kernel
theorem d_L_computeLong_155 : decode b_L_computeLong 155 = .ok (.aload_n 0, 1) := by decide +kernel
theorem d_L_computeLong_156 : decode b_L_computeLong 156 = .ok (.iload 4, 2) := by decide +kernel
theorem d_L_computeLong_158 : decode b_L_computeLong 158 = .ok (.iload 5, 2) := by decide +kernel
theorem d_L_computeLong_160 : decode b_L_computeLong 160 = .ok (.iload_n 3, 1) := by decide +kernel
theorem d_L_computeLong_161 : decode b_L_computeLong 161 = .ok (.invokevirtual 66, 3) := by decide +kernel
theorem d_L_computeLong_164 : decode b_L_computeLong 164 = .ok (.iastore, 1) := by decide +kernel
theorem d_L_computeLong_165 : decode b_L_computeLong 165 = .ok (.iconst 1, 1) := by decide +kernel
theorem d_L_computeLong_166 : decode b_L_computeLong 166 = .ok (.ireturn, 1) := by decide +kernel
theorem d_L_product_0 : decode b_L_product 0 = .ok (.iconst 0, 1) := by decide +kernel
theorem d_L_product_1 : decode b_L_product 1 = .ok (.istore 5, 2) := by decide +kernel
theorem d_L_product_3 : decode b_L_product 3 = .ok (.iload_n 3, 1) := by decide +kernel
theorem d_L_product_4 : decode b_L_product 4 = .ok (.istore 6, 2) := by decide +kernel
theorem d_L_product_6 : decode b_L_product 6 = .ok (.iload 6, 2) := by decide +kernel
theorem d_L_product_8 : decode b_L_product 8 = .ok (.iload 4, 2) := by decide +kernel
theorem d_L_product_10 : decode b_L_product 10 = .ok (.if_icmp .gt 39, 3) := by decide +kernel
theorem d_L_product_13 : decode b_L_product 13 = .ok (.iload 5, 2) := by decide +kernel
theorem d_L_product_15 : decode b_L_product 15 = .ok (.aload_n 0, 1) := by decide +kernel
theorem d_L_product_16 : decode b_L_product 16 = .ok (.getfield 22, 3) := by decide +kernel
theorem d_L_product_19 : decode b_L_product 19 = .ok (.iload_n 1, 1) := by decide +kernel
theorem d_L_product_20 : decode b_L_product 20 = .ok (.iload 6, 2) := by decide +kernel
theorem d_L_product_22 : decode b_L_product 22 = .ok (.iadd, 1) := by decide +kernel
theorem d_L_product_23 : decode b_L_product 23 = .ok (.iaload, 1) := by decide +kernel
theorem d_L_product_24 : decode b_L_product 24 = .ok (.aload_n 0, 1) := by decide +kernel
theorem d_L_product_25 : decode b_L_product 25 = .ok (.getfield 22, 3) := by decide +kernel
theorem d_L_product_28 : decode b_L_product 28 = .ok (.iload_n 2, 1) := by decide +kernel
theorem d_L_product_29 : decode b_L_product 29 = .ok (.iload 4, 2) := by decide +kernel
theorem d_L_product_31 : decode b_L_product 31 = .ok (.iadd, 1) := by decide +kernel
theorem d_L_product_32 : decode b_L_product 32 = .ok (.iload 6, 2) := by decide +kernel
theorem d_L_product_34 : decode b_L_product 34 = .ok (.isub, 1) := by decide +kernel
theorem d_L_product_35 : decode b_L_product 35 = .ok (.iaload, 1) := by decide +kernel
theorem d_L_product_36 : decode b_L_product 36 = .ok (.imul, 1) := by decide +kernel
theorem d_L_product_37 : decode b_L_product 37 = .ok (.iadd, 1) := by decide +kernel
theorem d_L_product_38 : decode b_L_product 38 = .ok (.bipush 97, 2) := by decide +kernel
theorem d_L_product_40 : decode b_L_product 40 = .ok (.irem, 1) := by decide +kernel
theorem d_L_product_41 : decode b_L_product 41 = .ok (.istore 5, 2) := by decide +kernel
theorem d_L_product_43 : decode b_L_product 43 = .ok (.iinc 6 1, 3) := by decide +kernel
theorem d_L_product_46 : decode b_L_product 46 = .ok (.goto (-40), 3) := by decide +kernel
theorem d_L_product_49 : decode b_L_product 49 = .ok (.iload 5, 2) := by decide +kernel
theorem d_L_product_51 : decode b_L_product 51 = .ok (.ireturn, 1) := by decide +kernel
theorem d_L_composed_0 : decode b_L_composed 0 = .ok (.iconst 0, 1) := by decide +kernel
theorem d_L_composed_1 : decode b_L_composed 1 = .ok (.istore 4, 2) := by decide +kernel
theorem d_L_composed_3 : decode b_L_composed 3 = .ok (.iload 4, 2) := by decide +kernel
theorem d_L_composed_5 : decode b_L_composed 5 = .ok (.iload_n 3, 1) := by decide +kernel
theorem d_L_composed_6 : decode b_L_composed 6 = .ok (.if_icmp .gt 17, 3) := by decide +kernel
theorem d_L_composed_9 : decode b_L_composed 9 = .ok (.aload_n 0, 1) := by decide +kernel
theorem d_L_composed_10 : decode b_L_composed 10 = .ok (.getfield 31, 3) := by decide +kernel
theorem d_L_composed_13 : decode b_L_composed 13 = .ok (.iload 4, 2) := by decide +kernel
theorem d_L_composed_15 : decode b_L_composed 15 = .ok (.iconst 0, 1) := by decide +kernel
theorem d_L_composed_16 : decode b_L_composed 16 = .ok (.iastore, 1) := by decide +kernel
theorem d_L_composed_17 : decode b_L_composed 17 = .ok (.iinc 4 1, 3) := by decide +kernel
theorem d_L_composed_20 : decode b_L_composed 20 = .ok (.goto (-17), 3) := by decide +kernel
theorem d_L_composed_23 : decode b_L_composed 23 = .ok (.iload_n 3, 1) := by decide +kernel
theorem d_L_composed_24 : decode b_L_composed 24 = .ok (.istore 4, 2) := by decide +kernel
theorem d_L_composed_26 : decode b_L_composed 26 = .ok (.iload 4, 2) := by decide +kernel
theorem d_L_composed_28 : decode b_L_composed 28 = .ok (.ifCond .lt 62, 3) := by decide +kernel
theorem d_L_composed_31 : decode b_L_composed 31 = .ok (.iload_n 3, 1) := by decide +kernel
theorem d_L_composed_32 : decode b_L_composed 32 = .ok (.istore 5, 2) := by decide +kernel
theorem d_L_composed_34 : decode b_L_composed 34 = .ok (.iload 5, 2) := by decide +kernel
theorem d_L_composed_36 : decode b_L_composed 36 = .ok (.ifCond .lt 23, 3) := by decide +kernel
theorem d_L_composed_39 : decode b_L_composed 39 = .ok (.aload_n 0, 1) := by decide +kernel
theorem d_L_composed_40 : decode b_L_composed 40 = .ok (.getfield 31, 3) := by decide +kernel
theorem d_L_composed_43 : decode b_L_composed 43 = .ok (.iload 5, 2) := by decide +kernel
theorem d_L_composed_45 : decode b_L_composed 45 = .ok (.aload_n 0, 1) := by decide +kernel
theorem d_L_composed_46 : decode b_L_composed 46 = .ok (.iload_n 2, 1) := by decide +kernel
theorem d_L_composed_47 : decode b_L_composed 47 = .ok (.iload 5, 2) := by decide +kernel
theorem d_L_composed_49 : decode b_L_composed 49 = .ok (.invokevirtual 70, 3) := by decide +kernel
theorem d_L_composed_52 : decode b_L_composed 52 = .ok (.iastore, 1) := by decide +kernel
theorem d_L_composed_53 : decode b_L_composed 53 = .ok (.iinc 5 (-1), 3) := by decide +kernel
theorem d_L_composed_56 : decode b_L_composed 56 = .ok (.goto (-22), 3) := by decide +kernel
theorem d_L_composed_59 : decode b_L_composed 59 = .ok (.aload_n 0, 1) := by decide +kernel
theorem d_L_composed_60 : decode b_L_composed 60 = .ok (.getfield 31, 3) := by decide +kernel
theorem d_L_composed_63 : decode b_L_composed 63 = .ok (.iconst 0, 1) := by decide +kernel
theorem d_L_composed_64 : decode b_L_composed 64 = .ok (.aload_n 0, 1) := by decide +kernel
theorem d_L_composed_65 : decode b_L_composed 65 = .ok (.getfield 31, 3) := by decide +kernel
theorem d_L_composed_68 : decode b_L_composed 68 = .ok (.iconst 0, 1) := by decide +kernel
theorem d_L_composed_69 : decode b_L_composed 69 = .ok (.iaload, 1) := by decide +kernel
theorem d_L_composed_70 : decode b_L_composed 70 = .ok (.aload_n 0, 1) := by decide +kernel
theorem d_L_composed_71 : decode b_L_composed 71 = .ok (.getfield 22, 3) := by decide +kernel
theorem d_L_composed_74 : decode b_L_composed 74 = .ok (.iload_n 1, 1) := by decide +kernel
theorem d_L_composed_75 : decode b_L_composed 75 = .ok (.iload 4, 2) := by decide +kernel
theorem d_L_composed_77 : decode b_L_composed 77 = .ok (.iadd, 1) := by decide +kernel
theorem d_L_composed_78 : decode b_L_composed 78 = .ok (.iaload, 1) := by decide +kernel
theorem d_L_composed_79 : decode b_L_composed 79 = .ok (.iadd, 1) := by decide +kernel
theorem d_L_composed_80 : decode b_L_composed 80 = .ok (.bipush 97, 2) := by decide +kernel
theorem d_L_composed_82 : decode b_L_composed 82 = .ok (.irem, 1) := by decide +kernel
theorem d_L_composed_83 : decode b_L_composed 83 = .ok (.iastore, 1) := by decide +kernel
theorem d_L_composed_84 : decode b_L_composed 84 = .ok (.iinc 4 (-1), 3) := by decide +kernel
theorem d_L_composed_87 : decode b_L_composed 87 = .ok (.goto (-61), 3) := by decide +kernel
theorem d_L_composed_90 : decode b_L_composed 90 = .ok (.aload_n 0, 1) := by decide +kernel
theorem d_L_composed_91 : decode b_L_composed 91 = .ok (.getfield 31, 3) := by decide +kernel
theorem d_L_composed_94 : decode b_L_composed 94 = .ok (.iload_n 3, 1) := by decide +kernel
theorem d_L_composed_95 : decode b_L_composed 95 = .ok (.iaload, 1) := by decide +kernel
theorem d_L_composed_96 : decode b_L_composed 96 = .ok (.ireturn, 1) := by decide +kernel
theorem d_L_timesInner_0 : decode b_L_timesInner 0 = .ok (.iconst 0, 1) := by decide +kernel
theorem d_L_timesInner_1 : decode b_L_timesInner 1 = .ok (.istore_n 3, 1) := by decide +kernel
theorem d_L_timesInner_2 : decode b_L_timesInner 2 = .ok (.iconst 1, 1) := by decide +kernel
theorem d_L_timesInner_3 : decode b_L_timesInner 3 = .ok (.istore 4, 2) := by decide +kernel
theorem d_L_timesInner_5 : decode b_L_timesInner 5 = .ok (.iload 4, 2) := by decide +kernel
theorem d_L_timesInner_7 : decode b_L_timesInner 7 = .ok (.iload_n 2, 1) := by decide +kernel
theorem d_L_timesInner_8 : decode b_L_timesInner 8 = .ok (.if_icmp .gt 34, 3) := by decide +kernel
theorem d_L_timesInner_11 : decode b_L_timesInner 11 = .ok (.iload_n 3, 1) := by decide +kernel
theorem d_L_timesInner_12 : decode b_L_timesInner 12 = .ok (.aload_n 0, 1) := by decide +kernel
theorem d_L_timesInner_13 : decode b_L_timesInner 13 = .ok (.getfield 22, 3) := by decide +kernel
theorem d_L_timesInner_16 : decode b_L_timesInner 16 = .ok (.iload_n 1, 1) := by decide +kernel
theorem d_L_timesInner_17 : decode b_L_timesInner 17 = .ok (.iload 4, 2) := by decide +kernel
theorem d_L_timesInner_19 : decode b_L_timesInner 19 = .ok (.iadd, 1) := by decide +kernel
theorem d_L_timesInner_20 : decode b_L_timesInner 20 = .ok (.iaload, 1) := by decide +kernel
theorem d_L_timesInner_21 : decode b_L_timesInner 21 = .ok (.aload_n 0, 1) := by decide +kernel
theorem d_L_timesInner_22 : decode b_L_timesInner 22 = .ok (.getfield 31, 3) := by decide +kernel
theorem d_L_timesInner_25 : decode b_L_timesInner 25 = .ok (.iload_n 2, 1) := by decide +kernel
theorem d_L_timesInner_26 : decode b_L_timesInner 26 = .ok (.iload 4, 2) := by decide +kernel
theorem d_L_timesInner_28 : decode b_L_timesInner 28 = .ok (.isub, 1) := by decide +kernel
theorem d_L_timesInner_29 : decode b_L_timesInner 29 = .ok (.iaload, 1) := by decide +kernel
theorem d_L_timesInner_30 : decode b_L_timesInner 30 = .ok (.imul, 1) := by decide +kernel
theorem d_L_timesInner_31 : decode b_L_timesInner 31 = .ok (.iadd, 1) := by decide +kernel
theorem d_L_timesInner_32 : decode b_L_timesInner 32 = .ok (.bipush 97, 2) := by decide +kernel
theorem d_L_timesInner_34 : decode b_L_timesInner 34 = .ok (.irem, 1) := by decide +kernel
theorem d_L_timesInner_35 : decode b_L_timesInner 35 = .ok (.istore_n 3, 1) := by decide +kernel
theorem d_L_timesInner_36 : decode b_L_timesInner 36 = .ok (.iinc 4 1, 3) := by decide +kernel
theorem d_L_timesInner_39 : decode b_L_timesInner 39 = .ok (.goto (-34), 3) := by decide +kernel
theorem d_L_timesInner_42 : decode b_L_timesInner 42 = .ok (.iload_n 3, 1) := by decide +kernel
theorem d_L_timesInner_43 : decode b_L_timesInner 43 = .ok (.ireturn, 1) := by decide +kernel
end
section
theorem d_M_init_0 : decode b_M_init 0 = .ok (.aload_n 0, 1) := by decide +kernel
theorem d_M_init_1 : decode b_M_init 1 = .ok (.invokespecial 1, 3) := by decide +kernel
theorem d_M_init_4 : decode b_M_init 4 = .ok (.aload_n 0, 1) := by decide +kernel
theorem d_M_init_5 : decode b_M_init 5 = .ok (.bipush 8, 2) := by decide +kernel
theorem d_M_init_7 : decode b_M_init 7 = .ok (.newarray .int, 2) := by decide +kernel
theorem d_M_init_9 : decode b_M_init 9 = .ok (.putfield 7, 3) := by decide +kernel
theorem d_M_init_12 : decode b_M_init 12 = .ok (.aload_n 0, 1) := by decide +kernel
theorem d_M_init_13 : decode b_M_init 13 = .ok (.bipush 8, 2) := by decide +kernel
theorem d_M_init_15 : decode b_M_init 15 = .ok (.newarray .int, 2) := by decide +kernel
theorem d_M_init_17 : decode b_M_init 17 = .ok (.putfield 13, 3) := by decide +kernel
theorem d_M_init_20 : decode b_M_init 20 = .ok (.aload_n 0, 1) := by decide +kernel
theorem d_M_init_21 : decode b_M_init 21 = .ok (.bipush 8, 2) := by decide +kernel
theorem d_M_init_23 : decode b_M_init 23 = .ok (.newarray .int, 2) := by decide +kernel
theorem d_M_init_25 : decode b_M_init 25 = .ok (.putfield 16, 3) := by decide +kernel
theorem d_M_init_28 : decode b_M_init 28 = .ok (.aload_n 0, 1) := by decide +kernel
theorem d_M_init_29 : decode b_M_init 29 = .ok (.sipush 128, 3) := by decide +kernel
theorem d_M_init_32 : decode b_M_init 32 = .ok (.newarray .boolean, 2) := by decide +kernel
theorem d_M_init_34 : decode b_M_init 34 = .ok (.putfield 19, 3) := by decide +kernel
theorem d_M_init_37 : decode b_M_init 37 = .ok (.aload_n 0, 1) := by decide +kernel
theorem d_M_init_38 : decode b_M_init 38 = .ok (.sipush 128, 3) := by decide +kernel
theorem d_M_init_41 : decode b_M_init 41 = .ok (.newarray .int, 2) := by decide +kernel
theorem d_M_init_43 : decode b_M_init 43 = .ok (.putfield 23, 3) := by decide +kernel
theorem d_M_init_46 : decode b_M_init 46 = .ok (.aload_n 0, 1) := by decide +kernel
theorem d_M_init_47 : decode b_M_init 47 = .ok (.sipush 128, 3) := by decide +kernel
theorem d_M_init_50 : decode b_M_init 50 = .ok (.newarray .boolean, 2) := by decide +kernel
theorem d_M_init_52 : decode b_M_init 52 = .ok (.putfield 26, 3) := by decide +kernel
theorem d_M_init_55 : decode b_M_init 55 = .ok (.aload_n 0, 1) := by decide +kernel
theorem d_M_init_56 : decode b_M_init 56 = .ok (.bipush 16, 2) := by decide +kernel
theorem d_M_init_58 : decode b_M_init 58 = .ok (.newarray .int, 2) := by decide +kernel
theorem d_M_init_60 : decode b_M_init 60 = .ok (.putfield 29, 3) := by decide +kernel
theorem d_M_init_63 : decode b_M_init 63 = .ok (.aload_n 0, 1) := by decide +kernel
theorem d_M_init_64 : decode b_M_init 64 = .ok (.bipush 16, 2) := by decide +kernel
theorem d_M_init_66 : decode b_M_init 66 = .ok (.newarray .int, 2) := by decide +kernel
theorem d_M_init_68 : decode b_M_init 68 = .ok (.putfield 32, 3) := by decide +kernel
theorem d_M_init_71 : decode b_M_init 71 = .ok (.return_, 1) := by decide +kernel
theorem d_M_bad_0 : decode b_M_bad 0 = .ok (.iload_n 1, 1) := by decide +kernel
theorem d_M_bad_1 : decode b_M_bad 1 = .ok (.ifCond .lt 9, 3) := by decide +kernel
theorem d_M_bad_4 : decode b_M_bad 4 = .ok (.iload_n 1, 1) := by decide +kernel
theorem d_M_bad_5 : decode b_M_bad 5 = .ok (.bipush 7, 2) := by decide +kernel
theorem d_M_bad_7 : decode b_M_bad 7 = .ok (.if_icmp .le 7, 3) := by decide +kernel
theorem d_M_bad_10 : decode b_M_bad 10 = .ok (.iconst 1, 1) := by decide +kernel
theorem d_M_bad_11 : decode b_M_bad 11 = .ok (.goto 4, 3) := by decide +kernel
theorem d_M_bad_14 : decode b_M_bad 14 = .ok (.iconst 0, 1) := by decide +kernel
theorem d_M_bad_15 : decode b_M_bad 15 = .ok (.ireturn, 1) := by decide +kernel
theorem d_M_reduced_0 : decode b_M_reduced 0 = .ok (.iload_n 1, 1) := by decide +kernel
theorem d_M_reduced_1 : decode b_M_reduced 1 = .ok (.bipush 97, 2) := by decide +kernel
theorem d_M_reduced_3 : decode b_M_reduced 3 = .ok (.irem, 1) := by decide +kernel
theorem d_M_reduced_4 : decode b_M_reduced 4 = .ok (.istore_n 2, 1) := by decide +kernel
theorem d_M_reduced_5 : decode b_M_reduced 5 = .ok (.iload_n 2, 1) := by decide +kernel
theorem d_M_reduced_6 : decode b_M_reduced 6 = .ok (.ifCond .ge 10, 3) := by decide +kernel
theorem d_M_reduced_9 : decode b_M_reduced 9 = .ok (.iload_n 2, 1) := by decide +kernel
theorem d_M_reduced_10 : decode b_M_reduced 10 = .ok (.bipush 97, 2) := by decide +kernel
theorem d_M_reduced_12 : decode b_M_reduced 12 = .ok (.iadd, 1) := by decide +kernel
theorem d_M_reduced_13 : decode b_M_reduced 13 = .ok (.goto 4, 3) := by decide +kernel
theorem d_M_reduced_16 : decode b_M_reduced 16 = .ok (.iload_n 2, 1) := by decide +kernel
theorem d_M_reduced_17 : decode b_M_reduced 17 = .ok (.ireturn, 1) := by decide +kernel
theorem d_M_define_0 : decode b_M_define 0 = .ok (.aload_n 0, 1) := by decide +kernel
theorem d_M_define_1 : decode b_M_define 1 = .ok (.iload_n 1, 1) := by decide +kernel
theorem d_M_define_2 : decode b_M_define 2 = .ok (.invokevirtual 35, 3) := by decide +kernel
theorem d_M_define_5 : decode b_M_define 5 = .ok (.ifCond .eq 5, 3) := by decide +kernel
theorem d_M_define_8 : decode b_M_define 8 = .ok (.iconst (-1), 1) := by decide +kernel
theorem d_M_define_9 : decode b_M_define 9 = .ok (.ireturn, 1) := by decide +kernel
theorem d_M_define_10 : decode b_M_define 10 = .ok (.iload_n 2, 1) := by decide +kernel
theorem d_M_define_11 : decode b_M_define 11 = .ok (.ifCond .lt 9, 3) := by decide +kernel
theorem d_M_define_14 : decode b_M_define 14 = .ok (.iload_n 2, 1) := by decide +kernel
theorem d_M_define_15 : decode b_M_define 15 = .ok (.bipush 9, 2) := by decide +kernel
theorem d_M_define_17 : decode b_M_define 17 = .ok (.if_icmp .le 6, 3) := by decide +kernel
theorem d_M_define_20 : decode b_M_define 20 = .ok (.bipush (-2), 2) := by decide +kernel
theorem d_M_define_22 : decode b_M_define 22 = .ok (.ireturn, 1) := by decide +kernel
theorem d_M_define_23 : decode b_M_define 23 = .ok (.iload_n 2, 1) := by decide +kernel
theorem d_M_define_24 : decode b_M_define 24 = .ok (.iconst 1, 1) := by decide +kernel
theorem d_M_define_25 : decode b_M_define 25 = .ok (.if_icmp .le 14, 3) := by decide +kernel
theorem d_M_define_28 : decode b_M_define 28 = .ok (.aload_n 0, 1) := by decide +kernel
theorem d_M_define_29 : decode b_M_define 29 = .ok (.iload_n 3, 1) := by decide +kernel
theorem d_M_define_30 : decode b_M_define 30 = .ok (.invokevirtual 35, 3) := by decide +kernel
theorem d_M_define_33 : decode b_M_define 33 = .ok (.ifCond .eq 6, 3) := by decide +kernel
theorem d_M_define_36 : decode b_M_define 36 = .ok (.bipush (-3), 2) := by decide +kernel
theorem d_M_define_38 : decode b_M_define 38 = .ok (.ireturn, 1) := by decide +kernel
theorem d_M_define_39 : decode b_M_define 39 = .ok (.iload_n 2, 1) := by decide +kernel
theorem d_M_define_40 : decode b_M_define 40 = .ok (.iconst 2, 1) := by decide +kernel
theorem d_M_define_41 : decode b_M_define 41 = .ok (.if_icmp .eq 14, 3) := by decide +kernel
theorem d_M_define_44 : decode b_M_define 44 = .ok (.iload_n 2, 1) := by decide +kernel
theorem d_M_define_45 : decode b_M_define 45 = .ok (.iconst 3, 1) := by decide +kernel
theorem d_M_define_46 : decode b_M_define 46 = .ok (.if_icmp .eq 9, 3) := by decide +kernel
theorem d_M_define_49 : decode b_M_define 49 = .ok (.iload_n 2, 1) := by decide +kernel
theorem d_M_define_50 : decode b_M_define 50 = .ok (.bipush 9, 2) := by decide +kernel
theorem d_M_define_52 : decode b_M_define 52 = .ok (.if_icmp .ne 7, 3) := by decide +kernel
theorem d_M_define_55 : decode b_M_define 55 = .ok (.iconst 1, 1) := by decide +kernel
theorem d_M_define_56 : decode b_M_define 56 = .ok (.goto 4, 3) := by decide +kernel
theorem d_M_define_59 : decode b_M_define 59 = .ok (.iconst 0, 1) := by decide +kernel
theorem d_M_define_60 : decode b_M_define 60 = .ok (.istore 5, 2) := by decide +kernel
theorem d_M_define_62 : decode b_M_define 62 = .ok (.iload 5, 2) := by decide +kernel
theorem d_M_define_64 : decode b_M_define 64 = .ok (.ifCond .eq 15, 3) := by decide +kernel
theorem d_M_define_67 : decode b_M_define 67 = .ok (.aload_n 0, 1) := by decide +kernel
theorem d_M_define_68 : decode b_M_define 68 = .ok (.iload 4, 2) := by decide +kernel
theorem d_M_define_70 : decode b_M_define 70 = .ok (.invokevirtual 35, 3) := by decide +kernel
theorem d_M_define_73 : decode b_M_define 73 = .ok (.ifCond .eq 6, 3) := by decide +kernel
theorem d_M_define_76 : decode b_M_define 76 = .ok (.bipush (-4), 2) := by decide +kernel
theorem d_M_define_78 : decode b_M_define 78 = .ok (.ireturn, 1) := by decide +kernel
theorem d_M_define_79 : decode b_M_define 79 = .ok (.aload_n 0, 1) := by decide +kernel
theorem d_M_define_80 : decode b_M_define 80 = .ok (.getfield 7, 3) := by decide +kernel
theorem d_M_define_83 : decode b_M_define 83 = .ok (.iload_n 1, 1) := by decide +kernel
theorem d_M_define_84 : decode b_M_define 84 = .ok (.iaload, 1) := by decide +kernel
theorem d_M_define_85 : decode b_M_define 85 = .ok (.istore 6, 2) := by decide +kernel
theorem d_M_define_87 : decode b_M_define 87 = .ok (.aload_n 0, 1) := by decide +kernel
theorem d_M_define_88 : decode b_M_define 88 = .ok (.getfield 7, 3) := by decide +kernel
theorem d_M_define_91 : decode b_M_define 91 = .ok (.iload_n 1, 1) := by decide +kernel
theorem d_M_define_92 : decode b_M_define 92 = .ok (.iload_n 2, 1) := by decide +kernel
theorem d_M_define_93 : decode b_M_define 93 = .ok (.iastore, 1) := by decide +kernel
theorem d_M_define_94 : decode b_M_define 94 = .ok (.aload_n 0, 1) := by decide +kernel
theorem d_M_define_95 : decode b_M_define 95 = .ok (.getfield 13, 3) := by decide +kernel
theorem d_M_define_98 : decode b_M_define 98 = .ok (.iload_n 1, 1) := by decide +kernel
theorem d_M_define_99 : decode b_M_define 99 = .ok (.iload_n 2, 1) := by decide +kernel
theorem d_M_define_100 : decode b_M_define 100 = .ok (.iconst 1, 1) := by decide +kernel
theorem d_M_define_101 : decode b_M_define 101 = .ok (.if_icmp .le 7, 3) := by decide +kernel
theorem d_M_define_104 : decode b_M_define 104 = .ok (.iload_n 3, 1) := by decide +kernel
theorem d_M_define_105 : decode b_M_define 105 = .ok (.goto 4, 3) := by decide +kernel
theorem d_M_define_108 : decode b_M_define 108 = .ok (.iconst 0, 1) := by decide +kernel
theorem d_M_define_109 : decode b_M_define 109 = .ok (.iastore, 1) := by decide +kernel
theorem d_M_define_110 : decode b_M_define 110 = .ok (.aload_n 0, 1) := by decide +kernel
theorem d_M_define_111 : decode b_M_define 111 = .ok (.getfield 16, 3) := by decide +kernel
theorem d_M_define_114 : decode b_M_define 114 = .ok (.iload_n 1, 1) := by decide +kernel
theorem d_M_define_115 : decode b_M_define 115 = .ok (.iload 5, 2) := by decide +kernel
theorem d_M_define_117 : decode b_M_define 117 = .ok (.ifCond .eq 8, 3) := by decide +kernel
theorem d_M_define_120 : decode b_M_define 120 = .ok (.iload 4, 2) := by decide +kernel
theorem d_M_define_122 : decode b_M_define 122 = .ok (.goto 9, 3) := by decide +kernel
theorem d_M_define_125 : decode b_M_define 125 = .ok (.aload_n 0, 1) := by decide +kernel
theorem d_M_define_126 : decode b_M_define 126 = .ok (.iload 4, 2) := by decide +kernel
theorem d_M_define_128 : decode b_M_define 128 = .ok (.invokevirtual 39, 3) := by decide +kernel
theorem d_M_define_131 : decode b_M_define 131 = .ok (.iastore, 1) := by decide +kernel
theorem d_M_define_132 : decode b_M_define 132 = .ok (.iload 6, 2) := by decide +kernel
theorem d_M_define_134 : decode b_M_define 134 = .ok (.ireturn, 1) := by decide +kernel
theorem d_M_kindOf_0 : decode b_M_kindOf 0 = .ok (.aload_n 0, 1) := by decide +kernel
theorem d_M_kindOf_1 : decode b_M_kindOf 1 = .ok (.iload_n 1, 1) := by decide +kernel
theorem d_M_kindOf_2 : decode b_M_kindOf 2 = .ok (.invokevirtual 35, 3) := by decide +kernel
theorem d_M_kindOf_5 : decode b_M_kindOf 5 = .ok (.ifCond .eq 7, 3) := by decide +kernel
theorem d_M_kindOf_8 : decode b_M_kindOf 8 = .ok (.iconst (-1), 1) := by decide +kernel
theorem d_M_kindOf_9 : decode b_M_kindOf 9 = .ok (.goto 9, 3) := by decide +kernel
theorem d_M_kindOf_12 : decode b_M_kindOf 12 = .ok (.aload_n 0, 1) := by decide +kernel
theorem d_M_kindOf_13 : decode b_M_kindOf 13 = .ok (.getfield 7, 3) := by decide +kernel
theorem d_M_kindOf_16 : decode b_M_kindOf 16 = .ok (.iload_n 1, 1) := by decide +kernel
theorem d_M_kindOf_17 : decode b_M_kindOf 17 = .ok (.iaload, 1) := by decide +kernel
theorem d_M_kindOf_18 : decode b_M_kindOf 18 = .ok (.ireturn, 1) := by decide +kernel
theorem d_M_direct_0 : decode b_M_direct 0 = .ok (.aload_n 0, 1) := by decide +kernel
theorem d_M_direct_1 : decode b_M_direct 1 = .ok (.getfield 7, 3) := by decide +kernel
theorem d_M_direct_4 : decode b_M_direct 4 = .ok (.iload_n 1, 1) := by decide +kernel
theorem d_M_direct_5 : decode b_M_direct 5 = .ok (.iaload, 1) := by decide +kernel
theorem d_M_direct_6 : decode b_M_direct 6 = .ok (.istore 5, 2) := by decide +kernel
theorem d_M_direct_8 : decode b_M_direct 8 = .ok (.iload 5, 2) := by decide +kernel
theorem d_M_direct_10 : decode b_M_direct 10 = .ok (.iconst 2, 1) := by decide +kernel
theorem d_M_direct_11 : decode b_M_direct 11 = .ok (.if_icmp .ne 35, 3) := by decide +kernel
theorem d_M_direct_14 : decode b_M_direct 14 = .ok (.iload 4, 2) := by decide +kernel
theorem d_M_direct_16 : decode b_M_direct 16 = .ok (.iload_n 2, 1) := by decide +kernel
theorem d_M_direct_17 : decode b_M_direct 17 = .ok (.if_icmp .ne 27, 3) := by decide +kernel
theorem d_M_direct_20 : decode b_M_direct 20 = .ok (.iload_n 3, 1) := by decide +kernel
theorem d_M_direct_21 : decode b_M_direct 21 = .ok (.aload_n 0, 1) := by decide +kernel
theorem d_M_direct_22 : decode b_M_direct 22 = .ok (.getfield 13, 3) := by decide +kernel
theorem d_M_direct_25 : decode b_M_direct 25 = .ok (.iload_n 1, 1) := by decide +kernel
theorem d_M_direct_26 : decode b_M_direct 26 = .ok (.iaload, 1) := by decide +kernel
theorem d_M_direct_27 : decode b_M_direct 27 = .ok (.if_icmp .eq 13, 3) := by decide +kernel
theorem d_M_direct_30 : decode b_M_direct 30 = .ok (.iload_n 3, 1) := by decide +kernel
theorem d_M_direct_31 : decode b_M_direct 31 = .ok (.aload_n 0, 1) := by decide +kernel
theorem d_M_direct_32 : decode b_M_direct 32 = .ok (.getfield 16, 3) := by decide +kernel
theorem d_M_direct_35 : decode b_M_direct 35 = .ok (.iload_n 1, 1) := by decide +kernel
theorem d_M_direct_36 : decode b_M_direct 36 = .ok (.iaload, 1) := by decide +kernel
theorem d_M_direct_37 : decode b_M_direct 37 = .ok (.if_icmp .ne 7, 3) := by decide +kernel
theorem d_M_direct_40 : decode b_M_direct 40 = .ok (.iconst 1, 1) := by decide +kernel
theorem d_M_direct_41 : decode b_M_direct 41 = .ok (.goto 4, 3) := by decide +kernel
theorem d_M_direct_44 : decode b_M_direct 44 = .ok (.iconst 0, 1) := by decide +kernel
theorem d_M_direct_45 : decode b_M_direct 45 = .ok (.ireturn, 1) := by decide +kernel
theorem d_M_direct_46 : decode b_M_direct 46 = .ok (.iload 5, 2) := by decide +kernel
theorem d_M_direct_48 : decode b_M_direct 48 = .ok (.iconst 3, 1) := by decide +kernel
theorem d_M_direct_49 : decode b_M_direct 49 = .ok (.if_icmp .eq 10, 3) := by decide +kernel
theorem d_M_direct_52 : decode b_M_direct 52 = .ok (.iload 5, 2) := by decide +kernel
theorem d_M_direct_54 : decode b_M_direct 54 = .ok (.bipush 9, 2) := by decide +kernel
theorem d_M_direct_56 : decode b_M_direct 56 = .ok (.if_icmp .ne 35, 3) := by decide +kernel
theorem d_M_direct_59 : decode b_M_direct 59 = .ok (.iload 4, 2) := by decide +kernel
theorem d_M_direct_61 : decode b_M_direct 61 = .ok (.iload_n 2, 1) := by decide +kernel
theorem d_M_direct_62 : decode b_M_direct 62 = .ok (.if_icmp .gt 27, 3) := by decide +kernel
theorem d_M_direct_65 : decode b_M_direct 65 = .ok (.iload_n 3, 1) := by decide +kernel
theorem d_M_direct_66 : decode b_M_direct 66 = .ok (.aload_n 0, 1) := by decide +kernel
theorem d_M_direct_67 : decode b_M_direct 67 = .ok (.getfield 13, 3) := by decide +kernel
theorem d_M_direct_70 : decode b_M_direct 70 = .ok (.iload_n 1, 1) := by decide +kernel
theorem d_M_direct_71 : decode b_M_direct 71 = .ok (.iaload, 1) := by decide +kernel
theorem d_M_direct_72 : decode b_M_direct 72 = .ok (.if_icmp .eq 13, 3) := by decide +kernel
theorem d_M_direct_75 : decode b_M_direct 75 = .ok (.iload_n 3, 1) := by decide +kernel
theorem d_M_direct_76 : decode b_M_direct 76 = .ok (.aload_n 0, 1) := by decide +kernel
theorem d_M_direct_77 : decode b_M_direct 77 = .ok (.getfield 16, 3) := by decide +kernel
theorem d_M_direct_80 : decode b_M_direct 80 = .ok (.iload_n 1, 1) := by decide +kernel
theorem d_M_direct_81 : decode b_M_direct 81 = .ok (.iaload, 1) := by decide +kernel
theorem d_M_direct_82 : decode b_M_direct 82 = .ok (.if_icmp .ne 7, 3) := by decide +kernel
theorem d_M_direct_85 : decode b_M_direct 85 = .ok (.iconst 1, 1) := by decide +kernel
theorem d_M_direct_86 : decode b_M_direct 86 = .ok (.goto 4, 3) := by decide +kernel
theorem d_M_direct_89 : decode b_M_direct 89 = .ok (.iconst 0, 1) := by decide +kernel
theorem d_M_direct_90 : decode b_M_direct 90 = .ok (.ireturn, 1) := by decide +kernel
theorem d_M_direct_91 : decode b_M_direct 91 = .ok (.iload 5, 2) := by decide +kernel
theorem d_M_direct_93 : decode b_M_direct 93 = .ok (.iconst 4, 1) := by decide +kernel
theorem d_M_direct_94 : decode b_M_direct 94 = .ok (.if_icmp .ne 25, 3) := by decide +kernel
theorem d_M_direct_97 : decode b_M_direct 97 = .ok (.iload 4, 2) := by decide +kernel
theorem d_M_direct_99 : decode b_M_direct 99 = .ok (.iload_n 2, 1) := by decide +kernel
theorem d_M_direct_100 : decode b_M_direct 100 = .ok (.if_icmp .ne 17, 3) := by decide +kernel
theorem d_M_direct_103 : decode b_M_direct 103 = .ok (.iload_n 3, 1) := by decide +kernel
theorem d_M_direct_104 : decode b_M_direct 104 = .ok (.aload_n 0, 1) := by decide +kernel
theorem d_M_direct_105 : decode b_M_direct 105 = .ok (.getfield 13, 3) := by decide +kernel
theorem d_M_direct_108 : decode b_M_direct 108 = .ok (.iload_n 1, 1) := by decide +kernel
theorem d_M_direct_109 : decode b_M_direct 109 = .ok (.iaload, 1) := by decide +kernel
theorem d_M_direct_110 : decode b_M_direct 110 = .ok (.if_icmp .ne 7, 3) := by decide +kernel
theorem d_M_direct_113 : decode b_M_direct 113 = .ok (.iconst 1, 1) := by decide +kernel
theorem d_M_direct_114 : decode b_M_direct 114 = .ok (.goto 4, 3) := by decide +kernel
theorem d_M_direct_117 : decode b_M_direct 117 = .ok (.iconst 0, 1) := by decide +kernel
theorem d_M_direct_118 : decode b_M_direct 118 = .ok (.ireturn, 1) := by decide +kernel
theorem d_M_direct_119 : decode b_M_direct 119 = .ok (.iload 5, 2) := by decide +kernel
theorem d_M_direct_121 : decode b_M_direct 121 = .ok (.iconst 5, 1) := by decide +kernel
theorem d_M_direct_122 : decode b_M_direct 122 = .ok (.if_icmp .ne 33, 3) := by decide +kernel
theorem d_M_direct_125 : decode b_M_direct 125 = .ok (.iload_n 2, 1) := by decide +kernel
theorem d_M_direct_126 : decode b_M_direct 126 = .ok (.bipush 15, 2) := by decide +kernel
theorem d_M_direct_128 : decode b_M_direct 128 = .ok (.if_icmp .ge 25, 3) := by decide +kernel
theorem d_M_direct_131 : decode b_M_direct 131 = .ok (.iload 4, 2) := by decide +kernel
theorem d_M_direct_133 : decode b_M_direct 133 = .ok (.iload_n 2, 1) := by decide +kernel
theorem d_M_direct_134 : decode b_M_direct 134 = .ok (.iconst 1, 1) := by decide +kernel
theorem d_M_direct_135 : decode b_M_direct 135 = .ok (.iadd, 1) := by decide +kernel
theorem d_M_direct_136 : decode b_M_direct 136 = .ok (.if_icmp .ne 17, 3) := by decide +kernel
theorem d_M_direct_139 : decode b_M_direct 139 = .ok (.iload_n 3, 1) := by decide +kernel
theorem d_M_direct_140 : decode b_M_direct 140 = .ok (.aload_n 0, 1) := by decide +kernel
theorem d_M_direct_141 : decode b_M_direct 141 = .ok (.getfield 13, 3) := by decide +kernel
theorem d_M_direct_144 : decode b_M_direct 144 = .ok (.iload_n 1, 1) := by decide +kernel
theorem d_M_direct_145 : decode b_M_direct 145 = .ok (.iaload, 1) := by decide +kernel
theorem d_M_direct_146 : decode b_M_direct 146 = .ok (.if_icmp .ne 7, 3) := by decide +kernel
theorem d_M_direct_149 : decode b_M_direct 149 = .ok (.iconst 1, 1) := by decide +kernel
theorem d_M_direct_150 : decode b_M_direct 150 = .ok (.goto 4, 3) := by decide +kernel
theorem d_M_direct_153 : decode b_M_direct 153 = .ok (.iconst 0, 1) := by decide +kernel
theorem d_M_direct_154 : decode b_M_direct 154 = .ok (.ireturn, 1) := by decide +kernel
theorem d_M_direct_155 : decode b_M_direct 155 = .ok (.iload 5, 2) := by decide +kernel
theorem d_M_direct_157 : decode b_M_direct 157 = .ok (.bipush 6, 2) := by decide +kernel
theorem d_M_direct_159 : decode b_M_direct 159 = .ok (.if_icmp .eq 10, 3) := by decide +kernel
theorem d_M_direct_162 : decode b_M_direct 162 = .ok (.iload 5, 2) := by decide +kernel
theorem d_M_direct_164 : decode b_M_direct 164 = .ok (.bipush 8, 2) := by decide +kernel
theorem d_M_direct_166 : decode b_M_direct 166 = .ok (.if_icmp .ne 31, 3) := by decide +kernel
theorem d_M_direct_169 : decode b_M_direct 169 = .ok (.iload_n 2, 1) := by decide +kernel
theorem d_M_direct_170 : decode b_M_direct 170 = .ok (.ifCond .le 25, 3) := by decide +kernel
theorem d_M_direct_173 : decode b_M_direct 173 = .ok (.iload 4, 2) := by decide +kernel
theorem d_M_direct_175 : decode b_M_direct 175 = .ok (.iload_n 2, 1) := by decide +kernel
theorem d_M_direct_176 : decode b_M_direct 176 = .ok (.iconst 1, 1) := by decide +kernel
theorem d_M_direct_177 : decode b_M_direct 177 = .ok (.isub, 1) := by decide +kernel
theorem d_M_direct_178 : decode b_M_direct 178 = .ok (.if_icmp .ne 17, 3) := by decide +kernel
theorem d_M_direct_181 : decode b_M_direct 181 = .ok (.iload_n 3, 1) := by decide +kernel
theorem d_M_direct_182 : decode b_M_direct 182 = .ok (.aload_n 0, 1) := by decide +kernel
theorem d_M_direct_183 : decode b_M_direct 183 = .ok (.getfield 13, 3) := by decide +kernel
theorem d_M_direct_186 : decode b_M_direct 186 = .ok (.iload_n 1, 1) := by decide +kernel
theorem d_M_direct_187 : decode b_M_direct 187 = .ok (.iaload, 1) := by decide +kernel
theorem d_M_direct_188 : decode b_M_direct 188 = .ok (.if_icmp .ne 7, 3) := by decide +kernel
theorem d_M_direct_191 : decode b_M_direct 191 = .ok (.iconst 1, 1) := by decide +kernel
theorem d_M_direct_192 : decode b_M_direct 192 = .ok (.goto 4, 3) := by decide +kernel
theorem d_M_direct_195 : decode b_M_direct 195 = .ok (.iconst 0, 1) := by decide +kernel
theorem d_M_direct_196 : decode b_M_direct 196 = .ok (.ireturn, 1) := by decide +kernel
theorem d_M_direct_197 : decode b_M_direct 197 = .ok (.iload 5, 2) := by decide +kernel
theorem d_M_direct_199 : decode b_M_direct 199 = .ok (.bipush 7, 2) := by decide +kernel
theorem d_M_direct_201 : decode b_M_direct 201 = .ok (.if_icmp .ne 36, 3) := by decide +kernel
theorem d_M_direct_204 : decode b_M_direct 204 = .ok (.iload 4, 2) := by decide +kernel
theorem d_M_direct_206 : decode b_M_direct 206 = .ok (.iload_n 2, 1) := by decide +kernel
theorem d_M_direct_207 : decode b_M_direct 207 = .ok (.if_icmp .gt 13, 3) := by decide +kernel
theorem d_M_direct_210 : decode b_M_direct 210 = .ok (.iload_n 3, 1) := by decide +kernel
theorem d_M_direct_211 : decode b_M_direct 211 = .ok (.aload_n 0, 1) := by decide +kernel
theorem d_M_direct_212 : decode b_M_direct 212 = .ok (.getfield 13, 3) := by decide +kernel
theorem d_M_direct_215 : decode b_M_direct 215 = .ok (.iload_n 1, 1) := by decide +kernel
theorem d_M_direct_216 : decode b_M_direct 216 = .ok (.iaload, 1) := by decide +kernel
theorem d_M_direct_217 : decode b_M_direct 217 = .ok (.if_icmp .eq 14, 3) := by decide +kernel
theorem d_M_direct_220 : decode b_M_direct 220 = .ok (.iload 4, 2) := by decide +kernel
theorem d_M_direct_222 : decode b_M_direct 222 = .ok (.iload_n 2, 1) := by decide +kernel
theorem d_M_direct_223 : decode b_M_direct 223 = .ok (.if_icmp .ge 12, 3) := by decide +kernel
theorem d_M_direct_226 : decode b_M_direct 226 = .ok (.iload_n 3, 1) := by decide +kernel
theorem d_M_direct_227 : decode b_M_direct 227 = .ok (.iload_n 1, 1) := by decide +kernel
theorem d_M_direct_228 : decode b_M_direct 228 = .ok (.if_icmp .ne 7, 3) := by decide +kernel
theorem d_M_direct_231 : decode b_M_direct 231 = .ok (.iconst 1, 1) := by decide +kernel
theorem d_M_direct_232 : decode b_M_direct 232 = .ok (.goto 4, 3) := by decide +kernel
theorem d_M_direct_235 : decode b_M_direct 235 = .ok (.iconst 0, 1) := by decide +kernel
theorem d_M_direct_236 : decode b_M_direct 236 = .ok (.ireturn, 1) := by decide +kernel
theorem d_M_direct_237 : decode b_M_direct 237 = .ok (.iconst 0, 1) := by decide +kernel
theorem d_M_direct_238 : decode b_M_direct 238 = .ok (.ireturn, 1) := by decide +kernel
theorem d_M_ready_0 : decode b_M_ready 0 = .ok (.aload_n 0, 1) := by decide +kernel
theorem d_M_ready_1 : decode b_M_ready 1 = .ok (.getfield 16, 3) := by decide +kernel
theorem d_M_ready_4 : decode b_M_ready 4 = .ok (.iload_n 1, 1) := by decide +kernel
theorem d_M_ready_5 : decode b_M_ready 5 = .ok (.iaload, 1) := by decide +kernel
theorem d_M_ready_6 : decode b_M_ready 6 = .ok (.bipush 7, 2) := by decide +kernel
theorem d_M_ready_8 : decode b_M_ready 8 = .ok (.iand, 1) := by decide +kernel
theorem d_M_ready_9 : decode b_M_ready 9 = .ok (.istore_n 3, 1) := by decide +kernel
theorem d_M_ready_10 : decode b_M_ready 10 = .ok (.iconst 0, 1) := by decide +kernel
theorem d_M_ready_11 : decode b_M_ready 11 = .ok (.istore 4, 2) := by decide +kernel
theorem d_M_ready_13 : decode b_M_ready 13 = .ok (.iload 4, 2) := by decide +kernel
theorem d_M_ready_15 : decode b_M_ready 15 = .ok (.bipush 16, 2) := by decide +kernel
theorem d_M_ready_17 : decode b_M_ready 17 = .ok (.if_icmp .ge 106, 3) := by decide +kernel
theorem d_M_ready_20 : decode b_M_ready 20 = .ok (.aload_n 0, 1) := by decide +kernel
theorem d_M_ready_21 : decode b_M_ready 21 = .ok (.iload_n 1, 1) := by decide +kernel
theorem d_M_ready_22 : decode b_M_ready 22 = .ok (.iload_n 2, 1) := by decide +kernel
theorem d_M_ready_23 : decode b_M_ready 23 = .ok (.aload_n 0, 1) := by decide +kernel
theorem d_M_ready_24 : decode b_M_ready 24 = .ok (.getfield 13, 3) := by decide +kernel
theorem d_M_ready_27 : decode b_M_ready 27 = .ok (.iload_n 1, 1) := by decide +kernel
theorem d_M_ready_28 : decode b_M_ready 28 = .ok (.iaload, 1) := by decide +kernel
theorem d_M_ready_29 : decode b_M_ready 29 = .ok (.iload 4, 2) := by decide +kernel
theorem d_M_ready_31 : decode b_M_ready 31 = .ok (.invokevirtual 43, 3) := by decide +kernel
theorem d_M_ready_34 : decode b_M_ready 34 = .ok (.ifCond .eq 25, 3) := by decide +kernel
theorem d_M_ready_37 : decode b_M_ready 37 = .ok (.aload_n 0, 1) := by decide +kernel
theorem d_M_ready_38 : decode b_M_ready 38 = .ok (.getfield 19, 3) := by decide +kernel
theorem d_M_ready_41 : decode b_M_ready 41 = .ok (.bipush 16, 2) := by decide +kernel
theorem d_M_ready_43 : decode b_M_ready 43 = .ok (.aload_n 0, 1) := by decide +kernel
theorem d_M_ready_44 : decode b_M_ready 44 = .ok (.getfield 13, 3) := by decide +kernel
theorem d_M_ready_47 : decode b_M_ready 47 = .ok (.iload_n 1, 1) := by decide +kernel
theorem d_M_ready_48 : decode b_M_ready 48 = .ok (.iaload, 1) := by decide +kernel
theorem d_M_ready_49 : decode b_M_ready 49 = .ok (.imul, 1) := by decide +kernel
theorem d_M_ready_50 : decode b_M_ready 50 = .ok (.iload 4, 2) := by decide +kernel
theorem d_M_ready_52 : decode b_M_ready 52 = .ok (.iadd, 1) := by decide +kernel
theorem d_M_ready_53 : decode b_M_ready 53 = .ok (.baload, 1) := by decide +kernel
theorem d_M_ready_54 : decode b_M_ready 54 = .ok (.ifCond .ne 5, 3) := by decide +kernel
theorem d_M_ready_57 : decode b_M_ready 57 = .ok (.iconst 0, 1) := by decide +kernel
theorem d_M_ready_58 : decode b_M_ready 58 = .ok (.ireturn, 1) := by decide +kernel
theorem d_M_ready_59 : decode b_M_ready 59 = .ok (.aload_n 0, 1) := by decide +kernel
theorem d_M_ready_60 : decode b_M_ready 60 = .ok (.iload_n 1, 1) := by decide +kernel
theorem d_M_ready_61 : decode b_M_ready 61 = .ok (.iload_n 2, 1) := by decide +kernel
theorem d_M_ready_62 : decode b_M_ready 62 = .ok (.iload_n 3, 1) := by decide +kernel
theorem d_M_ready_63 : decode b_M_ready 63 = .ok (.iload 4, 2) := by decide +kernel
theorem d_M_ready_65 : decode b_M_ready 65 = .ok (.invokevirtual 43, 3) := by decide +kernel
theorem d_M_ready_68 : decode b_M_ready 68 = .ok (.ifCond .eq 20, 3) := by decide +kernel
theorem d_M_ready_71 : decode b_M_ready 71 = .ok (.aload_n 0, 1) := by decide +kernel
theorem d_M_ready_72 : decode b_M_ready 72 = .ok (.getfield 19, 3) := by decide +kernel
theorem d_M_ready_75 : decode b_M_ready 75 = .ok (.bipush 16, 2) := by decide +kernel
theorem d_M_ready_77 : decode b_M_ready 77 = .ok (.iload_n 3, 1) := by decide +kernel
theorem d_M_ready_78 : decode b_M_ready 78 = .ok (.imul, 1) := by decide +kernel
theorem d_M_ready_79 : decode b_M_ready 79 = .ok (.iload 4, 2) := by decide +kernel
theorem d_M_ready_81 : decode b_M_ready 81 = .ok (.iadd, 1) := by decide +kernel
theorem d_M_ready_82 : decode b_M_ready 82 = .ok (.baload, 1) := by decide +kernel
theorem d_M_ready_83 : decode b_M_ready 83 = .ok (.ifCond .ne 5, 3) := by decide +kernel
theorem d_M_ready_86 : decode b_M_ready 86 = .ok (.iconst 0, 1) := by decide +kernel
theorem d_M_ready_87 : decode b_M_ready 87 = .ok (.ireturn, 1) := by decide +kernel
theorem d_M_ready_88 : decode b_M_ready 88 = .ok (.aload_n 0, 1) := by decide +kernel
theorem d_M_ready_89 : decode b_M_ready 89 = .ok (.iload_n 1, 1) := by decide +kernel
theorem d_M_ready_90 : decode b_M_ready 90 = .ok (.iload_n 2, 1) := by decide +kernel
theorem d_M_ready_91 : decode b_M_ready 91 = .ok (.iload_n 1, 1) := by decide +kernel
theorem d_M_ready_92 : decode b_M_ready 92 = .ok (.iload 4, 2) := by decide +kernel
theorem d_M_ready_94 : decode b_M_ready 94 = .ok (.invokevirtual 43, 3) := by decide +kernel
theorem d_M_ready_97 : decode b_M_ready 97 = .ok (.ifCond .eq 20, 3) := by decide +kernel
theorem d_M_ready_100 : decode b_M_ready 100 = .ok (.aload_n 0, 1) := by decide +kernel
theorem d_M_ready_101 : decode b_M_ready 101 = .ok (.getfield 19, 3) := by decide +kernel
theorem d_M_ready_104 : decode b_M_ready 104 = .ok (.bipush 16, 2) := by decide +kernel
theorem d_M_ready_106 : decode b_M_ready 106 = .ok (.iload_n 1, 1) := by decide +kernel
theorem d_M_ready_107 : decode b_M_ready 107 = .ok (.imul, 1) := by decide +kernel
theorem d_M_ready_108 : decode b_M_ready 108 = .ok (.iload 4, 2) := by decide +kernel
theorem d_M_ready_110 : decode b_M_ready 110 = .ok (.iadd, 1) := by decide +kernel
theorem d_M_ready_111 : decode b_M_ready 111 = .ok (.baload, 1) := by decide +kernel
theorem d_M_ready_112 : decode b_M_ready 112 = .ok (.ifCond .ne 5, 3) := by decide +kernel
theorem d_M_ready_115 : decode b_M_ready 115 = .ok (.iconst 0, 1) := by decide +kernel
theorem d_M_ready_116 : decode b_M_ready 116 = .ok (.ireturn, 1) := by decide +kernel
theorem d_M_ready_117 : decode b_M_ready 117 = .ok (.iinc 4 1, 3) := by decide +kernel
theorem d_M_ready_120 : decode b_M_ready 120 = .ok (.goto (-107), 3) := by decide +kernel
theorem d_M_ready_123 : decode b_M_ready 123 = .ok (.iconst 1, 1) := by decide +kernel
theorem d_M_ready_124 : decode b_M_ready 124 = .ok (.ireturn, 1) := by decide +kernel
theorem d_M_quotient_0 : decode b_M_quotient 0 = .ok (.iconst 0, 1) := by decide +kernel
theorem d_M_quotient_1 : decode b_M_quotient 1 = .ok (.istore_n 3, 1) := by decide +kernel
theorem d_M_quotient_2 : decode b_M_quotient 2 = .ok (.iload_n 3, 1) := by decide +kernel
theorem d_M_quotient_3 : decode b_M_quotient 3 = .ok (.bipush 97, 2) := by decide +kernel
theorem d_M_quotient_5 : decode b_M_quotient 5 = .ok (.if_icmp .ge 21, 3) := by decide +kernel
theorem d_M_quotient_8 : decode b_M_quotient 8 = .ok (.iload_n 2, 1) := by decide +kernel
theorem d_M_quotient_9 : decode b_M_quotient 9 = .ok (.iload_n 3, 1) := by decide +kernel
theorem d_M_quotient_10 : decode b_M_quotient 10 = .ok (.imul, 1) := by decide +kernel
theorem d_M_quotient_11 : decode b_M_quotient 11 = .ok (.bipush 97, 2) := by decide +kernel
theorem d_M_quotient_13 : decode b_M_quotient 13 = .ok (.irem, 1) := by decide +kernel
theorem d_M_quotient_14 : decode b_M_quotient 14 = .ok (.iload_n 1, 1) := by decide +kernel
theorem d_M_quotient_15 : decode b_M_quotient 15 = .ok (.if_icmp .ne 5, 3) := by decide +kernel
theorem d_M_quotient_18 : decode b_M_quotient 18 = .ok (.iload_n 3, 1) := by decide +kernel
theorem d_M_quotient_19 : decode b_M_quotient 19 = .ok (.ireturn, 1) := by decide +kernel
theorem d_M_quotient_20 : decode b_M_quotient 20 = .ok (.iinc 3 1, 3) := by decide +kernel
theorem d_M_quotient_23 : decode b_M_quotient 23 = .ok (.goto (-21), 3) := by decide +kernel
theorem d_M_quotient_26 : decode b_M_quotient 26 = .ok (.iconst 0, 1) := by decide +kernel
theorem d_M_quotient_27 : decode b_M_quotient 27 = .ok (.ireturn, 1) := by decide +kernel
theorem d_M_convolved_0 : decode b_M_convolved 0 = .ok (.iconst 0, 1) := by decide +kernel
theorem d_M_convolved_1 : decode b_M_convolved 1 = .ok (.istore_n 3, 1) := by decide +kernel
theorem d_M_convolved_2 : decode b_M_convolved 2 = .ok (.iconst 0, 1) := by decide +kernel
theorem d_M_convolved_3 : decode b_M_convolved 3 = .ok (.istore 4, 2) := by decide +kernel
theorem d_M_convolved_5 : decode b_M_convolved 5 = .ok (.iload 4, 2) := by decide +kernel
theorem d_M_convolved_7 : decode b_M_convolved 7 = .ok (.iload_n 2, 1) := by decide +kernel
theorem d_M_convolved_8 : decode b_M_convolved 8 = .ok (.if_icmp .gt 49, 3) := by decide +kernel
theorem d_M_convolved_11 : decode b_M_convolved 11 = .ok (.iload_n 3, 1) := by decide +kernel
theorem d_M_convolved_12 : decode b_M_convolved 12 = .ok (.aload_n 0, 1) := by decide +kernel
theorem d_M_convolved_13 : decode b_M_convolved 13 = .ok (.getfield 23, 3) := by decide +kernel
theorem d_M_convolved_16 : decode b_M_convolved 16 = .ok (.bipush 16, 2) := by decide +kernel
theorem d_M_convolved_18 : decode b_M_convolved 18 = .ok (.aload_n 0, 1) := by decide +kernel
theorem d_M_convolved_19 : decode b_M_convolved 19 = .ok (.getfield 13, 3) := by decide +kernel
theorem d_M_convolved_22 : decode b_M_convolved 22 = .ok (.iload_n 1, 1) := by decide +kernel
theorem d_M_convolved_23 : decode b_M_convolved 23 = .ok (.iaload, 1) := by decide +kernel
theorem d_M_convolved_24 : decode b_M_convolved 24 = .ok (.imul, 1) := by decide +kernel
theorem d_M_convolved_25 : decode b_M_convolved 25 = .ok (.iload 4, 2) := by decide +kernel
theorem d_M_convolved_27 : decode b_M_convolved 27 = .ok (.iadd, 1) := by decide +kernel
theorem d_M_convolved_28 : decode b_M_convolved 28 = .ok (.iaload, 1) := by decide +kernel
theorem d_M_convolved_29 : decode b_M_convolved 29 = .ok (.aload_n 0, 1) := by decide +kernel
theorem d_M_convolved_30 : decode b_M_convolved 30 = .ok (.getfield 23, 3) := by decide +kernel
theorem d_M_convolved_33 : decode b_M_convolved 33 = .ok (.bipush 16, 2) := by decide +kernel
theorem d_M_convolved_35 : decode b_M_convolved 35 = .ok (.aload_n 0, 1) := by decide +kernel
theorem d_M_convolved_36 : decode b_M_convolved 36 = .ok (.getfield 16, 3) := by decide +kernel
theorem d_M_convolved_39 : decode b_M_convolved 39 = .ok (.iload_n 1, 1) := by decide +kernel
theorem d_M_convolved_40 : decode b_M_convolved 40 = .ok (.iaload, 1) := by decide +kernel
theorem d_M_convolved_41 : decode b_M_convolved 41 = .ok (.imul, 1) := by decide +kernel
theorem d_M_convolved_42 : decode b_M_convolved 42 = .ok (.iload_n 2, 1) := by decide +kernel
theorem d_M_convolved_43 : decode b_M_convolved 43 = .ok (.iadd, 1) := by decide +kernel
theorem d_M_convolved_44 : decode b_M_convolved 44 = .ok (.iload 4, 2) := by decide +kernel
theorem d_M_convolved_46 : decode b_M_convolved 46 = .ok (.isub, 1) := by decide +kernel
theorem d_M_convolved_47 : decode b_M_convolved 47 = .ok (.iaload, 1) := by decide +kernel
theorem d_M_convolved_48 : decode b_M_convolved 48 = .ok (.imul, 1) := by decide +kernel
theorem d_M_convolved_49 : decode b_M_convolved 49 = .ok (.iadd, 1) := by decide +kernel
theorem d_M_convolved_50 : decode b_M_convolved 50 = .ok (.istore_n 3, 1) := by decide +kernel
theorem d_M_convolved_51 : decode b_M_convolved 51 = .ok (.iinc 4 1, 3) := by decide +kernel
theorem d_M_convolved_54 : decode b_M_convolved 54 = .ok (.goto (-49), 3) := by decide +kernel
theorem d_M_convolved_57 : decode b_M_convolved 57 = .ok (.iload_n 3, 1) := by decide +kernel
theorem d_M_convolved_58 : decode b_M_convolved 58 = .ok (.bipush 97, 2) := by decide +kernel
theorem d_M_convolved_60 : decode b_M_convolved 60 = .ok (.irem, 1) := by decide +kernel
theorem d_M_convolved_61 : decode b_M_convolved 61 = .ok (.ireturn, 1) := by decide +kernel
theorem d_M_reciprocal_0 : decode b_M_reciprocal 0 = .ok (.aload_n 0, 1) := by decide +kernel
theorem d_M_reciprocal_1 : decode b_M_reciprocal 1 = .ok (.getfield 23, 3) := by decide +kernel
theorem d_M_reciprocal_4 : decode b_M_reciprocal 4 = .ok (.bipush 16, 2) := by decide +kernel
theorem d_M_reciprocal_6 : decode b_M_reciprocal 6 = .ok (.aload_n 0, 1) := by decide +kernel
theorem d_M_reciprocal_7 : decode b_M_reciprocal 7 = .ok (.getfield 13, 3) := by decide +kernel
theorem d_M_reciprocal_10 : decode b_M_reciprocal 10 = .ok (.iload_n 1, 1) := by decide +kernel
theorem d_M_reciprocal_11 : decode b_M_reciprocal 11 = .ok (.iaload, 1) := by decide +kernel
theorem d_M_reciprocal_12 : decode b_M_reciprocal 12 = .ok (.imul, 1) := by decide +kernel
theorem d_M_reciprocal_13 : decode b_M_reciprocal 13 = .ok (.iaload, 1) := by decide +kernel
theorem d_M_reciprocal_14 : decode b_M_reciprocal 14 = .ok (.istore_n 3, 1) := by decide +kernel
theorem d_M_reciprocal_15 : decode b_M_reciprocal 15 = .ok (.iload_n 2, 1) := by decide +kernel
theorem d_M_reciprocal_16 : decode b_M_reciprocal 16 = .ok (.ifCond .ne 10, 3) := by decide +kernel
theorem d_M_reciprocal_19 : decode b_M_reciprocal 19 = .ok (.aload_n 0, 1) := by decide +kernel
theorem d_M_reciprocal_20 : decode b_M_reciprocal 20 = .ok (.iconst 1, 1) := by decide +kernel
theorem d_M_reciprocal_21 : decode b_M_reciprocal 21 = .ok (.iload_n 3, 1) := by decide +kernel
theorem d_M_reciprocal_22 : decode b_M_reciprocal 22 = .ok (.invokevirtual 47, 3) := by decide +kernel
theorem d_M_reciprocal_25 : decode b_M_reciprocal 25 = .ok (.ireturn, 1) := by decide +kernel
theorem d_M_reciprocal_26 : decode b_M_reciprocal 26 = .ok (.iconst 0, 1) := by decide +kernel
theorem d_M_reciprocal_27 : decode b_M_reciprocal 27 = .ok (.istore 4, 2) := by decide +kernel
theorem d_M_reciprocal_29 : decode b_M_reciprocal 29 = .ok (.iconst 1, 1) := by decide +kernel
theorem d_M_reciprocal_30 : decode b_M_reciprocal 30 = .ok (.istore 5, 2) := by decide +kernel
theorem d_M_reciprocal_32 : decode b_M_reciprocal 32 = .ok (.iload 5, 2) := by decide +kernel
theorem d_M_reciprocal_34 : decode b_M_reciprocal 34 = .ok (.iload_n 2, 1) := by decide +kernel
theorem d_M_reciprocal_35 : decode b_M_reciprocal 35 = .ok (.if_icmp .gt 46, 3) := by decide +kernel
theorem d_M_reciprocal_38 : decode b_M_reciprocal 38 = .ok (.iload 4, 2) := by decide +kernel
theorem d_M_reciprocal_40 : decode b_M_reciprocal 40 = .ok (.aload_n 0, 1) := by decide +kernel
theorem d_M_reciprocal_41 : decode b_M_reciprocal 41 = .ok (.getfield 23, 3) := by decide +kernel
theorem d_M_reciprocal_44 : decode b_M_reciprocal 44 = .ok (.bipush 16, 2) := by decide +kernel
theorem d_M_reciprocal_46 : decode b_M_reciprocal 46 = .ok (.aload_n 0, 1) := by decide +kernel
theorem d_M_reciprocal_47 : decode b_M_reciprocal 47 = .ok (.getfield 13, 3) := by decide +kernel
theorem d_M_reciprocal_50 : decode b_M_reciprocal 50 = .ok (.iload_n 1, 1) := by decide +kernel
theorem d_M_reciprocal_51 : decode b_M_reciprocal 51 = .ok (.iaload, 1) := by decide +kernel
theorem d_M_reciprocal_52 : decode b_M_reciprocal 52 = .ok (.imul, 1) := by decide +kernel
theorem d_M_reciprocal_53 : decode b_M_reciprocal 53 = .ok (.iload 5, 2) := by decide +kernel
theorem d_M_reciprocal_55 : decode b_M_reciprocal 55 = .ok (.iadd, 1) := by decide +kernel
theorem d_M_reciprocal_56 : decode b_M_reciprocal 56 = .ok (.iaload, 1) := by decide +kernel
theorem d_M_reciprocal_57 : decode b_M_reciprocal 57 = .ok (.aload_n 0, 1) := by decide +kernel
theorem d_M_reciprocal_58 : decode b_M_reciprocal 58 = .ok (.getfield 23, 3) := by decide +kernel
theorem d_M_reciprocal_61 : decode b_M_reciprocal 61 = .ok (.bipush 16, 2) := by decide +kernel
theorem d_M_reciprocal_63 : decode b_M_reciprocal 63 = .ok (.iload_n 1, 1) := by decide +kernel
theorem d_M_reciprocal_64 : decode b_M_reciprocal 64 = .ok (.imul, 1) := by decide +kernel
theorem d_M_reciprocal_65 : decode b_M_reciprocal 65 = .ok (.iload_n 2, 1) := by decide +kernel
theorem d_M_reciprocal_66 : decode b_M_reciprocal 66 = .ok (.iadd, 1) := by decide +kernel
theorem d_M_reciprocal_67 : decode b_M_reciprocal 67 = .ok (.iload 5, 2) := by decide +kernel
theorem d_M_reciprocal_69 : decode b_M_reciprocal 69 = .ok (.isub, 1) := by decide +kernel
theorem d_M_reciprocal_70 : decode b_M_reciprocal 70 = .ok (.iaload, 1) := by decide +kernel
theorem d_M_reciprocal_71 : decode b_M_reciprocal 71 = .ok (.imul, 1) := by decide +kernel
theorem d_M_reciprocal_72 : decode b_M_reciprocal 72 = .ok (.iadd, 1) := by decide +kernel
theorem d_M_reciprocal_73 : decode b_M_reciprocal 73 = .ok (.istore 4, 2) := by decide +kernel
theorem d_M_reciprocal_75 : decode b_M_reciprocal 75 = .ok (.iinc 5 1, 3) := by decide +kernel
theorem d_M_reciprocal_78 : decode b_M_reciprocal 78 = .ok (.goto (-46), 3) := by decide +kernel
theorem d_M_reciprocal_81 : decode b_M_reciprocal 81 = .ok (.bipush 97, 2) := by decide +kernel
theorem d_M_reciprocal_83 : decode b_M_reciprocal 83 = .ok (.iload 4, 2) := by decide +kernel
theorem d_M_reciprocal_85 : decode b_M_reciprocal 85 = .ok (.bipush 97, 2) := by decide +kernel
theorem d_M_reciprocal_87 : decode b_M_reciprocal 87 = .ok (.irem, 1) := by decide +kernel
theorem d_M_reciprocal_88 : decode b_M_reciprocal 88 = .ok (.isub, 1) := by decide +kernel
theorem d_M_reciprocal_89 : decode b_M_reciprocal 89 = .ok (.aload_n 0, 1) := by decide +kernel
theorem d_M_reciprocal_90 : decode b_M_reciprocal 90 = .ok (.getfield 23, 3) := by decide +kernel
theorem d_M_reciprocal_93 : decode b_M_reciprocal 93 = .ok (.bipush 16, 2) := by decide +kernel
theorem d_M_reciprocal_95 : decode b_M_reciprocal 95 = .ok (.iload_n 1, 1) := by decide +kernel
theorem d_M_reciprocal_96 : decode b_M_reciprocal 96 = .ok (.imul, 1) := by decide +kernel
theorem d_M_reciprocal_97 : decode b_M_reciprocal 97 = .ok (.iaload, 1) := by decide +kernel
theorem d_M_reciprocal_98 : decode b_M_reciprocal 98 = .ok (.imul, 1) := by decide +kernel
theorem d_M_reciprocal_99 : decode b_M_reciprocal 99 = .ok (.bipush 97, 2) := by decide +kernel
theorem d_M_reciprocal_101 : decode b_M_reciprocal 101 = .ok (.irem, 1) := by decide +kernel
theorem d_M_reciprocal_102 : decode b_M_reciprocal 102 = .ok (.ireturn, 1) := by decide +kernel
theorem d_M_raise_0 : decode b_M_raise 0 = .ok (.iconst 0, 1) := by decide +kernel
theorem d_M_raise_1 : decode b_M_raise 1 = .ok (.istore_n 3, 1) := by decide +kernel
theorem d_M_raise_2 : decode b_M_raise 2 = .ok (.iload_n 3, 1) := by decide +kernel
theorem d_M_raise_3 : decode b_M_raise 3 = .ok (.iload_n 2, 1) := by decide +kernel
theorem d_M_raise_4 : decode b_M_raise 4 = .ok (.if_icmp .gt 71, 3) := by decide +kernel
theorem d_M_raise_7 : decode b_M_raise 7 = .ok (.iload_n 3, 1) := by decide +kernel
theorem d_M_raise_8 : decode b_M_raise 8 = .ok (.bipush 16, 2) := by decide +kernel
theorem d_M_raise_10 : decode b_M_raise 10 = .ok (.if_icmp .ge 65, 3) := by decide +kernel
theorem d_M_raise_13 : decode b_M_raise 13 = .ok (.iconst 0, 1) := by decide +kernel
theorem d_M_raise_14 : decode b_M_raise 14 = .ok (.istore 4, 2) := by decide +kernel
theorem d_M_raise_16 : decode b_M_raise 16 = .ok (.iconst 0, 1) := by decide +kernel
theorem d_M_raise_17 : decode b_M_raise 17 = .ok (.istore 5, 2) := by decide +kernel
theorem d_M_raise_19 : decode b_M_raise 19 = .ok (.iload 5, 2) := by decide +kernel
theorem d_M_raise_21 : decode b_M_raise 21 = .ok (.iload_n 3, 1) := by decide +kernel
theorem d_M_raise_22 : decode b_M_raise 22 = .ok (.if_icmp .gt 36, 3) := by decide +kernel
theorem d_M_raise_25 : decode b_M_raise 25 = .ok (.iload 4, 2) := by decide +kernel
theorem d_M_raise_27 : decode b_M_raise 27 = .ok (.aload_n 0, 1) := by decide +kernel
theorem d_M_raise_28 : decode b_M_raise 28 = .ok (.getfield 29, 3) := by decide +kernel
theorem d_M_raise_31 : decode b_M_raise 31 = .ok (.iload 5, 2) := by decide +kernel
theorem d_M_raise_33 : decode b_M_raise 33 = .ok (.iaload, 1) := by decide +kernel
theorem d_M_raise_34 : decode b_M_raise 34 = .ok (.aload_n 0, 1) := by decide +kernel
theorem d_M_raise_35 : decode b_M_raise 35 = .ok (.getfield 23, 3) := by decide +kernel
theorem d_M_raise_38 : decode b_M_raise 38 = .ok (.bipush 16, 2) := by decide +kernel
theorem d_M_raise_40 : decode b_M_raise 40 = .ok (.iload_n 1, 1) := by decide +kernel
theorem d_M_raise_41 : decode b_M_raise 41 = .ok (.imul, 1) := by decide +kernel
theorem d_M_raise_42 : decode b_M_raise 42 = .ok (.iload_n 3, 1) := by decide +kernel
theorem d_M_raise_43 : decode b_M_raise 43 = .ok (.iadd, 1) := by decide +kernel
theorem d_M_raise_44 : decode b_M_raise 44 = .ok (.iload 5, 2) := by decide +kernel
theorem d_M_raise_46 : decode b_M_raise 46 = .ok (.isub, 1) := by decide +kernel
theorem d_M_raise_47 : decode b_M_raise 47 = .ok (.iaload, 1) := by decide +kernel
theorem d_M_raise_48 : decode b_M_raise 48 = .ok (.imul, 1) := by decide +kernel
theorem d_M_raise_49 : decode b_M_raise 49 = .ok (.iadd, 1) := by decide +kernel
theorem d_M_raise_50 : decode b_M_raise 50 = .ok (.istore 4, 2) := by decide +kernel
theorem d_M_raise_52 : decode b_M_raise 52 = .ok (.iinc 5 1, 3) := by decide +kernel
theorem d_M_raise_55 : decode b_M_raise 55 = .ok (.goto (-36), 3) := by decide +kernel
theorem d_M_raise_58 : decode b_M_raise 58 = .ok (.aload_n 0, 1) := by decide +kernel
theorem d_M_raise_59 : decode b_M_raise 59 = .ok (.getfield 32, 3) := by decide +kernel
theorem d_M_raise_62 : decode b_M_raise 62 = .ok (.iload_n 3, 1) := by decide +kernel
theorem d_M_raise_63 : decode b_M_raise 63 = .ok (.iload 4, 2) := by decide +kernel
theorem d_M_raise_65 : decode b_M_raise 65 = .ok (.bipush 97, 2) := by decide +kernel
theorem d_M_raise_67 : decode b_M_raise 67 = .ok (.irem, 1) := by decide +kernel
theorem d_M_raise_68 : decode b_M_raise 68 = .ok (.iastore, 1) := by decide +kernel
theorem d_M_raise_69 : decode b_M_raise 69 = .ok (.iinc 3 1, 3) := by decide +kernel
theorem d_M_raise_72 : decode b_M_raise 72 = .ok (.goto (-70), 3) := by decide +kernel
theorem d_M_raise_75 : decode b_M_raise 75 = .ok (.iconst 0, 1) := by decide +kernel
theorem d_M_raise_76 : decode b_M_raise 76 = .ok (.istore_n 3, 1) := by decide +kernel
theorem d_M_raise_77 : decode b_M_raise 77 = .ok (.iload_n 3, 1) := by decide +kernel
theorem d_M_raise_78 : decode b_M_raise 78 = .ok (.iload_n 2, 1) := by decide +kernel
theorem d_M_raise_79 : decode b_M_raise 79 = .ok (.if_icmp .gt 27, 3) := by decide +kernel
theorem d_M_raise_82 : decode b_M_raise 82 = .ok (.iload_n 3, 1) := by decide +kernel
theorem d_M_raise_83 : decode b_M_raise 83 = .ok (.bipush 16, 2) := by decide +kernel
theorem d_M_raise_85 : decode b_M_raise 85 = .ok (.if_icmp .ge 21, 3) := by decide +kernel
theorem d_M_raise_88 : decode b_M_raise 88 = .ok (.aload_n 0, 1) := by decide +kernel
theorem d_M_raise_89 : decode b_M_raise 89 = .ok (.getfield 29, 3) := by decide +kernel
theorem d_M_raise_92 : decode b_M_raise 92 = .ok (.iload_n 3, 1) := by decide +kernel
theorem d_M_raise_93 : decode b_M_raise 93 = .ok (.aload_n 0, 1) := by decide +kernel
theorem d_M_raise_94 : decode b_M_raise 94 = .ok (.getfield 32, 3) := by decide +kernel
theorem d_M_raise_97 : decode b_M_raise 97 = .ok (.iload_n 3, 1) := by decide +kernel
theorem d_M_raise_98 : decode b_M_raise 98 = .ok (.iaload, 1) := by decide +kernel
theorem d_M_raise_99 : decode b_M_raise 99 = .ok (.iastore, 1) := by decide +kernel
theorem d_M_raise_100 : decode b_M_raise 100 = .ok (.iinc 3 1, 3) := by decide +kernel
theorem d_M_raise_103 : decode b_M_raise 103 = .ok (.goto (-26), 3) := by decide +kernel
theorem d_M_raise_106 : decode b_M_raise 106 = .ok (.return_, 1) := by decide +kernel
theorem d_M_composed_0 : decode b_M_composed 0 = .ok (.iconst 0, 1) := by decide +kernel
theorem d_M_composed_1 : decode b_M_composed 1 = .ok (.istore_n 3, 1) := by decide +kernel
theorem d_M_composed_2 : decode b_M_composed 2 = .ok (.iload_n 3, 1) := by decide +kernel
theorem d_M_composed_3 : decode b_M_composed 3 = .ok (.bipush 16, 2) := by decide +kernel
theorem d_M_composed_5 : decode b_M_composed 5 = .ok (.if_icmp .ge 24, 3) := by decide +kernel
theorem d_M_composed_8 : decode b_M_composed 8 = .ok (.aload_n 0, 1) := by decide +kernel
theorem d_M_composed_9 : decode b_M_composed 9 = .ok (.getfield 29, 3) := by decide +kernel
theorem d_M_composed_12 : decode b_M_composed 12 = .ok (.iload_n 3, 1) := by decide +kernel
theorem d_M_composed_13 : decode b_M_composed 13 = .ok (.iload_n 3, 1) := by decide +kernel
theorem d_M_composed_14 : decode b_M_composed 14 = .ok (.ifCond .ne 7, 3) := by decide +kernel
theorem d_M_composed_17 : decode b_M_composed 17 = .ok (.iconst 1, 1) := by decide +kernel
theorem d_M_composed_18 : decode b_M_composed 18 = .ok (.goto 4, 3) := by decide +kernel
theorem d_M_composed_21 : decode b_M_composed 21 = .ok (.iconst 0, 1) := by decide +kernel
theorem d_M_composed_22 : decode b_M_composed 22 = .ok (.iastore, 1) := by decide +kernel
theorem d_M_composed_23 : decode b_M_composed 23 = .ok (.iinc 3 1, 3) := by decide +kernel
theorem d_M_composed_26 : decode b_M_composed 26 = .ok (.goto (-24), 3) := by decide +kernel
theorem d_M_composed_29 : decode b_M_composed 29 = .ok (.iconst 0, 1) := by decide +kernel
theorem d_M_composed_30 : decode b_M_composed 30 = .ok (.istore_n 3, 1) := by decide +kernel
theorem d_M_composed_31 : decode b_M_composed 31 = .ok (.iconst 0, 1) := by decide +kernel
theorem d_M_composed_32 : decode b_M_composed 32 = .ok (.istore 4, 2) := by decide +kernel
theorem d_M_composed_34 : decode b_M_composed 34 = .ok (.iload 4, 2) := by decide +kernel
theorem d_M_composed_36 : decode b_M_composed 36 = .ok (.iload_n 2, 1) := by decide +kernel
theorem d_M_composed_37 : decode b_M_composed 37 = .ok (.if_icmp .gt 47, 3) := by decide +kernel
theorem d_M_composed_40 : decode b_M_composed 40 = .ok (.iload_n 3, 1) := by decide +kernel
theorem d_M_composed_41 : decode b_M_composed 41 = .ok (.aload_n 0, 1) := by decide +kernel
theorem d_M_composed_42 : decode b_M_composed 42 = .ok (.getfield 23, 3) := by decide +kernel
theorem d_M_composed_45 : decode b_M_composed 45 = .ok (.bipush 16, 2) := by decide +kernel
theorem d_M_composed_47 : decode b_M_composed 47 = .ok (.aload_n 0, 1) := by decide +kernel
theorem d_M_composed_48 : decode b_M_composed 48 = .ok (.getfield 13, 3) := by decide +kernel
theorem d_M_composed_51 : decode b_M_composed 51 = .ok (.iload_n 1, 1) := by decide +kernel
theorem d_M_composed_52 : decode b_M_composed 52 = .ok (.iaload, 1) := by decide +kernel
theorem d_M_composed_53 : decode b_M_composed 53 = .ok (.imul, 1) := by decide +kernel
theorem d_M_composed_54 : decode b_M_composed 54 = .ok (.iload 4, 2) := by decide +kernel
theorem d_M_composed_56 : decode b_M_composed 56 = .ok (.iadd, 1) := by decide +kernel
theorem d_M_composed_57 : decode b_M_composed 57 = .ok (.iaload, 1) := by decide +kernel
theorem d_M_composed_58 : decode b_M_composed 58 = .ok (.aload_n 0, 1) := by decide +kernel
theorem d_M_composed_59 : decode b_M_composed 59 = .ok (.getfield 29, 3) := by decide +kernel
theorem d_M_composed_62 : decode b_M_composed 62 = .ok (.iload_n 2, 1) := by decide +kernel
theorem d_M_composed_63 : decode b_M_composed 63 = .ok (.iaload, 1) := by decide +kernel
theorem d_M_composed_64 : decode b_M_composed 64 = .ok (.imul, 1) := by decide +kernel
theorem d_M_composed_65 : decode b_M_composed 65 = .ok (.iadd, 1) := by decide +kernel
theorem d_M_composed_66 : decode b_M_composed 66 = .ok (.istore_n 3, 1) := by decide +kernel
theorem d_M_composed_67 : decode b_M_composed 67 = .ok (.aload_n 0, 1) := by decide +kernel
theorem d_M_composed_68 : decode b_M_composed 68 = .ok (.aload_n 0, 1) := by decide +kernel
theorem d_M_composed_69 : decode b_M_composed 69 = .ok (.getfield 16, 3) := by decide +kernel
theorem d_M_composed_72 : decode b_M_composed 72 = .ok (.iload_n 1, 1) := by decide +kernel
theorem d_M_composed_73 : decode b_M_composed 73 = .ok (.iaload, 1) := by decide +kernel
theorem d_M_composed_74 : decode b_M_composed 74 = .ok (.iload_n 2, 1) := by decide +kernel
theorem d_M_composed_75 : decode b_M_composed 75 = .ok (.invokevirtual 51, 3) := by decide +kernel
theorem d_M_composed_78 : decode b_M_composed 78 = .ok (.iinc 4 1, 3) := by decide +kernel
theorem d_M_composed_81 : decode b_M_composed 81 = .ok (.goto (-47), 3) := by decide +kernel
theorem d_M_composed_84 : decode b_M_composed 84 = .ok (.iload_n 3, 1) := by decide +kernel
theorem d_M_composed_85 : decode b_M_composed 85 = .ok (.bipush 97, 2) := by decide +kernel
theorem d_M_composed_87 : decode b_M_composed 87 = .ok (.irem, 1) := by decide +kernel
theorem d_M_composed_88 : decode b_M_composed 88 = .ok (.ireturn, 1) := by decide +kernel
theorem d_M_barren_0 : decode b_M_barren 0 = .ok (.aload_n 0, 1) := by decide +kernel
theorem d_M_barren_1 : decode b_M_barren 1 = .ok (.getfield 7, 3) := by decide +kernel
theorem d_M_barren_4 : decode b_M_barren 4 = .ok (.iload_n 1, 1) := by decide +kernel
theorem d_M_barren_5 : decode b_M_barren 5 = .ok (.iaload, 1) := by decide +kernel
theorem d_M_barren_6 : decode b_M_barren 6 = .ok (.iconst 5, 1) := by decide +kernel
theorem d_M_barren_7 : decode b_M_barren 7 = .ok (.if_icmp .ne 15, 3) := by decide +kernel
theorem d_M_barren_10 : decode b_M_barren 10 = .ok (.iload_n 2, 1) := by decide +kernel
theorem d_M_barren_11 : decode b_M_barren 11 = .ok (.bipush 15, 2) := by decide +kernel
theorem d_M_barren_13 : decode b_M_barren 13 = .ok (.if_icmp .ne 7, 3) := by decide +kernel
theorem d_M_barren_16 : decode b_M_barren 16 = .ok (.iconst 1, 1) := by decide +kernel
theorem d_M_barren_17 : decode b_M_barren 17 = .ok (.goto 4, 3) := by decide +kernel
theorem d_M_barren_20 : decode b_M_barren 20 = .ok (.iconst 0, 1) := by decide +kernel
theorem d_M_barren_21 : decode b_M_barren 21 = .ok (.ireturn, 1) := by decide +kernel
theorem d_M_barren_22 : decode b_M_barren 22 = .ok (.aload_n 0, 1) := by decide +kernel
theorem d_M_barren_23 : decode b_M_barren 23 = .ok (.getfield 7, 3) := by decide +kernel
theorem d_M_barren_26 : decode b_M_barren 26 = .ok (.iload_n 1, 1) := by decide +kernel
theorem d_M_barren_27 : decode b_M_barren 27 = .ok (.iaload, 1) := by decide +kernel
theorem d_M_barren_28 : decode b_M_barren 28 = .ok (.bipush 7, 2) := by decide +kernel
theorem d_M_barren_30 : decode b_M_barren 30 = .ok (.if_icmp .ne 26, 3) := by decide +kernel
theorem d_M_barren_33 : decode b_M_barren 33 = .ok (.aload_n 0, 1) := by decide +kernel
theorem d_M_barren_34 : decode b_M_barren 34 = .ok (.getfield 23, 3) := by decide +kernel
theorem d_M_barren_37 : decode b_M_barren 37 = .ok (.bipush 16, 2) := by decide +kernel
theorem d_M_barren_39 : decode b_M_barren 39 = .ok (.aload_n 0, 1) := by decide +kernel
theorem d_M_barren_40 : decode b_M_barren 40 = .ok (.getfield 13, 3) := by decide +kernel
theorem d_M_barren_43 : decode b_M_barren 43 = .ok (.iload_n 1, 1) := by decide +kernel
theorem d_M_barren_44 : decode b_M_barren 44 = .ok (.iaload, 1) := by decide +kernel
theorem d_M_barren_45 : decode b_M_barren 45 = .ok (.imul, 1) := by decide +kernel
theorem d_M_barren_46 : decode b_M_barren 46 = .ok (.iaload, 1) := by decide +kernel
theorem d_M_barren_47 : decode b_M_barren 47 = .ok (.ifCond .ne 7, 3) := by decide +kernel
theorem d_M_barren_50 : decode b_M_barren 50 = .ok (.iconst 1, 1) := by decide +kernel
theorem d_M_barren_51 : decode b_M_barren 51 = .ok (.goto 4, 3) := by decide +kernel
theorem d_M_barren_54 : decode b_M_barren 54 = .ok (.iconst 0, 1) := by decide +kernel
theorem d_M_barren_55 : decode b_M_barren 55 = .ok (.ireturn, 1) := by decide +kernel
theorem d_M_barren_56 : decode b_M_barren 56 = .ok (.aload_n 0, 1) := by decide +kernel
theorem d_M_barren_57 : decode b_M_barren 57 = .ok (.getfield 7, 3) := by decide +kernel
theorem d_M_barren_60 : decode b_M_barren 60 = .ok (.iload_n 1, 1) := by decide +kernel
theorem d_M_barren_61 : decode b_M_barren 61 = .ok (.iaload, 1) := by decide +kernel
theorem d_M_barren_62 : decode b_M_barren 62 = .ok (.bipush 9, 2) := by decide +kernel
theorem d_M_barren_64 : decode b_M_barren 64 = .ok (.if_icmp .ne 24, 3) := by decide +kernel
theorem d_M_barren_67 : decode b_M_barren 67 = .ok (.aload_n 0, 1) := by decide +kernel
theorem d_M_barren_68 : decode b_M_barren 68 = .ok (.getfield 23, 3) := by decide +kernel
theorem d_M_barren_71 : decode b_M_barren 71 = .ok (.bipush 16, 2) := by decide +kernel
theorem d_M_barren_73 : decode b_M_barren 73 = .ok (.aload_n 0, 1) := by decide +kernel
theorem d_M_barren_74 : decode b_M_barren 74 = .ok (.getfield 16, 3) := by decide +kernel
theorem d_M_barren_77 : decode b_M_barren 77 = .ok (.iload_n 1, 1) := by decide +kernel
theorem d_M_barren_78 : decode b_M_barren 78 = .ok (.iaload, 1) := by decide +kernel
theorem d_M_barren_79 : decode b_M_barren 79 = .ok (.imul, 1) := by decide +kernel
theorem d_M_barren_80 : decode b_M_barren 80 = .ok (.iaload, 1) := by decide +kernel
theorem d_M_barren_81 : decode b_M_barren 81 = .ok (.ifCond .eq 7, 3) := by decide +kernel
theorem d_M_barren_84 : decode b_M_barren 84 = .ok (.iconst 1, 1) := by decide +kernel
theorem d_M_barren_85 : decode b_M_barren 85 = .ok (.goto 4, 3) := by decide +kernel
theorem d_M_barren_88 : decode b_M_barren 88 = .ok (.iconst 0, 1) := by decide +kernel
theorem d_M_barren_89 : decode b_M_barren 89 = .ok (.ireturn, 1) := by decide +kernel
theorem d_M_worked_0 : decode b_M_worked 0 = .ok (.aload_n 0, 1) := by decide +kernel
theorem d_M_worked_1 : decode b_M_worked 1 = .ok (.getfield 7, 3) := by decide +kernel
theorem d_M_worked_4 : decode b_M_worked 4 = .ok (.iload_n 1, 1) := by decide +kernel
theorem d_M_worked_5 : decode b_M_worked 5 = .ok (.iaload, 1) := by decide +kernel
theorem d_M_worked_6 : decode b_M_worked 6 = .ok (.istore_n 3, 1) := by decide +kernel
theorem d_M_worked_7 : decode b_M_worked 7 = .ok (.bipush 16, 2) := by decide +kernel
theorem d_M_worked_9 : decode b_M_worked 9 = .ok (.aload_n 0, 1) := by decide +kernel
theorem d_M_worked_10 : decode b_M_worked 10 = .ok (.getfield 13, 3) := by decide +kernel
theorem d_M_worked_13 : decode b_M_worked 13 = .ok (.iload_n 1, 1) := by decide +kernel
theorem d_M_worked_14 : decode b_M_worked 14 = .ok (.iaload, 1) := by decide +kernel
theorem d_M_worked_15 : decode b_M_worked 15 = .ok (.imul, 1) := by decide +kernel
theorem d_M_worked_16 : decode b_M_worked 16 = .ok (.istore 4, 2) := by decide +kernel
theorem d_M_worked_18 : decode b_M_worked 18 = .ok (.iload_n 3, 1) := by decide +kernel
theorem d_M_worked_19 : decode b_M_worked 19 = .ok (.ifCond .ne 18, 3) := by decide +kernel
theorem d_M_worked_22 : decode b_M_worked 22 = .ok (.iload_n 2, 1) := by decide +kernel
theorem d_M_worked_23 : decode b_M_worked 23 = .ok (.ifCond .ne 12, 3) := by decide +kernel
theorem d_M_worked_26 : decode b_M_worked 26 = .ok (.aload_n 0, 1) := by decide +kernel
theorem d_M_worked_27 : decode b_M_worked 27 = .ok (.getfield 16, 3) := by decide +kernel
theorem d_M_worked_30 : decode b_M_worked 30 = .ok (.iload_n 1, 1) := by decide +kernel
theorem d_M_worked_31 : decode b_M_worked 31 = .ok (.iaload, 1) := by decide +kernel
theorem d_M_worked_32 : decode b_M_worked 32 = .ok (.goto 4, 3) := by decide +kernel
theorem d_M_worked_35 : decode b_M_worked 35 = .ok (.iconst 0, 1) := by decide +kernel
theorem d_M_worked_36 : decode b_M_worked 36 = .ok (.ireturn, 1) := by decide +kernel
theorem d_M_worked_37 : decode b_M_worked 37 = .ok (.iload_n 3, 1) := by decide +kernel
theorem d_M_worked_38 : decode b_M_worked 38 = .ok (.iconst 1, 1) := by decide +kernel
theorem d_M_worked_39 : decode b_M_worked 39 = .ok (.if_icmp .ne 14, 3) := by decide +kernel
theorem d_M_worked_42 : decode b_M_worked 42 = .ok (.iload_n 2, 1) := by decide +kernel
theorem d_M_worked_43 : decode b_M_worked 43 = .ok (.iconst 1, 1) := by decide +kernel
theorem d_M_worked_44 : decode b_M_worked 44 = .ok (.if_icmp .ne 7, 3) := by decide +kernel
theorem d_M_worked_47 : decode b_M_worked 47 = .ok (.iconst 1, 1) := by decide +kernel
theorem d_M_worked_48 : decode b_M_worked 48 = .ok (.goto 4, 3) := by decide +kernel
theorem d_M_worked_51 : decode b_M_worked 51 = .ok (.iconst 0, 1) := by decide +kernel
theorem d_M_worked_52 : decode b_M_worked 52 = .ok (.ireturn, 1) := by decide +kernel
theorem d_M_worked_53 : decode b_M_worked 53 = .ok (.iload_n 3, 1) := by decide +kernel
theorem d_M_worked_54 : decode b_M_worked 54 = .ok (.iconst 2, 1) := by decide +kernel
theorem d_M_worked_55 : decode b_M_worked 55 = .ok (.if_icmp .ne 33, 3) := by decide +kernel
theorem d_M_worked_58 : decode b_M_worked 58 = .ok (.aload_n 0, 1) := by decide +kernel
theorem d_M_worked_59 : decode b_M_worked 59 = .ok (.getfield 23, 3) := by decide +kernel
theorem d_M_worked_62 : decode b_M_worked 62 = .ok (.iload 4, 2) := by decide +kernel
theorem d_M_worked_64 : decode b_M_worked 64 = .ok (.iload_n 2, 1) := by decide +kernel
theorem d_M_worked_65 : decode b_M_worked 65 = .ok (.iadd, 1) := by decide +kernel
theorem d_M_worked_66 : decode b_M_worked 66 = .ok (.iaload, 1) := by decide +kernel
theorem d_M_worked_67 : decode b_M_worked 67 = .ok (.aload_n 0, 1) := by decide +kernel
theorem d_M_worked_68 : decode b_M_worked 68 = .ok (.getfield 23, 3) := by decide +kernel
theorem d_M_worked_71 : decode b_M_worked 71 = .ok (.bipush 16, 2) := by decide +kernel
theorem d_M_worked_73 : decode b_M_worked 73 = .ok (.aload_n 0, 1) := by decide +kernel
theorem d_M_worked_74 : decode b_M_worked 74 = .ok (.getfield 16, 3) := by decide +kernel
theorem d_M_worked_77 : decode b_M_worked 77 = .ok (.iload_n 1, 1) := by decide +kernel
theorem d_M_worked_78 : decode b_M_worked 78 = .ok (.iaload, 1) := by decide +kernel
theorem d_M_worked_79 : decode b_M_worked 79 = .ok (.imul, 1) := by decide +kernel
theorem d_M_worked_80 : decode b_M_worked 80 = .ok (.iload_n 2, 1) := by decide +kernel
theorem d_M_worked_81 : decode b_M_worked 81 = .ok (.iadd, 1) := by decide +kernel
theorem d_M_worked_82 : decode b_M_worked 82 = .ok (.iaload, 1) := by decide +kernel
theorem d_M_worked_83 : decode b_M_worked 83 = .ok (.iadd, 1) := by decide +kernel
theorem d_M_worked_84 : decode b_M_worked 84 = .ok (.bipush 97, 2) := by decide +kernel
theorem d_M_worked_86 : decode b_M_worked 86 = .ok (.irem, 1) := by decide +kernel
theorem d_M_worked_87 : decode b_M_worked 87 = .ok (.ireturn, 1) := by decide +kernel
theorem d_M_worked_88 : decode b_M_worked 88 = .ok (.iload_n 3, 1) := by decide +kernel
theorem d_M_worked_89 : decode b_M_worked 89 = .ok (.iconst 3, 1) := by decide +kernel
theorem d_M_worked_90 : decode b_M_worked 90 = .ok (.if_icmp .ne 10, 3) := by decide +kernel
theorem d_M_worked_93 : decode b_M_worked 93 = .ok (.aload_n 0, 1) := by decide +kernel
theorem d_M_worked_94 : decode b_M_worked 94 = .ok (.iload_n 1, 1) := by decide +kernel
theorem d_M_worked_95 : decode b_M_worked 95 = .ok (.iload_n 2, 1) := by decide +kernel
theorem d_M_worked_96 : decode b_M_worked 96 = .ok (.invokevirtual 55, 3) := by decide +kernel
theorem d_M_worked_99 : decode b_M_worked 99 = .ok (.ireturn, 1) := by decide +kernel
theorem d_M_worked_100 : decode b_M_worked 100 = .ok (.iload_n 3, 1) := by decide +kernel
theorem d_M_worked_101 : decode b_M_worked 101 = .ok (.iconst 4, 1) := by decide +kernel
theorem d_M_worked_102 : decode b_M_worked 102 = .ok (.if_icmp .ne 23, 3) := by decide +kernel
theorem d_M_worked_105 : decode b_M_worked 105 = .ok (.aload_n 0, 1) := by decide +kernel
theorem d_M_worked_106 : decode b_M_worked 106 = .ok (.getfield 16, 3) := by decide +kernel
theorem d_M_worked_109 : decode b_M_worked 109 = .ok (.iload_n 1, 1) := by decide +kernel
theorem d_M_worked_110 : decode b_M_worked 110 = .ok (.iaload, 1) := by decide +kernel
theorem d_M_worked_111 : decode b_M_worked 111 = .ok (.aload_n 0, 1) := by decide +kernel
theorem d_M_worked_112 : decode b_M_worked 112 = .ok (.getfield 23, 3) := by decide +kernel
theorem d_M_worked_115 : decode b_M_worked 115 = .ok (.iload 4, 2) := by decide +kernel
theorem d_M_worked_117 : decode b_M_worked 117 = .ok (.iload_n 2, 1) := by decide +kernel
theorem d_M_worked_118 : decode b_M_worked 118 = .ok (.iadd, 1) := by decide +kernel
theorem d_M_worked_119 : decode b_M_worked 119 = .ok (.iaload, 1) := by decide +kernel
theorem d_M_worked_120 : decode b_M_worked 120 = .ok (.imul, 1) := by decide +kernel
theorem d_M_worked_121 : decode b_M_worked 121 = .ok (.bipush 97, 2) := by decide +kernel
theorem d_M_worked_123 : decode b_M_worked 123 = .ok (.irem, 1) := by decide +kernel
theorem d_M_worked_124 : decode b_M_worked 124 = .ok (.ireturn, 1) := by decide +kernel
theorem d_M_worked_125 : decode b_M_worked 125 = .ok (.iload_n 3, 1) := by decide +kernel
theorem d_M_worked_126 : decode b_M_worked 126 = .ok (.iconst 5, 1) := by decide +kernel
theorem d_M_worked_127 : decode b_M_worked 127 = .ok (.if_icmp .ne 22, 3) := by decide +kernel
theorem d_M_worked_130 : decode b_M_worked 130 = .ok (.iload_n 2, 1) := by decide +kernel
theorem d_M_worked_131 : decode b_M_worked 131 = .ok (.iconst 1, 1) := by decide +kernel
theorem d_M_worked_132 : decode b_M_worked 132 = .ok (.iadd, 1) := by decide +kernel
theorem d_M_worked_133 : decode b_M_worked 133 = .ok (.aload_n 0, 1) := by decide +kernel
theorem d_M_worked_134 : decode b_M_worked 134 = .ok (.getfield 23, 3) := by decide +kernel
theorem d_M_worked_137 : decode b_M_worked 137 = .ok (.iload 4, 2) := by decide +kernel
theorem d_M_worked_139 : decode b_M_worked 139 = .ok (.iload_n 2, 1) := by decide +kernel
theorem d_M_worked_140 : decode b_M_worked 140 = .ok (.iadd, 1) := by decide +kernel
theorem d_M_worked_141 : decode b_M_worked 141 = .ok (.iconst 1, 1) := by decide +kernel
theorem d_M_worked_142 : decode b_M_worked 142 = .ok (.iadd, 1) := by decide +kernel
theorem d_M_worked_143 : decode b_M_worked 143 = .ok (.iaload, 1) := by decide +kernel
theorem d_M_worked_144 : decode b_M_worked 144 = .ok (.imul, 1) := by decide +kernel
theorem d_M_worked_145 : decode b_M_worked 145 = .ok (.bipush 97, 2) := by decide +kernel
theorem d_M_worked_147 : decode b_M_worked 147 = .ok (.irem, 1) := by decide +kernel
theorem d_M_worked_148 : decode b_M_worked 148 = .ok (.ireturn, 1) := by decide +kernel
theorem d_M_worked_149 : decode b_M_worked 149 = .ok (.iload_n 3, 1) := by decide +kernel
theorem d_M_worked_150 : decode b_M_worked 150 = .ok (.bipush 7, 2) := by decide +kernel
theorem d_M_worked_152 : decode b_M_worked 152 = .ok (.if_icmp .ne 10, 3) := by decide +kernel
theorem d_M_worked_155 : decode b_M_worked 155 = .ok (.aload_n 0, 1) := by decide +kernel
theorem d_M_worked_156 : decode b_M_worked 156 = .ok (.iload_n 1, 1) := by decide +kernel
theorem d_M_worked_157 : decode b_M_worked 157 = .ok (.iload_n 2, 1) := by decide +kernel
theorem d_M_worked_158 : decode b_M_worked 158 = .ok (.invokevirtual 58, 3) := by decide +kernel
theorem d_M_worked_161 : decode b_M_worked 161 = .ok (.ireturn, 1) := by decide +kernel
theorem d_M_worked_162 : decode b_M_worked 162 = .ok (.iload_n 3, 1) := by decide +kernel
theorem d_M_worked_163 : decode b_M_worked 163 = .ok (.bipush 9, 2) := by decide +kernel
theorem d_M_worked_165 : decode b_M_worked 165 = .ok (.if_icmp .ne 10, 3) := by decide +kernel
theorem d_M_worked_168 : decode b_M_worked 168 = .ok (.aload_n 0, 1) := by decide +kernel
theorem d_M_worked_169 : decode b_M_worked 169 = .ok (.iload_n 1, 1) := by decide +kernel
theorem d_M_worked_170 : decode b_M_worked 170 = .ok (.iload_n 2, 1) := by decide +kernel
theorem d_M_worked_171 : decode b_M_worked 171 = .ok (.invokevirtual 61, 3) := by decide +kernel
theorem d_M_worked_174 : decode b_M_worked 174 = .ok (.ireturn, 1) := by decide +kernel
theorem d_M_worked_175 : decode b_M_worked 175 = .ok (.iload_n 2, 1) := by decide +kernel
theorem d_M_worked_176 : decode b_M_worked 176 = .ok (.ifCond .ne 10, 3) := by decide +kernel
theorem d_M_worked_179 : decode b_M_worked 179 = .ok (.aload_n 0, 1) := by decide +kernel
theorem d_M_worked_180 : decode b_M_worked 180 = .ok (.getfield 16, 3) := by decide +kernel
theorem d_M_worked_183 : decode b_M_worked 183 = .ok (.iload_n 1, 1) := by decide +kernel
theorem d_M_worked_184 : decode b_M_worked 184 = .ok (.iaload, 1) := by decide +kernel
theorem d_M_worked_185 : decode b_M_worked 185 = .ok (.ireturn, 1) := by decide +kernel
theorem d_M_worked_186 : decode b_M_worked 186 = .ok (.iload_n 3, 1) := by decide +kernel
theorem d_M_worked_187 : decode b_M_worked 187 = .ok (.bipush 8, 2) := by decide +kernel
theorem d_M_worked_189 : decode b_M_worked 189 = .ok (.if_icmp .ne 17, 3) := by decide +kernel
theorem d_M_worked_192 : decode b_M_worked 192 = .ok (.aload_n 0, 1) := by decide +kernel
theorem d_M_worked_193 : decode b_M_worked 193 = .ok (.getfield 23, 3) := by decide +kernel
theorem d_M_worked_196 : decode b_M_worked 196 = .ok (.iload 4, 2) := by decide +kernel
theorem d_M_worked_198 : decode b_M_worked 198 = .ok (.iload_n 2, 1) := by decide +kernel
theorem d_M_worked_199 : decode b_M_worked 199 = .ok (.iadd, 1) := by decide +kernel
theorem d_M_worked_200 : decode b_M_worked 200 = .ok (.iconst 1, 1) := by decide +kernel
theorem d_M_worked_201 : decode b_M_worked 201 = .ok (.isub, 1) := by decide +kernel
theorem d_M_worked_202 : decode b_M_worked 202 = .ok (.iaload, 1) := by decide +kernel
theorem d_M_worked_203 : decode b_M_worked 203 = .ok (.goto 19, 3) := by decide +kernel
theorem d_M_worked_206 : decode b_M_worked 206 = .ok (.aload_n 0, 1) := by decide +kernel
theorem d_M_worked_207 : decode b_M_worked 207 = .ok (.aload_n 0, 1) := by decide +kernel
theorem d_M_worked_208 : decode b_M_worked 208 = .ok (.getfield 23, 3) := by decide +kernel
theorem d_M_worked_211 : decode b_M_worked 211 = .ok (.iload 4, 2) := by decide +kernel
theorem d_M_worked_213 : decode b_M_worked 213 = .ok (.iload_n 2, 1) := by decide +kernel
theorem d_M_worked_214 : decode b_M_worked 214 = .ok (.iadd, 1) := by decide +kernel
theorem d_M_worked_215 : decode b_M_worked 215 = .ok (.iconst 1, 1) := by decide +kernel
theorem d_M_worked_216 : decode b_M_worked 216 = .ok (.isub, 1) := by decide +kernel
theorem d_M_worked_217 : decode b_M_worked 217 = .ok (.iaload, 1) := by decide +kernel
theorem d_M_worked_218 : decode b_M_worked 218 = .ok (.iload_n 2, 1) := by decide +kernel
theorem d_M_worked_219 : decode b_M_worked 219 = .ok (.invokevirtual 47, 3) := by decide +kernel
theorem d_M_worked_222 : decode b_M_worked 222 = .ok (.ireturn, 1) := by decide +kernel
theorem d_M_pass_0 : decode b_M_pass 0 = .ok (.iconst 0, 1) := by decide +kernel
theorem d_M_pass_1 : decode b_M_pass 1 = .ok (.istore_n 1, 1) := by decide +kernel
theorem d_M_pass_2 : decode b_M_pass 2 = .ok (.iconst 0, 1) := by decide +kernel
theorem d_M_pass_3 : decode b_M_pass 3 = .ok (.istore_n 2, 1) := by decide +kernel
theorem d_M_pass_4 : decode b_M_pass 4 = .ok (.iload_n 2, 1) := by decide +kernel
theorem d_M_pass_5 : decode b_M_pass 5 = .ok (.bipush 16, 2) := by decide +kernel
theorem d_M_pass_7 : decode b_M_pass 7 = .ok (.if_icmp .ge 86, 3) := by decide +kernel
theorem d_M_pass_10 : decode b_M_pass 10 = .ok (.iconst 0, 1) := by decide +kernel
theorem d_M_pass_11 : decode b_M_pass 11 = .ok (.istore_n 3, 1) := by decide +kernel
theorem d_M_pass_12 : decode b_M_pass 12 = .ok (.iload_n 3, 1) := by decide +kernel
theorem d_M_pass_13 : decode b_M_pass 13 = .ok (.bipush 8, 2) := by decide +kernel
theorem d_M_pass_15 : decode b_M_pass 15 = .ok (.if_icmp .ge 72, 3) := by decide +kernel
theorem d_M_pass_18 : decode b_M_pass 18 = .ok (.aload_n 0, 1) := by decide +kernel
theorem d_M_pass_19 : decode b_M_pass 19 = .ok (.getfield 19, 3) := by decide +kernel
theorem d_M_pass_22 : decode b_M_pass 22 = .ok (.bipush 16, 2) := by decide +kernel
theorem d_M_pass_24 : decode b_M_pass 24 = .ok (.iload_n 3, 1) := by decide +kernel
theorem d_M_pass_25 : decode b_M_pass 25 = .ok (.imul, 1) := by decide +kernel
theorem d_M_pass_26 : decode b_M_pass 26 = .ok (.iload_n 2, 1) := by decide +kernel
theorem d_M_pass_27 : decode b_M_pass 27 = .ok (.iadd, 1) := by decide +kernel
theorem d_M_pass_28 : decode b_M_pass 28 = .ok (.baload, 1) := by decide +kernel
theorem d_M_pass_29 : decode b_M_pass 29 = .ok (.ifCond .ne 52, 3) := by decide +kernel
theorem d_M_pass_32 : decode b_M_pass 32 = .ok (.aload_n 0, 1) := by decide +kernel
theorem d_M_pass_33 : decode b_M_pass 33 = .ok (.iload_n 3, 1) := by decide +kernel
theorem d_M_pass_34 : decode b_M_pass 34 = .ok (.iload_n 2, 1) := by decide +kernel
theorem d_M_pass_35 : decode b_M_pass 35 = .ok (.invokevirtual 64, 3) := by decide +kernel
theorem d_M_pass_38 : decode b_M_pass 38 = .ok (.ifCond .eq 43, 3) := by decide +kernel
theorem d_M_pass_41 : decode b_M_pass 41 = .ok (.aload_n 0, 1) := by decide +kernel
theorem d_M_pass_42 : decode b_M_pass 42 = .ok (.iload_n 3, 1) := by decide +kernel
theorem d_M_pass_43 : decode b_M_pass 43 = .ok (.iload_n 2, 1) := by decide +kernel
theorem d_M_pass_44 : decode b_M_pass 44 = .ok (.invokevirtual 68, 3) := by decide +kernel
theorem d_M_pass_47 : decode b_M_pass 47 = .ok (.ifCond .ne 34, 3) := by decide +kernel
theorem d_M_pass_50 : decode b_M_pass 50 = .ok (.aload_n 0, 1) := by decide +kernel
theorem d_M_pass_51 : decode b_M_pass 51 = .ok (.getfield 23, 3) := by decide +kernel
theorem d_M_pass_54 : decode b_M_pass 54 = .ok (.bipush 16, 2) := by decide +kernel
theorem d_M_pass_56 : decode b_M_pass 56 = .ok (.iload_n 3, 1) := by decide +kernel
theorem d_M_pass_57 : decode b_M_pass 57 = .ok (.imul, 1) := by decide +kernel
theorem d_M_pass_58 : decode b_M_pass 58 = .ok (.iload_n 2, 1) := by decide +kernel
theorem d_M_pass_59 : decode b_M_pass 59 = .ok (.iadd, 1) := by decide +kernel
theorem d_M_pass_60 : decode b_M_pass 60 = .ok (.aload_n 0, 1) := by decide +kernel
theorem d_M_pass_61 : decode b_M_pass 61 = .ok (.iload_n 3, 1) := by decide +kernel
theorem d_M_pass_62 : decode b_M_pass 62 = .ok (.iload_n 2, 1) := by decide +kernel
theorem d_M_pass_63 : decode b_M_pass 63 = .ok (.invokevirtual 71, 3) := by decide +kernel
theorem d_M_pass_66 : decode b_M_pass 66 = .ok (.iastore, 1) := by decide +kernel
theorem d_M_pass_67 : decode b_M_pass 67 = .ok (.aload_n 0, 1) := by decide +kernel
theorem d_M_pass_68 : decode b_M_pass 68 = .ok (.getfield 19, 3) := by decide +kernel
theorem d_M_pass_71 : decode b_M_pass 71 = .ok (.bipush 16, 2) := by decide +kernel
theorem d_M_pass_73 : decode b_M_pass 73 = .ok (.iload_n 3, 1) := by decide +kernel
theorem d_M_pass_74 : decode b_M_pass 74 = .ok (.imul, 1) := by decide +kernel
theorem d_M_pass_75 : decode b_M_pass 75 = .ok (.iload_n 2, 1) := by decide +kernel
theorem d_M_pass_76 : decode b_M_pass 76 = .ok (.iadd, 1) := by decide +kernel
theorem d_M_pass_77 : decode b_M_pass 77 = .ok (.iconst 1, 1) := by decide +kernel
theorem d_M_pass_78 : decode b_M_pass 78 = .ok (.bastore, 1) := by decide +kernel
theorem d_M_pass_79 : decode b_M_pass 79 = .ok (.iconst 1, 1) := by decide +kernel
theorem d_M_pass_80 : decode b_M_pass 80 = .ok (.istore_n 1, 1) := by decide +kernel
theorem d_M_pass_81 : decode b_M_pass 81 = .ok (.iinc 3 1, 3) := by decide +kernel
theorem d_M_pass_84 : decode b_M_pass 84 = .ok (.goto (-72), 3) := by decide +kernel
theorem d_M_pass_87 : decode b_M_pass 87 = .ok (.iinc 2 1, 3) := by decide +kernel
theorem d_M_pass_90 : decode b_M_pass 90 = .ok (.goto (-86), 3) := by decide +kernel
theorem d_M_pass_93 : decode b_M_pass 93 = .ok (.iload_n 1, 1) := by decide +kernel
theorem d_M_pass_94 : decode b_M_pass 94 = .ok (.ireturn, 1) := by decide +kernel
theorem d_M_workOut_0 : decode b_M_workOut 0 = .ok (.iconst 0, 1) := by decide +kernel
theorem d_M_workOut_1 : decode b_M_workOut 1 = .ok (.istore_n 1, 1) := by decide +kernel
theorem d_M_workOut_2 : decode b_M_workOut 2 = .ok (.iload_n 1, 1) := by decide +kernel
theorem d_M_workOut_3 : decode b_M_workOut 3 = .ok (.sipush 128, 3) := by decide +kernel
theorem d_M_workOut_6 : decode b_M_workOut 6 = .ok (.if_icmp .ge 16, 3) := by decide +kernel
theorem d_M_workOut_9 : decode b_M_workOut 9 = .ok (.aload_n 0, 1) := by decide +kernel
theorem d_M_workOut_10 : decode b_M_workOut 10 = .ok (.getfield 19, 3) := by decide +kernel
theorem d_M_workOut_13 : decode b_M_workOut 13 = .ok (.iload_n 1, 1) := by decide +kernel
theorem d_M_workOut_14 : decode b_M_workOut 14 = .ok (.iconst 0, 1) := by decide +kernel
theorem d_M_workOut_15 : decode b_M_workOut 15 = .ok (.bastore, 1) := by decide +kernel
theorem d_M_workOut_16 : decode b_M_workOut 16 = .ok (.iinc 1 1, 3) := by decide +kernel
theorem d_M_workOut_19 : decode b_M_workOut 19 = .ok (.goto (-17), 3) := by decide +kernel
theorem d_M_workOut_22 : decode b_M_workOut 22 = .ok (.iconst 1, 1) := by decide +kernel
theorem d_M_workOut_23 : decode b_M_workOut 23 = .ok (.istore_n 1, 1) := by decide +kernel
theorem d_M_workOut_24 : decode b_M_workOut 24 = .ok (.iconst 0, 1) := by decide +kernel
theorem d_M_workOut_25 : decode b_M_workOut 25 = .ok (.istore_n 2, 1) := by decide +kernel
theorem d_M_workOut_26 : decode b_M_workOut 26 = .ok (.iload_n 2, 1) := by decide +kernel
theorem d_M_workOut_27 : decode b_M_workOut 27 = .ok (.sipush 129, 3) := by decide +kernel
theorem d_M_workOut_30 : decode b_M_workOut 30 = .ok (.if_icmp .ge 18, 3) := by decide +kernel
theorem d_M_workOut_33 : decode b_M_workOut 33 = .ok (.iload_n 1, 1) := by decide +kernel
theorem d_M_workOut_34 : decode b_M_workOut 34 = .ok (.ifCond .eq 14, 3) := by decide +kernel
theorem d_M_workOut_37 : decode b_M_workOut 37 = .ok (.aload_n 0, 1) := by decide +kernel
theorem d_M_workOut_38 : decode b_M_workOut 38 = .ok (.invokevirtual 74, 3) := by decide +kernel
theorem d_M_workOut_41 : decode b_M_workOut 41 = .ok (.istore_n 1, 1) := by decide +kernel
theorem d_M_workOut_42 : decode b_M_workOut 42 = .ok (.iinc 2 1, 3) := by decide +kernel
theorem d_M_workOut_45 : decode b_M_workOut 45 = .ok (.goto (-19), 3) := by decide +kernel
theorem d_M_workOut_48 : decode b_M_workOut 48 = .ok (.return_, 1) := by decide +kernel
theorem d_M_coefficient_0 : decode b_M_coefficient 0 = .ok (.aload_n 0, 1) := by decide +kernel
theorem d_M_coefficient_1 : decode b_M_coefficient 1 = .ok (.iload_n 1, 1) := by decide +kernel
theorem d_M_coefficient_2 : decode b_M_coefficient 2 = .ok (.invokevirtual 35, 3) := by decide +kernel
theorem d_M_coefficient_5 : decode b_M_coefficient 5 = .ok (.ifCond .eq 5, 3) := by decide +kernel
theorem d_M_coefficient_8 : decode b_M_coefficient 8 = .ok (.iconst (-1), 1) := by decide +kernel
theorem d_M_coefficient_9 : decode b_M_coefficient 9 = .ok (.ireturn, 1) := by decide +kernel
theorem d_M_coefficient_10 : decode b_M_coefficient 10 = .ok (.iload_n 2, 1) := by decide +kernel
theorem d_M_coefficient_11 : decode b_M_coefficient 11 = .ok (.ifCond .lt 9, 3) := by decide +kernel
theorem d_M_coefficient_14 : decode b_M_coefficient 14 = .ok (.iload_n 2, 1) := by decide +kernel
theorem d_M_coefficient_15 : decode b_M_coefficient 15 = .ok (.bipush 15, 2) := by decide +kernel
theorem d_M_coefficient_17 : decode b_M_coefficient 17 = .ok (.if_icmp .le 6, 3) := by decide +kernel
theorem d_M_coefficient_20 : decode b_M_coefficient 20 = .ok (.bipush (-2), 2) := by decide +kernel
theorem d_M_coefficient_22 : decode b_M_coefficient 22 = .ok (.ireturn, 1) := by decide +kernel
theorem d_M_coefficient_23 : decode b_M_coefficient 23 = .ok (.aload_n 0, 1) := by decide +kernel
theorem d_M_coefficient_24 : decode b_M_coefficient 24 = .ok (.invokevirtual 78, 3) := by decide +kernel
theorem d_M_coefficient_27 : decode b_M_coefficient 27 = .ok (.aload_n 0, 1) := by decide +kernel
theorem d_M_coefficient_28 : decode b_M_coefficient 28 = .ok (.getfield 19, 3) := by decide +kernel
theorem d_M_coefficient_31 : decode b_M_coefficient 31 = .ok (.bipush 16, 2) := by decide +kernel
theorem d_M_coefficient_33 : decode b_M_coefficient 33 = .ok (.iload_n 1, 1) := by decide +kernel
theorem d_M_coefficient_34 : decode b_M_coefficient 34 = .ok (.imul, 1) := by decide +kernel
theorem d_M_coefficient_35 : decode b_M_coefficient 35 = .ok (.iload_n 2, 1) := by decide +kernel
theorem d_M_coefficient_36 : decode b_M_coefficient 36 = .ok (.iadd, 1) := by decide +kernel
theorem d_M_coefficient_37 : decode b_M_coefficient 37 = .ok (.baload, 1) := by decide +kernel
theorem d_M_coefficient_38 : decode b_M_coefficient 38 = .ok (.ifCond .eq 17, 3) := by decide +kernel
theorem d_M_coefficient_41 : decode b_M_coefficient 41 = .ok (.aload_n 0, 1) := by decide +kernel
theorem d_M_coefficient_42 : decode b_M_coefficient 42 = .ok (.getfield 23, 3) := by decide +kernel
theorem d_M_coefficient_45 : decode b_M_coefficient 45 = .ok (.bipush 16, 2) := by decide +kernel
theorem d_M_coefficient_47 : decode b_M_coefficient 47 = .ok (.iload_n 1, 1) := by decide +kernel
theorem d_M_coefficient_48 : decode b_M_coefficient 48 = .ok (.imul, 1) := by decide +kernel
theorem d_M_coefficient_49 : decode b_M_coefficient 49 = .ok (.iload_n 2, 1) := by decide +kernel
theorem d_M_coefficient_50 : decode b_M_coefficient 50 = .ok (.iadd, 1) := by decide +kernel
theorem d_M_coefficient_51 : decode b_M_coefficient 51 = .ok (.iaload, 1) := by decide +kernel
theorem d_M_coefficient_52 : decode b_M_coefficient 52 = .ok (.goto 5, 3) := by decide +kernel
theorem d_M_coefficient_55 : decode b_M_coefficient 55 = .ok (.bipush (-3), 2) := by decide +kernel
theorem d_M_coefficient_57 : decode b_M_coefficient 57 = .ok (.ireturn, 1) := by decide +kernel
theorem d_M_known_0 : decode b_M_known 0 = .ok (.aload_n 0, 1) := by decide +kernel
theorem d_M_known_1 : decode b_M_known 1 = .ok (.iload_n 1, 1) := by decide +kernel
theorem d_M_known_2 : decode b_M_known 2 = .ok (.invokevirtual 35, 3) := by decide +kernel
theorem d_M_known_5 : decode b_M_known 5 = .ok (.ifCond .eq 5, 3) := by decide +kernel
theorem d_M_known_8 : decode b_M_known 8 = .ok (.iconst (-1), 1) := by decide +kernel
theorem d_M_known_9 : decode b_M_known 9 = .ok (.ireturn, 1) := by decide +kernel
theorem d_M_known_10 : decode b_M_known 10 = .ok (.aload_n 0, 1) := by decide +kernel
theorem d_M_known_11 : decode b_M_known 11 = .ok (.invokevirtual 78, 3) := by decide +kernel
theorem d_M_known_14 : decode b_M_known 14 = .ok (.iconst 0, 1) := by decide +kernel
theorem d_M_known_15 : decode b_M_known 15 = .ok (.istore_n 2, 1) := by decide +kernel
theorem d_M_known_16 : decode b_M_known 16 = .ok (.iload_n 2, 1) := by decide +kernel
theorem d_M_known_17 : decode b_M_known 17 = .ok (.bipush 16, 2) := by decide +kernel
theorem d_M_known_19 : decode b_M_known 19 = .ok (.if_icmp .ge 23, 3) := by decide +kernel
theorem d_M_known_22 : decode b_M_known 22 = .ok (.aload_n 0, 1) := by decide +kernel
theorem d_M_known_23 : decode b_M_known 23 = .ok (.getfield 19, 3) := by decide +kernel
theorem d_M_known_26 : decode b_M_known 26 = .ok (.bipush 16, 2) := by decide +kernel
theorem d_M_known_28 : decode b_M_known 28 = .ok (.iload_n 1, 1) := by decide +kernel
theorem d_M_known_29 : decode b_M_known 29 = .ok (.imul, 1) := by decide +kernel
theorem d_M_known_30 : decode b_M_known 30 = .ok (.iload_n 2, 1) := by decide +kernel
theorem d_M_known_31 : decode b_M_known 31 = .ok (.iadd, 1) := by decide +kernel
theorem d_M_known_32 : decode b_M_known 32 = .ok (.baload, 1) := by decide +kernel
theorem d_M_known_33 : decode b_M_known 33 = .ok (.ifCond .eq 9, 3) := by decide +kernel
theorem d_M_known_36 : decode b_M_known 36 = .ok (.iinc 2 1, 3) := by decide +kernel
theorem d_M_known_39 : decode b_M_known 39 = .ok (.goto (-23), 3) := by decide +kernel
theorem d_M_known_42 : decode b_M_known 42 = .ok (.iload_n 2, 1) := by decide +kernel
theorem d_M_known_43 : decode b_M_known 43 = .ok (.ireturn, 1) := by decide +kernel
theorem d_M_valued_0 : decode b_M_valued 0 = .ok (.aload_n 0, 1) := by decide +kernel
theorem d_M_valued_1 : decode b_M_valued 1 = .ok (.iload_n 1, 1) := by decide +kernel
theorem d_M_valued_2 : decode b_M_valued 2 = .ok (.invokevirtual 35, 3) := by decide +kernel
theorem d_M_valued_5 : decode b_M_valued 5 = .ok (.ifCond .eq 5, 3) := by decide +kernel
theorem d_M_valued_8 : decode b_M_valued 8 = .ok (.iconst (-1), 1) := by decide +kernel
theorem d_M_valued_9 : decode b_M_valued 9 = .ok (.ireturn, 1) := by decide +kernel
theorem d_M_valued_10 : decode b_M_valued 10 = .ok (.aload_n 0, 1) := by decide +kernel
theorem d_M_valued_11 : decode b_M_valued 11 = .ok (.invokevirtual 78, 3) := by decide +kernel
theorem d_M_valued_14 : decode b_M_valued 14 = .ok (.iconst 0, 1) := by decide +kernel
theorem d_M_valued_15 : decode b_M_valued 15 = .ok (.istore_n 2, 1) := by decide +kernel
theorem d_M_valued_16 : decode b_M_valued 16 = .ok (.iconst 0, 1) := by decide +kernel
theorem d_M_valued_17 : decode b_M_valued 17 = .ok (.istore_n 3, 1) := by decide +kernel
theorem d_M_valued_18 : decode b_M_valued 18 = .ok (.iload_n 3, 1) := by decide +kernel
theorem d_M_valued_19 : decode b_M_valued 19 = .ok (.bipush 16, 2) := by decide +kernel
theorem d_M_valued_21 : decode b_M_valued 21 = .ok (.if_icmp .ge 26, 3) := by decide +kernel
theorem d_M_valued_24 : decode b_M_valued 24 = .ok (.aload_n 0, 1) := by decide +kernel
theorem d_M_valued_25 : decode b_M_valued 25 = .ok (.getfield 19, 3) := by decide +kernel
theorem d_M_valued_28 : decode b_M_valued 28 = .ok (.bipush 16, 2) := by decide +kernel
theorem d_M_valued_30 : decode b_M_valued 30 = .ok (.iload_n 1, 1) := by decide +kernel
theorem d_M_valued_31 : decode b_M_valued 31 = .ok (.imul, 1) := by decide +kernel
theorem d_M_valued_32 : decode b_M_valued 32 = .ok (.iload_n 3, 1) := by decide +kernel
theorem d_M_valued_33 : decode b_M_valued 33 = .ok (.iadd, 1) := by decide +kernel
theorem d_M_valued_34 : decode b_M_valued 34 = .ok (.baload, 1) := by decide +kernel
theorem d_M_valued_35 : decode b_M_valued 35 = .ok (.ifCond .eq 6, 3) := by decide +kernel
theorem d_M_valued_38 : decode b_M_valued 38 = .ok (.iinc 2 1, 3) := by decide +kernel
theorem d_M_valued_41 : decode b_M_valued 41 = .ok (.iinc 3 1, 3) := by decide +kernel
theorem d_M_valued_44 : decode b_M_valued 44 = .ok (.goto (-26), 3) := by decide +kernel
theorem d_M_valued_47 : decode b_M_valued 47 = .ok (.iload_n 2, 1) := by decide +kernel
theorem d_M_valued_48 : decode b_M_valued 48 = .ok (.ireturn, 1) := by decide +kernel
theorem d_M_order_0 : decode b_M_order 0 = .ok (.aload_n 0, 1) := by decide +kernel
theorem d_M_order_1 : decode b_M_order 1 = .ok (.iload_n 1, 1) := by decide +kernel
theorem d_M_order_2 : decode b_M_order 2 = .ok (.invokevirtual 35, 3) := by decide +kernel
theorem d_M_order_5 : decode b_M_order 5 = .ok (.ifCond .eq 5, 3) := by decide +kernel
theorem d_M_order_8 : decode b_M_order 8 = .ok (.iconst (-1), 1) := by decide +kernel
theorem d_M_order_9 : decode b_M_order 9 = .ok (.ireturn, 1) := by decide +kernel
theorem d_M_order_10 : decode b_M_order 10 = .ok (.aload_n 0, 1) := by decide +kernel
theorem d_M_order_11 : decode b_M_order 11 = .ok (.invokevirtual 78, 3) := by decide +kernel
theorem d_M_order_14 : decode b_M_order 14 = .ok (.iconst 0, 1) := by decide +kernel
theorem d_M_order_15 : decode b_M_order 15 = .ok (.istore_n 2, 1) := by decide +kernel
theorem d_M_order_16 : decode b_M_order 16 = .ok (.iload_n 2, 1) := by decide +kernel
theorem d_M_order_17 : decode b_M_order 17 = .ok (.bipush 16, 2) := by decide +kernel
theorem d_M_order_19 : decode b_M_order 19 = .ok (.if_icmp .ge 42, 3) := by decide +kernel
theorem d_M_order_22 : decode b_M_order 22 = .ok (.aload_n 0, 1) := by decide +kernel
theorem d_M_order_23 : decode b_M_order 23 = .ok (.getfield 19, 3) := by decide +kernel
theorem d_M_order_26 : decode b_M_order 26 = .ok (.bipush 16, 2) := by decide +kernel
theorem d_M_order_28 : decode b_M_order 28 = .ok (.iload_n 1, 1) := by decide +kernel
theorem d_M_order_29 : decode b_M_order 29 = .ok (.imul, 1) := by decide +kernel
theorem d_M_order_30 : decode b_M_order 30 = .ok (.iload_n 2, 1) := by decide +kernel
theorem d_M_order_31 : decode b_M_order 31 = .ok (.iadd, 1) := by decide +kernel
theorem d_M_order_32 : decode b_M_order 32 = .ok (.baload, 1) := by decide +kernel
theorem d_M_order_33 : decode b_M_order 33 = .ok (.ifCond .ne 6, 3) := by decide +kernel
theorem d_M_order_36 : decode b_M_order 36 = .ok (.bipush (-2), 2) := by decide +kernel
theorem d_M_order_38 : decode b_M_order 38 = .ok (.ireturn, 1) := by decide +kernel
theorem d_M_order_39 : decode b_M_order 39 = .ok (.aload_n 0, 1) := by decide +kernel
theorem d_M_order_40 : decode b_M_order 40 = .ok (.getfield 23, 3) := by decide +kernel
theorem d_M_order_43 : decode b_M_order 43 = .ok (.bipush 16, 2) := by decide +kernel
theorem d_M_order_45 : decode b_M_order 45 = .ok (.iload_n 1, 1) := by decide +kernel
theorem d_M_order_46 : decode b_M_order 46 = .ok (.imul, 1) := by decide +kernel
theorem d_M_order_47 : decode b_M_order 47 = .ok (.iload_n 2, 1) := by decide +kernel
theorem d_M_order_48 : decode b_M_order 48 = .ok (.iadd, 1) := by decide +kernel
theorem d_M_order_49 : decode b_M_order 49 = .ok (.iaload, 1) := by decide +kernel
theorem d_M_order_50 : decode b_M_order 50 = .ok (.ifCond .eq 5, 3) := by decide +kernel
theorem d_M_order_53 : decode b_M_order 53 = .ok (.iload_n 2, 1) := by decide +kernel
theorem d_M_order_54 : decode b_M_order 54 = .ok (.ireturn, 1) := by decide +kernel
theorem d_M_order_55 : decode b_M_order 55 = .ok (.iinc 2 1, 3) := by decide +kernel
theorem d_M_order_58 : decode b_M_order 58 = .ok (.goto (-42), 3) := by decide +kernel
theorem d_M_order_61 : decode b_M_order 61 = .ok (.bipush (-2), 2) := by decide +kernel
theorem d_M_order_63 : decode b_M_order 63 = .ok (.ireturn, 1) := by decide +kernel
theorem d_M_agreeing_0 : decode b_M_agreeing 0 = .ok (.aload_n 0, 1) := by decide +kernel
theorem d_M_agreeing_1 : decode b_M_agreeing 1 = .ok (.iload_n 1, 1) := by decide +kernel
theorem d_M_agreeing_2 : decode b_M_agreeing 2 = .ok (.invokevirtual 35, 3) := by decide +kernel
theorem d_M_agreeing_5 : decode b_M_agreeing 5 = .ok (.ifCond .ne 11, 3) := by decide +kernel
theorem d_M_agreeing_8 : decode b_M_agreeing 8 = .ok (.aload_n 0, 1) := by decide +kernel
theorem d_M_agreeing_9 : decode b_M_agreeing 9 = .ok (.iload_n 2, 1) := by decide +kernel
theorem d_M_agreeing_10 : decode b_M_agreeing 10 = .ok (.invokevirtual 35, 3) := by decide +kernel
theorem d_M_agreeing_13 : decode b_M_agreeing 13 = .ok (.ifCond .eq 5, 3) := by decide +kernel
theorem d_M_agreeing_16 : decode b_M_agreeing 16 = .ok (.iconst (-1), 1) := by decide +kernel
theorem d_M_agreeing_17 : decode b_M_agreeing 17 = .ok (.ireturn, 1) := by decide +kernel
theorem d_M_agreeing_18 : decode b_M_agreeing 18 = .ok (.aload_n 0, 1) := by decide +kernel
theorem d_M_agreeing_19 : decode b_M_agreeing 19 = .ok (.invokevirtual 78, 3) := by decide +kernel
theorem d_M_agreeing_22 : decode b_M_agreeing 22 = .ok (.iconst 0, 1) := by decide +kernel
theorem d_M_agreeing_23 : decode b_M_agreeing 23 = .ok (.istore_n 3, 1) := by decide +kernel
theorem d_M_agreeing_24 : decode b_M_agreeing 24 = .ok (.iload_n 3, 1) := by decide +kernel
theorem d_M_agreeing_25 : decode b_M_agreeing 25 = .ok (.bipush 16, 2) := by decide +kernel
theorem d_M_agreeing_27 : decode b_M_agreeing 27 = .ok (.if_icmp .ge 64, 3) := by decide +kernel
theorem d_M_agreeing_30 : decode b_M_agreeing 30 = .ok (.aload_n 0, 1) := by decide +kernel
theorem d_M_agreeing_31 : decode b_M_agreeing 31 = .ok (.getfield 19, 3) := by decide +kernel
theorem d_M_agreeing_34 : decode b_M_agreeing 34 = .ok (.bipush 16, 2) := by decide +kernel
theorem d_M_agreeing_36 : decode b_M_agreeing 36 = .ok (.iload_n 1, 1) := by decide +kernel
theorem d_M_agreeing_37 : decode b_M_agreeing 37 = .ok (.imul, 1) := by decide +kernel
theorem d_M_agreeing_38 : decode b_M_agreeing 38 = .ok (.iload_n 3, 1) := by decide +kernel
theorem d_M_agreeing_39 : decode b_M_agreeing 39 = .ok (.iadd, 1) := by decide +kernel
theorem d_M_agreeing_40 : decode b_M_agreeing 40 = .ok (.baload, 1) := by decide +kernel
theorem d_M_agreeing_41 : decode b_M_agreeing 41 = .ok (.ifCond .eq 42, 3) := by decide +kernel
theorem d_M_agreeing_44 : decode b_M_agreeing 44 = .ok (.aload_n 0, 1) := by decide +kernel
theorem d_M_agreeing_45 : decode b_M_agreeing 45 = .ok (.getfield 19, 3) := by decide +kernel
theorem d_M_agreeing_48 : decode b_M_agreeing 48 = .ok (.bipush 16, 2) := by decide +kernel
theorem d_M_agreeing_50 : decode b_M_agreeing 50 = .ok (.iload_n 2, 1) := by decide +kernel
theorem d_M_agreeing_51 : decode b_M_agreeing 51 = .ok (.imul, 1) := by decide +kernel
theorem d_M_agreeing_52 : decode b_M_agreeing 52 = .ok (.iload_n 3, 1) := by decide +kernel
theorem d_M_agreeing_53 : decode b_M_agreeing 53 = .ok (.iadd, 1) := by decide +kernel
theorem d_M_agreeing_54 : decode b_M_agreeing 54 = .ok (.baload, 1) := by decide +kernel
theorem d_M_agreeing_55 : decode b_M_agreeing 55 = .ok (.ifCond .eq 28, 3) := by decide +kernel
theorem d_M_agreeing_58 : decode b_M_agreeing 58 = .ok (.aload_n 0, 1) := by decide +kernel
theorem d_M_agreeing_59 : decode b_M_agreeing 59 = .ok (.getfield 23, 3) := by decide +kernel
theorem d_M_agreeing_62 : decode b_M_agreeing 62 = .ok (.bipush 16, 2) := by decide +kernel
theorem d_M_agreeing_64 : decode b_M_agreeing 64 = .ok (.iload_n 1, 1) := by decide +kernel
theorem d_M_agreeing_65 : decode b_M_agreeing 65 = .ok (.imul, 1) := by decide +kernel
theorem d_M_agreeing_66 : decode b_M_agreeing 66 = .ok (.iload_n 3, 1) := by decide +kernel
theorem d_M_agreeing_67 : decode b_M_agreeing 67 = .ok (.iadd, 1) := by decide +kernel
theorem d_M_agreeing_68 : decode b_M_agreeing 68 = .ok (.iaload, 1) := by decide +kernel
theorem d_M_agreeing_69 : decode b_M_agreeing 69 = .ok (.aload_n 0, 1) := by decide +kernel
theorem d_M_agreeing_70 : decode b_M_agreeing 70 = .ok (.getfield 23, 3) := by decide +kernel
theorem d_M_agreeing_73 : decode b_M_agreeing 73 = .ok (.bipush 16, 2) := by decide +kernel
theorem d_M_agreeing_75 : decode b_M_agreeing 75 = .ok (.iload_n 2, 1) := by decide +kernel
theorem d_M_agreeing_76 : decode b_M_agreeing 76 = .ok (.imul, 1) := by decide +kernel
theorem d_M_agreeing_77 : decode b_M_agreeing 77 = .ok (.iload_n 3, 1) := by decide +kernel
theorem d_M_agreeing_78 : decode b_M_agreeing 78 = .ok (.iadd, 1) := by decide +kernel
theorem d_M_agreeing_79 : decode b_M_agreeing 79 = .ok (.iaload, 1) := by decide +kernel
theorem d_M_agreeing_80 : decode b_M_agreeing 80 = .ok (.if_icmp .eq 5, 3) := by decide +kernel
theorem d_M_agreeing_83 : decode b_M_agreeing 83 = .ok (.iload_n 3, 1) := by decide +kernel
theorem d_M_agreeing_84 : decode b_M_agreeing 84 = .ok (.ireturn, 1) := by decide +kernel
theorem d_M_agreeing_85 : decode b_M_agreeing 85 = .ok (.iinc 3 1, 3) := by decide +kernel
theorem d_M_agreeing_88 : decode b_M_agreeing 88 = .ok (.goto (-64), 3) := by decide +kernel
theorem d_M_agreeing_91 : decode b_M_agreeing 91 = .ok (.bipush 16, 2) := by decide +kernel
theorem d_M_agreeing_93 : decode b_M_agreeing 93 = .ok (.ireturn, 1) := by decide +kernel
theorem d_M_evaluate_0 : decode b_M_evaluate 0 = .ok (.aload_n 0, 1) := by decide +kernel
theorem d_M_evaluate_1 : decode b_M_evaluate 1 = .ok (.iload_n 1, 1) := by decide +kernel
theorem d_M_evaluate_2 : decode b_M_evaluate 2 = .ok (.invokevirtual 35, 3) := by decide +kernel
theorem d_M_evaluate_5 : decode b_M_evaluate 5 = .ok (.ifCond .eq 5, 3) := by decide +kernel
theorem d_M_evaluate_8 : decode b_M_evaluate 8 = .ok (.iconst (-1), 1) := by decide +kernel
theorem d_M_evaluate_9 : decode b_M_evaluate 9 = .ok (.ireturn, 1) := by decide +kernel
theorem d_M_evaluate_10 : decode b_M_evaluate 10 = .ok (.iload_n 2, 1) := by decide +kernel
theorem d_M_evaluate_11 : decode b_M_evaluate 11 = .ok (.ifCond .lt 9, 3) := by decide +kernel
theorem d_M_evaluate_14 : decode b_M_evaluate 14 = .ok (.iload_n 2, 1) := by decide +kernel
theorem d_M_evaluate_15 : decode b_M_evaluate 15 = .ok (.bipush 16, 2) := by decide +kernel
theorem d_M_evaluate_17 : decode b_M_evaluate 17 = .ok (.if_icmp .le 6, 3) := by decide +kernel
theorem d_M_evaluate_20 : decode b_M_evaluate 20 = .ok (.bipush (-2), 2) := by decide +kernel
theorem d_M_evaluate_22 : decode b_M_evaluate 22 = .ok (.ireturn, 1) := by decide +kernel
theorem d_M_evaluate_23 : decode b_M_evaluate 23 = .ok (.aload_n 0, 1) := by decide +kernel
theorem d_M_evaluate_24 : decode b_M_evaluate 24 = .ok (.invokevirtual 78, 3) := by decide +kernel
theorem d_M_evaluate_27 : decode b_M_evaluate 27 = .ok (.iconst 0, 1) := by decide +kernel
theorem d_M_evaluate_28 : decode b_M_evaluate 28 = .ok (.istore 4, 2) := by decide +kernel
theorem d_M_evaluate_30 : decode b_M_evaluate 30 = .ok (.iconst 1, 1) := by decide +kernel
theorem d_M_evaluate_31 : decode b_M_evaluate 31 = .ok (.istore 5, 2) := by decide +kernel
theorem d_M_evaluate_33 : decode b_M_evaluate 33 = .ok (.iconst 0, 1) := by decide +kernel
theorem d_M_evaluate_34 : decode b_M_evaluate 34 = .ok (.istore 6, 2) := by decide +kernel
theorem d_M_evaluate_36 : decode b_M_evaluate 36 = .ok (.iload 6, 2) := by decide +kernel
theorem d_M_evaluate_38 : decode b_M_evaluate 38 = .ok (.iload_n 2, 1) := by decide +kernel
theorem d_M_evaluate_39 : decode b_M_evaluate 39 = .ok (.if_icmp .ge 63, 3) := by decide +kernel
theorem d_M_evaluate_42 : decode b_M_evaluate 42 = .ok (.aload_n 0, 1) := by decide +kernel
theorem d_M_evaluate_43 : decode b_M_evaluate 43 = .ok (.getfield 19, 3) := by decide +kernel
theorem d_M_evaluate_46 : decode b_M_evaluate 46 = .ok (.bipush 16, 2) := by decide +kernel
theorem d_M_evaluate_48 : decode b_M_evaluate 48 = .ok (.iload_n 1, 1) := by decide +kernel
theorem d_M_evaluate_49 : decode b_M_evaluate 49 = .ok (.imul, 1) := by decide +kernel
theorem d_M_evaluate_50 : decode b_M_evaluate 50 = .ok (.iload 6, 2) := by decide +kernel
theorem d_M_evaluate_52 : decode b_M_evaluate 52 = .ok (.iadd, 1) := by decide +kernel
theorem d_M_evaluate_53 : decode b_M_evaluate 53 = .ok (.baload, 1) := by decide +kernel
theorem d_M_evaluate_54 : decode b_M_evaluate 54 = .ok (.ifCond .ne 6, 3) := by decide +kernel
theorem d_M_evaluate_57 : decode b_M_evaluate 57 = .ok (.bipush (-3), 2) := by decide +kernel
theorem d_M_evaluate_59 : decode b_M_evaluate 59 = .ok (.ireturn, 1) := by decide +kernel
theorem d_M_evaluate_60 : decode b_M_evaluate 60 = .ok (.iload 4, 2) := by decide +kernel
theorem d_M_evaluate_62 : decode b_M_evaluate 62 = .ok (.aload_n 0, 1) := by decide +kernel
theorem d_M_evaluate_63 : decode b_M_evaluate 63 = .ok (.getfield 23, 3) := by decide +kernel
theorem d_M_evaluate_66 : decode b_M_evaluate 66 = .ok (.bipush 16, 2) := by decide +kernel
theorem d_M_evaluate_68 : decode b_M_evaluate 68 = .ok (.iload_n 1, 1) := by decide +kernel
theorem d_M_evaluate_69 : decode b_M_evaluate 69 = .ok (.imul, 1) := by decide +kernel
theorem d_M_evaluate_70 : decode b_M_evaluate 70 = .ok (.iload 6, 2) := by decide +kernel
theorem d_M_evaluate_72 : decode b_M_evaluate 72 = .ok (.iadd, 1) := by decide +kernel
theorem d_M_evaluate_73 : decode b_M_evaluate 73 = .ok (.iaload, 1) := by decide +kernel
theorem d_M_evaluate_74 : decode b_M_evaluate 74 = .ok (.iload 5, 2) := by decide +kernel
theorem d_M_evaluate_76 : decode b_M_evaluate 76 = .ok (.imul, 1) := by decide +kernel
theorem d_M_evaluate_77 : decode b_M_evaluate 77 = .ok (.iadd, 1) := by decide +kernel
theorem d_M_evaluate_78 : decode b_M_evaluate 78 = .ok (.bipush 97, 2) := by decide +kernel
theorem d_M_evaluate_80 : decode b_M_evaluate 80 = .ok (.irem, 1) := by decide +kernel
theorem d_M_evaluate_81 : decode b_M_evaluate 81 = .ok (.istore 4, 2) := by decide +kernel
theorem d_M_evaluate_83 : decode b_M_evaluate 83 = .ok (.iload 5, 2) := by decide +kernel
theorem d_M_evaluate_85 : decode b_M_evaluate 85 = .ok (.aload_n 0, 1) := by decide +kernel
theorem d_M_evaluate_86 : decode b_M_evaluate 86 = .ok (.iload_n 3, 1) := by decide +kernel
theorem d_M_evaluate_87 : decode b_M_evaluate 87 = .ok (.invokevirtual 39, 3) := by decide +kernel
theorem d_M_evaluate_90 : decode b_M_evaluate 90 = .ok (.imul, 1) := by decide +kernel
theorem d_M_evaluate_91 : decode b_M_evaluate 91 = .ok (.bipush 97, 2) := by decide +kernel
theorem d_M_evaluate_93 : decode b_M_evaluate 93 = .ok (.irem, 1) := by decide +kernel
theorem d_M_evaluate_94 : decode b_M_evaluate 94 = .ok (.istore 5, 2) := by decide +kernel
theorem d_M_evaluate_96 : decode b_M_evaluate 96 = .ok (.iinc 6 1, 3) := by decide +kernel
theorem d_M_evaluate_99 : decode b_M_evaluate 99 = .ok (.goto (-63), 3) := by decide +kernel
theorem d_M_evaluate_102 : decode b_M_evaluate 102 = .ok (.iload 4, 2) := by decide +kernel
theorem d_M_evaluate_104 : decode b_M_evaluate 104 = .ok (.ireturn, 1) := by decide +kernel
theorem d_M_sum_0 : decode b_M_sum 0 = .ok (.aload_n 0, 1) := by decide +kernel
theorem d_M_sum_1 : decode b_M_sum 1 = .ok (.iload_n 1, 1) := by decide +kernel
theorem d_M_sum_2 : decode b_M_sum 2 = .ok (.invokevirtual 35, 3) := by decide +kernel
theorem d_M_sum_5 : decode b_M_sum 5 = .ok (.ifCond .eq 5, 3) := by decide +kernel
theorem d_M_sum_8 : decode b_M_sum 8 = .ok (.iconst (-1), 1) := by decide +kernel
theorem d_M_sum_9 : decode b_M_sum 9 = .ok (.ireturn, 1) := by decide +kernel
theorem d_M_sum_10 : decode b_M_sum 10 = .ok (.iload_n 2, 1) := by decide +kernel
theorem d_M_sum_11 : decode b_M_sum 11 = .ok (.ifCond .lt 14, 3) := by decide +kernel
theorem d_M_sum_14 : decode b_M_sum 14 = .ok (.iload_n 2, 1) := by decide +kernel
theorem d_M_sum_15 : decode b_M_sum 15 = .ok (.iload_n 3, 1) := by decide +kernel
theorem d_M_sum_16 : decode b_M_sum 16 = .ok (.if_icmp .gt 9, 3) := by decide +kernel
theorem d_M_sum_19 : decode b_M_sum 19 = .ok (.iload_n 3, 1) := by decide +kernel
theorem d_M_sum_20 : decode b_M_sum 20 = .ok (.bipush 15, 2) := by decide +kernel
theorem d_M_sum_22 : decode b_M_sum 22 = .ok (.if_icmp .le 6, 3) := by decide +kernel
theorem d_M_sum_25 : decode b_M_sum 25 = .ok (.bipush (-2), 2) := by decide +kernel
theorem d_M_sum_27 : decode b_M_sum 27 = .ok (.ireturn, 1) := by decide +kernel
theorem d_M_sum_28 : decode b_M_sum 28 = .ok (.aload_n 0, 1) := by decide +kernel
theorem d_M_sum_29 : decode b_M_sum 29 = .ok (.invokevirtual 78, 3) := by decide +kernel
theorem d_M_sum_32 : decode b_M_sum 32 = .ok (.iconst 0, 1) := by decide +kernel
theorem d_M_sum_33 : decode b_M_sum 33 = .ok (.istore 4, 2) := by decide +kernel
theorem d_M_sum_35 : decode b_M_sum 35 = .ok (.iload_n 2, 1) := by decide +kernel
theorem d_M_sum_36 : decode b_M_sum 36 = .ok (.istore 5, 2) := by decide +kernel
theorem d_M_sum_38 : decode b_M_sum 38 = .ok (.iload 5, 2) := by decide +kernel
theorem d_M_sum_40 : decode b_M_sum 40 = .ok (.iload_n 3, 1) := by decide +kernel
theorem d_M_sum_41 : decode b_M_sum 41 = .ok (.if_icmp .gt 44, 3) := by decide +kernel
theorem d_M_sum_44 : decode b_M_sum 44 = .ok (.aload_n 0, 1) := by decide +kernel
theorem d_M_sum_45 : decode b_M_sum 45 = .ok (.getfield 19, 3) := by decide +kernel
theorem d_M_sum_48 : decode b_M_sum 48 = .ok (.bipush 16, 2) := by decide +kernel
theorem d_M_sum_50 : decode b_M_sum 50 = .ok (.iload_n 1, 1) := by decide +kernel
theorem d_M_sum_51 : decode b_M_sum 51 = .ok (.imul, 1) := by decide +kernel
theorem d_M_sum_52 : decode b_M_sum 52 = .ok (.iload 5, 2) := by decide +kernel
theorem d_M_sum_54 : decode b_M_sum 54 = .ok (.iadd, 1) := by decide +kernel
theorem d_M_sum_55 : decode b_M_sum 55 = .ok (.baload, 1) := by decide +kernel
theorem d_M_sum_56 : decode b_M_sum 56 = .ok (.ifCond .ne 6, 3) := by decide +kernel
theorem d_M_sum_59 : decode b_M_sum 59 = .ok (.bipush (-3), 2) := by decide +kernel
theorem d_M_sum_61 : decode b_M_sum 61 = .ok (.ireturn, 1) := by decide +kernel
theorem d_M_sum_62 : decode b_M_sum 62 = .ok (.iload 4, 2) := by decide +kernel
theorem d_M_sum_64 : decode b_M_sum 64 = .ok (.aload_n 0, 1) := by decide +kernel
theorem d_M_sum_65 : decode b_M_sum 65 = .ok (.getfield 23, 3) := by decide +kernel
theorem d_M_sum_68 : decode b_M_sum 68 = .ok (.bipush 16, 2) := by decide +kernel
theorem d_M_sum_70 : decode b_M_sum 70 = .ok (.iload_n 1, 1) := by decide +kernel
theorem d_M_sum_71 : decode b_M_sum 71 = .ok (.imul, 1) := by decide +kernel
theorem d_M_sum_72 : decode b_M_sum 72 = .ok (.iload 5, 2) := by decide +kernel
theorem d_M_sum_74 : decode b_M_sum 74 = .ok (.iadd, 1) := by decide +kernel
theorem d_M_sum_75 : decode b_M_sum 75 = .ok (.iaload, 1) := by decide +kernel
theorem d_M_sum_76 : decode b_M_sum 76 = .ok (.iadd, 1) := by decide +kernel
theorem d_M_sum_77 : decode b_M_sum 77 = .ok (.istore 4, 2) := by decide +kernel
theorem d_M_sum_79 : decode b_M_sum 79 = .ok (.iinc 5 1, 3) := by decide +kernel
theorem d_M_sum_82 : decode b_M_sum 82 = .ok (.goto (-44), 3) := by decide +kernel
theorem d_M_sum_85 : decode b_M_sum 85 = .ok (.iload 4, 2) := by decide +kernel
theorem d_M_sum_87 : decode b_M_sum 87 = .ok (.bipush 97, 2) := by decide +kernel
theorem d_M_sum_89 : decode b_M_sum 89 = .ok (.irem, 1) := by decide +kernel
theorem d_M_sum_90 : decode b_M_sum 90 = .ok (.ireturn, 1) := by decide +kernel
theorem d_M_spread_0 : decode b_M_spread 0 = .ok (.iconst 0, 1) := by decide +kernel
theorem d_M_spread_1 : decode b_M_spread 1 = .ok (.istore_n 2, 1) := by decide +kernel
theorem d_M_spread_2 : decode b_M_spread 2 = .ok (.iconst 0, 1) := by decide +kernel
theorem d_M_spread_3 : decode b_M_spread 3 = .ok (.istore_n 3, 1) := by decide +kernel
theorem d_M_spread_4 : decode b_M_spread 4 = .ok (.iload_n 3, 1) := by decide +kernel
theorem d_M_spread_5 : decode b_M_spread 5 = .ok (.sipush 128, 3) := by decide +kernel
theorem d_M_spread_8 : decode b_M_spread 8 = .ok (.if_icmp .ge 50, 3) := by decide +kernel
theorem d_M_spread_11 : decode b_M_spread 11 = .ok (.aload_n 0, 1) := by decide +kernel
theorem d_M_spread_12 : decode b_M_spread 12 = .ok (.getfield 26, 3) := by decide +kernel
theorem d_M_spread_15 : decode b_M_spread 15 = .ok (.iload_n 3, 1) := by decide +kernel
theorem d_M_spread_16 : decode b_M_spread 16 = .ok (.baload, 1) := by decide +kernel
theorem d_M_spread_17 : decode b_M_spread 17 = .ok (.ifCond .ne 35, 3) := by decide +kernel
theorem d_M_spread_20 : decode b_M_spread 20 = .ok (.aload_n 0, 1) := by decide +kernel
theorem d_M_spread_21 : decode b_M_spread 21 = .ok (.iload_n 1, 1) := by decide +kernel
theorem d_M_spread_22 : decode b_M_spread 22 = .ok (.bipush 16, 2) := by decide +kernel
theorem d_M_spread_24 : decode b_M_spread 24 = .ok (.idiv, 1) := by decide +kernel
theorem d_M_spread_25 : decode b_M_spread 25 = .ok (.iload_n 1, 1) := by decide +kernel
theorem d_M_spread_26 : decode b_M_spread 26 = .ok (.bipush 16, 2) := by decide +kernel
theorem d_M_spread_28 : decode b_M_spread 28 = .ok (.irem, 1) := by decide +kernel
theorem d_M_spread_29 : decode b_M_spread 29 = .ok (.iload_n 3, 1) := by decide +kernel
theorem d_M_spread_30 : decode b_M_spread 30 = .ok (.bipush 16, 2) := by decide +kernel
theorem d_M_spread_32 : decode b_M_spread 32 = .ok (.idiv, 1) := by decide +kernel
theorem d_M_spread_33 : decode b_M_spread 33 = .ok (.iload_n 3, 1) := by decide +kernel
theorem d_M_spread_34 : decode b_M_spread 34 = .ok (.bipush 16, 2) := by decide +kernel
theorem d_M_spread_36 : decode b_M_spread 36 = .ok (.irem, 1) := by decide +kernel
theorem d_M_spread_37 : decode b_M_spread 37 = .ok (.invokevirtual 43, 3) := by decide +kernel
theorem d_M_spread_40 : decode b_M_spread 40 = .ok (.ifCond .eq 12, 3) := by decide +kernel
theorem d_M_spread_43 : decode b_M_spread 43 = .ok (.aload_n 0, 1) := by decide +kernel
theorem d_M_spread_44 : decode b_M_spread 44 = .ok (.getfield 26, 3) := by decide +kernel
theorem d_M_spread_47 : decode b_M_spread 47 = .ok (.iload_n 3, 1) := by decide +kernel
theorem d_M_spread_48 : decode b_M_spread 48 = .ok (.iconst 1, 1) := by decide +kernel
theorem d_M_spread_49 : decode b_M_spread 49 = .ok (.bastore, 1) := by decide +kernel
theorem d_M_spread_50 : decode b_M_spread 50 = .ok (.iconst 1, 1) := by decide +kernel
theorem d_M_spread_51 : decode b_M_spread 51 = .ok (.istore_n 2, 1) := by decide +kernel
theorem d_M_spread_52 : decode b_M_spread 52 = .ok (.iinc 3 1, 3) := by decide +kernel
theorem d_M_spread_55 : decode b_M_spread 55 = .ok (.goto (-51), 3) := by decide +kernel
theorem d_M_spread_58 : decode b_M_spread 58 = .ok (.iload_n 2, 1) := by decide +kernel
theorem d_M_spread_59 : decode b_M_spread 59 = .ok (.ireturn, 1) := by decide +kernel
theorem d_M_needs_0 : decode b_M_needs 0 = .ok (.iload_n 1, 1) := by decide +kernel
theorem d_M_needs_1 : decode b_M_needs 1 = .ok (.ifCond .lt 19, 3) := by decide +kernel
theorem d_M_needs_4 : decode b_M_needs 4 = .ok (.iload_n 1, 1) := by decide +kernel
theorem d_M_needs_5 : decode b_M_needs 5 = .ok (.bipush 127, 2) := by decide +kernel
theorem d_M_needs_7 : decode b_M_needs 7 = .ok (.if_icmp .gt 13, 3) := by decide +kernel
theorem d_M_needs_10 : decode b_M_needs 10 = .ok (.iload_n 2, 1) := by decide +kernel
theorem d_M_needs_11 : decode b_M_needs 11 = .ok (.ifCond .lt 9, 3) := by decide +kernel
theorem d_M_needs_14 : decode b_M_needs 14 = .ok (.iload_n 2, 1) := by decide +kernel
theorem d_M_needs_15 : decode b_M_needs 15 = .ok (.bipush 127, 2) := by decide +kernel
theorem d_M_needs_17 : decode b_M_needs 17 = .ok (.if_icmp .le 5, 3) := by decide +kernel
theorem d_M_needs_20 : decode b_M_needs 20 = .ok (.iconst (-1), 1) := by decide +kernel
theorem d_M_needs_21 : decode b_M_needs 21 = .ok (.ireturn, 1) := by decide +kernel
theorem d_M_needs_22 : decode b_M_needs 22 = .ok (.iconst 0, 1) := by decide +kernel
theorem d_M_needs_23 : decode b_M_needs 23 = .ok (.istore_n 3, 1) := by decide +kernel
theorem d_M_needs_24 : decode b_M_needs 24 = .ok (.iload_n 3, 1) := by decide +kernel
theorem d_M_needs_25 : decode b_M_needs 25 = .ok (.sipush 128, 3) := by decide +kernel
theorem d_M_needs_28 : decode b_M_needs 28 = .ok (.if_icmp .ge 16, 3) := by decide +kernel
theorem d_M_needs_31 : decode b_M_needs 31 = .ok (.aload_n 0, 1) := by decide +kernel
theorem d_M_needs_32 : decode b_M_needs 32 = .ok (.getfield 26, 3) := by decide +kernel
theorem d_M_needs_35 : decode b_M_needs 35 = .ok (.iload_n 3, 1) := by decide +kernel
theorem d_M_needs_36 : decode b_M_needs 36 = .ok (.iconst 0, 1) := by decide +kernel
theorem d_M_needs_37 : decode b_M_needs 37 = .ok (.bastore, 1) := by decide +kernel
theorem d_M_needs_38 : decode b_M_needs 38 = .ok (.iinc 3 1, 3) := by decide +kernel
theorem d_M_needs_41 : decode b_M_needs 41 = .ok (.goto (-17), 3) := by decide +kernel
theorem d_M_needs_44 : decode b_M_needs 44 = .ok (.aload_n 0, 1) := by decide +kernel
theorem d_M_needs_45 : decode b_M_needs 45 = .ok (.iload_n 1, 1) := by decide +kernel
theorem d_M_needs_46 : decode b_M_needs 46 = .ok (.invokevirtual 81, 3) := by decide +kernel
theorem d_M_needs_49 : decode b_M_needs 49 = .ok (.istore_n 3, 1) := by decide +kernel
theorem d_M_needs_50 : decode b_M_needs 50 = .ok (.iconst 0, 1) := by decide +kernel
theorem d_M_needs_51 : decode b_M_needs 51 = .ok (.istore 4, 2) := by decide +kernel
theorem d_M_needs_53 : decode b_M_needs 53 = .ok (.iload 4, 2) := by decide +kernel
theorem d_M_needs_55 : decode b_M_needs 55 = .ok (.sipush 128, 3) := by decide +kernel
theorem d_M_needs_58 : decode b_M_needs 58 = .ok (.if_icmp .ge 53, 3) := by decide +kernel
theorem d_M_needs_61 : decode b_M_needs 61 = .ok (.iload_n 3, 1) := by decide +kernel
theorem d_M_needs_62 : decode b_M_needs 62 = .ok (.ifCond .eq 49, 3) := by decide +kernel
theorem d_M_needs_65 : decode b_M_needs 65 = .ok (.iconst 0, 1) := by decide +kernel
theorem d_M_needs_66 : decode b_M_needs 66 = .ok (.istore_n 3, 1) := by decide +kernel
theorem d_M_needs_67 : decode b_M_needs 67 = .ok (.iconst 0, 1) := by decide +kernel
theorem d_M_needs_68 : decode b_M_needs 68 = .ok (.istore 5, 2) := by decide +kernel
theorem d_M_needs_70 : decode b_M_needs 70 = .ok (.iload 5, 2) := by decide +kernel
theorem d_M_needs_72 : decode b_M_needs 72 = .ok (.sipush 128, 3) := by decide +kernel
theorem d_M_needs_75 : decode b_M_needs 75 = .ok (.if_icmp .ge 30, 3) := by decide +kernel
theorem d_M_needs_78 : decode b_M_needs 78 = .ok (.aload_n 0, 1) := by decide +kernel
theorem d_M_needs_79 : decode b_M_needs 79 = .ok (.getfield 26, 3) := by decide +kernel
theorem d_M_needs_82 : decode b_M_needs 82 = .ok (.iload 5, 2) := by decide +kernel
theorem d_M_needs_84 : decode b_M_needs 84 = .ok (.baload, 1) := by decide +kernel
theorem d_M_needs_85 : decode b_M_needs 85 = .ok (.ifCond .eq 14, 3) := by decide +kernel
theorem d_M_needs_88 : decode b_M_needs 88 = .ok (.aload_n 0, 1) := by decide +kernel
theorem d_M_needs_89 : decode b_M_needs 89 = .ok (.iload 5, 2) := by decide +kernel
theorem d_M_needs_91 : decode b_M_needs 91 = .ok (.invokevirtual 81, 3) := by decide +kernel
theorem d_M_needs_94 : decode b_M_needs 94 = .ok (.ifCond .eq 5, 3) := by decide +kernel
theorem d_M_needs_97 : decode b_M_needs 97 = .ok (.iconst 1, 1) := by decide +kernel
theorem d_M_needs_98 : decode b_M_needs 98 = .ok (.istore_n 3, 1) := by decide +kernel
theorem d_M_needs_99 : decode b_M_needs 99 = .ok (.iinc 5 1, 3) := by decide +kernel
theorem d_M_needs_102 : decode b_M_needs 102 = .ok (.goto (-32), 3) := by decide +kernel
theorem d_M_needs_105 : decode b_M_needs 105 = .ok (.iinc 4 1, 3) := by decide +kernel
theorem d_M_needs_108 : decode b_M_needs 108 = .ok (.goto (-55), 3) := by decide +kernel
theorem d_M_needs_111 : decode b_M_needs 111 = .ok (.aload_n 0, 1) := by decide +kernel
theorem d_M_needs_112 : decode b_M_needs 112 = .ok (.getfield 26, 3) := by decide +kernel
theorem d_M_needs_115 : decode b_M_needs 115 = .ok (.iload_n 2, 1) := by decide +kernel
theorem d_M_needs_116 : decode b_M_needs 116 = .ok (.baload, 1) := by decide +kernel
theorem d_M_needs_117 : decode b_M_needs 117 = .ok (.ifCond .eq 7, 3) := by decide +kernel
theorem d_M_needs_120 : decode b_M_needs 120 = .ok (.iconst 1, 1) := by decide +kernel
theorem d_M_needs_121 : decode b_M_needs 121 = .ok (.goto 4, 3) := by decide +kernel
theorem d_M_needs_124 : decode b_M_needs 124 = .ok (.iconst 0, 1) := by decide +kernel
theorem d_M_needs_125 : decode b_M_needs 125 = .ok (.ireturn, 1) := by decide +kernel
end
section
/-! PURE: what a coefficient needs, what it is worked out to, solutions -/
def sF (f : Nat → Nat) : Nat → Nat
  | 0 => 0
  | n + 1 => sF f n + f n
theorem sF_congr {f g : Nat → Nat} : ∀ (n : Nat), (∀ i, i < n → f i = g i) → sF f n = sF g n
  | 0, _ => rfl
  | n + 1, h => by
    show sF f n + f n = sF g n + g n
    rw [sF_congr n (fun i hi => h i (by omega)), h n (by omega)]
def ivL : List Nat := [0, 1, 49, 65, 73, 39, 81, 14, 85, 54, 68, 53, 89, 15, 7, 13, 91, 40, 27, 46, 34, 37, 75, 38, 93, 66, 56, 18, 52, 87, 55, 72, 94, 50, 20, 61, 62, 21, 23, 5, 17, 71, 67, 88, 86, 69, 19, 64, 95, 2, 33, 78, 28, 11, 9, 30, 26, 80, 92, 74, 76, 35, 36, 77, 47, 3, 25, 42, 10, 45, 79, 41, 31, 4, 59, 22, 60, 63, 51, 70, 57, 6, 84, 90, 82, 8, 44, 29, 43, 12, 83, 16, 58, 24, 32, 48, 96]
def ivT (y : Nat) : Nat := ivL.getD y 0
theorem ivT_lt (y : Nat) : ivT y < 97 := by
  by_cases h : y < 97
  · exact (by decide +kernel : ∀ y, y < 97 → ivT y < 97) y h
  · unfold ivT
    rw [List.getD_eq_getElem?_getD, List.getElem?_eq_none (by
      have : ivL.length = 97 := by decide +kernel
      omega)]
    decide
theorem ivT_mul : ∀ y, y < 97 → y ≠ 0 → y * ivT y % 97 = 1 := by decide +kernel
theorem ivT_rec : ∀ y, y < 97 → 2 ≤ y → (97 - 97 / y) * ivT (97 % y) % 97 = ivT y := by decide +kernel
def opI : Option Nat → Int32
  | none => -1
  | some q => nI q
def ndN (K A B : Nat → Nat) (s n i : Nat) : Option Nat :=
  if K s = 3 ∨ K s = 9 then (if i ≤ n then some (16 * A s + i) else if i ≤ 2 * n + 1 then some (16 * B s + i - n - 1) else none)
  else if K s = 7 then (if i ≤ n then some (16 * A s + i) else if i ≤ 2 * n then some (16 * s + i - n - 1) else none)
  else if K s = 2 ∧ i = 1 then some (16 * B s + n)
  else if 0 < i ∨ K s ≤ 1 then none
  else if K s = 5 then (if n < 15 then some (16 * A s + n + 1) else none)
  else if K s = 6 ∨ K s = 8 then (if 0 < n then some (16 * A s + n - 1) else none)
  else some (16 * A s + n)
/-- the i-th place that the place p needs -/
def ndf (K A B : Nat → Nat) (p i : Nat) : Option Nat := ndN K A B (p / 16) (p % 16) i
def nds (K A B : Nat → Nat) (p q : Nat) : Prop := ∃ i, ndf K A B p i = some q
/-- the definitions are in order -/
def Wf (K A B : Nat → Nat) : Prop := ∀ s, s < 8 → K s ≤ 9 ∧ A s < 8 ∧ B s < 97 ∧ ((K s = 2 ∨ K s = 3 ∨ K s = 9) → B s < 8)
/-- one step of a(b(x)) from behind, as far as the coefficient i: t steps done, j = n - t is next -/
def hrn (v : Nat → Nat) (a b n : Nat) : Nat → Nat → Nat
  | 0 => fun _ => 0
  | t + 1 => fun i => if i = 0 then v (a + (n - t)) % 97 else sF (fun k => v (b + (k + 1)) * hrn v a b n t (i - (k + 1))) i % 97
def wkN (K A B v : Nat → Nat) (s n : Nat) : Nat :=
  if K s = 0 then (if n = 0 then B s else 0)
  else if K s = 1 then (if n = 1 then 1 else 0)
  else if K s = 2 then (v (16 * A s + n) + v (16 * B s + n)) % 97
  else if K s = 3 then sF (fun i => v (16 * A s + i) * v (16 * B s + n - i)) (n + 1) % 97
  else if K s = 4 then B s * v (16 * A s + n) % 97
  else if K s = 5 then (n + 1) * v (16 * A s + n + 1) % 97
  else if K s = 6 then (if n = 0 then B s else v (16 * A s + n - 1) * ivT n % 97)
  else if K s = 7 then (if n = 0 then ivT (v (16 * A s)) else (97 - sF (fun i => v (16 * A s + (1 + i)) * v (16 * s + n - (1 + i))) n % 97) * ivT (v (16 * A s)) % 97)
  else if K s = 8 then (if n = 0 then B s else v (16 * A s + n - 1))
  else hrn v (16 * A s) (16 * B s) n (n + 1) n
def wk (K A B v : Nat → Nat) (p : Nat) : Nat := wkN K A B v (p / 16) (p % 16)
def brN (K A B v : Nat → Nat) (s n : Nat) : Prop := (K s = 5 ∧ n = 15) ∨ (K s = 7 ∧ v (16 * A s) = 0) ∨ (K s = 9 ∧ v (16 * B s) ≠ 0)
def brn (K A B v : Nat → Nat) (p : Nat) : Prop := brN K A B v (p / 16) (p % 16)
/-- has and v are what the definitions give: the least solution (rk: an order in which they come) -/
def Sol (K A B : Nat → Nat) (has : Nat → Bool) (v : Nat → Nat) : Prop :=
  ∃ rk : Nat → Nat, ∀ p, p < 128 → ((has p = true ↔ ((∀ q, nds K A B p q → has q = true) ∧ ¬ brn K A B v p)) ∧ (has p = true → v p = wk K A B v p ∧ ∀ q, nds K A B p q → rk q < rk p))
def FD (K A B : Nat → Nat) (p x : Nat) : Prop := ∀ has v, Sol K A B has v → has p = true ∧ v p = x
def DD (K A B : Nat → Nat) (p : Nat) : Prop := ∀ has v, Sol K A B has v → has p = false
theorem ndN_lt {K A B : Nat → Nat} (hw : Wf K A B) {s n i q : Nat} (hs : s < 8) (hn : n < 16) (h : ndN K A B s n i = some q) : q < 128 := by
  obtain ⟨h1, h2, h3, h4⟩ := hw s hs
  unfold ndN at h
  repeat' split at h
  all_goals first | (cases h; done) | (have e := Option.some.inj h; omega)
theorem ndf_lt {K A B : Nat → Nat} (hw : Wf K A B) {p i q : Nat} (hp : p < 128) (h : ndf K A B p i = some q) : q < 128 := ndN_lt hw (by omega) (by omega) h
theorem ndN_i {K A B : Nat → Nat} {s n i q : Nat} (hn : n < 16) (h : ndN K A B s n i = some q) : i < 32 := by
  unfold ndN at h
  repeat' split at h
  all_goals first | (cases h; done) | omega
theorem ndf_i {K A B : Nat → Nat} {p i q : Nat} (h : ndf K A B p i = some q) : i < 32 := ndN_i (by omega) h
/-- the needs stand without gaps -/
theorem ndN_end {K A B : Nat → Nat} {s n i j : Nat} (h : ndN K A B s n i = none) (hj : i ≤ j) : ndN K A B s n j = none := by
  unfold ndN at h ⊢
  repeat' split at h
  all_goals first | (cases h; done) | skip
  all_goals repeat' split
  all_goals first | rfl | omega
theorem ndf_end {K A B : Nat → Nat} {p i j : Nat} (h : ndf K A B p i = none) (hj : i ≤ j) : ndf K A B p j = none := ndN_end h hj
theorem hrn_congr {v v' : Nat → Nat} {a b n : Nat} (ha : ∀ j, j ≤ n → v (a + j) = v' (a + j)) (hb : ∀ j, j ≤ n → v (b + j) = v' (b + j)) : ∀ (t i : Nat), i ≤ n → hrn v a b n t i = hrn v' a b n t i
  | 0, _, _ => rfl
  | t + 1, i, hi => by
    show (if i = 0 then v (a + (n - t)) % 97 else sF (fun k => v (b + (k + 1)) * hrn v a b n t (i - (k + 1))) i % 97) = (if i = 0 then v' (a + (n - t)) % 97 else sF (fun k => v' (b + (k + 1)) * hrn v' a b n t (i - (k + 1))) i % 97)
    split
    · rw [ha _ (by omega)]
    · rw [sF_congr i (fun k hk => by rw [hb (k + 1) (by omega), hrn_congr ha hb t (i - (k + 1)) (by omega)])]

section Needs
variable {K A B : Nat → Nat} {s n i : Nat}
theorem nd_a (hk : K s = 3 ∨ K s = 9 ∨ K s = 7) (hi : i ≤ n) : ∃ j, ndN K A B s n j = some (16 * A s + i) := by
  refine ⟨i, ?_⟩
  unfold ndN
  rcases hk with h | h | h <;> simp [h, hi]
theorem nd_b (hk : K s = 3 ∨ K s = 9) (hi : i ≤ n) : ∃ j, ndN K A B s n j = some (16 * B s + i) := by
  refine ⟨n + 1 + i, ?_⟩
  unfold ndN
  rw [if_pos hk, if_neg (by omega), if_pos (by omega)]
  exact congrArg some (by omega)
theorem nd_s (hk : K s = 7) (hi : i < n) : ∃ j, ndN K A B s n j = some (16 * s + i) := by
  refine ⟨n + 1 + i, ?_⟩
  unfold ndN
  rw [if_neg (by omega), if_pos hk, if_neg (by omega), if_pos (by omega)]
  exact congrArg some (by omega)
theorem nd_sum (hk : K s = 2) : (∃ j, ndN K A B s n j = some (16 * A s + n)) ∧ ∃ j, ndN K A B s n j = some (16 * B s + n) := by
  refine ⟨⟨0, ?_⟩, ⟨1, ?_⟩⟩ <;> unfold ndN <;> simp [hk]
theorem nd_scale (hk : K s = 4) : ∃ j, ndN K A B s n j = some (16 * A s + n) := by
  refine ⟨0, ?_⟩
  unfold ndN
  simp [hk]
theorem nd_der (hk : K s = 5) (hn : n < 15) : ∃ j, ndN K A B s n j = some (16 * A s + n + 1) := by
  refine ⟨0, ?_⟩
  unfold ndN
  simp [hk, hn]
theorem nd_int (hk : K s = 6 ∨ K s = 8) (hn : 0 < n) : ∃ j, ndN K A B s n j = some (16 * A s + n - 1) := by
  refine ⟨0, ?_⟩
  unfold ndN
  rcases hk with h | h <;> simp [h, hn]
theorem brN_congr {v v' : Nat → Nat} (h : ∀ q, (∃ j, ndN K A B s n j = some q) → v q = v' q) : brN K A B v s n ↔ brN K A B v' s n := by
  unfold brN
  constructor
  · rintro (⟨h1, h2⟩ | ⟨h1, h2⟩ | ⟨h1, h2⟩)
    · exact Or.inl ⟨h1, h2⟩
    · exact Or.inr (Or.inl ⟨h1, by rw [← h2]; exact (h _ (nd_a (i := 0) (by omega) (by omega))).symm⟩)
    · exact Or.inr (Or.inr ⟨h1, fun e => h2 (by rw [← e]; exact h _ (nd_b (i := 0) (by omega) (by omega)))⟩)
  · rintro (⟨h1, h2⟩ | ⟨h1, h2⟩ | ⟨h1, h2⟩)
    · exact Or.inl ⟨h1, h2⟩
    · exact Or.inr (Or.inl ⟨h1, by rw [← h2]; exact h _ (nd_a (i := 0) (by omega) (by omega))⟩)
    · exact Or.inr (Or.inr ⟨h1, fun e => h2 (by rw [← e]; exact (h _ (nd_b (i := 0) (by omega) (by omega))).symm)⟩)
theorem wkN_congr {v v' : Nat → Nat} (hK : K s ≤ 9) (hn : n < 16) (hb : ¬ brN K A B v s n) (h : ∀ q, (∃ j, ndN K A B s n j = some q) → v q = v' q) : wkN K A B v s n = wkN K A B v' s n := by
  unfold wkN
  by_cases h0 : K s = 0
  · rw [if_pos h0, if_pos h0]
  rw [if_neg h0, if_neg h0]
  by_cases h1 : K s = 1
  · rw [if_pos h1, if_pos h1]
  rw [if_neg h1, if_neg h1]
  by_cases h2 : K s = 2
  · rw [if_pos h2, if_pos h2, h _ (nd_sum h2).1, h _ (nd_sum h2).2]
  rw [if_neg h2, if_neg h2]
  by_cases h3 : K s = 3
  · rw [if_pos h3, if_pos h3]
    refine congrArg (fun x => x % 97) (sF_congr (n + 1) (fun i hi => ?_))
    rw [h _ (nd_a (i := i) (by omega) (by omega)), show 16 * B s + n - i = 16 * B s + (n - i) by omega, h _ (nd_b (i := n - i) (by omega) (by omega))]
  rw [if_neg h3, if_neg h3]
  by_cases h4 : K s = 4
  · rw [if_pos h4, if_pos h4, h _ (nd_scale h4)]
  rw [if_neg h4, if_neg h4]
  by_cases h5 : K s = 5
  · have : n ≠ 15 := fun e => hb (Or.inl ⟨h5, e⟩)
    rw [if_pos h5, if_pos h5, h _ (nd_der h5 (by omega))]
  rw [if_neg h5, if_neg h5]
  by_cases h6 : K s = 6
  · rw [if_pos h6, if_pos h6]
    by_cases z : n = 0
    · rw [if_pos z, if_pos z]
    · rw [if_neg z, if_neg z, h _ (nd_int (by omega) (by omega))]
  rw [if_neg h6, if_neg h6]
  by_cases h7 : K s = 7
  · have e0 := h _ (nd_a (i := 0) (by omega) (by omega))
    rw [Nat.add_zero] at e0
    rw [if_pos h7, if_pos h7, e0]
    by_cases z : n = 0
    · rw [if_pos z, if_pos z]
    · rw [if_neg z, if_neg z]
      refine congrArg (fun x => (97 - x % 97) * ivT (v' (16 * A s)) % 97) (sF_congr n (fun i hi => ?_))
      rw [h _ (nd_a (i := 1 + i) (by omega) (by omega)), show 16 * s + n - (1 + i) = 16 * s + (n - (1 + i)) by omega, h _ (nd_s (i := n - (1 + i)) (by omega) (by omega))]
  rw [if_neg h7, if_neg h7]
  by_cases h8 : K s = 8
  · rw [if_pos h8, if_pos h8]
    by_cases z : n = 0
    · rw [if_pos z, if_pos z]
    · rw [if_neg z, if_neg z, h _ (nd_int (by omega) (by omega))]
  rw [if_neg h8, if_neg h8]
  exact hrn_congr (fun j hj => h _ (nd_a (i := j) (by omega) hj)) (fun j hj => h _ (nd_b (i := j) (by omega) hj)) _ _ (Nat.le_refl _)
end Needs
/-- FOUND: all that p needs is known, and it isn't barren -/
theorem FD_of {K A B w : Nat → Nat} {p : Nat} (hw : Wf K A B) (hp : p < 128) (h : ∀ q, nds K A B p q → FD K A B q (w q)) (hb : ¬ brn K A B w p) : FD K A B p (wk K A B w p) := by
  intro has v hS
  obtain ⟨rk, hR⟩ := id hS
  have hq : ∀ q, nds K A B p q → w q = v q := fun q hq => ((h q hq has v hS).2).symm
  have hb' : ¬ brn K A B v p := fun z => hb ((brN_congr hq).mpr z)
  have h1 : has p = true := (hR p hp).1.mpr ⟨fun q hq => (h q hq has v hS).1, hb'⟩
  exact ⟨h1, ((hR p hp).2 h1).1.trans (wkN_congr (hw (p / 16) (by omega)).1 (by omega) hb hq).symm⟩
theorem DD_barren {K A B w : Nat → Nat} {p : Nat} (hp : p < 128) (h : ∀ q, nds K A B p q → FD K A B q (w q)) (hb : brn K A B w p) : DD K A B p := by
  intro has v hS
  obtain ⟨rk, hR⟩ := id hS
  have hq : ∀ q, nds K A B p q → w q = v q := fun q hq => ((h q hq has v hS).2).symm
  cases e : has p with
  | false => rfl
  | true => exact absurd ((brN_congr hq).mp hb) ((hR p hp).1.mp e).2
theorem DD_need {K A B : Nat → Nat} {p q : Nat} (hp : p < 128) (hq : nds K A B p q) (h : DD K A B q) : DD K A B p := by
  intro has v hS
  obtain ⟨rk, hR⟩ := id hS
  cases e : has p with
  | false => rfl
  | true =>
    have := ((hR p hp).1.mp e).1 q hq
    rw [h has v hS] at this
    cases this
theorem DD_cycle {K A B c : Nat → Nat} {j d : Nat} (hc : ∀ i, i ≤ d → c i < 128) (hch : ∀ i, i < d → nds K A B (c i) (c (i + 1))) (hj : j ≤ d) (hq : nds K A B (c d) (c j)) : DD K A B (c d) := by
  intro has v hS
  obtain ⟨rk, hR⟩ := id hS
  cases e : has (c d) with
  | false => rfl
  | true =>
    exfalso
    have h0 : has (c j) = true := ((hR (c d) (hc d (Nat.le_refl _))).1.mp e).1 _ hq
    have h1 := ((hR (c d) (hc d (Nat.le_refl _))).2 e).2 _ hq
    have key : ∀ t, j + t ≤ d → has (c (j + t)) = true ∧ rk (c (j + t)) ≤ rk (c j) := by
      intro t
      induction t with
      | zero => exact fun _ => ⟨h0, Nat.le_refl _⟩
      | succ t ih =>
        intro ht
        obtain ⟨i1, i2⟩ := ih (by omega)
        have hn := hch (j + t) (by omega)
        have g1 := ((hR (c (j + t)) (hc _ (by omega))).1.mp i1).1 _ hn
        have g2 := ((hR (c (j + t)) (hc _ (by omega))).2 i1).2 _ hn
        exact ⟨g1, by rw [← Nat.add_assoc]; omega⟩
    have := (key (d - j) (by omega)).2
    rw [show j + (d - j) = d by omega] at this
    omega
end
section
def rm (f q : Nat) : Room := { frames := f, cells := 0, slots := 0, locals := q }
def isS (x : Int32) : Prop := ∃ k, k < 8 ∧ x = nI k
theorem isS_ok {x : Int32} (h1 : ¬ x < 0) (h2 : ¬ nI 7 < x) : isS x := by
  obtain ⟨j, hj, e⟩ := nI_of2 (x := x) (M := nI 7) (n := 7) (by decide) h1 (by rw [Int32.le_iff_toInt_le]; rw [Int32.lt_iff_toInt_lt] at h2; omega)
  exact ⟨j, by omega, e⟩
theorem isS_neg {x : Int32} (h : x < 0) : ¬ isS x := by
  rintro ⟨k, hk, rfl⟩
  exact nI_pos (by omega) h
theorem isS_big {x : Int32} (h : nI 7 < x) : ¬ isS x := by
  rintro ⟨k, hk, rfl⟩
  have := (nI_ltI (by omega) (by omega)).mp h
  omega
/-- the remainder that reduced(x) answers -/
def rd (x : Int32) : Nat := (x.toInt % 97).toNat
theorem rd_lt (x : Int32) : rd x < 97 := by
  unfold rd
  omega
theorem rd_q (a : Int) : (0 ≤ a ∧ a.tdiv 97 = a / 97) ∨ (a < 0 ∧ a.tdiv 97 = -((-a) / 97)) := by
  by_cases h : 0 ≤ a
  · exact Or.inl ⟨h, Int.tdiv_eq_ediv_of_nonneg h⟩
  · refine Or.inr ⟨by omega, ?_⟩
    have h1 := Int.neg_tdiv (a := -a) (b := 97)
    rw [Int.neg_neg] at h1
    rw [h1, Int.tdiv_eq_ediv_of_nonneg (by omega)]
theorem rd_t (x : Int32) : (x - x / nI 97 * nI 97).toInt = x.toInt - 97 * x.toInt.tdiv 97 := by
  have h97 : (nI 97).toInt = 97 := by decide
  have h1 := Int32.toInt_lt x
  have h2 := Int32.le_toInt x
  have hq := rd_q x.toInt
  have hd : (x / nI 97).toInt = x.toInt.tdiv 97 := by
    rw [Int32.toInt_div, h97]
    exact Int.bmod_eq_of_le (by omega) (by omega)
  have hm : (x / nI 97 * nI 97).toInt = x.toInt.tdiv 97 * 97 := by
    rw [Int32.toInt_mul, hd, h97]
    exact Int.bmod_eq_of_le (by omega) (by omega)
  rw [Int32.toInt_sub, hm, Int.bmod_eq_of_le (by omega) (by omega)]
  omega
theorem rd_ge {x : Int32} (h : 0 ≤ x - x / nI 97 * nI 97) : x - x / nI 97 * nI 97 = nI (rd x) := by
  rw [Int32.le_iff_toInt_le, rd_t, Int32.toInt_zero] at h
  apply Int32.toInt_inj.mp
  have hl := rd_lt x
  rw [rd_t, nI_toInt (by omega)]
  have hq := rd_q x.toInt
  unfold rd
  omega
theorem rd_ng {x : Int32} (h : ¬ 0 ≤ x - x / nI 97 * nI 97) : x - x / nI 97 * nI 97 + nI 97 = nI (rd x) := by
  rw [Int32.le_iff_toInt_le, rd_t, Int32.toInt_zero] at h
  apply Int32.toInt_inj.mp
  have hl := rd_lt x
  have h97 : (nI 97).toInt = 97 := by decide
  have hq := rd_q x.toInt
  have h1 := Int32.toInt_lt x
  have h2 := Int32.le_toInt x
  rw [Int32.toInt_add, rd_t, h97, nI_toInt (by omega), Int.bmod_eq_of_le (by omega) (by omega)]
  unfold rd
  omega
set_option maxHeartbeats 4000000 in
/-- isSeries(x): 1 where x is one of 0 .. 7 -/
theorem c_L_isSeries (l : Launch) (h : Nat) (a : Nat → Nat) (σ : SG) (x : Int32) : MetN l y_L_isSeries b_L_isSeries 1 (some .boolean) (rm 0 0) 0 h a σ [.int x] (pI (fun r σ' => σ' = σ ∧ ((isS x ∧ r = nI 1) ∨ (¬ isS x ∧ r = nI 0)))) := by
  refine nv_entry (by decide) (Nat.le_of_ble_eq_true rfl) (by intro v hv; simp only [List.mem_cons, List.not_mem_nil, or_false] at hv; rcases hv with rfl <;> rfl) (fun G hG => ?_)
  have hP := hG.pr
  refine nv_iload_n hP 0 d_L_isSeries_0 rfl rfl ?_
  refine nv_ifltR hP 14 d_L_isSeries_1 (by decide) (fun c_1 => ?_) (fun c_1 => ?_)
  · refine nv_iconst hP (nI 0) d_L_isSeries_14 (by decide) ?_
    exact nv_zret hG (by omega) d_L_isSeries_15 (⟨_, rfl, rfl, Or.inr ⟨isS_neg c_1, rfl⟩⟩)
  · refine nv_iload_n hP 0 d_L_isSeries_4 rfl rfl ?_
    refine nv_bipush hP (nI 7) d_L_isSeries_5 (by decide) ?_
    refine nv_cmpgtR hP 14 d_L_isSeries_7 (by decide) (fun c_7 => ?_) (fun c_7 => ?_)
    · refine nv_iconst hP (nI 0) d_L_isSeries_14 (by decide) ?_
      exact nv_zret hG (by omega) d_L_isSeries_15 (⟨_, rfl, rfl, Or.inr ⟨isS_big c_7, rfl⟩⟩)
    · refine nv_iconst hP (nI 1) d_L_isSeries_10 (by decide) ?_
      refine nv_goto hP 15 d_L_isSeries_11 (by decide) ?_
      exact nv_zret hG (by omega) d_L_isSeries_15 (⟨_, rfl, rfl, Or.inl ⟨isS_ok c_1 c_7, rfl⟩⟩)

set_option maxHeartbeats 4000000 in
/-- reduced(x) -/
theorem c_L_reduced (l : Launch) (h : Nat) (a : Nat → Nat) (σ : SG) (x : Int32) : MetN l y_L_reduced b_L_reduced 2 (some .int) (rm 0 0) 0 h a σ [.int x] (pI (fun r σ' => σ' = σ ∧ r = nI (rd x))) := by
  refine nv_entry (by decide) (Nat.le_of_ble_eq_true rfl) (by intro v hv; simp only [List.mem_cons, List.not_mem_nil, or_false] at hv; rcases hv with rfl <;> rfl) (fun G hG => ?_)
  have hP := hG.pr
  refine nv_iload_n hP 0 d_L_reduced_0 rfl rfl ?_
  refine nv_bipush hP (nI 97) d_L_reduced_1 (by decide) ?_
  refine nv_iremR hP (by decide) d_L_reduced_3 ?_
  refine nv_istore_n hP 1 d_L_reduced_4 rfl (by decide) ?_
  refine nv_iload_n hP 1 d_L_reduced_5 rfl rfl ?_
  refine nv_ifgeR hP 16 d_L_reduced_6 (by decide) (fun c_6 => ?_) (fun c_6 => ?_)
  · refine nv_iload_n hP 1 d_L_reduced_16 rfl rfl ?_
    exact nv_iret hG d_L_reduced_17 (⟨_, rfl, rfl, rd_ge c_6⟩)
  · refine nv_iload_n hP 1 d_L_reduced_9 rfl rfl ?_
    refine nv_bipush hP (nI 97) d_L_reduced_10 (by decide) ?_
    refine nv_iaddR hP d_L_reduced_12 ?_
    refine nv_goto hP 17 d_L_reduced_13 (by decide) ?_
    exact nv_iret hG d_L_reduced_17 (⟨_, rfl, rfl, rd_ng c_6⟩)

set_option maxHeartbeats 4000000 in
/-- reduced(x) -/
theorem c_M_reduced (l : Launch) (h : Nat) (a : Nat → Nat) (σ : SG) (x : Int32) : MetN l y_M_reduced b_M_reduced 3 (some .int) (rm 0 0) 1 h a σ [.ref h, .int x] (pI (fun r σ' => σ' = σ ∧ r = nI (rd x))) := by
  refine nv_entry (by decide) (Nat.le_of_ble_eq_true rfl) (by intro v hv; simp only [List.mem_cons, List.not_mem_nil, or_false] at hv; rcases hv with rfl | rfl <;> rfl) (fun G hG => ?_)
  have hP := hG.pr
  refine nv_iload_n hP 1 d_M_reduced_0 rfl rfl ?_
  refine nv_bipush hP (nI 97) d_M_reduced_1 (by decide) ?_
  refine nv_iremR hP (by decide) d_M_reduced_3 ?_
  refine nv_istore_n hP 2 d_M_reduced_4 rfl (by decide) ?_
  refine nv_iload_n hP 2 d_M_reduced_5 rfl rfl ?_
  refine nv_ifgeR hP 16 d_M_reduced_6 (by decide) (fun c_6 => ?_) (fun c_6 => ?_)
  · refine nv_iload_n hP 2 d_M_reduced_16 rfl rfl ?_
    exact nv_iret hG d_M_reduced_17 (⟨_, rfl, rfl, rd_ge c_6⟩)
  · refine nv_iload_n hP 2 d_M_reduced_9 rfl rfl ?_
    refine nv_bipush hP (nI 97) d_M_reduced_10 (by decide) ?_
    refine nv_iaddR hP d_M_reduced_12 ?_
    refine nv_goto hP 17 d_M_reduced_13 (by decide) ?_
    exact nv_iret hG d_M_reduced_17 (⟨_, rfl, rfl, rd_ng c_6⟩)

set_option maxHeartbeats 4000000 in
/-- need(p, i) -/
theorem c_L_need (l : Launch) (h : Nat) (a : Nat → Nat) (σ : SG) (p i : Nat) (hp : p < 128) (hi : i < 1000) (hw : Wf (σ 0) (σ 1) (σ 2)) : MetN l y_L_need b_L_need 7 (some .int) (rm 0 0) 0 h a σ [.ref h, .int (nI p), .int (nI i)] (pI (fun r σ' => σ' = σ ∧ r = opI (ndf (σ 0) (σ 1) (σ 2) p i))) := by
  refine nv_entry (by decide) (Nat.le_of_ble_eq_true rfl) (by intro v hv; simp only [List.mem_cons, List.not_mem_nil, or_false] at hv; rcases hv with rfl | rfl | rfl <;> rfl) (fun G hG => ?_)
  have hP := hG.pr
  obtain ⟨w1, w2, w3, w4⟩ := hw (p / 16) (by omega)
  refine nv_iload_n hP 1 d_L_need_0 rfl rfl ?_
  refine nv_iconst hP (nI 4) d_L_need_1 (by decide) ?_
  refine nv_ishr4 hP (by omega) d_L_need_2 ?_
  refine nv_istore_n hP 3 d_L_need_3 rfl (by decide) ?_
  refine nv_iload_n hP 1 d_L_need_4 rfl rfl ?_
  refine nv_bipush hP (nI 15) d_L_need_5 (by decide) ?_
  refine nv_iand15 hP (by omega) d_L_need_7 ?_
  refine nv_istore hP d_L_need_8 (by decide) ?_
  refine nv_bipush hP (nI 16) d_L_need_10 (by decide) ?_
  refine nv_aload_n hP 0 d_L_need_12 rfl rfl ?_
  refine nv_getf hG ff_L_1 (by decide) d_L_need_13 ?_
  refine nv_iload_n hP 3 d_L_need_16 rfl rfl ?_
  refine nv_iald hG 8 (by decide) rfl rfl (by omega) d_L_need_17 ?_
  refine nv_imul hP d_L_need_18 ?_
  refine nv_istore hP d_L_need_19 (by decide) ?_
  refine nv_aload_n hP 0 d_L_need_21 rfl rfl ?_
  refine nv_getf hG ff_L_0 (by decide) d_L_need_22 ?_
  refine nv_iload_n hP 3 d_L_need_25 rfl rfl ?_
  refine nv_iald hG 8 (by decide) rfl rfl (by omega) d_L_need_26 ?_
  refine nv_istore hP d_L_need_27 (by decide) ?_
  refine nv_iload hP d_L_need_29 rfl ?_
  refine nv_iconst hP (nI 3) d_L_need_31 (by decide) ?_
  refine nv_cmpeq hP (by omega) (by omega) 42 d_L_need_32 (by decide) (fun c_32 => ?_) (fun c_32 => ?_)
  · refine nv_iload_n hP 2 d_L_need_42 rfl rfl ?_
    refine nv_iload hP d_L_need_43 rfl ?_
    refine nv_cmpgt hP (by omega) (by omega) 53 d_L_need_45 (by decide) (fun c_45 => ?_) (fun c_45 => ?_)
    · refine nv_iload_n hP 2 d_L_need_53 rfl rfl ?_
      refine nv_iconst hP (nI 2) d_L_need_54 (by decide) ?_
      refine nv_iload hP d_L_need_55 rfl ?_
      refine nv_imul hP d_L_need_57 ?_
      refine nv_iconst hP (nI 1) d_L_need_58 (by decide) ?_
      refine nv_iadd hP d_L_need_59 ?_
      refine nv_cmpgt hP (by omega) (by omega) 82 d_L_need_60 (by decide) (fun c_60 => ?_) (fun c_60 => ?_)
      · refine nv_iconst hP (-1) d_L_need_82 (by decide) ?_
        exact nv_iret hG d_L_need_83 (⟨_, rfl, rfl, by unfold ndf ndN; (repeat' split) <;> first | rfl | (exfalso; omega) | (exact congrArg nI (by omega))⟩)
      · refine nv_bipush hP (nI 16) d_L_need_63 (by decide) ?_
        refine nv_aload_n hP 0 d_L_need_65 rfl rfl ?_
        refine nv_getf hG ff_L_2 (by decide) d_L_need_66 ?_
        refine nv_iload_n hP 3 d_L_need_69 rfl rfl ?_
        refine nv_iald hG 8 (by decide) rfl rfl (by omega) d_L_need_70 ?_
        refine nv_imul hP d_L_need_71 ?_
        refine nv_iload_n hP 2 d_L_need_72 rfl rfl ?_
        refine nv_iadd hP d_L_need_73 ?_
        refine nv_iload hP d_L_need_74 rfl ?_
        refine nv_isub hP (by omega) d_L_need_76 ?_
        refine nv_iconst hP (nI 1) d_L_need_77 (by decide) ?_
        refine nv_isub hP (by omega) d_L_need_78 ?_
        refine nv_goto hP 83 d_L_need_79 (by decide) ?_
        exact nv_iret hG d_L_need_83 (⟨_, rfl, rfl, by unfold ndf ndN; (repeat' split) <;> first | rfl | (exfalso; omega) | (exact congrArg nI (by omega))⟩)
    · refine nv_iload hP d_L_need_48 rfl ?_
      refine nv_iload_n hP 2 d_L_need_50 rfl rfl ?_
      refine nv_iadd hP d_L_need_51 ?_
      exact nv_iret hG d_L_need_52 (⟨_, rfl, rfl, by unfold ndf ndN; (repeat' split) <;> first | rfl | (exfalso; omega) | (exact congrArg nI (by omega))⟩)
  · refine nv_iload hP d_L_need_35 rfl ?_
    refine nv_bipush hP (nI 9) d_L_need_37 (by decide) ?_
    refine nv_cmpne hP (by omega) (by omega) 84 d_L_need_39 (by decide) (fun c_39 => ?_) (fun c_39 => ?_)
    · refine nv_iload hP d_L_need_84 rfl ?_
      refine nv_bipush hP (nI 7) d_L_need_86 (by decide) ?_
      refine nv_cmpne hP (by omega) (by omega) 126 d_L_need_88 (by decide) (fun c_88 => ?_) (fun c_88 => ?_)
      · refine nv_iload hP d_L_need_126 rfl ?_
        refine nv_iconst hP (nI 2) d_L_need_128 (by decide) ?_
        refine nv_cmpne hP (by omega) (by omega) 150 d_L_need_129 (by decide) (fun c_129 => ?_) (fun c_129 => ?_)
        · refine nv_iload_n hP 2 d_L_need_150 rfl rfl ?_
          refine nv_ifgt hP (by omega) 160 d_L_need_151 (by decide) (fun c_151 => ?_) (fun c_151 => ?_)
          · refine nv_iconst hP (-1) d_L_need_160 (by decide) ?_
            exact nv_iret hG d_L_need_161 (⟨_, rfl, rfl, by unfold ndf ndN; (repeat' split) <;> first | rfl | (exfalso; omega) | (exact congrArg nI (by omega))⟩)
          · refine nv_iload hP d_L_need_154 rfl ?_
            refine nv_iconst hP (nI 1) d_L_need_156 (by decide) ?_
            refine nv_cmpgt hP (by omega) (by omega) 162 d_L_need_157 (by decide) (fun c_157 => ?_) (fun c_157 => ?_)
            · refine nv_iload hP d_L_need_162 rfl ?_
              refine nv_iconst hP (nI 5) d_L_need_164 (by decide) ?_
              refine nv_cmpne hP (by omega) (by omega) 187 d_L_need_165 (by decide) (fun c_165 => ?_) (fun c_165 => ?_)
              · refine nv_iload hP d_L_need_187 rfl ?_
                refine nv_bipush hP (nI 6) d_L_need_189 (by decide) ?_
                refine nv_cmpeq hP (by omega) (by omega) 201 d_L_need_191 (by decide) (fun c_191 => ?_) (fun c_191 => ?_)
                · refine nv_iload hP d_L_need_201 rfl ?_
                  refine nv_ifle hP (by omega) 216 d_L_need_203 (by decide) (fun c_203 => ?_) (fun c_203 => ?_)
                  · refine nv_iconst hP (-1) d_L_need_216 (by decide) ?_
                    exact nv_iret hG d_L_need_217 (⟨_, rfl, rfl, by unfold ndf ndN; (repeat' split) <;> first | rfl | (exfalso; omega) | (exact congrArg nI (by omega))⟩)
                  · refine nv_iload hP d_L_need_206 rfl ?_
                    refine nv_iload hP d_L_need_208 rfl ?_
                    refine nv_iadd hP d_L_need_210 ?_
                    refine nv_iconst hP (nI 1) d_L_need_211 (by decide) ?_
                    refine nv_isub hP (by omega) d_L_need_212 ?_
                    refine nv_goto hP 217 d_L_need_213 (by decide) ?_
                    exact nv_iret hG d_L_need_217 (⟨_, rfl, rfl, by unfold ndf ndN; (repeat' split) <;> first | rfl | (exfalso; omega) | (exact congrArg nI (by omega))⟩)
                · refine nv_iload hP d_L_need_194 rfl ?_
                  refine nv_bipush hP (nI 8) d_L_need_196 (by decide) ?_
                  refine nv_cmpne hP (by omega) (by omega) 218 d_L_need_198 (by decide) (fun c_198 => ?_) (fun c_198 => ?_)
                  · refine nv_iload hP d_L_need_218 rfl ?_
                    refine nv_iload hP d_L_need_220 rfl ?_
                    refine nv_iadd hP d_L_need_222 ?_
                    exact nv_iret hG d_L_need_223 (⟨_, rfl, rfl, by unfold ndf ndN; (repeat' split) <;> first | rfl | (exfalso; omega) | (exact congrArg nI (by omega))⟩)
                  · refine nv_iload hP d_L_need_201 rfl ?_
                    refine nv_ifle hP (by omega) 216 d_L_need_203 (by decide) (fun c_203 => ?_) (fun c_203 => ?_)
                    · refine nv_iconst hP (-1) d_L_need_216 (by decide) ?_
                      exact nv_iret hG d_L_need_217 (⟨_, rfl, rfl, by unfold ndf ndN; (repeat' split) <;> first | rfl | (exfalso; omega) | (exact congrArg nI (by omega))⟩)
                    · refine nv_iload hP d_L_need_206 rfl ?_
                      refine nv_iload hP d_L_need_208 rfl ?_
                      refine nv_iadd hP d_L_need_210 ?_
                      refine nv_iconst hP (nI 1) d_L_need_211 (by decide) ?_
                      refine nv_isub hP (by omega) d_L_need_212 ?_
                      refine nv_goto hP 217 d_L_need_213 (by decide) ?_
                      exact nv_iret hG d_L_need_217 (⟨_, rfl, rfl, by unfold ndf ndN; (repeat' split) <;> first | rfl | (exfalso; omega) | (exact congrArg nI (by omega))⟩)
              · refine nv_iload hP d_L_need_168 rfl ?_
                refine nv_bipush hP (nI 15) d_L_need_170 (by decide) ?_
                refine nv_cmpge hP (by omega) (by omega) 185 d_L_need_172 (by decide) (fun c_172 => ?_) (fun c_172 => ?_)
                · refine nv_iconst hP (-1) d_L_need_185 (by decide) ?_
                  exact nv_iret hG d_L_need_186 (⟨_, rfl, rfl, by unfold ndf ndN; (repeat' split) <;> first | rfl | (exfalso; omega) | (exact congrArg nI (by omega))⟩)
                · refine nv_iload hP d_L_need_175 rfl ?_
                  refine nv_iload hP d_L_need_177 rfl ?_
                  refine nv_iadd hP d_L_need_179 ?_
                  refine nv_iconst hP (nI 1) d_L_need_180 (by decide) ?_
                  refine nv_iadd hP d_L_need_181 ?_
                  refine nv_goto hP 186 d_L_need_182 (by decide) ?_
                  exact nv_iret hG d_L_need_186 (⟨_, rfl, rfl, by unfold ndf ndN; (repeat' split) <;> first | rfl | (exfalso; omega) | (exact congrArg nI (by omega))⟩)
            · refine nv_iconst hP (-1) d_L_need_160 (by decide) ?_
              exact nv_iret hG d_L_need_161 (⟨_, rfl, rfl, by unfold ndf ndN; (repeat' split) <;> first | rfl | (exfalso; omega) | (exact congrArg nI (by omega))⟩)
        · refine nv_iload_n hP 2 d_L_need_132 rfl rfl ?_
          refine nv_iconst hP (nI 1) d_L_need_133 (by decide) ?_
          refine nv_cmpne hP (by omega) (by omega) 150 d_L_need_134 (by decide) (fun c_134 => ?_) (fun c_134 => ?_)
          · refine nv_iload_n hP 2 d_L_need_150 rfl rfl ?_
            refine nv_ifgt hP (by omega) 160 d_L_need_151 (by decide) (fun c_151 => ?_) (fun c_151 => ?_)
            · refine nv_iconst hP (-1) d_L_need_160 (by decide) ?_
              exact nv_iret hG d_L_need_161 (⟨_, rfl, rfl, by unfold ndf ndN; (repeat' split) <;> first | rfl | (exfalso; omega) | (exact congrArg nI (by omega))⟩)
            · refine nv_iload hP d_L_need_154 rfl ?_
              refine nv_iconst hP (nI 1) d_L_need_156 (by decide) ?_
              refine nv_cmpgt hP (by omega) (by omega) 162 d_L_need_157 (by decide) (fun c_157 => ?_) (fun c_157 => ?_)
              · refine nv_iload hP d_L_need_162 rfl ?_
                refine nv_iconst hP (nI 5) d_L_need_164 (by decide) ?_
                refine nv_cmpne hP (by omega) (by omega) 187 d_L_need_165 (by decide) (fun c_165 => ?_) (fun c_165 => ?_)
                · refine nv_iload hP d_L_need_187 rfl ?_
                  refine nv_bipush hP (nI 6) d_L_need_189 (by decide) ?_
                  refine nv_cmpeq hP (by omega) (by omega) 201 d_L_need_191 (by decide) (fun c_191 => ?_) (fun c_191 => ?_)
                  · refine nv_iload hP d_L_need_201 rfl ?_
                    refine nv_ifle hP (by omega) 216 d_L_need_203 (by decide) (fun c_203 => ?_) (fun c_203 => ?_)
                    · refine nv_iconst hP (-1) d_L_need_216 (by decide) ?_
                      exact nv_iret hG d_L_need_217 (⟨_, rfl, rfl, by unfold ndf ndN; (repeat' split) <;> first | rfl | (exfalso; omega) | (exact congrArg nI (by omega))⟩)
                    · refine nv_iload hP d_L_need_206 rfl ?_
                      refine nv_iload hP d_L_need_208 rfl ?_
                      refine nv_iadd hP d_L_need_210 ?_
                      refine nv_iconst hP (nI 1) d_L_need_211 (by decide) ?_
                      refine nv_isub hP (by omega) d_L_need_212 ?_
                      refine nv_goto hP 217 d_L_need_213 (by decide) ?_
                      exact nv_iret hG d_L_need_217 (⟨_, rfl, rfl, by unfold ndf ndN; (repeat' split) <;> first | rfl | (exfalso; omega) | (exact congrArg nI (by omega))⟩)
                  · refine nv_iload hP d_L_need_194 rfl ?_
                    refine nv_bipush hP (nI 8) d_L_need_196 (by decide) ?_
                    refine nv_cmpne hP (by omega) (by omega) 218 d_L_need_198 (by decide) (fun c_198 => ?_) (fun c_198 => ?_)
                    · refine nv_iload hP d_L_need_218 rfl ?_
                      refine nv_iload hP d_L_need_220 rfl ?_
                      refine nv_iadd hP d_L_need_222 ?_
                      exact nv_iret hG d_L_need_223 (⟨_, rfl, rfl, by unfold ndf ndN; (repeat' split) <;> first | rfl | (exfalso; omega) | (exact congrArg nI (by omega))⟩)
                    · refine nv_iload hP d_L_need_201 rfl ?_
                      refine nv_ifle hP (by omega) 216 d_L_need_203 (by decide) (fun c_203 => ?_) (fun c_203 => ?_)
                      · refine nv_iconst hP (-1) d_L_need_216 (by decide) ?_
                        exact nv_iret hG d_L_need_217 (⟨_, rfl, rfl, by unfold ndf ndN; (repeat' split) <;> first | rfl | (exfalso; omega) | (exact congrArg nI (by omega))⟩)
                      · refine nv_iload hP d_L_need_206 rfl ?_
                        refine nv_iload hP d_L_need_208 rfl ?_
                        refine nv_iadd hP d_L_need_210 ?_
                        refine nv_iconst hP (nI 1) d_L_need_211 (by decide) ?_
                        refine nv_isub hP (by omega) d_L_need_212 ?_
                        refine nv_goto hP 217 d_L_need_213 (by decide) ?_
                        exact nv_iret hG d_L_need_217 (⟨_, rfl, rfl, by unfold ndf ndN; (repeat' split) <;> first | rfl | (exfalso; omega) | (exact congrArg nI (by omega))⟩)
                · refine nv_iload hP d_L_need_168 rfl ?_
                  refine nv_bipush hP (nI 15) d_L_need_170 (by decide) ?_
                  refine nv_cmpge hP (by omega) (by omega) 185 d_L_need_172 (by decide) (fun c_172 => ?_) (fun c_172 => ?_)
                  · refine nv_iconst hP (-1) d_L_need_185 (by decide) ?_
                    exact nv_iret hG d_L_need_186 (⟨_, rfl, rfl, by unfold ndf ndN; (repeat' split) <;> first | rfl | (exfalso; omega) | (exact congrArg nI (by omega))⟩)
                  · refine nv_iload hP d_L_need_175 rfl ?_
                    refine nv_iload hP d_L_need_177 rfl ?_
                    refine nv_iadd hP d_L_need_179 ?_
                    refine nv_iconst hP (nI 1) d_L_need_180 (by decide) ?_
                    refine nv_iadd hP d_L_need_181 ?_
                    refine nv_goto hP 186 d_L_need_182 (by decide) ?_
                    exact nv_iret hG d_L_need_186 (⟨_, rfl, rfl, by unfold ndf ndN; (repeat' split) <;> first | rfl | (exfalso; omega) | (exact congrArg nI (by omega))⟩)
              · refine nv_iconst hP (-1) d_L_need_160 (by decide) ?_
                exact nv_iret hG d_L_need_161 (⟨_, rfl, rfl, by unfold ndf ndN; (repeat' split) <;> first | rfl | (exfalso; omega) | (exact congrArg nI (by omega))⟩)
          · refine nv_bipush hP (nI 16) d_L_need_137 (by decide) ?_
            refine nv_aload_n hP 0 d_L_need_139 rfl rfl ?_
            refine nv_getf hG ff_L_2 (by decide) d_L_need_140 ?_
            refine nv_iload_n hP 3 d_L_need_143 rfl rfl ?_
            refine nv_iald hG 8 (by decide) rfl rfl (by omega) d_L_need_144 ?_
            refine nv_imul hP d_L_need_145 ?_
            refine nv_iload hP d_L_need_146 rfl ?_
            refine nv_iadd hP d_L_need_148 ?_
            exact nv_iret hG d_L_need_149 (⟨_, rfl, rfl, by unfold ndf ndN; (repeat' split) <;> first | rfl | (exfalso; omega) | (exact congrArg nI (by omega))⟩)
      · refine nv_iload_n hP 2 d_L_need_91 rfl rfl ?_
        refine nv_iload hP d_L_need_92 rfl ?_
        refine nv_cmpgt hP (by omega) (by omega) 102 d_L_need_94 (by decide) (fun c_94 => ?_) (fun c_94 => ?_)
        · refine nv_iload_n hP 2 d_L_need_102 rfl rfl ?_
          refine nv_iconst hP (nI 2) d_L_need_103 (by decide) ?_
          refine nv_iload hP d_L_need_104 rfl ?_
          refine nv_imul hP d_L_need_106 ?_
          refine nv_cmpgt hP (by omega) (by omega) 124 d_L_need_107 (by decide) (fun c_107 => ?_) (fun c_107 => ?_)
          · refine nv_iconst hP (-1) d_L_need_124 (by decide) ?_
            exact nv_iret hG d_L_need_125 (⟨_, rfl, rfl, by unfold ndf ndN; (repeat' split) <;> first | rfl | (exfalso; omega) | (exact congrArg nI (by omega))⟩)
          · refine nv_bipush hP (nI 16) d_L_need_110 (by decide) ?_
            refine nv_iload_n hP 3 d_L_need_112 rfl rfl ?_
            refine nv_imul hP d_L_need_113 ?_
            refine nv_iload_n hP 2 d_L_need_114 rfl rfl ?_
            refine nv_iadd hP d_L_need_115 ?_
            refine nv_iload hP d_L_need_116 rfl ?_
            refine nv_isub hP (by omega) d_L_need_118 ?_
            refine nv_iconst hP (nI 1) d_L_need_119 (by decide) ?_
            refine nv_isub hP (by omega) d_L_need_120 ?_
            refine nv_goto hP 125 d_L_need_121 (by decide) ?_
            exact nv_iret hG d_L_need_125 (⟨_, rfl, rfl, by unfold ndf ndN; (repeat' split) <;> first | rfl | (exfalso; omega) | (exact congrArg nI (by omega))⟩)
        · refine nv_iload hP d_L_need_97 rfl ?_
          refine nv_iload_n hP 2 d_L_need_99 rfl rfl ?_
          refine nv_iadd hP d_L_need_100 ?_
          exact nv_iret hG d_L_need_101 (⟨_, rfl, rfl, by unfold ndf ndN; (repeat' split) <;> first | rfl | (exfalso; omega) | (exact congrArg nI (by omega))⟩)
    · refine nv_iload_n hP 2 d_L_need_42 rfl rfl ?_
      refine nv_iload hP d_L_need_43 rfl ?_
      refine nv_cmpgt hP (by omega) (by omega) 53 d_L_need_45 (by decide) (fun c_45 => ?_) (fun c_45 => ?_)
      · refine nv_iload_n hP 2 d_L_need_53 rfl rfl ?_
        refine nv_iconst hP (nI 2) d_L_need_54 (by decide) ?_
        refine nv_iload hP d_L_need_55 rfl ?_
        refine nv_imul hP d_L_need_57 ?_
        refine nv_iconst hP (nI 1) d_L_need_58 (by decide) ?_
        refine nv_iadd hP d_L_need_59 ?_
        refine nv_cmpgt hP (by omega) (by omega) 82 d_L_need_60 (by decide) (fun c_60 => ?_) (fun c_60 => ?_)
        · refine nv_iconst hP (-1) d_L_need_82 (by decide) ?_
          exact nv_iret hG d_L_need_83 (⟨_, rfl, rfl, by unfold ndf ndN; (repeat' split) <;> first | rfl | (exfalso; omega) | (exact congrArg nI (by omega))⟩)
        · refine nv_bipush hP (nI 16) d_L_need_63 (by decide) ?_
          refine nv_aload_n hP 0 d_L_need_65 rfl rfl ?_
          refine nv_getf hG ff_L_2 (by decide) d_L_need_66 ?_
          refine nv_iload_n hP 3 d_L_need_69 rfl rfl ?_
          refine nv_iald hG 8 (by decide) rfl rfl (by omega) d_L_need_70 ?_
          refine nv_imul hP d_L_need_71 ?_
          refine nv_iload_n hP 2 d_L_need_72 rfl rfl ?_
          refine nv_iadd hP d_L_need_73 ?_
          refine nv_iload hP d_L_need_74 rfl ?_
          refine nv_isub hP (by omega) d_L_need_76 ?_
          refine nv_iconst hP (nI 1) d_L_need_77 (by decide) ?_
          refine nv_isub hP (by omega) d_L_need_78 ?_
          refine nv_goto hP 83 d_L_need_79 (by decide) ?_
          exact nv_iret hG d_L_need_83 (⟨_, rfl, rfl, by unfold ndf ndN; (repeat' split) <;> first | rfl | (exfalso; omega) | (exact congrArg nI (by omega))⟩)
      · refine nv_iload hP d_L_need_48 rfl ?_
        refine nv_iload_n hP 2 d_L_need_50 rfl rfl ?_
        refine nv_iadd hP d_L_need_51 ?_
        exact nv_iret hG d_L_need_52 (⟨_, rfl, rfl, by unfold ndf ndN; (repeat' split) <;> first | rfl | (exfalso; omega) | (exact congrArg nI (by omega))⟩)

set_option maxHeartbeats 4000000 in
/-- enter(d, p) -/
theorem c_L_enter (l : Launch) (h : Nat) (a : Nat → Nat) (σ : SG) (d p : Nat) (hd : d < 128) (hp : p < 128) : MetN l y_L_enter b_L_enter 3 none (rm 0 0) 0 h a σ [.ref h, .int (nI d), .int (nI p)] (pV (fun σ' => σ' = st2 (st2 (st2 σ 5 d p) 6 d 0) 3 p 1)) := by
  refine nv_entry (by decide) (Nat.le_of_ble_eq_true rfl) (by intro v hv; simp only [List.mem_cons, List.not_mem_nil, or_false] at hv; rcases hv with rfl | rfl | rfl <;> rfl) (fun G hG => ?_)
  have hP := hG.pr
  refine nv_aload_n hP 0 d_L_enter_0 rfl rfl ?_
  refine nv_getf hG ff_L_5 (by decide) d_L_enter_1 ?_
  refine nv_iload_n hP 1 d_L_enter_4 rfl rfl ?_
  refine nv_iload_n hP 2 d_L_enter_5 rfl rfl ?_
  refine nv_iast hG 128 (by decide) rfl rfl (by omega) d_L_enter_6 (fun σ_6 hσ_6 => ?_)
  subst hσ_6
  refine nv_aload_n hP 0 d_L_enter_7 rfl rfl ?_
  refine nv_getf hG ff_L_6 (by decide) d_L_enter_8 ?_
  refine nv_iload_n hP 1 d_L_enter_11 rfl rfl ?_
  refine nv_iconst hP (nI 0) d_L_enter_12 (by decide) ?_
  refine nv_iast hG 128 (by decide) rfl rfl (by omega) d_L_enter_13 (fun σ_13 hσ_13 => ?_)
  subst hσ_13
  refine nv_aload_n hP 0 d_L_enter_14 rfl rfl ?_
  refine nv_getf hG ff_L_3 (by decide) d_L_enter_15 ?_
  refine nv_iload_n hP 2 d_L_enter_18 rfl rfl ?_
  refine nv_iconst hP (nI 1) d_L_enter_19 (by decide) ?_
  refine nv_iast hG 128 (by decide) rfl rfl (by omega) d_L_enter_20 (fun σ_20 hσ_20 => ?_)
  subst hσ_20
  exact nv_vret hG d_L_enter_21 (⟨rfl, rfl⟩)
end
section
theorem sF_step {f : Nat → Nat} {i fr t x : Nat} (h : fr ≤ i) (ht : t = sF f (i - fr) % 97) (hx : x = f (i - fr)) : (t + x) % 97 = sF f (i + 1 - fr) % 97 := by
  rw [show i + 1 - fr = (i - fr) + 1 by omega]
  show _ = (sF f (i - fr) + f (i - fr)) % 97
  rw [ht, hx, Nat.mod_add_mod]
theorem m97 {a b : Nat} (ha : a < 97) (hb : b < 97) : a * b ≤ 9216 := Nat.mul_le_mul (show a ≤ 96 by omega) (show b ≤ 96 by omega)
theorem dn_neg {x : Nat} (hx : x < 2 ^ 31) (h : dn x < 0) : x = 0 := by
  cases x with
  | zero => rfl
  | succ x =>
    rw [dn_s] at h
    exact absurd h (nI_pos (by omega))
theorem dn_nn {x : Nat} (h : ¬ dn x < 0) : 0 < x := by
  cases x with
  | zero => exact absurd (by decide) h
  | succ x => omega
def st1 (f : Nat → Nat) (p x : Nat) : Nat → Nat := fun q => if q = p then x else f q
theorem st1_same (f : Nat → Nat) (p x : Nat) : st1 f p x p = x := by simp [st1]
theorem st1_ne {f : Nat → Nat} {p x q : Nat} (h : q ≠ p) : st1 f p x q = f q := by simp [st1, h]
theorem st2_st1 (σ : SG) (k j x : Nat) : st2 σ k j x k = st1 (σ k) j x := by
  funext q
  rw [st2_at]
  rfl

set_option maxHeartbeats 4000000 in
/-- product(left, right, from, n) -/
theorem c_L_product (l : Launch) (h : Nat) (a : Nat → Nat) (σ : SG) (lf rt fr n : Nat) (hn : n < 16) (hl : lf + n < 128) (hr : rt + n < 128) (hf : fr ≤ n + 1) (hv : ∀ q, σ 4 q < 97) : MetN l y_L_product b_L_product 7 (some .int) (rm 0 0) 0 h a σ [.ref h, .int (nI lf), .int (nI rt), .int (nI fr), .int (nI n)] (pI (fun r σ' => σ' = σ ∧ r = nI (sF (fun j => σ 4 (lf + (fr + j)) * σ 4 (rt + n - (fr + j))) (n + 1 - fr) % 97))) := by
  refine nv_entry (by decide) (Nat.le_of_ble_eq_true rfl) (by intro v hv; simp only [List.mem_cons, List.not_mem_nil, or_false] at hv; rcases hv with rfl | rfl | rfl | rfl | rfl <;> rfl) (fun G hG => ?_)
  have hP := hG.pr
  refine nv_iconst hP (nI 0) d_L_product_0 (by decide) ?_
  refine nv_istore hP d_L_product_1 (by decide) ?_
  refine nv_iload_n hP 3 d_L_product_3 rfl rfl ?_
  refine nv_istore hP d_L_product_4 (by decide) ?_
  have loop_6 : ∀ (f_6 : Nat) (i t : Nat) (_ : fr ≤ i) (_ : i ≤ n + 1) (_ : t = sF (fun j => σ 4 (lf + (fr + j)) * σ 4 (rt + n - (fr + j))) (i - fr) % 97), n + 1 - i < f_6 → G σ 6 [(0, .ref h), (1, .int (nI lf)), (2, .int (nI rt)), (3, .int (nI fr)), (4, .int (nI n)), (5, .int (nI t)), (6, .int (nI i))] [] := by
    intro f_6
    induction f_6 with
    | zero => intro i t h1 h2 h3 hf_6; exact absurd hf_6 (Nat.not_lt_zero _)
    | succ f_6 ih_6 =>
      intro i t h1 h2 h3 hf_6
      have ht : t < 97 := by rw [h3]; exact Nat.mod_lt _ (by omega)
      refine nv_iload hP d_L_product_6 rfl ?_
      refine nv_iload hP d_L_product_8 rfl ?_
      refine nv_cmpgt hP (by omega) (by omega) 49 d_L_product_10 (by decide) (fun c_10 => ?_) (fun c_10 => ?_)
      · refine nv_iload hP d_L_product_49 rfl ?_
        exact nv_iret hG d_L_product_51 (⟨_, rfl, rfl, by rw [h3, show i = n + 1 by omega]⟩)
      · refine nv_iload hP d_L_product_13 rfl ?_
        refine nv_aload_n hP 0 d_L_product_15 rfl rfl ?_
        refine nv_getf hG ff_L_4 (by decide) d_L_product_16 ?_
        refine nv_iload_n hP 1 d_L_product_19 rfl rfl ?_
        refine nv_iload hP d_L_product_20 rfl ?_
        refine nv_iadd hP d_L_product_22 ?_
        refine nv_iald hG 128 (by decide) rfl rfl (by omega) d_L_product_23 ?_
        refine nv_aload_n hP 0 d_L_product_24 rfl rfl ?_
        refine nv_getf hG ff_L_4 (by decide) d_L_product_25 ?_
        refine nv_iload_n hP 2 d_L_product_28 rfl rfl ?_
        refine nv_iload hP d_L_product_29 rfl ?_
        refine nv_iadd hP d_L_product_31 ?_
        refine nv_iload hP d_L_product_32 rfl ?_
        refine nv_isub hP (by omega) d_L_product_34 ?_
        refine nv_iald hG 128 (by decide) rfl rfl (by omega) d_L_product_35 ?_
        refine nv_imul hP d_L_product_36 ?_
        refine nv_iadd hP d_L_product_37 ?_
        have b3 := m97 (hv (lf + i)) (hv (rt + n - i))
        refine nv_bipush hP (nI 97) d_L_product_38 (by decide) ?_
        refine nv_irem hP (by omega) (by omega) (by omega) d_L_product_40 ?_
        refine nv_istore hP d_L_product_41 (by decide) ?_
        refine nv_iinc hP d_L_product_43 rfl (by decide) ?_
        refine nv_goto hP 6 d_L_product_46 (by decide) ?_
        exact nv_lv hP (lsub_c rfl (lsub_c rfl (lsub_c rfl (lsub_c rfl (lsub_c rfl (lsub_c rfl (lsub_c rfl lsub_n))))))) (ih_6 (i + 1) _ (by omega) (by omega) (sF_step h1 h3 (by show _ = σ 4 (lf + (fr + (i - fr))) * σ 4 (rt + n - (fr + (i - fr))); rw [show fr + (i - fr) = i by omega])) (by omega))
  exact nv_lv hP (lsub_c rfl (lsub_c rfl (lsub_c rfl (lsub_c rfl (lsub_c rfl (lsub_c rfl (lsub_c rfl lsub_n))))))) (loop_6 _ fr 0 (Nat.le_refl _) hf (by rw [Nat.sub_self]; rfl) (Nat.lt_succ_self _))

set_option maxHeartbeats 4000000 in
/-- timesInner(b, i) -/
theorem c_L_timesInner (l : Launch) (h : Nat) (a : Nat → Nat) (σ : SG) (b i : Nat) (hi : i < 16) (hb : b + i < 128) (hv : ∀ q, σ 4 q < 97) (hs : ∀ j, j < i → σ 7 j < 97) : MetN l y_L_timesInner b_L_timesInner 5 (some .int) (rm 0 0) 0 h a σ [.ref h, .int (nI b), .int (nI i)] (pI (fun r σ' => σ' = σ ∧ r = nI (sF (fun k => σ 4 (b + (k + 1)) * σ 7 (i - (k + 1))) i % 97))) := by
  refine nv_entry (by decide) (Nat.le_of_ble_eq_true rfl) (by intro v hv; simp only [List.mem_cons, List.not_mem_nil, or_false] at hv; rcases hv with rfl | rfl | rfl <;> rfl) (fun G hG => ?_)
  have hP := hG.pr
  refine nv_iconst hP (nI 0) d_L_timesInner_0 (by decide) ?_
  refine nv_istore_n hP 3 d_L_timesInner_1 rfl (by decide) ?_
  refine nv_iconst hP (nI 1) d_L_timesInner_2 (by decide) ?_
  refine nv_istore hP d_L_timesInner_3 (by decide) ?_
  have loop_5 : ∀ (f_5 : Nat) (k t : Nat) (_ : 1 ≤ k) (_ : k ≤ i + 1) (_ : t = sF (fun k => σ 4 (b + (k + 1)) * σ 7 (i - (k + 1))) (k - 1) % 97), i + 1 - k < f_5 → G σ 5 [(0, .ref h), (1, .int (nI b)), (2, .int (nI i)), (3, .int (nI t)), (4, .int (nI k))] [] := by
    intro f_5
    induction f_5 with
    | zero => intro k t h1 h2 h3 hf_5; exact absurd hf_5 (Nat.not_lt_zero _)
    | succ f_5 ih_5 =>
      intro k t h1 h2 h3 hf_5
      have ht : t < 97 := by rw [h3]; exact Nat.mod_lt _ (by omega)
      refine nv_iload hP d_L_timesInner_5 rfl ?_
      refine nv_iload_n hP 2 d_L_timesInner_7 rfl rfl ?_
      refine nv_cmpgt hP (by omega) (by omega) 42 d_L_timesInner_8 (by decide) (fun c_8 => ?_) (fun c_8 => ?_)
      · refine nv_iload_n hP 3 d_L_timesInner_42 rfl rfl ?_
        exact nv_iret hG d_L_timesInner_43 (⟨_, rfl, rfl, by rw [h3, show k = i + 1 by omega]; rfl⟩)
      · refine nv_iload_n hP 3 d_L_timesInner_11 rfl rfl ?_
        refine nv_aload_n hP 0 d_L_timesInner_12 rfl rfl ?_
        refine nv_getf hG ff_L_4 (by decide) d_L_timesInner_13 ?_
        refine nv_iload_n hP 1 d_L_timesInner_16 rfl rfl ?_
        refine nv_iload hP d_L_timesInner_17 rfl ?_
        refine nv_iadd hP d_L_timesInner_19 ?_
        refine nv_iald hG 128 (by decide) rfl rfl (by omega) d_L_timesInner_20 ?_
        refine nv_aload_n hP 0 d_L_timesInner_21 rfl rfl ?_
        refine nv_getf hG ff_L_7 (by decide) d_L_timesInner_22 ?_
        refine nv_iload_n hP 2 d_L_timesInner_25 rfl rfl ?_
        refine nv_iload hP d_L_timesInner_26 rfl ?_
        refine nv_isub hP (by omega) d_L_timesInner_28 ?_
        refine nv_iald hG 16 (by decide) rfl rfl (by omega) d_L_timesInner_29 ?_
        refine nv_imul hP d_L_timesInner_30 ?_
        refine nv_iadd hP d_L_timesInner_31 ?_
        have b3 := m97 (hv (b + k)) (hs (i - k) (by omega))
        refine nv_bipush hP (nI 97) d_L_timesInner_32 (by decide) ?_
        refine nv_irem hP (by omega) (by omega) (by omega) d_L_timesInner_34 ?_
        refine nv_istore_n hP 3 d_L_timesInner_35 rfl (by decide) ?_
        refine nv_iinc hP d_L_timesInner_36 rfl (by decide) ?_
        refine nv_goto hP 5 d_L_timesInner_39 (by decide) ?_
        exact nv_lv hP (lsub_c rfl (lsub_c rfl (lsub_c rfl (lsub_c rfl (lsub_c rfl lsub_n))))) (ih_5 (k + 1) _ (by omega) (by omega) (sF_step h1 h3 (by show _ = σ 4 (b + (k - 1 + 1)) * σ 7 (i - (k - 1 + 1)); rw [show k - 1 + 1 = k by omega])) (by omega))
  exact nv_lv hP (lsub_c rfl (lsub_c rfl (lsub_c rfl (lsub_c rfl (lsub_c rfl lsub_n))))) (loop_5 _ 1 0 (Nat.le_refl _) (by omega) rfl (Nat.lt_succ_self _))

theorem hrn_lt (v : Nat → Nat) (a b n t i : Nat) : hrn v a b n t i < 97 := by
  cases t with
  | zero => exact (by decide : 0 < 97)
  | succ t =>
    show (if i = 0 then v (a + (n - t)) % 97 else sF (fun k => v (b + (k + 1)) * hrn v a b n t (i - (k + 1))) i % 97) < 97
    split <;> exact Nat.mod_lt _ (by decide)
theorem hrn_next (v : Nat → Nat) (a b n t i : Nat) : hrn v a b n (t + 1) i = if i = 0 then v (a + (n - t)) % 97 else sF (fun k => v (b + (k + 1)) * hrn v a b n t (i - (k + 1))) i % 97 := rfl

set_option maxHeartbeats 4000000 in
/-- composed(a, b, n) -/
theorem c_L_composed (l : Launch) (h : Nat) (a : Nat → Nat) (σ : SG) (la b n : Nat) (hn : n < 16) (hl : la + n < 128) (hb : b + n < 128) (hv : ∀ q, σ 4 q < 97) : MetN l y_L_composed b_L_composed 6 (some .int) (rm 1 24) 0 h a σ [.ref h, .int (nI la), .int (nI b), .int (nI n)] (pI (fun r σ' => (∀ k, k ≠ 7 → σ' k = σ k) ∧ r = nI (hrn (σ 4) la b n (n + 1) n))) := by
  refine nv_entry (by decide) (Nat.le_of_ble_eq_true rfl) (by intro v hv; simp only [List.mem_cons, List.not_mem_nil, or_false] at hv; rcases hv with rfl | rfl | rfl | rfl <;> rfl) (fun G hG => ?_)
  have hP := hG.pr
  refine nv_iconst hP (nI 0) d_L_composed_0 (by decide) ?_
  refine nv_istore hP d_L_composed_1 (by decide) ?_
  have loop_3 : ∀ (f_3 : Nat) (i : Nat) (σ1 : SG) (_ : i ≤ n + 1) (_ : ∀ k, k ≠ 7 → σ1 k = σ k) (_ : ∀ j, j < i → σ1 7 j = 0), n + 1 - i < f_3 → G σ1 3 [(0, .ref h), (1, .int (nI la)), (2, .int (nI b)), (3, .int (nI n)), (4, .int (nI i))] [] := by
    intro f_3
    induction f_3 with
    | zero => intro i σ1 h1 h2 h3 hf_3; exact absurd hf_3 (Nat.not_lt_zero _)
    | succ f_3 ih_3 =>
      intro i σ1 h1 h2 h3 hf_3
      refine nv_iload hP d_L_composed_3 rfl ?_
      refine nv_iload_n hP 3 d_L_composed_5 rfl rfl ?_
      refine nv_cmpgt hP (by omega) (by omega) 23 d_L_composed_6 (by decide) (fun c_6 => ?_) (fun c_6 => ?_)
      · refine nv_iload_n hP 3 d_L_composed_23 rfl rfl ?_
        refine nv_istore hP d_L_composed_24 (by decide) ?_
        have loop_26 : ∀ (f_26 : Nat) (jj : Nat) (σ2 : SG) (_ : jj ≤ n + 1) (_ : ∀ k, k ≠ 7 → σ2 k = σ k) (_ : ∀ i, i ≤ n → σ2 7 i = hrn (σ 4) la b n (n + 1 - jj) i), jj < f_26 → G σ2 26 [(0, .ref h), (1, .int (nI la)), (2, .int (nI b)), (3, .int (nI n)), (4, .int (dn jj))] [] := by
          intro f_26
          induction f_26 with
          | zero => intro jj σ2 g1 g2 g3 hf_26; exact absurd hf_26 (Nat.not_lt_zero _)
          | succ f_26 ih_26 =>
            intro jj σ2 g1 g2 g3 hf_26
            refine nv_iload hP d_L_composed_26 rfl ?_
            refine nv_ifltR hP 90 d_L_composed_28 (by decide) (fun c_28 => ?_) (fun c_28 => ?_)
            · refine nv_aload_n hP 0 d_L_composed_90 rfl rfl ?_
              refine nv_getf hG ff_L_7 (by decide) d_L_composed_91 ?_
              refine nv_iload_n hP 3 d_L_composed_94 rfl rfl ?_
              refine nv_iald hG 16 (by decide) rfl rfl (by omega) d_L_composed_95 ?_
              exact nv_iret hG d_L_composed_96 (⟨_, rfl, g2, by rw [g3 n (Nat.le_refl _), show jj = 0 from dn_neg (by omega) c_28]; rfl⟩)
            · obtain ⟨j, rfl⟩ : ∃ j, jj = j + 1 := ⟨jj - 1, by have := dn_nn c_28; omega⟩
              rw [dn_s]
              refine nv_iload_n hP 3 d_L_composed_31 rfl rfl ?_
              refine nv_istore hP d_L_composed_32 (by decide) ?_
              have loop_34 : ∀ (f_34 : Nat) (ii : Nat) (σ3 : SG) (_ : ii ≤ n + 1) (_ : ∀ k, k ≠ 7 → σ3 k = σ k) (_ : ∀ i, ii ≤ i → i ≤ n → σ3 7 i = sF (fun k => σ 4 (b + (k + 1)) * hrn (σ 4) la b n (n - j) (i - (k + 1))) i % 97) (_ : ∀ i, i < ii → σ3 7 i = hrn (σ 4) la b n (n - j) i), ii < f_34 → G σ3 34 [(0, .ref h), (1, .int (nI la)), (2, .int (nI b)), (3, .int (nI n)), (4, .int (nI j)), (5, .int (dn ii))] [] := by
                intro f_34
                induction f_34 with
                | zero => intro ii σ3 e1 e2 e3 e4 hf_34; exact absurd hf_34 (Nat.not_lt_zero _)
                | succ f_34 ih_34 =>
                  intro ii σ3 e1 e2 e3 e4 hf_34
                  refine nv_iload hP d_L_composed_34 rfl ?_
                  refine nv_ifltR hP 59 d_L_composed_36 (by decide) (fun c_36 => ?_) (fun c_36 => ?_)
                  · refine nv_aload_n hP 0 d_L_composed_59 rfl rfl ?_
                    refine nv_getf hG ff_L_7 (by decide) d_L_composed_60 ?_
                    refine nv_iconst hP (nI 0) d_L_composed_63 (by decide) ?_
                    refine nv_aload_n hP 0 d_L_composed_64 rfl rfl ?_
                    refine nv_getf hG ff_L_7 (by decide) d_L_composed_65 ?_
                    refine nv_iconst hP (nI 0) d_L_composed_68 (by decide) ?_
                    refine nv_iald hG 16 (by decide) rfl rfl (by omega) d_L_composed_69 ?_
                    refine nv_aload_n hP 0 d_L_composed_70 rfl rfl ?_
                    refine nv_getf hG ff_L_4 (by decide) d_L_composed_71 ?_
                    refine nv_iload_n hP 1 d_L_composed_74 rfl rfl ?_
                    refine nv_iload hP d_L_composed_75 rfl ?_
                    refine nv_iadd hP d_L_composed_77 ?_
                    refine nv_iald hG 128 (by decide) rfl rfl (by omega) d_L_composed_78 ?_
                    refine nv_iadd hP d_L_composed_79 ?_
                    have b1 : σ3 7 0 < 97 := by rw [e3 0 (by have := dn_neg (by omega) c_36; omega) (by omega)]; exact Nat.mod_lt _ (by omega)
                    have b2 : σ3 4 (la + j) < 97 := by rw [e2 4 (by decide)]; exact hv _
                    refine nv_bipush hP (nI 97) d_L_composed_80 (by decide) ?_
                    refine nv_irem hP (by omega) (by omega) (by omega) d_L_composed_82 ?_
                    refine nv_iast hG 16 (by decide) rfl rfl (by omega) d_L_composed_83 (fun σ_83 hσ_83 => ?_)
                    refine nv_iincm hP d_L_composed_84 rfl (by decide) ?_
                    refine nv_goto hP 26 d_L_composed_87 (by decide) ?_
                    have hii : ii = 0 := dn_neg (by omega) c_36
                    subst hii
                    exact nv_lv hP (lsub_c rfl (lsub_c rfl (lsub_c rfl (lsub_c rfl (lsub_c rfl lsub_n))))) (ih_26 j σ_83 (by omega) (fun k hk => by rw [hσ_83, st2_k hk]; exact e2 k hk) (fun i hi => by
                      rw [hσ_83, st2_at, show n + 1 - j = (n - j) + 1 by omega, hrn_next, show n - (n - j) = j by omega]
                      split
                      · rw [e2 4 (by decide), e3 0 (by omega) (by omega)]; show (0 % 97 + σ 4 (la + j)) % 97 = _; rw [Nat.zero_mod, Nat.zero_add]
                      · exact e3 i (by omega) hi) (by omega))
                  · obtain ⟨i, rfl⟩ : ∃ i, ii = i + 1 := ⟨ii - 1, by have := dn_nn c_36; omega⟩
                    rw [dn_s]
                    refine nv_aload_n hP 0 d_L_composed_39 rfl rfl ?_
                    refine nv_getf hG ff_L_7 (by decide) d_L_composed_40 ?_
                    refine nv_iload hP d_L_composed_43 rfl ?_
                    refine nv_aload_n hP 0 d_L_composed_45 rfl rfl ?_
                    refine nv_iload_n hP 2 d_L_composed_46 rfl rfl ?_
                    refine nv_iload hP d_L_composed_47 rfl ?_
                    refine nv_callVI hG (c_L_timesInner l h a σ3 b i (by omega) (by omega) (fun q => by rw [e2 4 (by decide)]; exact hv q) (fun q hq => by rw [e4 q (by omega)]; exact hrn_lt _ _ _ _ _ _)) k_L_timesInner rfl ⟨rfl, rfl⟩ ⟨Nat.le_of_ble_eq_true rfl, Nat.le_of_ble_eq_true rfl⟩ rfl (Nat.le_of_ble_eq_true rfl) d_L_composed_49 (fun r_49 σ_49 q_49 => ?_)
                    obtain ⟨rfl, rfl⟩ := q_49
                    refine nv_iast hG 16 (by decide) rfl rfl (by omega) d_L_composed_52 (fun σ_52 hσ_52 => ?_)
                    refine nv_iincm hP d_L_composed_53 rfl (by decide) ?_
                    refine nv_goto hP 34 d_L_composed_56 (by decide) ?_
                    exact nv_lv hP (lsub_c rfl (lsub_c rfl (lsub_c rfl (lsub_c rfl (lsub_c rfl (lsub_c rfl lsub_n)))))) (ih_34 i σ_52 (by omega) (fun k hk => by rw [hσ_52, st2_k hk]; exact e2 k hk) (fun i1 k1 k2 => by
                      rw [hσ_52, st2_at]
                      split
                      · rename_i e; subst e; rw [e2 4 (by decide)]; exact congrArg (fun x => x % 97) (sF_congr i1 (fun k hk => by rw [e4 _ (by omega)]))
                      · exact e3 i1 (by omega) k2) (fun i1 k1 => by rw [hσ_52, st2_at, if_neg (by omega)]; exact e4 i1 (by omega)) (by omega))
              exact nv_lv hP (lsub_c rfl (lsub_c rfl (lsub_c rfl (lsub_c rfl (lsub_c rfl (lsub_c (by rw [dn_s]; rfl) lsub_n)))))) (loop_34 _ (n + 1) σ2 (Nat.le_refl _) g2 (fun i h1 h2 => by omega) (fun i hi => by rw [g3 i (by omega), show n + 1 - (j + 1) = n - j by omega]) (Nat.lt_succ_self _))
        exact nv_lv hP (lsub_c rfl (lsub_c rfl (lsub_c rfl (lsub_c rfl (lsub_c (by rw [dn_s]; rfl) lsub_n))))) (loop_26 _ (n + 1) σ1 (Nat.le_refl _) h2 (fun i hi => by rw [Nat.sub_self]; exact h3 i (by omega)) (Nat.lt_succ_self _))
      · refine nv_aload_n hP 0 d_L_composed_9 rfl rfl ?_
        refine nv_getf hG ff_L_7 (by decide) d_L_composed_10 ?_
        refine nv_iload hP d_L_composed_13 rfl ?_
        refine nv_iconst hP (nI 0) d_L_composed_15 (by decide) ?_
        refine nv_iast hG 16 (by decide) rfl rfl (by omega) d_L_composed_16 (fun σ_16 hσ_16 => ?_)
        refine nv_iinc hP d_L_composed_17 rfl (by decide) ?_
        refine nv_goto hP 3 d_L_composed_20 (by decide) ?_
        exact nv_lv hP (lsub_c rfl (lsub_c rfl (lsub_c rfl (lsub_c rfl (lsub_c rfl lsub_n))))) (ih_3 (i + 1) σ_16 (by omega) (fun k hk => by rw [hσ_16, st2_k hk]; exact h2 k hk) (fun j hj => by rw [hσ_16, st2_at]; split <;> first | rfl | exact h3 j (by omega)) (by omega))
  exact nv_lv hP (lsub_c rfl (lsub_c rfl (lsub_c rfl (lsub_c rfl (lsub_c rfl lsub_n))))) (loop_3 _ 0 σ (by omega) (fun _ _ => rfl) (fun j hj => absurd hj (Nat.not_lt_zero _)) (Nat.lt_succ_self _))
end
section
theorem nv_zretR {l : Launch} {cc : ByteArray} {nL : Nat} {own : String} {rm : Room} {ci h : Nat} {a : Nat → Nat} {post : Option Int32 → SG → Prop} {G : SG → Nat → LV → List Value → Prop} {σ : SG} {pc : Nat} {lv : LV} (hG : Rul l cc nL own rm ci h a (some .boolean) post G) {r : Int32} (hr : r = nI 0 ∨ r = nI 1) (hd : decode cc pc = .ok (.ireturn, 1)) (hp : post (some r) σ) : G σ pc lv [.int r] := by
  rcases hr with rfl | rfl
  · exact nv_zret hG (by omega) hd hp
  · exact nv_zret hG (by omega) hd hp
theorem CP_r {σ σ' : SG} {p : Nat} {r : Int32} (h : ∃ y, True ∧ (∀ k, k ≠ 4 → k ≠ 7 → σ' k = σ k) ∧ (((brn (σ 0) (σ 1) (σ 2) (σ 4) p ∧ r = nI 0 ∧ σ' 4 = σ 4)) ∨ (¬ brn (σ 0) (σ 1) (σ 2) (σ 4) p ∧ r = nI 1 ∧ σ' 4 = y))) : r = nI 0 ∨ r = nI 1 := by
  obtain ⟨y, -, -, ⟨-, e, -⟩ | ⟨-, e, -⟩⟩ := h
  · exact Or.inl e
  · exact Or.inr e
/-- what compute(p) does: the answer, and the value kept -/
def CP (σ : SG) (p : Nat) (r : Int32) (σ' : SG) : Prop := (∀ k, k ≠ 4 → k ≠ 7 → σ' k = σ k) ∧ ((brn (σ 0) (σ 1) (σ 2) (σ 4) p ∧ r = nI 0 ∧ σ' 4 = σ 4) ∨ (¬ brn (σ 0) (σ 1) (σ 2) (σ 4) p ∧ r = nI 1 ∧ σ' 4 = st1 (σ 4) p (wk (σ 0) (σ 1) (σ 2) (σ 4) p)))
theorem cp_no {σ : SG} {p : Nat} (hb : brn (σ 0) (σ 1) (σ 2) (σ 4) p) : CP σ p (nI 0) σ := ⟨fun _ _ _ => rfl, Or.inl ⟨hb, rfl, rfl⟩⟩
theorem cp_ok {σ σ1 σ' : SG} {p x : Nat} (h : σ' = st2 σ1 4 p x) (h1 : ∀ k, k ≠ 7 → σ1 k = σ k) (hb : ¬ brn (σ 0) (σ 1) (σ 2) (σ 4) p) (hx : x = wk (σ 0) (σ 1) (σ 2) (σ 4) p) : CP σ p (nI 1) σ' := by
  refine ⟨fun k h4 h7 => ?_, Or.inr ⟨hb, rfl, ?_⟩⟩
  · rw [h, st2_k h4]
    exact h1 k h7
  · rw [h, st2_st1, h1 4 (by decide), hx]

set_option maxHeartbeats 4000000 in
/-- computeLong(p) -/
theorem c_L_computeLong (l : Launch) (h : Nat) (a : Nat → Nat) (σ : SG) (p : Nat) (hp : p < 128) (hw : Wf (σ 0) (σ 1) (σ 2)) (hv : ∀ q, σ 4 q < 97) (hi8 : ∀ y, y < 97 → σ 8 y = ivT y) (hk : σ 0 (p / 16) = 3 ∨ σ 0 (p / 16) = 7 ∨ σ 0 (p / 16) = 9) : MetN l y_L_computeLong b_L_computeLong 8 (some .boolean) (rm 2 49) 0 h a σ [.ref h, .int (nI p)] (pI (fun r σ' => CP σ p r σ')) := by
  refine nv_entry (by decide) (Nat.le_of_ble_eq_true rfl) (by intro v hv; simp only [List.mem_cons, List.not_mem_nil, or_false] at hv; rcases hv with rfl | rfl <;> rfl) (fun G hG => ?_)
  have hP := hG.pr
  obtain ⟨w1, w2, w3, w4⟩ := hw (p / 16) (by omega)
  refine nv_iload_n hP 1 d_L_computeLong_0 rfl rfl ?_
  refine nv_iconst hP (nI 4) d_L_computeLong_1 (by decide) ?_
  refine nv_ishr4 hP (by omega) d_L_computeLong_2 ?_
  refine nv_istore_n hP 2 d_L_computeLong_3 rfl (by decide) ?_
  refine nv_iload_n hP 1 d_L_computeLong_4 rfl rfl ?_
  refine nv_bipush hP (nI 15) d_L_computeLong_5 (by decide) ?_
  refine nv_iand15 hP (by omega) d_L_computeLong_7 ?_
  refine nv_istore_n hP 3 d_L_computeLong_8 rfl (by decide) ?_
  refine nv_bipush hP (nI 16) d_L_computeLong_9 (by decide) ?_
  refine nv_aload_n hP 0 d_L_computeLong_11 rfl rfl ?_
  refine nv_getf hG ff_L_1 (by decide) d_L_computeLong_12 ?_
  refine nv_iload_n hP 2 d_L_computeLong_15 rfl rfl ?_
  refine nv_iald hG 8 (by decide) rfl rfl (by omega) d_L_computeLong_16 ?_
  refine nv_imul hP d_L_computeLong_17 ?_
  refine nv_istore hP d_L_computeLong_18 (by decide) ?_
  refine nv_bipush hP (nI 16) d_L_computeLong_20 (by decide) ?_
  refine nv_aload_n hP 0 d_L_computeLong_22 rfl rfl ?_
  refine nv_getf hG ff_L_2 (by decide) d_L_computeLong_23 ?_
  refine nv_iload_n hP 2 d_L_computeLong_26 rfl rfl ?_
  refine nv_iald hG 8 (by decide) rfl rfl (by omega) d_L_computeLong_27 ?_
  refine nv_imul hP d_L_computeLong_28 ?_
  refine nv_istore hP d_L_computeLong_29 (by decide) ?_
  refine nv_aload_n hP 0 d_L_computeLong_31 rfl rfl ?_
  refine nv_getf hG ff_L_0 (by decide) d_L_computeLong_32 ?_
  refine nv_iload_n hP 2 d_L_computeLong_35 rfl rfl ?_
  refine nv_iald hG 8 (by decide) rfl rfl (by omega) d_L_computeLong_36 ?_
  refine nv_iconst hP (nI 3) d_L_computeLong_37 (by decide) ?_
  refine nv_cmpne hP (by omega) (by omega) 59 d_L_computeLong_38 (by decide) (fun c_38 => ?_) (fun c_38 => ?_)
  · refine nv_aload_n hP 0 d_L_computeLong_59 rfl rfl ?_
    refine nv_getf hG ff_L_0 (by decide) d_L_computeLong_60 ?_
    refine nv_iload_n hP 2 d_L_computeLong_63 rfl rfl ?_
    refine nv_iald hG 8 (by decide) rfl rfl (by omega) d_L_computeLong_64 ?_
    refine nv_bipush hP (nI 7) d_L_computeLong_65 (by decide) ?_
    refine nv_cmpne hP (by omega) (by omega) 138 d_L_computeLong_67 (by decide) (fun c_67 => ?_) (fun c_67 => ?_)
    · refine nv_aload_n hP 0 d_L_computeLong_138 rfl rfl ?_
      refine nv_getf hG ff_L_4 (by decide) d_L_computeLong_139 ?_
      refine nv_iload hP d_L_computeLong_142 rfl ?_
      refine nv_iald hG 128 (by decide) rfl rfl (by omega) d_L_computeLong_144 ?_
      have b0 := hv (16 * σ 2 (p / 16))
      refine nv_ifeq hP (by omega) 150 d_L_computeLong_145 (by decide) (fun c_145 => ?_) (fun c_145 => ?_)
      · refine nv_aload_n hP 0 d_L_computeLong_150 rfl rfl ?_
        refine nv_getf hG ff_L_4 (by decide) d_L_computeLong_151 ?_
        refine nv_iload_n hP 1 d_L_computeLong_154 rfl rfl ?_
        refine nv_aload_n hP 0 d_L_computeLong_155 rfl rfl ?_
        refine nv_iload hP d_L_computeLong_156 rfl ?_
        refine nv_iload hP d_L_computeLong_158 rfl ?_
        refine nv_iload_n hP 3 d_L_computeLong_160 rfl rfl ?_
        refine nv_callVI hG (c_L_composed l h a σ (16 * σ 1 (p / 16)) (16 * σ 2 (p / 16)) (p % 16) (by omega) (by omega) (by omega) hv) k_L_composed rfl ⟨rfl, rfl⟩ ⟨Nat.le_of_ble_eq_true rfl, Nat.le_of_ble_eq_true rfl⟩ rfl (Nat.le_of_ble_eq_true rfl) d_L_computeLong_161 (fun r_161 σ_161 q_161 => ?_)
        obtain ⟨e7, rfl⟩ := q_161
        refine nv_iast hG 128 (by decide) rfl rfl (by omega) d_L_computeLong_164 (fun σ_164 hσ_164 => ?_)
        refine nv_iconst hP (nI 1) d_L_computeLong_165 (by decide) ?_
        exact nv_zret hG (by omega) d_L_computeLong_166 (⟨_, rfl, cp_ok hσ_164 e7 (by unfold brn brN; omega) (by unfold wk wkN; rw [if_neg (by omega), if_neg (by omega), if_neg (by omega), if_neg (by omega), if_neg (by omega), if_neg (by omega), if_neg (by omega), if_neg (by omega), if_neg (by omega)])⟩)
      · refine nv_iconst hP (nI 0) d_L_computeLong_148 (by decide) ?_
        exact nv_zret hG (by omega) d_L_computeLong_149 (⟨_, rfl, cp_no (by unfold brn brN; omega)⟩)
    · refine nv_aload_n hP 0 d_L_computeLong_70 rfl rfl ?_
      refine nv_getf hG ff_L_4 (by decide) d_L_computeLong_71 ?_
      refine nv_iload hP d_L_computeLong_74 rfl ?_
      refine nv_iald hG 128 (by decide) rfl rfl (by omega) d_L_computeLong_76 ?_
      have b0 := hv (16 * σ 1 (p / 16))
      refine nv_ifne hP (by omega) 82 d_L_computeLong_77 (by decide) (fun c_77 => ?_) (fun c_77 => ?_)
      · refine nv_aload_n hP 0 d_L_computeLong_82 rfl rfl ?_
        refine nv_getf hG ff_L_8 (by decide) d_L_computeLong_83 ?_
        refine nv_aload_n hP 0 d_L_computeLong_86 rfl rfl ?_
        refine nv_getf hG ff_L_4 (by decide) d_L_computeLong_87 ?_
        refine nv_iload hP d_L_computeLong_90 rfl ?_
        refine nv_iald hG 128 (by decide) rfl rfl (by omega) d_L_computeLong_92 ?_
        have b0 := hv (16 * σ 1 (p / 16))
        refine nv_iald hG 97 (by decide) rfl rfl (by omega) d_L_computeLong_93 ?_
        rw [hi8 _ b0]
        refine nv_istore hP d_L_computeLong_94 (by decide) ?_
        refine nv_aload_n hP 0 d_L_computeLong_96 rfl rfl ?_
        refine nv_iload hP d_L_computeLong_97 rfl ?_
        refine nv_bipush hP (nI 16) d_L_computeLong_99 (by decide) ?_
        refine nv_iload_n hP 2 d_L_computeLong_101 rfl rfl ?_
        refine nv_imul hP d_L_computeLong_102 ?_
        refine nv_iconst hP (nI 1) d_L_computeLong_103 (by decide) ?_
        refine nv_iload_n hP 3 d_L_computeLong_104 rfl rfl ?_
        refine nv_callVI hG (c_L_product l h a σ (16 * σ 1 (p / 16)) (16 * (p / 16)) 1 (p % 16) (by omega) (by omega) (by omega) (by omega) hv) k_L_product rfl ⟨rfl, rfl⟩ ⟨Nat.le_of_ble_eq_true rfl, Nat.le_of_ble_eq_true rfl⟩ rfl (Nat.le_of_ble_eq_true rfl) d_L_computeLong_105 (fun r_105 σ_105 q_105 => ?_)
        obtain ⟨e_105, rfl⟩ := q_105
        replace e_105 := e_105.symm
        subst e_105
        refine nv_istore hP d_L_computeLong_108 (by decide) ?_
        refine nv_aload_n hP 0 d_L_computeLong_110 rfl rfl ?_
        refine nv_getf hG ff_L_4 (by decide) d_L_computeLong_111 ?_
        refine nv_iload_n hP 1 d_L_computeLong_114 rfl rfl ?_
        refine nv_iload_n hP 3 d_L_computeLong_115 rfl rfl ?_
        refine nv_ifne hP (by omega) 124 d_L_computeLong_116 (by decide) (fun c_116 => ?_) (fun c_116 => ?_)
        · refine nv_bipush hP (nI 97) d_L_computeLong_124 (by decide) ?_
          refine nv_iload hP d_L_computeLong_126 rfl ?_
          have b7 := Nat.mod_lt (sF (fun j => σ 4 (16 * σ 1 (p / 16) + (1 + j)) * σ 4 (16 * (p / 16) + p % 16 - (1 + j))) (p % 16 + 1 - 1)) (show 0 < 97 by decide)
          refine nv_isub hP (by omega) d_L_computeLong_128 ?_
          refine nv_iload hP d_L_computeLong_129 rfl ?_
          refine nv_imul hP d_L_computeLong_131 ?_
          have b9 := Nat.mul_le_mul (Nat.sub_le 97 (sF (fun j => σ 4 (16 * σ 1 (p / 16) + (1 + j)) * σ 4 (16 * (p / 16) + p % 16 - (1 + j))) (p % 16 + 1 - 1) % 97)) (Nat.le_of_lt (ivT_lt (σ 4 (16 * σ 1 (p / 16)))))
          refine nv_bipush hP (nI 97) d_L_computeLong_132 (by decide) ?_
          refine nv_irem hP (by omega) (by omega) (by omega) d_L_computeLong_134 ?_
          refine nv_iast hG 128 (by decide) rfl rfl (by omega) d_L_computeLong_135 (fun σ_135 hσ_135 => ?_)
          refine nv_iconst hP (nI 1) d_L_computeLong_136 (by decide) ?_
          exact nv_zret hG (by omega) d_L_computeLong_137 (⟨_, rfl, cp_ok hσ_135 (fun _ _ => rfl) (by unfold brn brN; omega) (by unfold wk wkN; rw [if_neg (by omega), if_neg (by omega), if_neg (by omega), if_neg (by omega), if_neg (by omega), if_neg (by omega), if_neg (by omega), if_pos (by omega), if_neg (by omega)]; rfl)⟩)
        · refine nv_iload hP d_L_computeLong_119 rfl ?_
          refine nv_goto hP 135 d_L_computeLong_121 (by decide) ?_
          refine nv_iast hG 128 (by decide) rfl rfl (by omega) d_L_computeLong_135 (fun σ_135 hσ_135 => ?_)
          refine nv_iconst hP (nI 1) d_L_computeLong_136 (by decide) ?_
          exact nv_zret hG (by omega) d_L_computeLong_137 (⟨_, rfl, cp_ok hσ_135 (fun _ _ => rfl) (by unfold brn brN; omega) (by unfold wk wkN; rw [if_neg (by omega), if_neg (by omega), if_neg (by omega), if_neg (by omega), if_neg (by omega), if_neg (by omega), if_neg (by omega), if_pos (by omega), if_pos (by omega)])⟩)
      · refine nv_iconst hP (nI 0) d_L_computeLong_80 (by decide) ?_
        exact nv_zret hG (by omega) d_L_computeLong_81 (⟨_, rfl, cp_no (by unfold brn brN; omega)⟩)
  · refine nv_aload_n hP 0 d_L_computeLong_41 rfl rfl ?_
    refine nv_getf hG ff_L_4 (by decide) d_L_computeLong_42 ?_
    refine nv_iload_n hP 1 d_L_computeLong_45 rfl rfl ?_
    refine nv_aload_n hP 0 d_L_computeLong_46 rfl rfl ?_
    refine nv_iload hP d_L_computeLong_47 rfl ?_
    refine nv_iload hP d_L_computeLong_49 rfl ?_
    refine nv_iconst hP (nI 0) d_L_computeLong_51 (by decide) ?_
    refine nv_iload_n hP 3 d_L_computeLong_52 rfl rfl ?_
    refine nv_callVI hG (c_L_product l h a σ (16 * σ 1 (p / 16)) (16 * σ 2 (p / 16)) 0 (p % 16) (by omega) (by omega) (by omega) (by omega) hv) k_L_product rfl ⟨rfl, rfl⟩ ⟨Nat.le_of_ble_eq_true rfl, Nat.le_of_ble_eq_true rfl⟩ rfl (Nat.le_of_ble_eq_true rfl) d_L_computeLong_53 (fun r_53 σ_53 q_53 => ?_)
    obtain ⟨e_53, rfl⟩ := q_53
    replace e_53 := e_53.symm
    subst e_53
    refine nv_iast hG 128 (by decide) rfl rfl (by omega) d_L_computeLong_56 (fun σ_56 hσ_56 => ?_)
    refine nv_iconst hP (nI 1) d_L_computeLong_57 (by decide) ?_
    exact nv_zret hG (by omega) d_L_computeLong_58 (⟨_, rfl, cp_ok hσ_56 (fun _ _ => rfl) (by unfold brn brN; omega) (by unfold wk wkN; rw [if_neg (by omega), if_neg (by omega), if_neg (by omega), if_pos (by omega)]; exact congrArg (fun x => x % 97) (sF_congr _ (fun i hi => by rw [Nat.zero_add])))⟩)

set_option maxHeartbeats 4000000 in
/-- compute(p) -/
theorem c_L_compute (l : Launch) (h : Nat) (a : Nat → Nat) (σ : SG) (p : Nat) (hp : p < 128) (hw : Wf (σ 0) (σ 1) (σ 2)) (hv : ∀ q, σ 4 q < 97) (hi8 : ∀ y, y < 97 → σ 8 y = ivT y) : MetN l y_L_compute b_L_compute 8 (some .boolean) (rm 3 76) 0 h a σ [.ref h, .int (nI p)] (pI (fun r σ' => CP σ p r σ')) := by
  refine nv_entry (by decide) (Nat.le_of_ble_eq_true rfl) (by intro v hv; simp only [List.mem_cons, List.not_mem_nil, or_false] at hv; rcases hv with rfl | rfl <;> rfl) (fun G hG => ?_)
  have hP := hG.pr
  obtain ⟨w1, w2, w3, w4⟩ := hw (p / 16) (by omega)
  refine nv_iload_n hP 1 d_L_compute_0 rfl rfl ?_
  refine nv_iconst hP (nI 4) d_L_compute_1 (by decide) ?_
  refine nv_ishr4 hP (by omega) d_L_compute_2 ?_
  refine nv_istore_n hP 2 d_L_compute_3 rfl (by decide) ?_
  refine nv_iload_n hP 1 d_L_compute_4 rfl rfl ?_
  refine nv_bipush hP (nI 15) d_L_compute_5 (by decide) ?_
  refine nv_iand15 hP (by omega) d_L_compute_7 ?_
  refine nv_istore_n hP 3 d_L_compute_8 rfl (by decide) ?_
  refine nv_bipush hP (nI 16) d_L_compute_9 (by decide) ?_
  refine nv_aload_n hP 0 d_L_compute_11 rfl rfl ?_
  refine nv_getf hG ff_L_1 (by decide) d_L_compute_12 ?_
  refine nv_iload_n hP 2 d_L_compute_15 rfl rfl ?_
  refine nv_iald hG 8 (by decide) rfl rfl (by omega) d_L_compute_16 ?_
  refine nv_imul hP d_L_compute_17 ?_
  refine nv_istore hP d_L_compute_18 (by decide) ?_
  refine nv_aload_n hP 0 d_L_compute_20 rfl rfl ?_
  refine nv_getf hG ff_L_2 (by decide) d_L_compute_21 ?_
  refine nv_iload_n hP 2 d_L_compute_24 rfl rfl ?_
  refine nv_iald hG 8 (by decide) rfl rfl (by omega) d_L_compute_25 ?_
  refine nv_istore hP d_L_compute_26 (by decide) ?_
  refine nv_aload_n hP 0 d_L_compute_28 rfl rfl ?_
  refine nv_getf hG ff_L_0 (by decide) d_L_compute_29 ?_
  refine nv_iload_n hP 2 d_L_compute_32 rfl rfl ?_
  refine nv_iald hG 8 (by decide) rfl rfl (by omega) d_L_compute_33 ?_
  refine nv_istore hP d_L_compute_34 (by decide) ?_
  refine nv_iconst hP (nI 0) d_L_compute_36 (by decide) ?_
  refine nv_istore hP d_L_compute_37 (by decide) ?_
  refine nv_iload hP d_L_compute_39 rfl ?_
  refine nv_ifne hP (by omega) 59 d_L_compute_41 (by decide) (fun c_41 => ?_) (fun c_41 => ?_)
  · refine nv_iload hP d_L_compute_59 rfl ?_
    refine nv_iconst hP (nI 1) d_L_compute_61 (by decide) ?_
    refine nv_cmpne hP (by omega) (by omega) 80 d_L_compute_62 (by decide) (fun c_62 => ?_) (fun c_62 => ?_)
    · refine nv_iload hP d_L_compute_80 rfl ?_
      refine nv_iconst hP (nI 2) d_L_compute_82 (by decide) ?_
      refine nv_cmpne hP (by omega) (by omega) 113 d_L_compute_83 (by decide) (fun c_83 => ?_) (fun c_83 => ?_)
      · refine nv_iload hP d_L_compute_113 rfl ?_
        refine nv_iconst hP (nI 4) d_L_compute_115 (by decide) ?_
        refine nv_cmpne hP (by omega) (by omega) 136 d_L_compute_116 (by decide) (fun c_116 => ?_) (fun c_116 => ?_)
        · refine nv_iload hP d_L_compute_136 rfl ?_
          refine nv_iconst hP (nI 5) d_L_compute_138 (by decide) ?_
          refine nv_cmpne hP (by omega) (by omega) 170 d_L_compute_139 (by decide) (fun c_139 => ?_) (fun c_139 => ?_)
          · refine nv_iload hP d_L_compute_170 rfl ?_
            refine nv_bipush hP (nI 6) d_L_compute_172 (by decide) ?_
            refine nv_cmpne hP (by omega) (by omega) 209 d_L_compute_174 (by decide) (fun c_174 => ?_) (fun c_174 => ?_)
            · refine nv_iload hP d_L_compute_209 rfl ?_
              refine nv_bipush hP (nI 8) d_L_compute_211 (by decide) ?_
              refine nv_cmpne hP (by omega) (by omega) 241 d_L_compute_213 (by decide) (fun c_213 => ?_) (fun c_213 => ?_)
              · refine nv_aload_n hP 0 d_L_compute_241 rfl rfl ?_
                refine nv_iload_n hP 1 d_L_compute_242 rfl rfl ?_
                refine nv_callVI hG (c_L_computeLong l h a σ p hp hw hv hi8 (by omega)) k_L_computeLong rfl ⟨rfl, rfl⟩ ⟨Nat.le_of_ble_eq_true rfl, Nat.le_of_ble_eq_true rfl⟩ rfl (Nat.le_of_ble_eq_true rfl) d_L_compute_243 (fun r_243 σ_243 q_243 => ?_)
                exact nv_zretR hG (CP_r ⟨_, trivial, q_243⟩) d_L_compute_246 (⟨_, rfl, q_243⟩)
              · refine nv_iload_n hP 3 d_L_compute_216 rfl rfl ?_
                refine nv_ifne hP (by omega) 225 d_L_compute_217 (by decide) (fun c_217 => ?_) (fun c_217 => ?_)
                · refine nv_aload_n hP 0 d_L_compute_225 rfl rfl ?_
                  refine nv_getf hG ff_L_4 (by decide) d_L_compute_226 ?_
                  refine nv_iload hP d_L_compute_229 rfl ?_
                  refine nv_iload_n hP 3 d_L_compute_231 rfl rfl ?_
                  refine nv_iadd hP d_L_compute_232 ?_
                  refine nv_iconst hP (nI 1) d_L_compute_233 (by decide) ?_
                  refine nv_isub hP (by omega) d_L_compute_234 ?_
                  refine nv_iald hG 128 (by decide) rfl rfl (by omega) d_L_compute_235 ?_
                  have b1 := hv (16 * σ 1 (p / 16) + p % 16 - 1)
                  refine nv_istore hP d_L_compute_236 (by decide) ?_
                  refine nv_goto hP 247 d_L_compute_238 (by decide) ?_
                  refine nv_aload_n hP 0 d_L_compute_247 rfl rfl ?_
                  refine nv_getf hG ff_L_4 (by decide) d_L_compute_248 ?_
                  refine nv_iload_n hP 1 d_L_compute_251 rfl rfl ?_
                  refine nv_iload hP d_L_compute_252 rfl ?_
                  refine nv_bipush hP (nI 97) d_L_compute_254 (by decide) ?_
                  refine nv_irem hP (by omega) (by omega) (by omega) d_L_compute_256 ?_
                  refine nv_iast hG 128 (by decide) rfl rfl (by omega) d_L_compute_257 (fun σ_257 hσ_257 => ?_)
                  refine nv_iconst hP (nI 1) d_L_compute_258 (by decide) ?_
                  exact nv_zret hG (by omega) d_L_compute_259 (⟨_, rfl, cp_ok hσ_257 (fun _ _ => rfl) (by unfold brn brN; omega) (by unfold wk wkN; rw [if_neg (by omega), if_neg (by omega), if_neg (by omega), if_neg (by omega), if_neg (by omega), if_neg (by omega), if_neg (by omega), if_neg (by omega), if_pos (by omega), if_neg (by omega)]; exact Nat.mod_eq_of_lt b1)⟩)
                · refine nv_iload hP d_L_compute_220 rfl ?_
                  refine nv_goto hP 236 d_L_compute_222 (by decide) ?_
                  have b1 := hv (16 * σ 1 (p / 16) + p % 16 - 1)
                  refine nv_istore hP d_L_compute_236 (by decide) ?_
                  refine nv_goto hP 247 d_L_compute_238 (by decide) ?_
                  refine nv_aload_n hP 0 d_L_compute_247 rfl rfl ?_
                  refine nv_getf hG ff_L_4 (by decide) d_L_compute_248 ?_
                  refine nv_iload_n hP 1 d_L_compute_251 rfl rfl ?_
                  refine nv_iload hP d_L_compute_252 rfl ?_
                  refine nv_bipush hP (nI 97) d_L_compute_254 (by decide) ?_
                  refine nv_irem hP (by omega) (by omega) (by omega) d_L_compute_256 ?_
                  refine nv_iast hG 128 (by decide) rfl rfl (by omega) d_L_compute_257 (fun σ_257 hσ_257 => ?_)
                  refine nv_iconst hP (nI 1) d_L_compute_258 (by decide) ?_
                  exact nv_zret hG (by omega) d_L_compute_259 (⟨_, rfl, cp_ok hσ_257 (fun _ _ => rfl) (by unfold brn brN; omega) (by unfold wk wkN; rw [if_neg (by omega), if_neg (by omega), if_neg (by omega), if_neg (by omega), if_neg (by omega), if_neg (by omega), if_neg (by omega), if_neg (by omega), if_pos (by omega), if_pos (by omega)]; exact Nat.mod_eq_of_lt w3)⟩)
            · refine nv_iload_n hP 3 d_L_compute_177 rfl rfl ?_
              refine nv_ifne hP (by omega) 186 d_L_compute_178 (by decide) (fun c_178 => ?_) (fun c_178 => ?_)
              · refine nv_aload_n hP 0 d_L_compute_186 rfl rfl ?_
                refine nv_getf hG ff_L_4 (by decide) d_L_compute_187 ?_
                refine nv_iload hP d_L_compute_190 rfl ?_
                refine nv_iload_n hP 3 d_L_compute_192 rfl rfl ?_
                refine nv_iadd hP d_L_compute_193 ?_
                refine nv_iconst hP (nI 1) d_L_compute_194 (by decide) ?_
                refine nv_isub hP (by omega) d_L_compute_195 ?_
                refine nv_iald hG 128 (by decide) rfl rfl (by omega) d_L_compute_196 ?_
                refine nv_aload_n hP 0 d_L_compute_197 rfl rfl ?_
                refine nv_getf hG ff_L_8 (by decide) d_L_compute_198 ?_
                refine nv_iload_n hP 3 d_L_compute_201 rfl rfl ?_
                refine nv_iald hG 97 (by decide) rfl rfl (by omega) d_L_compute_202 ?_
                rw [hi8 _ (by omega)]
                have b1 := m97 (hv (16 * σ 1 (p / 16) + p % 16 - 1)) (ivT_lt (p % 16))
                refine nv_imul hP d_L_compute_203 ?_
                refine nv_istore hP d_L_compute_204 (by decide) ?_
                refine nv_goto hP 247 d_L_compute_206 (by decide) ?_
                refine nv_aload_n hP 0 d_L_compute_247 rfl rfl ?_
                refine nv_getf hG ff_L_4 (by decide) d_L_compute_248 ?_
                refine nv_iload_n hP 1 d_L_compute_251 rfl rfl ?_
                refine nv_iload hP d_L_compute_252 rfl ?_
                refine nv_bipush hP (nI 97) d_L_compute_254 (by decide) ?_
                refine nv_irem hP (by omega) (by omega) (by omega) d_L_compute_256 ?_
                refine nv_iast hG 128 (by decide) rfl rfl (by omega) d_L_compute_257 (fun σ_257 hσ_257 => ?_)
                refine nv_iconst hP (nI 1) d_L_compute_258 (by decide) ?_
                exact nv_zret hG (by omega) d_L_compute_259 (⟨_, rfl, cp_ok hσ_257 (fun _ _ => rfl) (by unfold brn brN; omega) (by unfold wk wkN; rw [if_neg (by omega), if_neg (by omega), if_neg (by omega), if_neg (by omega), if_neg (by omega), if_neg (by omega), if_pos (by omega), if_neg (by omega)])⟩)
              · refine nv_iload hP d_L_compute_181 rfl ?_
                refine nv_goto hP 204 d_L_compute_183 (by decide) ?_
                refine nv_istore hP d_L_compute_204 (by decide) ?_
                refine nv_goto hP 247 d_L_compute_206 (by decide) ?_
                refine nv_aload_n hP 0 d_L_compute_247 rfl rfl ?_
                refine nv_getf hG ff_L_4 (by decide) d_L_compute_248 ?_
                refine nv_iload_n hP 1 d_L_compute_251 rfl rfl ?_
                refine nv_iload hP d_L_compute_252 rfl ?_
                refine nv_bipush hP (nI 97) d_L_compute_254 (by decide) ?_
                refine nv_irem hP (by omega) (by omega) (by omega) d_L_compute_256 ?_
                refine nv_iast hG 128 (by decide) rfl rfl (by omega) d_L_compute_257 (fun σ_257 hσ_257 => ?_)
                refine nv_iconst hP (nI 1) d_L_compute_258 (by decide) ?_
                exact nv_zret hG (by omega) d_L_compute_259 (⟨_, rfl, cp_ok hσ_257 (fun _ _ => rfl) (by unfold brn brN; omega) (by unfold wk wkN; rw [if_neg (by omega), if_neg (by omega), if_neg (by omega), if_neg (by omega), if_neg (by omega), if_neg (by omega), if_pos (by omega), if_pos (by omega)]; exact Nat.mod_eq_of_lt w3)⟩)
          · refine nv_iload_n hP 3 d_L_compute_142 rfl rfl ?_
            refine nv_bipush hP (nI 15) d_L_compute_143 (by decide) ?_
            refine nv_cmpne hP (by omega) (by omega) 150 d_L_compute_145 (by decide) (fun c_145 => ?_) (fun c_145 => ?_)
            · refine nv_iload_n hP 3 d_L_compute_150 rfl rfl ?_
              refine nv_iconst hP (nI 1) d_L_compute_151 (by decide) ?_
              refine nv_iadd hP d_L_compute_152 ?_
              refine nv_aload_n hP 0 d_L_compute_153 rfl rfl ?_
              refine nv_getf hG ff_L_4 (by decide) d_L_compute_154 ?_
              refine nv_iload hP d_L_compute_157 rfl ?_
              refine nv_iload_n hP 3 d_L_compute_159 rfl rfl ?_
              refine nv_iadd hP d_L_compute_160 ?_
              refine nv_iconst hP (nI 1) d_L_compute_161 (by decide) ?_
              refine nv_iadd hP d_L_compute_162 ?_
              refine nv_iald hG 128 (by decide) rfl rfl (by omega) d_L_compute_163 ?_
              have b1 := Nat.mul_le_mul (show p % 16 + 1 ≤ 16 by omega) (Nat.le_of_lt (hv (16 * σ 1 (p / 16) + p % 16 + 1)))
              refine nv_imul hP d_L_compute_164 ?_
              refine nv_istore hP d_L_compute_165 (by decide) ?_
              refine nv_goto hP 247 d_L_compute_167 (by decide) ?_
              refine nv_aload_n hP 0 d_L_compute_247 rfl rfl ?_
              refine nv_getf hG ff_L_4 (by decide) d_L_compute_248 ?_
              refine nv_iload_n hP 1 d_L_compute_251 rfl rfl ?_
              refine nv_iload hP d_L_compute_252 rfl ?_
              refine nv_bipush hP (nI 97) d_L_compute_254 (by decide) ?_
              refine nv_irem hP (by omega) (by omega) (by omega) d_L_compute_256 ?_
              refine nv_iast hG 128 (by decide) rfl rfl (by omega) d_L_compute_257 (fun σ_257 hσ_257 => ?_)
              refine nv_iconst hP (nI 1) d_L_compute_258 (by decide) ?_
              exact nv_zret hG (by omega) d_L_compute_259 (⟨_, rfl, cp_ok hσ_257 (fun _ _ => rfl) (by unfold brn brN; omega) (by unfold wk wkN; rw [if_neg (by omega), if_neg (by omega), if_neg (by omega), if_neg (by omega), if_neg (by omega), if_pos (by omega)])⟩)
            · refine nv_iconst hP (nI 0) d_L_compute_148 (by decide) ?_
              exact nv_zret hG (by omega) d_L_compute_149 (⟨_, rfl, cp_no (by unfold brn brN; omega)⟩)
        · refine nv_iload hP d_L_compute_119 rfl ?_
          refine nv_aload_n hP 0 d_L_compute_121 rfl rfl ?_
          refine nv_getf hG ff_L_4 (by decide) d_L_compute_122 ?_
          refine nv_iload hP d_L_compute_125 rfl ?_
          refine nv_iload_n hP 3 d_L_compute_127 rfl rfl ?_
          refine nv_iadd hP d_L_compute_128 ?_
          refine nv_iald hG 128 (by decide) rfl rfl (by omega) d_L_compute_129 ?_
          have b1 := m97 w3 (hv (16 * σ 1 (p / 16) + p % 16))
          refine nv_imul hP d_L_compute_130 ?_
          refine nv_istore hP d_L_compute_131 (by decide) ?_
          refine nv_goto hP 247 d_L_compute_133 (by decide) ?_
          refine nv_aload_n hP 0 d_L_compute_247 rfl rfl ?_
          refine nv_getf hG ff_L_4 (by decide) d_L_compute_248 ?_
          refine nv_iload_n hP 1 d_L_compute_251 rfl rfl ?_
          refine nv_iload hP d_L_compute_252 rfl ?_
          refine nv_bipush hP (nI 97) d_L_compute_254 (by decide) ?_
          refine nv_irem hP (by omega) (by omega) (by omega) d_L_compute_256 ?_
          refine nv_iast hG 128 (by decide) rfl rfl (by omega) d_L_compute_257 (fun σ_257 hσ_257 => ?_)
          refine nv_iconst hP (nI 1) d_L_compute_258 (by decide) ?_
          exact nv_zret hG (by omega) d_L_compute_259 (⟨_, rfl, cp_ok hσ_257 (fun _ _ => rfl) (by unfold brn brN; omega) (by unfold wk wkN; rw [if_neg (by omega), if_neg (by omega), if_neg (by omega), if_neg (by omega), if_pos (by omega)])⟩)
      · refine nv_aload_n hP 0 d_L_compute_86 rfl rfl ?_
        refine nv_getf hG ff_L_4 (by decide) d_L_compute_87 ?_
        refine nv_iload hP d_L_compute_90 rfl ?_
        refine nv_iload_n hP 3 d_L_compute_92 rfl rfl ?_
        refine nv_iadd hP d_L_compute_93 ?_
        have b1 := hv (16 * σ 1 (p / 16) + p % 16)
        refine nv_iald hG 128 (by decide) rfl rfl (by omega) d_L_compute_94 ?_
        refine nv_aload_n hP 0 d_L_compute_95 rfl rfl ?_
        refine nv_getf hG ff_L_4 (by decide) d_L_compute_96 ?_
        refine nv_bipush hP (nI 16) d_L_compute_99 (by decide) ?_
        refine nv_iload hP d_L_compute_101 rfl ?_
        refine nv_imul hP d_L_compute_103 ?_
        refine nv_iload_n hP 3 d_L_compute_104 rfl rfl ?_
        refine nv_iadd hP d_L_compute_105 ?_
        refine nv_iald hG 128 (by decide) rfl rfl (by omega) d_L_compute_106 ?_
        have b1 := hv (16 * σ 1 (p / 16) + p % 16)
        have b2 := hv (16 * σ 2 (p / 16) + p % 16)
        refine nv_iadd hP d_L_compute_107 ?_
        refine nv_istore hP d_L_compute_108 (by decide) ?_
        refine nv_goto hP 247 d_L_compute_110 (by decide) ?_
        refine nv_aload_n hP 0 d_L_compute_247 rfl rfl ?_
        refine nv_getf hG ff_L_4 (by decide) d_L_compute_248 ?_
        refine nv_iload_n hP 1 d_L_compute_251 rfl rfl ?_
        refine nv_iload hP d_L_compute_252 rfl ?_
        refine nv_bipush hP (nI 97) d_L_compute_254 (by decide) ?_
        refine nv_irem hP (by omega) (by omega) (by omega) d_L_compute_256 ?_
        refine nv_iast hG 128 (by decide) rfl rfl (by omega) d_L_compute_257 (fun σ_257 hσ_257 => ?_)
        refine nv_iconst hP (nI 1) d_L_compute_258 (by decide) ?_
        exact nv_zret hG (by omega) d_L_compute_259 (⟨_, rfl, cp_ok hσ_257 (fun _ _ => rfl) (by unfold brn brN; omega) (by unfold wk wkN; rw [if_neg (by omega), if_neg (by omega), if_pos (by omega)])⟩)
    · refine nv_iload_n hP 3 d_L_compute_65 rfl rfl ?_
      refine nv_iconst hP (nI 1) d_L_compute_66 (by decide) ?_
      refine nv_cmpne hP (by omega) (by omega) 74 d_L_compute_67 (by decide) (fun c_67 => ?_) (fun c_67 => ?_)
      · refine nv_iconst hP (nI 0) d_L_compute_74 (by decide) ?_
        refine nv_istore hP d_L_compute_75 (by decide) ?_
        refine nv_goto hP 247 d_L_compute_77 (by decide) ?_
        refine nv_aload_n hP 0 d_L_compute_247 rfl rfl ?_
        refine nv_getf hG ff_L_4 (by decide) d_L_compute_248 ?_
        refine nv_iload_n hP 1 d_L_compute_251 rfl rfl ?_
        refine nv_iload hP d_L_compute_252 rfl ?_
        refine nv_bipush hP (nI 97) d_L_compute_254 (by decide) ?_
        refine nv_irem hP (by omega) (by omega) (by omega) d_L_compute_256 ?_
        refine nv_iast hG 128 (by decide) rfl rfl (by omega) d_L_compute_257 (fun σ_257 hσ_257 => ?_)
        refine nv_iconst hP (nI 1) d_L_compute_258 (by decide) ?_
        exact nv_zret hG (by omega) d_L_compute_259 (⟨_, rfl, cp_ok hσ_257 (fun _ _ => rfl) (by unfold brn brN; omega) (by unfold wk wkN; rw [if_neg (by omega), if_pos (by omega), if_neg (by omega)])⟩)
      · refine nv_iconst hP (nI 1) d_L_compute_70 (by decide) ?_
        refine nv_goto hP 75 d_L_compute_71 (by decide) ?_
        refine nv_istore hP d_L_compute_75 (by decide) ?_
        refine nv_goto hP 247 d_L_compute_77 (by decide) ?_
        refine nv_aload_n hP 0 d_L_compute_247 rfl rfl ?_
        refine nv_getf hG ff_L_4 (by decide) d_L_compute_248 ?_
        refine nv_iload_n hP 1 d_L_compute_251 rfl rfl ?_
        refine nv_iload hP d_L_compute_252 rfl ?_
        refine nv_bipush hP (nI 97) d_L_compute_254 (by decide) ?_
        refine nv_irem hP (by omega) (by omega) (by omega) d_L_compute_256 ?_
        refine nv_iast hG 128 (by decide) rfl rfl (by omega) d_L_compute_257 (fun σ_257 hσ_257 => ?_)
        refine nv_iconst hP (nI 1) d_L_compute_258 (by decide) ?_
        exact nv_zret hG (by omega) d_L_compute_259 (⟨_, rfl, cp_ok hσ_257 (fun _ _ => rfl) (by unfold brn brN; omega) (by unfold wk wkN; rw [if_neg (by omega), if_pos (by omega), if_pos (by omega)])⟩)
  · refine nv_iload_n hP 3 d_L_compute_44 rfl rfl ?_
    refine nv_ifne hP (by omega) 53 d_L_compute_45 (by decide) (fun c_45 => ?_) (fun c_45 => ?_)
    · refine nv_iconst hP (nI 0) d_L_compute_53 (by decide) ?_
      refine nv_istore hP d_L_compute_54 (by decide) ?_
      refine nv_goto hP 247 d_L_compute_56 (by decide) ?_
      refine nv_aload_n hP 0 d_L_compute_247 rfl rfl ?_
      refine nv_getf hG ff_L_4 (by decide) d_L_compute_248 ?_
      refine nv_iload_n hP 1 d_L_compute_251 rfl rfl ?_
      refine nv_iload hP d_L_compute_252 rfl ?_
      refine nv_bipush hP (nI 97) d_L_compute_254 (by decide) ?_
      refine nv_irem hP (by omega) (by omega) (by omega) d_L_compute_256 ?_
      refine nv_iast hG 128 (by decide) rfl rfl (by omega) d_L_compute_257 (fun σ_257 hσ_257 => ?_)
      refine nv_iconst hP (nI 1) d_L_compute_258 (by decide) ?_
      exact nv_zret hG (by omega) d_L_compute_259 (⟨_, rfl, cp_ok hσ_257 (fun _ _ => rfl) (by unfold brn brN; omega) (by unfold wk wkN; rw [if_pos (by omega), if_neg (by omega)])⟩)
    · refine nv_iload hP d_L_compute_48 rfl ?_
      refine nv_goto hP 54 d_L_compute_50 (by decide) ?_
      refine nv_istore hP d_L_compute_54 (by decide) ?_
      refine nv_goto hP 247 d_L_compute_56 (by decide) ?_
      refine nv_aload_n hP 0 d_L_compute_247 rfl rfl ?_
      refine nv_getf hG ff_L_4 (by decide) d_L_compute_248 ?_
      refine nv_iload_n hP 1 d_L_compute_251 rfl rfl ?_
      refine nv_iload hP d_L_compute_252 rfl ?_
      refine nv_bipush hP (nI 97) d_L_compute_254 (by decide) ?_
      refine nv_irem hP (by omega) (by omega) (by omega) d_L_compute_256 ?_
      refine nv_iast hG 128 (by decide) rfl rfl (by omega) d_L_compute_257 (fun σ_257 hσ_257 => ?_)
      refine nv_iconst hP (nI 1) d_L_compute_258 (by decide) ?_
      exact nv_zret hG (by omega) d_L_compute_259 (⟨_, rfl, cp_ok hσ_257 (fun _ _ => rfl) (by unfold brn brN; omega) (by unfold wk wkN; rw [if_pos (by omega), if_pos (by omega)]; exact Nat.mod_eq_of_lt w3)⟩)
end
section
/-! force: the loop's invariant, and its steps in plain Lean -/
theorem sF_upd {f g : Nat → Nat} {j : Nat} : ∀ n, j < n → (∀ i, i ≠ j → g i = f i) → sF g n + f j = sF f n + g j
  | 0, h, _ => absurd h (Nat.not_lt_zero _)
  | n + 1, h, he => by
    show sF g n + g n + f j = sF f n + f n + g j
    by_cases e : j = n
    · subst e
      rw [sF_congr j (fun i hi => he i (by omega))]
      omega
    · have := sF_upd (f := f) (g := g) n (by omega) he
      rw [he n (fun z => e z.symm)]
      omega
theorem sF_le {f : Nat → Nat} {c : Nat} : ∀ n, (∀ i, i < n → f i ≤ c) → sF f n ≤ c * n
  | 0, _ => Nat.zero_le _
  | n + 1, h => by
    have h1 := sF_le (f := f) (c := c) n (fun i hi => h i (by omega))
    have h2 := h n (by omega)
    show sF f n + f n ≤ c * (n + 1)
    rw [Nat.mul_succ]
    omega
def stOK (K A B : Nat → Nat) (σ : SG) (p : Nat) : Prop := σ 3 p = 0 ∨ (σ 3 p = 2 ∧ FD K A B p (σ 4 p)) ∨ (σ 3 p = 3 ∧ DD K A B p)
/-- LazySeries between calls -/
def InvL (K A B : Nat → Nat) (σ : SG) : Prop := σ 0 = K ∧ σ 1 = A ∧ σ 2 = B ∧ Wf K A B ∧ (∀ q, σ 4 q < 97) ∧ (∀ y, y < 97 → σ 8 y = ivT y) ∧ ∀ p, p < 128 → stOK K A B σ p
def czf (σ : SG) : Nat → Nat := fun q => if σ 3 q = 0 then 1 else 0
def FI (K A B : Nat → Nat) (σ0 : SG) (p D k : Nat) (σ : SG) : Prop :=
  (σ 0 = K ∧ σ 1 = A ∧ σ 2 = B ∧ (∀ q, σ 4 q < 97) ∧ σ 8 = σ0 8)
  ∧ (∀ i, i < D → σ 5 i < 128 ∧ σ 3 (σ 5 i) = 1 ∧ σ 6 i ≤ 32 ∧ ∀ t, t < σ 6 i → ∃ q, ndf K A B (σ 5 i) t = some q ∧ σ 3 q = 2)
  ∧ (∀ i j, i < D → j < D → σ 5 i = σ 5 j → i = j)
  ∧ (∀ q, q < 128 → σ 3 q = 0 ∨ (σ 3 q = 1 ∧ ∃ i, i < D ∧ σ 5 i = q) ∨ (σ 3 q = 2 ∧ FD K A B q (σ 4 q)) ∨ (σ 3 q = 3 ∧ DD K A B q))
  ∧ (∀ i, i + 1 < D → ndf K A B (σ 5 i) (σ 6 i) = some (σ 5 (i + 1)))
  ∧ ((0 < D → σ 5 0 = p) ∧ (D = 0 → σ 3 p = 2 ∨ σ 3 p = 3))
  ∧ (∀ q, q < 128 → (σ0 3 q = 2 ∨ σ0 3 q = 3) → σ 3 q = σ0 3 q ∧ σ 4 q = σ0 4 q)
  ∧ (sF (czf σ) 128 + D ≤ 128)
  ∧ (k + 34 * sF (czf σ) 128 + sF (fun i => 33 - σ 6 i) D ≤ 5000)
section Force
variable {K A B : Nat → Nat} {σ0 σ σ' : SG} {p d k : Nat}
theorem FI_init (hI : InvL K A B σ) (hp : p < 128) (h0 : σ 3 p = 0) : FI K A B σ p 1 0 (st2 (st2 (st2 σ 5 0 p) 6 0 0) 3 p 1) := by
  obtain ⟨a0, a1, a2, hw, hv, hi, hs⟩ := hI
  generalize hσ' : st2 (st2 (st2 σ 5 0 p) 6 0 0) 3 p 1 = σ'
  have e0 : ∀ k, k ≠ 3 → k ≠ 5 → k ≠ 6 → σ' k = σ k := fun k h1 h2 h3 => by rw [← hσ', st2_k h1, st2_k h3, st2_k h2]
  have e3 : σ' 3 = st1 (σ 3) p 1 := by rw [← hσ', st2_st1, st2_k (by decide), st2_k (by decide)]
  have e5 : σ' 5 0 = p := by rw [← hσ', st2_k (by decide), st2_k (by decide), st2_same]
  have e6 : σ' 6 0 = 0 := by rw [← hσ', st2_k (by decide), st2_same]
  have h3p : σ' 3 p = 1 := by rw [e3, st1_same]
  have h3 : ∀ q, q ≠ p → σ' 3 q = σ 3 q := fun q hq => by rw [e3, st1_ne hq]
  have e4 : σ' 4 = σ 4 := e0 4 (by decide) (by decide) (by decide)
  have hc : sF (czf σ') 128 + 1 = sF (czf σ) 128 := by
    have h1 := sF_upd (f := czf σ) (g := czf σ') 128 hp (fun i hi => by unfold czf; rw [h3 i hi])
    have h2 : czf σ p = 1 := by unfold czf; rw [if_pos h0]
    have h4 : czf σ' p = 0 := by unfold czf; rw [if_neg (by omega)]
    omega
  have hcl : sF (czf σ) 128 ≤ 1 * 128 := sF_le 128 (fun i _ => by unfold czf; split <;> omega)
  refine ⟨⟨by rw [e0 0 (by decide) (by decide) (by decide)]; exact a0, by rw [e0 1 (by decide) (by decide) (by decide)]; exact a1, by rw [e0 2 (by decide) (by decide) (by decide)]; exact a2, by rw [e4]; exact hv, e0 8 (by decide) (by decide) (by decide)⟩, ?_, ?_, ?_, ?_, ⟨fun _ => e5, fun h => by omega⟩, ?_, by omega, ?_⟩
  · intro i hi
    have : i = 0 := by omega
    subst this
    rw [e5, e6]
    exact ⟨hp, h3p, by omega, fun t ht => absurd ht (Nat.not_lt_zero _)⟩
  · intro i j hi hj _
    omega
  · intro q hq
    by_cases e : q = p
    · subst e
      exact Or.inr (Or.inl ⟨h3p, 0, by omega, e5⟩)
    · rw [h3 q e, e4]
      rcases hs q hq with h | h | h
      · exact Or.inl h
      · exact Or.inr (Or.inr (Or.inl h))
      · exact Or.inr (Or.inr (Or.inr h))
  · intro i hi
    omega
  · intro q hq h
    have : q ≠ p := fun e => by rw [e, h0] at h; omega
    rw [h3 q this, e4]
    exact ⟨rfl, rfl⟩
  · show 0 + 34 * sF (czf σ') 128 + (0 + (33 - σ' 6 0)) ≤ 5000
    omega
theorem FI_pop (h : FI K A B σ0 p (d + 1) k σ) (e0 : ∀ k, k ≠ 3 → k ≠ 4 → k ≠ 7 → σ' k = σ k) {x : Nat} (e3 : σ' 3 = st1 (σ 3) (σ 5 d) x) (e4 : ∀ q, q ≠ σ 5 d → σ' 4 q = σ 4 q) (e5 : σ' 4 (σ 5 d) < 97) (hx : (x = 2 ∧ FD K A B (σ 5 d) (σ' 4 (σ 5 d))) ∨ (x = 3 ∧ DD K A B (σ 5 d))) : FI K A B σ0 p d (k + 1) σ' := by
  obtain ⟨⟨a0, a1, a2, a4, a8⟩, b, c, s, ch, ⟨f1, f2⟩, g, m1, m2⟩ := h
  obtain ⟨hpl, hps, ht6, -⟩ := b d (by omega)
  have hne : ∀ i, i < d → σ 5 i ≠ σ 5 d := fun i hi e => by
    have := c i d (by omega) (by omega) e
    omega
  have h3 : ∀ q, q ≠ σ 5 d → σ' 3 q = σ 3 q := fun q hq => by rw [e3, st1_ne hq]
  have h3s : σ' 3 (σ 5 d) = x := by rw [e3, st1_same]
  have s5 : σ' 5 = σ 5 := e0 5 (by decide) (by decide) (by decide)
  have s6 : σ' 6 = σ 6 := e0 6 (by decide) (by decide) (by decide)
  have hx0 : x ≠ 0 := by omega
  have hcz : sF (czf σ') 128 = sF (czf σ) 128 := sF_congr _ (fun q _ => by
    unfold czf
    by_cases e : q = σ 5 d
    · rw [e, h3s, if_neg hx0, if_neg (by omega)]
    · rw [h3 q e])
  refine ⟨⟨by rw [e0 0 (by decide) (by decide) (by decide)]; exact a0, by rw [e0 1 (by decide) (by decide) (by decide)]; exact a1, by rw [e0 2 (by decide) (by decide) (by decide)]; exact a2, fun q => ?_, by rw [e0 8 (by decide) (by decide) (by decide)]; exact a8⟩, ?_, ?_, ?_, ?_, ⟨?_, ?_⟩, ?_, by omega, ?_⟩
  · by_cases e : q = σ 5 d
    · rw [e]; exact e5
    · rw [e4 q e]; exact a4 q
  · intro i hi
    rw [s5, s6]
    obtain ⟨q1, q2, q3, q4⟩ := b i (by omega)
    refine ⟨q1, by rw [h3 _ (hne i hi)]; exact q2, q3, fun t ht => ?_⟩
    obtain ⟨q, r1, r2⟩ := q4 t ht
    refine ⟨q, r1, ?_⟩
    rw [h3 q (fun e => by rw [e] at r2; omega)]
    exact r2
  · intro i j hi hj e
    rw [s5] at e
    exact c i j (by omega) (by omega) e
  · intro q hq
    by_cases e : q = σ 5 d
    · rw [e, h3s]
      rcases hx with ⟨h1, h2⟩ | ⟨h1, h2⟩
      · exact Or.inr (Or.inr (Or.inl ⟨h1, h2⟩))
      · exact Or.inr (Or.inr (Or.inr ⟨h1, h2⟩))
    · rw [h3 q e, e4 q e, s5]
      rcases s q hq with h | ⟨h, i, hi, he⟩ | h | h
      · exact Or.inl h
      · refine Or.inr (Or.inl ⟨h, i, ?_, he⟩)
        have : i ≠ d := fun z => e (by rw [← he, z])
        omega
      · exact Or.inr (Or.inr (Or.inl h))
      · exact Or.inr (Or.inr (Or.inr h))
  · intro i hi
    rw [s5, s6]
    exact ch i (by omega)
  · intro hd
    rw [s5]
    exact f1 (by omega)
  · intro hd
    have : σ 5 d = p := by rw [hd]; exact f1 (by omega)
    rw [← this, h3s]
    omega
  · intro q hq h
    obtain ⟨g1, g2⟩ := g q hq h
    have : q ≠ σ 5 d := fun e => by rw [e, hps] at g1; rw [e] at h; omega
    rw [h3 q this, e4 q this]
    exact ⟨g1, g2⟩
  · rw [hcz, s6]
    have : sF (fun i => 33 - σ 6 i) (d + 1) = sF (fun i => 33 - σ 6 i) d + (33 - σ 6 d) := rfl
    omega
theorem FI_turn (h : FI K A B σ0 p (d + 1) k σ) {q : Nat} (hq : ndf K A B (σ 5 d) (σ 6 d) = some q) (hs : σ 3 q = 2) : FI K A B σ0 p (d + 1) (k + 1) (st2 σ 6 d (σ 6 d + 1)) := by
  obtain ⟨⟨a0, a1, a2, a4, a8⟩, b, c, s, ch, ⟨f1, f2⟩, g, m1, m2⟩ := h
  generalize hσ' : st2 σ 6 d (σ 6 d + 1) = σ'
  have e0 : ∀ k, k ≠ 6 → σ' k = σ k := fun k h1 => by rw [← hσ', st2_k h1]
  have e6 : σ' 6 = st1 (σ 6) d (σ 6 d + 1) := by rw [← hσ', st2_st1]
  have s3 : σ' 3 = σ 3 := e0 3 (by decide)
  have s4 : σ' 4 = σ 4 := e0 4 (by decide)
  have s5 : σ' 5 = σ 5 := e0 5 (by decide)
  have hcz : sF (czf σ') 128 = sF (czf σ) 128 := sF_congr _ (fun q _ => by unfold czf; rw [s3])
  have ht := ndf_i hq
  refine ⟨⟨by rw [e0 0 (by decide)]; exact a0, by rw [e0 1 (by decide)]; exact a1, by rw [e0 2 (by decide)]; exact a2, by rw [s4]; exact a4, by rw [e0 8 (by decide)]; exact a8⟩, ?_, by rw [s5]; exact c, by rw [s3, s4, s5]; exact s, ?_, ⟨by rw [s5]; exact f1, by rw [s3]; exact f2⟩, by rw [s3, s4]; exact g, by omega, ?_⟩
  · intro i hi
    rw [s3, s5]
    obtain ⟨q1, q2, q3, q4⟩ := b i hi
    by_cases e : i = d
    · subst e
      rw [e6, st1_same]
      refine ⟨q1, q2, by omega, fun t ht => ?_⟩
      by_cases et : t = σ 6 i
      · rw [et]; exact ⟨q, hq, hs⟩
      · exact q4 t (by omega)
    · rw [e6, st1_ne e]
      exact ⟨q1, q2, q3, q4⟩
  · intro i hi
    rw [s5, e6, st1_ne (by omega)]
    exact ch i hi
  · have h1 := sF_upd (f := fun i => 33 - σ 6 i) (g := fun i => 33 - σ' 6 i) (j := d) (d + 1) (by omega) (fun i hi => by show 33 - σ' 6 i = 33 - σ 6 i; rw [e6, st1_ne hi])
    have h2 : σ' 6 d = σ 6 d + 1 := by rw [e6, st1_same]
    have h1 : sF (fun i => 33 - σ' 6 i) (d + 1) + (33 - σ 6 d) = sF (fun i => 33 - σ 6 i) (d + 1) + (33 - σ' 6 d) := h1
    omega
theorem FI_enter (hw : Wf K A B) (h : FI K A B σ0 p (d + 1) k σ) {q : Nat} (hq : ndf K A B (σ 5 d) (σ 6 d) = some q) (hs : σ 3 q = 0) : d + 1 < 128 ∧ FI K A B σ0 p (d + 2) (k + 1) (st2 (st2 (st2 σ 5 (d + 1) q) 6 (d + 1) 0) 3 q 1) := by
  obtain ⟨⟨a0, a1, a2, a4, a8⟩, b, c, s, ch, ⟨f1, f2⟩, g, m1, m2⟩ := h
  generalize hσ' : st2 (st2 (st2 σ 5 (d + 1) q) 6 (d + 1) 0) 3 q 1 = σ'
  have hql : q < 128 := ndf_lt hw (b d (by omega)).1 hq
  have e0 : ∀ k, k ≠ 3 → k ≠ 5 → k ≠ 6 → σ' k = σ k := fun k h1 h2 h3 => by rw [← hσ', st2_k h1, st2_k h3, st2_k h2]
  have e3 : σ' 3 = st1 (σ 3) q 1 := by rw [← hσ', st2_st1, st2_k (by decide), st2_k (by decide)]
  have e5 : σ' 5 = st1 (σ 5) (d + 1) q := by rw [← hσ', st2_k (by decide), st2_k (by decide), st2_st1]
  have e6 : σ' 6 = st1 (σ 6) (d + 1) 0 := by rw [← hσ', st2_k (by decide), st2_st1, st2_k (by decide)]
  have h3q : σ' 3 q = 1 := by rw [e3, st1_same]
  have h3 : ∀ r, r ≠ q → σ' 3 r = σ 3 r := fun r hr => by rw [e3, st1_ne hr]
  have e4 : σ' 4 = σ 4 := e0 4 (by decide) (by decide) (by decide)
  have hc : sF (czf σ') 128 + 1 = sF (czf σ) 128 := by
    have h1 := sF_upd (f := czf σ) (g := czf σ') 128 hql (fun i hi => by unfold czf; rw [h3 i hi])
    have h2 : czf σ q = 1 := by unfold czf; rw [if_pos hs]
    have h4 : czf σ' q = 0 := by unfold czf; rw [if_neg (by omega)]
    omega
  have h5 : ∀ i, i < d + 1 → σ' 5 i = σ 5 i := fun i hi => by rw [e5, st1_ne (by omega)]
  have h5q : σ' 5 (d + 1) = q := by rw [e5, st1_same]
  have h6 : ∀ i, i < d + 1 → σ' 6 i = σ 6 i := fun i hi => by rw [e6, st1_ne (by omega)]
  have hnq : ∀ i, i < d + 1 → σ 5 i ≠ q := fun i hi e => by have := (b i hi).2.1; rw [e] at this; omega
  refine ⟨by omega, ⟨by rw [e0 0 (by decide) (by decide) (by decide)]; exact a0, by rw [e0 1 (by decide) (by decide) (by decide)]; exact a1, by rw [e0 2 (by decide) (by decide) (by decide)]; exact a2, by rw [e4]; exact a4, by rw [e0 8 (by decide) (by decide) (by decide)]; exact a8⟩, ?_, ?_, ?_, ?_, ⟨?_, fun h => by omega⟩, ?_, by omega, ?_⟩
  · intro i hi
    by_cases e : i = d + 1
    · subst e
      rw [h5q, e6, st1_same]
      exact ⟨hql, h3q, by omega, fun t ht => absurd ht (Nat.not_lt_zero _)⟩
    · obtain ⟨q1, q2, q3, q4⟩ := b i (by omega)
      rw [h5 i (by omega), h6 i (by omega), h3 _ (hnq i (by omega))]
      refine ⟨q1, q2, q3, fun t ht => ?_⟩
      obtain ⟨r, r1, r2⟩ := q4 t ht
      exact ⟨r, r1, by rw [h3 r (fun e => by rw [e] at r2; omega)]; exact r2⟩
  · intro i j hi hj e
    by_cases ei : i = d + 1 <;> by_cases ej : j = d + 1
    · omega
    · rw [ei, h5q, h5 j (by omega)] at e
      exact absurd e.symm (hnq j (by omega))
    · rw [ej, h5q, h5 i (by omega)] at e
      exact absurd e (hnq i (by omega))
    · rw [h5 i (by omega), h5 j (by omega)] at e
      exact c i j (by omega) (by omega) e
  · intro r hr
    by_cases e : r = q
    · subst e
      exact Or.inr (Or.inl ⟨h3q, d + 1, by omega, h5q⟩)
    · rw [h3 r e, e4]
      rcases s r hr with h | ⟨h, i, hi, he⟩ | h | h
      · exact Or.inl h
      · exact Or.inr (Or.inl ⟨h, i, by omega, by rw [h5 i hi]; exact he⟩)
      · exact Or.inr (Or.inr (Or.inl h))
      · exact Or.inr (Or.inr (Or.inr h))
  · intro i hi
    by_cases e : i = d
    · subst e
      rw [h5 i (by omega), h6 i (by omega), h5q]
      exact hq
    · rw [h5 i (by omega), h6 i (by omega), h5 (i + 1) (by omega)]
      exact ch i (by omega)
  · intro _
    rw [h5 0 (by omega)]
    exact f1 (by omega)
  · intro r hr h
    obtain ⟨g1, g2⟩ := g r hr h
    have : r ≠ q := fun e => by rw [e, hs] at g1; rw [e] at h; omega
    rw [h3 r this, e4]
    exact ⟨g1, g2⟩
  · have h1 : sF (fun i => 33 - σ' 6 i) (d + 1) = sF (fun i => 33 - σ 6 i) (d + 1) := sF_congr _ (fun i hi => by show 33 - σ' 6 i = 33 - σ 6 i; rw [h6 i hi])
    have h2 : sF (fun i => 33 - σ' 6 i) (d + 2) = sF (fun i => 33 - σ' 6 i) (d + 1) + (33 - σ' 6 (d + 1)) := rfl
    omega
/-- at the top of the stack: all needs found -/
theorem FI_needs (h : FI K A B σ0 p (d + 1) k σ) (hn : ndf K A B (σ 5 d) (σ 6 d) = none) (hw : Wf K A B) : ∀ q, nds K A B (σ 5 d) q → FD K A B q (σ 4 q) := by
  obtain ⟨-, b, c, s, -⟩ := h
  obtain ⟨q1, q2, q3, q4⟩ := b d (by omega)
  rintro q ⟨i, hi⟩
  have hlt : i < σ 6 d := by
    rcases Nat.lt_or_ge i (σ 6 d) with h | h
    · exact h
    · rw [ndf_end hn h] at hi
      cases hi
  obtain ⟨r, r1, r2⟩ := q4 i hlt
  rw [r1] at hi
  cases hi
  rcases s q (ndf_lt hw q1 r1) with h | ⟨h, -⟩ | h | ⟨h, -⟩
  · omega
  · omega
  · exact h.2
  · omega
/-- what the top needs is dead, or stands on the stack itself -/
theorem FI_dead (h : FI K A B σ0 p (d + 1) k σ) {q : Nat} (hw : Wf K A B) (hq : ndf K A B (σ 5 d) (σ 6 d) = some q) (h2 : σ 3 q ≠ 2) (h0 : σ 3 q ≠ 0) : DD K A B (σ 5 d) := by
  obtain ⟨-, b, c, s, ch, -⟩ := h
  have hql : q < 128 := ndf_lt hw (b d (by omega)).1 hq
  rcases s q hql with h | ⟨h, i, hi, he⟩ | ⟨h, -⟩ | ⟨h, hD⟩
  · exact absurd h h0
  · exact DD_cycle (c := σ 5) (fun i hi => (b i (by omega)).1) (fun i hi => ⟨_, ch i (by omega)⟩) (show i ≤ d by omega) ⟨_, by rw [he]; exact hq⟩
  · exact absurd h h2
  · exact DD_need (b d (by omega)).1 ⟨_, hq⟩ hD
theorem FI_done (hI : InvL K A B σ0) (h : FI K A B σ0 p 0 k σ) : InvL K A B σ ∧ (σ 3 p = 2 ∨ σ 3 p = 3) := by
  obtain ⟨⟨a0, a1, a2, a4, a8⟩, b, c, s, ch, ⟨f1, f2⟩, g, m1, m2⟩ := h
  refine ⟨⟨a0, a1, a2, hI.2.2.2.1, a4, by rw [a8]; exact hI.2.2.2.2.2.1, fun q hq => ?_⟩, f2 rfl⟩
  rcases s q hq with h | ⟨h, i, hi, he⟩ | h | h
  · exact Or.inl h
  · omega
  · exact Or.inr (Or.inl h)
  · exact Or.inr (Or.inr h)
end Force
theorem opI_none {o : Option Nat} (h : opI o = -1) (hb : ∀ q, o = some q → q < 128) : o = none := by
  cases o with
  | none => rfl
  | some q =>
    have h1 := hb q rfl
    have h2 : (nI q).toInt = -1 := by rw [show nI q = -1 from h]; decide
    rw [nI_toInt (by omega)] at h2
    omega
theorem opI_some {o : Option Nat} (h : ¬ opI o = -1) : ∃ q, o = some q := by
  cases o with
  | none => exact absurd rfl h
  | some q => exact ⟨q, rfl⟩
end
section
theorem wkN_lt {K A B v : Nat → Nat} {s n : Nat} (hB : B s < 97) (hv : ∀ q, v q < 97) : wkN K A B v s n < 97 := by
  have hm : ∀ x, x % 97 < 97 := fun x => Nat.mod_lt x (by decide)
  unfold wkN
  repeat' split
  all_goals first | exact hm _ | exact hB | exact hv _ | exact ivT_lt _ | exact hrn_lt _ _ _ _ _ _ | decide
theorem CP_1 {K A B : Nat → Nat} {σ0 σ σ2 : SG} {p d k : Nat} {r : Int32} (h : FI K A B σ0 p (d + 1) k σ) (hw : Wf K A B) (hn : ndf K A B (σ 5 d) (σ 6 d) = none) (hc : CP σ (σ 5 d) r σ2) (hr : ¬ r = 0) : FI K A B σ0 p d (k + 1) (st2 σ2 3 (σ 5 d) 2) := by
  obtain ⟨c0, ⟨-, c2, -⟩ | ⟨c1, c2, c3⟩⟩ := hc
  · exact absurd c2 hr
  have hF := FI_needs h hn hw
  obtain ⟨a0, a1, a2, a4, a8⟩ := h.1
  have hpl := (h.2.1 d (by omega)).1
  rw [a0, a1, a2] at c1 c3
  refine FI_pop h (fun k h3 h4 h7 => by rw [st2_k h3]; exact c0 k h4 h7) (x := 2) (by rw [st2_st1, c0 3 (by decide) (by decide)]) (fun q hq => by rw [st2_k (by decide), c3, st1_ne hq]) ?_ (Or.inl ⟨rfl, ?_⟩)
  · rw [st2_k (by decide), c3, st1_same]
    exact wkN_lt (hw _ (by omega)).2.2.1 a4
  · rw [st2_k (by decide), c3, st1_same]
    exact FD_of hw hpl hF c1
theorem CP_0 {K A B : Nat → Nat} {σ0 σ σ2 : SG} {p d k : Nat} {r : Int32} (h : FI K A B σ0 p (d + 1) k σ) (hw : Wf K A B) (hn : ndf K A B (σ 5 d) (σ 6 d) = none) (hc : CP σ (σ 5 d) r σ2) (hr : r = 0) : FI K A B σ0 p d (k + 1) (st2 σ2 3 (σ 5 d) 3) := by
  obtain ⟨c0, ⟨c1, c2, c3⟩ | ⟨-, c2, -⟩⟩ := hc
  · have hF := FI_needs h hn hw
    obtain ⟨a0, a1, a2, a4, a8⟩ := h.1
    have hpl := (h.2.1 d (by omega)).1
    rw [a0, a1, a2] at c1
    refine FI_pop h (fun k h3 h4 h7 => by rw [st2_k h3]; exact c0 k h4 h7) (x := 3) (by rw [st2_st1, c0 3 (by decide) (by decide)]) (fun q hq => by rw [st2_k (by decide), c3]) ?_ (Or.inr ⟨rfl, DD_barren hpl hF c1⟩)
    rw [st2_k (by decide), c3]
    exact a4 _
  · rw [c2] at hr
    exact absurd hr (by decide)
def FP (K A B : Nat → Nat) (σ : SG) (p : Nat) (r : Int32) (σ' : SG) : Prop := InvL K A B σ' ∧ (∀ q, q < 128 → (σ 3 q = 2 ∨ σ 3 q = 3) → σ' 3 q = σ 3 q ∧ σ' 4 q = σ 4 q) ∧ ((r = nI 1 ∧ σ' 3 p = 2) ∨ (r = nI 0 ∧ σ' 3 p = 3))

set_option maxHeartbeats 4000000 in
/-- force(p) -/
theorem c_L_force (l : Launch) (h : Nat) (a : Nat → Nat) (σ : SG) (K A B : Nat → Nat) (p : Nat) (hp : p < 128) (hI : InvL K A B σ) : MetN l y_L_force b_L_force 6 (some .boolean) (rm 4 103) 0 h a σ [.ref h, .int (nI p)] (pI (fun r σ' => FP K A B σ p r σ')) := by
  refine nv_entry (by decide) (Nat.le_of_ble_eq_true rfl) (by intro v hv; simp only [List.mem_cons, List.not_mem_nil, or_false] at hv; rcases hv with rfl | rfl <;> rfl) (fun G hG => ?_)
  have hP := hG.pr
  have hw := hI.2.2.2.1
  have hst := hI.2.2.2.2.2.2 p hp
  have hs3 : σ 3 p < 4 := by rcases hst with h | ⟨h, _⟩ | ⟨h, _⟩ <;> omega
  refine nv_aload_n hP 0 d_L_force_0 rfl rfl ?_
  refine nv_getf hG ff_L_3 (by decide) d_L_force_1 ?_
  refine nv_iload_n hP 1 d_L_force_4 rfl rfl ?_
  refine nv_iald hG 128 (by decide) rfl rfl (by omega) d_L_force_5 ?_
  refine nv_ifeq hP (by omega) 25 d_L_force_6 (by decide) (fun c_6 => ?_) (fun c_6 => ?_)
  · refine nv_iconst hP (nI 0) d_L_force_25 (by decide) ?_
    refine nv_istore_n hP 2 d_L_force_26 rfl (by decide) ?_
    refine nv_aload_n hP 0 d_L_force_27 rfl rfl ?_
    refine nv_iconst hP (nI 0) d_L_force_28 (by decide) ?_
    refine nv_iload_n hP 1 d_L_force_29 rfl rfl ?_
    refine nv_callVV hG (c_L_enter l h a σ 0 p (by omega) hp) k_L_enter rfl ⟨rfl, rfl⟩ ⟨Nat.le_of_ble_eq_true rfl, Nat.le_of_ble_eq_true rfl⟩ rfl (Nat.le_of_ble_eq_true rfl) d_L_force_30 (fun σ_30 q_30 => ?_)
    subst q_30
    refine nv_iconst hP (nI 0) d_L_force_33 (by decide) ?_
    refine nv_istore_n hP 3 d_L_force_34 rfl (by decide) ?_
    have loop_35 : ∀ (f_35 : Nat) (D k : Nat) (σ1 : SG) (_ : FI K A B σ p D k σ1), 20000 - k < f_35 → G σ1 35 [(0, .ref h), (1, .int (nI p)), (2, .int (dn D)), (3, .int (nI k))] [] := by
      intro f_35
      induction f_35 with
      | zero => intro D k σ1 hF hf_35; exact absurd hf_35 (Nat.not_lt_zero _)
      | succ f_35 ih_35 =>
        intro D k σ1 hF hf_35
        have hk5 : k ≤ 5000 := by obtain ⟨-, -, -, -, -, -, -, -, m⟩ := hF; omega
        have hD5 : D ≤ 128 := by obtain ⟨-, -, -, -, -, -, -, m, -⟩ := hF; omega
        refine nv_iload_n hP 3 d_L_force_35 rfl rfl ?_
        refine nv_sipush hP (nI 20000) d_L_force_36 (by decide) ?_
        refine nv_cmpge hP (by omega) (by omega) 165 d_L_force_39 (by decide) (fun c_39 => absurd c_39 (by omega)) (fun c_39 => ?_)
        refine nv_iload_n hP 2 d_L_force_42 rfl rfl ?_
        refine nv_ifltR hP 165 d_L_force_43 (by decide) (fun c_43 => ?_) (fun c_43 => ?_)
        · have hD : D = 0 := dn_neg (by omega) c_43
          subst hD
          obtain ⟨hI1, hst1⟩ := FI_done hI hF
          refine nv_aload_n hP 0 d_L_force_165 rfl rfl ?_
          refine nv_getf hG ff_L_3 (by decide) d_L_force_166 ?_
          refine nv_iload_n hP 1 d_L_force_169 rfl rfl ?_
          refine nv_iald hG 128 (by decide) rfl rfl (by omega) d_L_force_170 ?_
          refine nv_iconst hP (nI 2) d_L_force_171 (by decide) ?_
          refine nv_cmpne hP (by omega) (by omega) 179 d_L_force_172 (by decide) (fun c_172 => ?_) (fun c_172 => ?_)
          · refine nv_iconst hP (nI 0) d_L_force_179 (by decide) ?_
            exact nv_zret hG (by omega) d_L_force_180 (⟨_, rfl, hI1, hF.2.2.2.2.2.2.1, Or.inr ⟨rfl, by omega⟩⟩)
          · refine nv_iconst hP (nI 1) d_L_force_175 (by decide) ?_
            refine nv_goto hP 180 d_L_force_176 (by decide) ?_
            exact nv_zret hG (by omega) d_L_force_180 (⟨_, rfl, hI1, hF.2.2.2.2.2.2.1, Or.inl ⟨rfl, c_172⟩⟩)
        · obtain ⟨d, rfl⟩ : ∃ d, D = d + 1 := ⟨D - 1, by have := dn_nn c_43; omega⟩
          rw [dn_s]
          have hb := hF.2.1 d (by omega)
          have hb1 := hb.2.2.1
          have hb0 := hb.1
          have hw1 : Wf (σ1 0) (σ1 1) (σ1 2) := by rw [hF.1.1, hF.1.2.1, hF.1.2.2.1]; exact hw
          refine nv_aload_n hP 0 d_L_force_46 rfl rfl ?_
          refine nv_getf hG ff_L_5 (by decide) d_L_force_47 ?_
          refine nv_iload_n hP 2 d_L_force_50 rfl rfl ?_
          refine nv_iald hG 128 (by decide) rfl rfl (by omega) d_L_force_51 ?_
          refine nv_istore hP d_L_force_52 (by decide) ?_
          refine nv_aload_n hP 0 d_L_force_54 rfl rfl ?_
          refine nv_iload hP d_L_force_55 rfl ?_
          refine nv_aload_n hP 0 d_L_force_57 rfl rfl ?_
          refine nv_getf hG ff_L_6 (by decide) d_L_force_58 ?_
          refine nv_iload_n hP 2 d_L_force_61 rfl rfl ?_
          refine nv_iald hG 128 (by decide) rfl rfl (by omega) d_L_force_62 ?_
          refine nv_callVI hG (c_L_need l h a σ1 (σ1 5 d) (σ1 6 d) hb.1 (by omega) hw1) k_L_need rfl ⟨rfl, rfl⟩ ⟨Nat.le_of_ble_eq_true rfl, Nat.le_of_ble_eq_true rfl⟩ rfl (Nat.le_of_ble_eq_true rfl) d_L_force_63 (fun r_63 σ_63 q_63 => ?_)
          obtain ⟨e_63, rfl⟩ := q_63
          replace e_63 := e_63.symm
          subst e_63
          rw [hF.1.1, hF.1.2.1, hF.1.2.2.1]
          refine nv_istore hP d_L_force_66 (by decide) ?_
          refine nv_iload hP d_L_force_68 rfl ?_
          refine nv_iconst hP (-1) d_L_force_70 (by decide) ?_
          refine nv_cmpneR hP 101 d_L_force_71 (by decide) (fun c_71 => ?_) (fun c_71 => ?_)
          · obtain ⟨q, hq⟩ := opI_some c_71
            rw [hq, show opI (some q) = nI q from rfl]
            have hql := ndf_lt hw hb.1 hq
            have hs4 : σ1 3 q < 4 := by rcases hF.2.2.2.1 q hql with h | ⟨h, _⟩ | ⟨h, _⟩ | ⟨h, _⟩ <;> omega
            refine nv_aload_n hP 0 d_L_force_101 rfl rfl ?_
            refine nv_getf hG ff_L_3 (by decide) d_L_force_102 ?_
            refine nv_iload hP d_L_force_105 rfl ?_
            refine nv_iald hG 128 (by decide) rfl rfl (by omega) d_L_force_107 ?_
            refine nv_iconst hP (nI 2) d_L_force_108 (by decide) ?_
            refine nv_cmpne hP (by omega) (by omega) 125 d_L_force_109 (by decide) (fun c_109 => ?_) (fun c_109 => ?_)
            · refine nv_aload_n hP 0 d_L_force_125 rfl rfl ?_
              refine nv_getf hG ff_L_3 (by decide) d_L_force_126 ?_
              refine nv_iload hP d_L_force_129 rfl ?_
              refine nv_iald hG 128 (by decide) rfl rfl (by omega) d_L_force_131 ?_
              refine nv_ifne hP (by omega) 148 d_L_force_132 (by decide) (fun c_132 => ?_) (fun c_132 => ?_)
              · refine nv_aload_n hP 0 d_L_force_148 rfl rfl ?_
                refine nv_getf hG ff_L_3 (by decide) d_L_force_149 ?_
                refine nv_iload hP d_L_force_152 rfl ?_
                refine nv_iconst hP (nI 3) d_L_force_154 (by decide) ?_
                refine nv_iast hG 128 (by decide) rfl rfl (by omega) d_L_force_155 (fun σ_155 hσ_155 => ?_)
                refine nv_iincm hP d_L_force_156 rfl (by decide) ?_
                refine nv_iinc hP d_L_force_159 rfl (by decide) ?_
                refine nv_goto hP 35 d_L_force_162 (by decide) ?_
                exact nv_lv hP (lsub_c rfl (lsub_c rfl (lsub_c rfl (lsub_c rfl lsub_n)))) (ih_35 d (k + 1) σ_155 (by rw [hσ_155]; exact FI_pop hF (fun k a _ _ => st2_k a) (st2_st1 _ _ _ _) (fun q _ => by rw [st2_k (by decide)]) (by rw [st2_k (by decide)]; exact hF.1.2.2.2.1 _) (Or.inr ⟨rfl, FI_dead hF hw hq c_109 c_132⟩)) (by omega))
              · refine nv_iinc hP d_L_force_135 rfl (by decide) ?_
                refine nv_aload_n hP 0 d_L_force_138 rfl rfl ?_
                refine nv_iload_n hP 2 d_L_force_139 rfl rfl ?_
                refine nv_iload hP d_L_force_140 rfl ?_
                refine nv_callVV hG (c_L_enter l h a σ1 (d + 1) q (FI_enter hw hF hq c_132).1 hql) k_L_enter rfl ⟨rfl, rfl⟩ ⟨Nat.le_of_ble_eq_true rfl, Nat.le_of_ble_eq_true rfl⟩ rfl (Nat.le_of_ble_eq_true rfl) d_L_force_142 (fun σ_142 q_142 => ?_)
                subst q_142
                refine nv_goto hP 159 d_L_force_145 (by decide) ?_
                refine nv_iinc hP d_L_force_159 rfl (by decide) ?_
                refine nv_goto hP 35 d_L_force_162 (by decide) ?_
                exact nv_lv hP (lsub_c rfl (lsub_c rfl (lsub_c (by rw [dn_s]; rfl) (lsub_c rfl lsub_n)))) (ih_35 ((d + 1) + 1) (k + 1) _ (FI_enter hw hF hq c_132).2 (by omega))
            · refine nv_aload_n hP 0 d_L_force_112 rfl rfl ?_
              refine nv_getf hG ff_L_6 (by decide) d_L_force_113 ?_
              refine nv_iload_n hP 2 d_L_force_116 rfl rfl ?_
              refine nv_dup2 hP rfl rfl d_L_force_117 ?_
              refine nv_iald hG 128 (by decide) rfl rfl (by omega) d_L_force_118 ?_
              refine nv_iconst hP (nI 1) d_L_force_119 (by decide) ?_
              refine nv_iadd hP d_L_force_120 ?_
              refine nv_iast hG 128 (by decide) rfl rfl (by omega) d_L_force_121 (fun σ_121 hσ_121 => ?_)
              refine nv_goto hP 159 d_L_force_122 (by decide) ?_
              refine nv_iinc hP d_L_force_159 rfl (by decide) ?_
              refine nv_goto hP 35 d_L_force_162 (by decide) ?_
              exact nv_lv hP (lsub_c rfl (lsub_c rfl (lsub_c (by rw [dn_s]; rfl) (lsub_c rfl lsub_n)))) (ih_35 (d + 1) (k + 1) σ_121 (by rw [hσ_121]; exact FI_turn hF hq c_109) (by omega))
          · have hn := opI_none c_71 (fun q hq => ndf_lt hw hb.1 hq)
            refine nv_aload_n hP 0 d_L_force_74 rfl rfl ?_
            refine nv_getf hG ff_L_3 (by decide) d_L_force_75 ?_
            refine nv_iload hP d_L_force_78 rfl ?_
            refine nv_aload_n hP 0 d_L_force_80 rfl rfl ?_
            refine nv_iload hP d_L_force_81 rfl ?_
            refine nv_callVI hG (c_L_compute l h a σ1 (σ1 5 d) hb.1 hw1 hF.1.2.2.2.1 (by rw [hF.1.2.2.2.2]; exact hI.2.2.2.2.2.1)) k_L_compute rfl ⟨rfl, rfl⟩ ⟨Nat.le_of_ble_eq_true rfl, Nat.le_of_ble_eq_true rfl⟩ rfl (Nat.le_of_ble_eq_true rfl) d_L_force_83 (fun r_83 σ_83 q_83 => ?_)
            refine nv_ifeqR hP 93 d_L_force_86 (by decide) (fun c_86 => ?_) (fun c_86 => ?_)
            · refine nv_iconst hP (nI 3) d_L_force_93 (by decide) ?_
              refine nv_iast hG 128 (by decide) rfl rfl (by omega) d_L_force_94 (fun σ_94 hσ_94 => ?_)
              refine nv_iincm hP d_L_force_95 rfl (by decide) ?_
              refine nv_goto hP 159 d_L_force_98 (by decide) ?_
              refine nv_iinc hP d_L_force_159 rfl (by decide) ?_
              refine nv_goto hP 35 d_L_force_162 (by decide) ?_
              exact nv_lv hP (lsub_c rfl (lsub_c rfl (lsub_c rfl (lsub_c rfl lsub_n)))) (ih_35 d (k + 1) σ_94 (by rw [hσ_94]; exact CP_0 hF hw hn q_83 c_86) (by omega))
            · refine nv_iconst hP (nI 2) d_L_force_89 (by decide) ?_
              refine nv_goto hP 94 d_L_force_90 (by decide) ?_
              refine nv_iast hG 128 (by decide) rfl rfl (by omega) d_L_force_94 (fun σ_94 hσ_94 => ?_)
              refine nv_iincm hP d_L_force_95 rfl (by decide) ?_
              refine nv_goto hP 159 d_L_force_98 (by decide) ?_
              refine nv_iinc hP d_L_force_159 rfl (by decide) ?_
              refine nv_goto hP 35 d_L_force_162 (by decide) ?_
              exact nv_lv hP (lsub_c rfl (lsub_c rfl (lsub_c rfl (lsub_c rfl lsub_n)))) (ih_35 d (k + 1) σ_94 (by rw [hσ_94]; exact CP_1 hF hw hn q_83 c_86) (by omega))
    exact nv_lv hP (lsub_c rfl (lsub_c rfl (lsub_c (by rw [dn_s]; rfl) (lsub_c rfl lsub_n)))) (loop_35 _ (0 + 1) 0 _ (FI_init hI hp c_6) (Nat.lt_succ_self _))
  · refine nv_aload_n hP 0 d_L_force_9 rfl rfl ?_
    refine nv_getf hG ff_L_3 (by decide) d_L_force_10 ?_
    refine nv_iload_n hP 1 d_L_force_13 rfl rfl ?_
    refine nv_iald hG 128 (by decide) rfl rfl (by omega) d_L_force_14 ?_
    refine nv_iconst hP (nI 2) d_L_force_15 (by decide) ?_
    refine nv_cmpne hP (by omega) (by omega) 23 d_L_force_16 (by decide) (fun c_16 => ?_) (fun c_16 => ?_)
    · refine nv_iconst hP (nI 0) d_L_force_23 (by decide) ?_
      exact nv_zret hG (by omega) d_L_force_24 (⟨_, rfl, hI, fun _ _ _ => ⟨rfl, rfl⟩, Or.inr ⟨rfl, by rcases hst with h | ⟨h, _⟩ | ⟨h, _⟩ <;> omega⟩⟩)
    · refine nv_iconst hP (nI 1) d_L_force_19 (by decide) ?_
      refine nv_goto hP 24 d_L_force_20 (by decide) ?_
      exact nv_zret hG (by omega) d_L_force_24 (⟨_, rfl, hI, fun _ _ _ => ⟨rfl, rfl⟩, Or.inl ⟨rfl, c_16⟩⟩)
end
section
/-! the answers, in plain Lean -/
/-- the number below n that x is -/
def ix (n : Nat) (x : Int32) : Option Nat := if x < 0 then none else if nI n ≤ x then none else some x.toNatClampNeg
theorem ix_nI {n k : Nat} (h : k < n) (hn : n < 2 ^ 31) : ix n (nI k) = some k := by
  unfold ix
  rw [if_neg (nI_pos (by omega)), if_neg (nI_ge h hn), nI_clamp (by omega)]
theorem ix_neg {n : Nat} {x : Int32} (h : x < 0) : ix n x = none := by
  unfold ix
  rw [if_pos h]
theorem ix_ge {n : Nat} {x : Int32} (h : nI n ≤ x) : ix n x = none := by
  unfold ix
  by_cases h0 : x < 0
  · rw [if_pos h0]
  · rw [if_neg h0, if_pos h]
theorem ix_S {x : Int32} (h : ¬ isS x) : ix 8 x = none := by
  rcases pk_ix x (n := 8) (by decide) with h1 | h1 | ⟨j, hj, e⟩
  · exact ix_neg h1
  · exact ix_ge h1
  · exact absurd ⟨j, hj, e⟩ h
theorem isS_t {x r : Int32} (h : (isS x ∧ r = nI 1) ∨ (¬ isS x ∧ r = nI 0)) (hr : ¬ r = 0) : isS x := by
  rcases h with h | h
  · exact h.1
  · exact absurd h.2 hr
theorem isS_f {x r : Int32} (h : (isS x ∧ r = nI 1) ∨ (¬ isS x ∧ r = nI 0)) (hr : r = 0) : ¬ isS x := by
  rcases h with h | h
  · rw [h.2] at hr
    exact absurd hr (by decide)
  · exact h.1
theorem in_lt {y : Int32} {m : Nat} (hm : m < 2 ^ 31) (h1 : ¬ y < 0) (h2 : y < nI m) : ∃ n, n < m ∧ y = nI n := by
  rcases pk_ix y hm with h | h | h
  · exact absurd h h1
  · rw [Int32.lt_iff_toInt_lt] at h2
    rw [Int32.le_iff_toInt_le] at h
    omega
  · exact h
theorem in_le {y : Int32} {m : Nat} (hm : m + 1 < 2 ^ 31) (h1 : ¬ y < 0) (h2 : y ≤ nI m) : ∃ n, n < m + 1 ∧ y = nI n := by
  rcases pk_ix y hm with h | h | h
  · exact absurd h h1
  · rw [Int32.le_iff_toInt_le, nI_toInt (by omega)] at h2
    rw [Int32.le_iff_toInt_le, nI_toInt (by omega)] at h
    omega
  · exact h
theorem not_lt_le {y z : Int32} (h : ¬ y < z) : z ≤ y := by
  rw [Int32.lt_iff_toInt_lt] at h
  rw [Int32.le_iff_toInt_le]
  omega
theorem not_le_lt {y z : Int32} (h : ¬ y ≤ z) : z < y := by
  rw [Int32.le_iff_toInt_le] at h
  rw [Int32.lt_iff_toInt_lt]
  omega
theorem gt_ge {y : Int32} {m : Nat} (hm : m + 1 < 2 ^ 31) (h : nI m < y) : nI (m + 1) ≤ y := by
  rw [Int32.lt_iff_toInt_lt, nI_toInt (by omega)] at h
  rw [Int32.le_iff_toInt_le, nI_toInt (by omega)]
  omega
def aKind (K : Nat → Nat) (x : Int32) : Int32 := match ix 8 x with
  | none => -1
  | some s => nI (K s)
def aCoef (has : Nat → Bool) (v : Nat → Nat) (x y : Int32) : Int32 := match ix 8 x with
  | none => -1
  | some s => match ix 16 y with
    | none => -2
    | some n => if has (16 * s + n) = true then nI (v (16 * s + n)) else -3
def lead (f : Nat → Bool) : Nat → Nat → Nat
  | 0, n => n
  | k + 1, n => if f n = true then lead f k (n + 1) else n
def aKnown (has : Nat → Bool) (x : Int32) : Int32 := match ix 8 x with
  | none => -1
  | some s => nI (lead (fun n => has (16 * s + n)) 16 0)
def aValued (has : Nat → Bool) (x : Int32) : Int32 := match ix 8 x with
  | none => -1
  | some s => nI (sF (fun n => if has (16 * s + n) = true then 1 else 0) 16)
def ord (f : Nat → Bool) (g : Nat → Nat) : Nat → Nat → Int32
  | 0, _ => -2
  | k + 1, n => if f n = true then (if g n = 0 then ord f g k (n + 1) else nI n) else -2
def aOrder (has : Nat → Bool) (v : Nat → Nat) (x : Int32) : Int32 := match ix 8 x with
  | none => -1
  | some s => ord (fun n => has (16 * s + n)) (fun n => v (16 * s + n)) 16 0
def agr (c : Nat → Bool) : Nat → Nat → Nat := lead c
def aAgree (has : Nat → Bool) (v : Nat → Nat) (x y : Int32) : Int32 := match ix 8 x with
  | none => -1
  | some s => match ix 8 y with
    | none => -1
    | some t => nI (lead (fun n => has (16 * s + n) && has (16 * t + n) && (v (16 * s + n) == v (16 * t + n))) 16 0)
def alB (f : Nat → Bool) : Nat → Bool
  | 0 => true
  | n + 1 => alB f n && f n
theorem alB_t {f : Nat → Bool} : ∀ {n : Nat}, (∀ i, i < n → f i = true) → alB f n = true
  | 0, _ => rfl
  | n + 1, h => by
    show (alB f n && f n) = true
    rw [alB_t (fun i hi => h i (by omega)), h n (by omega)]
    rfl
theorem alB_f {f : Nat → Bool} {i : Nat} : ∀ {n : Nat}, i < n → f i = false → alB f n = false
  | 0, h, _ => absurd h (Nat.not_lt_zero _)
  | n + 1, h, hf => by
    show (alB f n && f n) = false
    by_cases e : i = n
    · rw [← e, hf, Bool.and_false]
    · rw [alB_f (by omega) hf, Bool.false_and]
def aEval (has : Nat → Bool) (v : Nat → Nat) (x y z : Int32) : Int32 := match ix 8 x with
  | none => -1
  | some s => match ix 17 y with
    | none => -2
    | some t => if alB (fun n => has (16 * s + n)) t = true then nI (sF (fun n => v (16 * s + n) * rd z ^ n) t % 97) else -3
def aSum (has : Nat → Bool) (v : Nat → Nat) (x y z : Int32) : Int32 := match ix 8 x with
  | none => -1
  | some s => match ix 16 y with
    | none => -2
    | some i => match ix 16 z with
      | none => -2
      | some j => if i ≤ j then (if alB (fun n => has (16 * s + (i + n))) (j + 1 - i) = true then nI (sF (fun n => v (16 * s + (i + n))) (j + 1 - i) % 97) else -3) else -2
/-- q can be reached from p by one or more needs -/
def Reach (K A B : Nat → Nat) (p q : Nat) : Prop := ∀ S : Nat → Prop, (∀ x, nds K A B p x → S x) → (∀ x y, S x → nds K A B x y → S y) → S q
def aNeeds (K A B : Nat → Nat) (x y r : Int32) : Prop := match ix 128 x with
  | none => r = -1
  | some p => match ix 128 y with
    | none => r = -1
    | some q => (Reach K A B p q ∧ r = nI 1) ∨ (¬ Reach K A B p q ∧ r = nI 0)
theorem aNeeds_eq {K A B : Nat → Nat} {x y r1 r2 : Int32} (h1 : aNeeds K A B x y r1) (h2 : aNeeds K A B x y r2) : r1 = r2 := by
  unfold aNeeds at h1 h2
  cases e1 : ix 128 x with
  | none => rw [e1] at h1 h2; exact h1.trans h2.symm
  | some p =>
    rw [e1] at h1 h2
    cases e2 : ix 128 y with
    | none => rw [e2] at h1 h2; exact h1.trans h2.symm
    | some q =>
      rw [e2] at h1 h2
      rcases h1 with ⟨a1, a2⟩ | ⟨a1, a2⟩ <;> rcases h2 with ⟨b1, b2⟩ | ⟨b1, b2⟩
      · exact a2.trans b2.symm
      · exact absurd a1 b1
      · exact absurd b1 a1
      · exact a2.trans b2.symm
def two (k : Nat) : Bool := decide (k = 2) || decide (k = 3) || decide (k = 9)
/-- define: its answer, and the definitions behind it -/
def dfn (K A B : Nat → Nat) (x k y z : Int32) : Int32 × (Nat → Nat) × (Nat → Nat) × (Nat → Nat) := match ix 8 x with
  | none => (-1, K, A, B)
  | some s => match ix 10 k with
    | none => (-2, K, A, B)
    | some kk => if 1 < kk ∧ ix 8 y = none then (-3, K, A, B) else if two kk = true ∧ ix 8 z = none then (-4, K, A, B) else
      (nI (K s), st1 K s kk, st1 A s (if 1 < kk then (ix 8 y).getD 0 else 0), st1 B s (if two kk = true then (ix 8 z).getD 0 else rd z))
section Ans
variable {has : Nat → Bool} {v K A B : Nat → Nat} {x y z : Int32} {s t n : Nat}
theorem aKind_1 (h : ¬ isS x) : aKind K x = -1 := by unfold aKind; rw [ix_S h]
theorem aKind_ok (h : s < 8) : aKind K (nI s) = nI (K s) := by unfold aKind; rw [ix_nI h (by decide)]
theorem aCoef_1 (h : ¬ isS x) : aCoef has v x y = -1 := by unfold aCoef; rw [ix_S h]
theorem aCoef_2 (h : s < 8) (hy : ix 16 y = none) : aCoef has v (nI s) y = -2 := by unfold aCoef; rw [ix_nI h (by decide), hy]
theorem aCoef_ok (h : s < 8) (hn : n < 16) : aCoef has v (nI s) (nI n) = if has (16 * s + n) = true then nI (v (16 * s + n)) else -3 := by unfold aCoef; rw [ix_nI h (by decide), ix_nI hn (by decide)]
theorem aKnown_1 (h : ¬ isS x) : aKnown has x = -1 := by unfold aKnown; rw [ix_S h]
theorem aKnown_ok (h : s < 8) : aKnown has (nI s) = nI (lead (fun n => has (16 * s + n)) 16 0) := by unfold aKnown; rw [ix_nI h (by decide)]
theorem aValued_1 (h : ¬ isS x) : aValued has x = -1 := by unfold aValued; rw [ix_S h]
theorem aValued_ok (h : s < 8) : aValued has (nI s) = nI (sF (fun n => if has (16 * s + n) = true then 1 else 0) 16) := by unfold aValued; rw [ix_nI h (by decide)]
theorem aOrder_1 (h : ¬ isS x) : aOrder has v x = -1 := by unfold aOrder; rw [ix_S h]
theorem aOrder_ok (h : s < 8) : aOrder has v (nI s) = ord (fun n => has (16 * s + n)) (fun n => v (16 * s + n)) 16 0 := by unfold aOrder; rw [ix_nI h (by decide)]
theorem aAgree_1 (h : ¬ isS x) : aAgree has v x y = -1 := by unfold aAgree; rw [ix_S h]
theorem aAgree_2 (h : s < 8) (hy : ¬ isS y) : aAgree has v (nI s) y = -1 := by unfold aAgree; rw [ix_nI h (by decide), ix_S hy]
theorem aAgree_ok (h : s < 8) (ht : t < 8) : aAgree has v (nI s) (nI t) = nI (lead (fun n => has (16 * s + n) && has (16 * t + n) && (v (16 * s + n) == v (16 * t + n))) 16 0) := by unfold aAgree; rw [ix_nI h (by decide), ix_nI ht (by decide)]
theorem aEval_1 (h : ¬ isS x) : aEval has v x y z = -1 := by unfold aEval; rw [ix_S h]
theorem aEval_2 (h : s < 8) (hy : ix 17 y = none) : aEval has v (nI s) y z = -2 := by unfold aEval; rw [ix_nI h (by decide), hy]
theorem aEval_ok (h : s < 8) (ht : t < 17) : aEval has v (nI s) (nI t) z = if alB (fun n => has (16 * s + n)) t = true then nI (sF (fun n => v (16 * s + n) * rd z ^ n) t % 97) else -3 := by unfold aEval; rw [ix_nI h (by decide), ix_nI ht (by decide)]
theorem aSum_1 (h : ¬ isS x) : aSum has v x y z = -1 := by unfold aSum; rw [ix_S h]
theorem aSum_2 (h : s < 8) (hy : y < 0) : aSum has v (nI s) y z = -2 := by unfold aSum; rw [ix_nI h (by decide), ix_neg hy]
theorem aSum_4 (h : s < 8) (hz : nI 16 ≤ z) : aSum has v (nI s) y z = -2 := by
  unfold aSum
  rw [ix_nI h (by decide), ix_ge hz]
  show (match ix 16 y with | none => (-2 : Int32) | some _ => -2) = -2
  split <;> rfl
theorem aSum_3 (h : s < 8) (hyz : z < y) : aSum has v (nI s) y z = -2 := by
  unfold aSum
  rw [ix_nI h (by decide)]
  rcases pk_ix y (n := 16) (by decide) with h1 | h1 | ⟨i, hi, rfl⟩
  · rw [ix_neg h1]
  · rw [ix_ge h1]
  · rw [ix_nI hi (by decide)]
    rcases pk_ix z (n := 16) (by decide) with h1 | h1 | ⟨j, hj, rfl⟩
    · rw [ix_neg h1]
    · rw [ix_ge h1]
    · rw [ix_nI hj (by decide)]
      have := (nI_ltI (by omega) (by omega)).mp hyz
      show (if i ≤ j then _ else (-2 : Int32)) = -2
      rw [if_neg (by omega)]
theorem aSum_ok {i j : Nat} (h : s < 8) (hij : i ≤ j) (hj : j < 16) : aSum has v (nI s) (nI i) (nI j) = if alB (fun n => has (16 * s + (i + n))) (j + 1 - i) = true then nI (sF (fun n => v (16 * s + (i + n))) (j + 1 - i) % 97) else -3 := by
  unfold aSum
  rw [ix_nI h (by decide), ix_nI (show i < 16 by omega) (by decide), ix_nI hj (by decide)]
  show (if i ≤ j then _ else (-2 : Int32)) = _
  rw [if_pos hij]
theorem aNeeds_ok {p q : Nat} {r : Int32} (hp : p < 128) (hq : q < 128) (h : (Reach K A B p q ∧ r = nI 1) ∨ (¬ Reach K A B p q ∧ r = nI 0)) : aNeeds K A B (nI p) (nI q) r := by
  unfold aNeeds
  rw [ix_nI hp (by decide), ix_nI hq (by decide)]
  exact h
theorem aNeeds_1 (hx : ix 128 x = none) : aNeeds K A B x y (-1) := by
  unfold aNeeds
  rw [hx]
theorem aNeeds_2 (hy : ix 128 y = none) : aNeeds K A B x y (-1) := by
  unfold aNeeds
  rw [hy]
  cases ix 128 x <;> rfl
end Ans
theorem lead_s {f : Nat → Bool} {n : Nat} (hn : n < 16) (h : f n = true) : lead f (16 - n) n = lead f (16 - (n + 1)) (n + 1) := by
  rw [show 16 - n = (16 - (n + 1)) + 1 by omega]
  show (if f n = true then _ else n) = _
  rw [if_pos h]
theorem lead_e {f : Nat → Bool} {n : Nat} (hn : n < 16) (h : f n = false) : lead f (16 - n) n = n := by
  rw [show 16 - n = (16 - (n + 1)) + 1 by omega]
  show (if f n = true then _ else n) = _
  rw [h, if_neg (by decide)]
theorem ord_s {f : Nat → Bool} {g : Nat → Nat} {n : Nat} (hn : n < 16) (h : f n = true) (hg : g n = 0) : ord f g (16 - n) n = ord f g (16 - (n + 1)) (n + 1) := by
  rw [show 16 - n = (16 - (n + 1)) + 1 by omega]
  show (if f n = true then (if g n = 0 then _ else nI n) else -2) = _
  rw [if_pos h, if_pos hg]
theorem ord_e {f : Nat → Bool} {g : Nat → Nat} {n : Nat} (hn : n < 16) (h : f n = false) : ord f g (16 - n) n = -2 := by
  rw [show 16 - n = (16 - (n + 1)) + 1 by omega]
  show (if f n = true then (if g n = 0 then _ else nI n) else -2) = _
  rw [h, if_neg (by decide)]
theorem ord_v {f : Nat → Bool} {g : Nat → Nat} {n : Nat} (hn : n < 16) (h : f n = true) (hg : g n ≠ 0) : ord f g (16 - n) n = nI n := by
  rw [show 16 - n = (16 - (n + 1)) + 1 by omega]
  show (if f n = true then (if g n = 0 then _ else nI n) else -2) = _
  rw [if_pos h, if_neg hg]
section Fp
variable {K A B v : Nat → Nat} {has : Nat → Bool} {σ σ' : SG} {p : Nat} {r : Int32}
theorem FP_1 (h : FP K A B σ p r σ') (hp : p < 128) (hr : ¬ r = 0) : FD K A B p (σ' 4 p) := by
  obtain ⟨hI, -, ⟨-, h2⟩ | ⟨h1, -⟩⟩ := h
  · rcases hI.2.2.2.2.2.2 p hp with q | ⟨-, q⟩ | ⟨q, -⟩
    · omega
    · exact q
    · omega
  · exact absurd h1 hr
theorem FP_0 (h : FP K A B σ p r σ') (hp : p < 128) (hr : r = 0) : DD K A B p := by
  obtain ⟨hI, -, ⟨h1, h2⟩ | ⟨-, h2⟩⟩ := h
  · rw [h1] at hr
    exact absurd hr (by decide)
  · rcases hI.2.2.2.2.2.2 p hp with q | ⟨q, -⟩ | ⟨-, q⟩
    · omega
    · omega
    · exact q
/-- a found place stays as it is -/
theorem FP_k (h : FP K A B σ p r σ') {q : Nat} (hq : q < 128) (h2 : σ 3 q = 2) : σ' 4 q = σ 4 q := (h.2.1 q hq (Or.inl h2)).2
theorem FP_2 (h : FP K A B σ p r σ') (hr : ¬ r = 0) : σ' 3 p = 2 := by
  obtain ⟨hI, -, ⟨-, h2⟩ | ⟨h1, -⟩⟩ := h
  · exact h2
  · exact absurd h1 hr
end Fp
end
section
set_option maxHeartbeats 4000000 in
/-- kindOf -/
theorem c_L_kindOf (l : Launch) (h : Nat) (a : Nat → Nat) (σ : SG) (K A B : Nat → Nat) (x : Int32) (hI : InvL K A B σ) : MetN l y_L_kindOf b_L_kindOf 2 (some .int) (rm 1 20) 0 h a σ [.ref h, .int x] (pI (fun r σ' => σ' = σ ∧ r = aKind K x)) := by
  refine nv_entry (by decide) (Nat.le_of_ble_eq_true rfl) (by intro v hv; simp only [List.mem_cons, List.not_mem_nil, or_false] at hv; rcases hv with rfl | rfl <;> rfl) (fun G hG => ?_)
  have hP := hG.pr
  refine nv_iload_n hP 1 d_L_kindOf_0 rfl rfl ?_
  refine nv_callSI hG (c_L_isSeries l h a σ x) k_L_isSeries rfl ⟨rfl, rfl⟩ ⟨Nat.le_of_ble_eq_true rfl, Nat.le_of_ble_eq_true rfl⟩ rfl (Nat.le_of_ble_eq_true rfl) d_L_kindOf_1 (fun r_1 σ_1 q_1 => ?_)
  obtain ⟨e_1, hs_1⟩ := q_1
  replace e_1 := e_1.symm
  subst e_1
  refine nv_ifeqR hP 16 d_L_kindOf_4 (by decide) (fun c_4 => ?_) (fun c_4 => ?_)
  · refine nv_iconst hP (-1) d_L_kindOf_16 (by decide) ?_
    exact nv_iret hG d_L_kindOf_17 (⟨_, rfl, rfl, (aKind_1 (isS_f hs_1 c_4)).symm⟩)
  · obtain ⟨s, hs, rfl⟩ := isS_t hs_1 c_4
    refine nv_aload_n hP 0 d_L_kindOf_7 rfl rfl ?_
    refine nv_getf hG ff_L_0 (by decide) d_L_kindOf_8 ?_
    refine nv_iload_n hP 1 d_L_kindOf_11 rfl rfl ?_
    refine nv_iald hG 8 (by decide) rfl rfl (by omega) d_L_kindOf_12 ?_
    refine nv_goto hP 17 d_L_kindOf_13 (by decide) ?_
    exact nv_iret hG d_L_kindOf_17 (⟨_, rfl, rfl, by rw [aKind_ok hs, hI.1]⟩)

set_option maxHeartbeats 4000000 in
/-- coefficient -/
theorem c_L_coefficient (l : Launch) (h : Nat) (a : Nat → Nat) (σ : SG) (K A B : Nat → Nat) (x y : Int32) (hI : InvL K A B σ) : MetN l y_L_coefficient b_L_coefficient 4 (some .int) (rm 5 128) 0 h a σ [.ref h, .int x, .int y] (pI (fun r σ' => InvL K A B σ' ∧ ∀ has v, Sol K A B has v → r = aCoef has v x y)) := by
  refine nv_entry (by decide) (Nat.le_of_ble_eq_true rfl) (by intro v hv; simp only [List.mem_cons, List.not_mem_nil, or_false] at hv; rcases hv with rfl | rfl | rfl <;> rfl) (fun G hG => ?_)
  have hP := hG.pr
  refine nv_iload_n hP 1 d_L_coefficient_0 rfl rfl ?_
  refine nv_callSI hG (c_L_isSeries l h a σ x) k_L_isSeries rfl ⟨rfl, rfl⟩ ⟨Nat.le_of_ble_eq_true rfl, Nat.le_of_ble_eq_true rfl⟩ rfl (Nat.le_of_ble_eq_true rfl) d_L_coefficient_1 (fun r_1 σ_1 q_1 => ?_)
  obtain ⟨e_1, hs_1⟩ := q_1
  replace e_1 := e_1.symm
  subst e_1
  refine nv_ifneR hP 9 d_L_coefficient_4 (by decide) (fun c_4 => ?_) (fun c_4 => ?_)
  · obtain ⟨s, hs, rfl⟩ := isS_t hs_1 c_4
    refine nv_iload_n hP 2 d_L_coefficient_9 rfl rfl ?_
    refine nv_ifltR hP 19 d_L_coefficient_10 (by decide) (fun c_10 => ?_) (fun c_10 => ?_)
    · refine nv_bipush hP (-2) d_L_coefficient_19 (by decide) ?_
      exact nv_iret hG d_L_coefficient_21 (⟨_, rfl, hI, fun has v hS => (aCoef_2 hs (ix_neg c_10)).symm⟩)
    · refine nv_iload_n hP 2 d_L_coefficient_13 rfl rfl ?_
      refine nv_bipush hP (nI 16) d_L_coefficient_14 (by decide) ?_
      refine nv_cmpltR hP 22 d_L_coefficient_16 (by decide) (fun c_16 => ?_) (fun c_16 => ?_)
      · obtain ⟨n, hn, rfl⟩ := in_lt (by decide) c_10 c_16
        refine nv_aload_n hP 0 d_L_coefficient_22 rfl rfl ?_
        refine nv_bipush hP (nI 16) d_L_coefficient_23 (by decide) ?_
        refine nv_iload_n hP 1 d_L_coefficient_25 rfl rfl ?_
        refine nv_imul hP d_L_coefficient_26 ?_
        refine nv_iload_n hP 2 d_L_coefficient_27 rfl rfl ?_
        refine nv_iadd hP d_L_coefficient_28 ?_
        refine nv_callVI hG (c_L_force l h a σ K A B (16 * s + n) (by omega) hI) k_L_force rfl ⟨rfl, rfl⟩ ⟨Nat.le_of_ble_eq_true rfl, Nat.le_of_ble_eq_true rfl⟩ rfl (Nat.le_of_ble_eq_true rfl) d_L_coefficient_29 (fun r_29 σ_29 q_29 => ?_)
        refine nv_istore_n hP 3 d_L_coefficient_32 rfl (by decide) ?_
        refine nv_iload_n hP 3 d_L_coefficient_33 rfl rfl ?_
        refine nv_ifeqR hP 51 d_L_coefficient_34 (by decide) (fun c_34 => ?_) (fun c_34 => ?_)
        · refine nv_bipush hP (-3) d_L_coefficient_51 (by decide) ?_
          exact nv_iret hG d_L_coefficient_53 (⟨_, rfl, q_29.1, fun has v hS => by rw [aCoef_ok hs hn, FP_0 q_29 (by omega) c_34 has v hS, if_neg (by decide)]⟩)
        · refine nv_aload_n hP 0 d_L_coefficient_37 rfl rfl ?_
          refine nv_getf hG ff_L_4 (by decide) d_L_coefficient_38 ?_
          refine nv_bipush hP (nI 16) d_L_coefficient_41 (by decide) ?_
          refine nv_iload_n hP 1 d_L_coefficient_43 rfl rfl ?_
          refine nv_imul hP d_L_coefficient_44 ?_
          refine nv_iload_n hP 2 d_L_coefficient_45 rfl rfl ?_
          refine nv_iadd hP d_L_coefficient_46 ?_
          refine nv_iald hG 128 (by decide) rfl rfl (by omega) d_L_coefficient_47 ?_
          refine nv_goto hP 53 d_L_coefficient_48 (by decide) ?_
          exact nv_iret hG d_L_coefficient_53 (⟨_, rfl, q_29.1, fun has v hS => by rw [aCoef_ok hs hn, (FP_1 q_29 (by omega) c_34 has v hS).1, (FP_1 q_29 (by omega) c_34 has v hS).2, if_pos rfl]⟩)
      · refine nv_bipush hP (-2) d_L_coefficient_19 (by decide) ?_
        exact nv_iret hG d_L_coefficient_21 (⟨_, rfl, hI, fun has v hS => (aCoef_2 hs (ix_ge (not_lt_le c_16))).symm⟩)
  · refine nv_iconst hP (-1) d_L_coefficient_7 (by decide) ?_
    exact nv_iret hG d_L_coefficient_8 (⟨_, rfl, hI, fun has v hS => (aCoef_1 (isS_f hs_1 c_4)).symm⟩)

set_option maxHeartbeats 4000000 in
/-- known -/
theorem c_L_known (l : Launch) (h : Nat) (a : Nat → Nat) (σ : SG) (K A B : Nat → Nat) (x : Int32) (hI : InvL K A B σ) : MetN l y_L_known b_L_known 3 (some .int) (rm 5 128) 0 h a σ [.ref h, .int x] (pI (fun r σ' => InvL K A B σ' ∧ ∀ has v, Sol K A B has v → r = aKnown has x)) := by
  refine nv_entry (by decide) (Nat.le_of_ble_eq_true rfl) (by intro v hv; simp only [List.mem_cons, List.not_mem_nil, or_false] at hv; rcases hv with rfl | rfl <;> rfl) (fun G hG => ?_)
  have hP := hG.pr
  refine nv_iload_n hP 1 d_L_known_0 rfl rfl ?_
  refine nv_callSI hG (c_L_isSeries l h a σ x) k_L_isSeries rfl ⟨rfl, rfl⟩ ⟨Nat.le_of_ble_eq_true rfl, Nat.le_of_ble_eq_true rfl⟩ rfl (Nat.le_of_ble_eq_true rfl) d_L_known_1 (fun r_1 σ_1 q_1 => ?_)
  obtain ⟨e_1, hs_1⟩ := q_1
  replace e_1 := e_1.symm
  subst e_1
  refine nv_ifneR hP 9 d_L_known_4 (by decide) (fun c_4 => ?_) (fun c_4 => ?_)
  · obtain ⟨s, hs, rfl⟩ := isS_t hs_1 c_4
    refine nv_iconst hP (nI 0) d_L_known_9 (by decide) ?_
    refine nv_istore_n hP 2 d_L_known_10 rfl (by decide) ?_
    have loop_11 : ∀ (f_11 : Nat) (n : Nat) (σ1 : SG) (_ : n ≤ 16) (_ : InvL K A B σ1) (_ : ∀ has v, Sol K A B has v → lead (fun n => has (16 * s + n)) 16 0 = lead (fun n => has (16 * s + n)) (16 - n) n), 16 - n < f_11 → G σ1 11 [(0, .ref h), (1, .int (nI s)), (2, .int (nI n))] [] := by
      intro f_11
      induction f_11 with
      | zero => intro n σ1 hn hI1 hA hf_11; exact absurd hf_11 (Nat.not_lt_zero _)
      | succ f_11 ih_11 =>
        intro n σ1 hn hI1 hA hf_11
        refine nv_iload_n hP 2 d_L_known_11 rfl rfl ?_
        refine nv_bipush hP (nI 16) d_L_known_12 (by decide) ?_
        refine nv_cmpge hP (by omega) (by omega) 38 d_L_known_14 (by decide) (fun c_14 => ?_) (fun c_14 => ?_)
        · refine nv_bipush hP (nI 16) d_L_known_38 (by decide) ?_
          exact nv_iret hG d_L_known_40 (⟨_, rfl, hI1, fun has v hS => by rw [aKnown_ok hs, hA has v hS, show n = 16 by omega]; rfl⟩)
        · refine nv_aload_n hP 0 d_L_known_17 rfl rfl ?_
          refine nv_bipush hP (nI 16) d_L_known_18 (by decide) ?_
          refine nv_iload_n hP 1 d_L_known_20 rfl rfl ?_
          refine nv_imul hP d_L_known_21 ?_
          refine nv_iload_n hP 2 d_L_known_22 rfl rfl ?_
          refine nv_iadd hP d_L_known_23 ?_
          refine nv_callVI hG (c_L_force l h a σ1 K A B (16 * s + n) (by omega) hI1) k_L_force rfl ⟨rfl, rfl⟩ ⟨Nat.le_of_ble_eq_true rfl, Nat.le_of_ble_eq_true rfl⟩ rfl (Nat.le_of_ble_eq_true rfl) d_L_known_24 (fun r_24 σ_24 q_24 => ?_)
          refine nv_ifneR hP 32 d_L_known_27 (by decide) (fun c_27 => ?_) (fun c_27 => ?_)
          · refine nv_iinc hP d_L_known_32 rfl (by decide) ?_
            refine nv_goto hP 11 d_L_known_35 (by decide) ?_
            exact nv_lv hP (lsub_c rfl (lsub_c rfl (lsub_c rfl lsub_n))) (ih_11 (n + 1) σ_24 (by omega) q_24.1 (fun has v hS => (hA has v hS).trans (lead_s (f := fun n => has (16 * s + n)) (n := n) (by omega) (FP_1 q_24 (by omega) c_27 has v hS).1)) (by omega))
          · refine nv_iload_n hP 2 d_L_known_30 rfl rfl ?_
            exact nv_iret hG d_L_known_31 (⟨_, rfl, q_24.1, fun has v hS => by rw [aKnown_ok hs, hA has v hS, lead_e (f := fun n => has (16 * s + n)) (n := n) (by omega) (FP_0 q_24 (by omega) c_27 has v hS)]⟩)
    exact nv_lv hP (lsub_c rfl (lsub_c rfl (lsub_c rfl lsub_n))) (loop_11 _ 0 σ (by omega) hI (fun _ _ _ => rfl) (Nat.lt_succ_self _))
  · refine nv_iconst hP (-1) d_L_known_7 (by decide) ?_
    exact nv_iret hG d_L_known_8 (⟨_, rfl, hI, fun has v hS => (aKnown_1 (isS_f hs_1 c_4)).symm⟩)

set_option maxHeartbeats 4000000 in
/-- valued -/
theorem c_L_valued (l : Launch) (h : Nat) (a : Nat → Nat) (σ : SG) (K A B : Nat → Nat) (x : Int32) (hI : InvL K A B σ) : MetN l y_L_valued b_L_valued 4 (some .int) (rm 5 128) 0 h a σ [.ref h, .int x] (pI (fun r σ' => InvL K A B σ' ∧ ∀ has v, Sol K A B has v → r = aValued has x)) := by
  refine nv_entry (by decide) (Nat.le_of_ble_eq_true rfl) (by intro v hv; simp only [List.mem_cons, List.not_mem_nil, or_false] at hv; rcases hv with rfl | rfl <;> rfl) (fun G hG => ?_)
  have hP := hG.pr
  refine nv_iload_n hP 1 d_L_valued_0 rfl rfl ?_
  refine nv_callSI hG (c_L_isSeries l h a σ x) k_L_isSeries rfl ⟨rfl, rfl⟩ ⟨Nat.le_of_ble_eq_true rfl, Nat.le_of_ble_eq_true rfl⟩ rfl (Nat.le_of_ble_eq_true rfl) d_L_valued_1 (fun r_1 σ_1 q_1 => ?_)
  obtain ⟨e_1, hs_1⟩ := q_1
  replace e_1 := e_1.symm
  subst e_1
  refine nv_ifneR hP 9 d_L_valued_4 (by decide) (fun c_4 => ?_) (fun c_4 => ?_)
  · obtain ⟨s, hs, rfl⟩ := isS_t hs_1 c_4
    refine nv_iconst hP (nI 0) d_L_valued_9 (by decide) ?_
    refine nv_istore_n hP 2 d_L_valued_10 rfl (by decide) ?_
    refine nv_iconst hP (nI 0) d_L_valued_11 (by decide) ?_
    refine nv_istore_n hP 3 d_L_valued_12 rfl (by decide) ?_
    have loop_13 : ∀ (f_13 : Nat) (n c : Nat) (σ1 : SG) (_ : n ≤ 16) (_ : InvL K A B σ1) (_ : ∀ has v, Sol K A B has v → c = sF (fun n => if has (16 * s + n) = true then 1 else 0) n), 16 - n < f_13 → G σ1 13 [(0, .ref h), (1, .int (nI s)), (2, .int (nI c)), (3, .int (nI n))] [] := by
      intro f_13
      induction f_13 with
      | zero => intro n c σ1 hn hI1 hA hf_13; exact absurd hf_13 (Nat.not_lt_zero _)
      | succ f_13 ih_13 =>
        intro n c σ1 hn hI1 hA hf_13
        refine nv_iload_n hP 3 d_L_valued_13 rfl rfl ?_
        refine nv_bipush hP (nI 16) d_L_valued_14 (by decide) ?_
        refine nv_cmpge hP (by omega) (by omega) 41 d_L_valued_16 (by decide) (fun c_16 => ?_) (fun c_16 => ?_)
        · refine nv_iload_n hP 2 d_L_valued_41 rfl rfl ?_
          exact nv_iret hG d_L_valued_42 (⟨_, rfl, hI1, fun has v hS => by rw [aValued_ok hs, hA has v hS, show n = 16 by omega]⟩)
        · refine nv_aload_n hP 0 d_L_valued_19 rfl rfl ?_
          refine nv_bipush hP (nI 16) d_L_valued_20 (by decide) ?_
          refine nv_iload_n hP 1 d_L_valued_22 rfl rfl ?_
          refine nv_imul hP d_L_valued_23 ?_
          refine nv_iload_n hP 3 d_L_valued_24 rfl rfl ?_
          refine nv_iadd hP d_L_valued_25 ?_
          refine nv_callVI hG (c_L_force l h a σ1 K A B (16 * s + n) (by omega) hI1) k_L_force rfl ⟨rfl, rfl⟩ ⟨Nat.le_of_ble_eq_true rfl, Nat.le_of_ble_eq_true rfl⟩ rfl (Nat.le_of_ble_eq_true rfl) d_L_valued_26 (fun r_26 σ_26 q_26 => ?_)
          refine nv_ifeqR hP 35 d_L_valued_29 (by decide) (fun c_29 => ?_) (fun c_29 => ?_)
          · refine nv_iinc hP d_L_valued_35 rfl (by decide) ?_
            refine nv_goto hP 13 d_L_valued_38 (by decide) ?_
            exact nv_lv hP (lsub_c rfl (lsub_c rfl (lsub_c rfl (lsub_c rfl lsub_n)))) (ih_13 (n + 1) c σ_26 (by omega) q_26.1 (fun has v hS => by rw [hA has v hS]; show _ = sF (fun n => if has (16 * s + n) = true then 1 else 0) n + (if has (16 * s + n) = true then 1 else 0); rw [FP_0 q_26 (by omega) c_29 has v hS, if_neg (by decide)]; rfl) (by omega))
          · refine nv_iinc hP d_L_valued_32 rfl (by decide) ?_
            refine nv_iinc hP d_L_valued_35 rfl (by decide) ?_
            refine nv_goto hP 13 d_L_valued_38 (by decide) ?_
            exact nv_lv hP (lsub_c rfl (lsub_c rfl (lsub_c rfl (lsub_c rfl lsub_n)))) (ih_13 (n + 1) (c + 1) σ_26 (by omega) q_26.1 (fun has v hS => by rw [hA has v hS]; show _ = sF (fun n => if has (16 * s + n) = true then 1 else 0) n + (if has (16 * s + n) = true then 1 else 0); rw [(FP_1 q_26 (by omega) c_29 has v hS).1, if_pos rfl]) (by omega))
    exact nv_lv hP (lsub_c rfl (lsub_c rfl (lsub_c rfl (lsub_c rfl lsub_n)))) (loop_13 _ 0 0 σ (by omega) hI (fun _ _ _ => rfl) (Nat.lt_succ_self _))
  · refine nv_iconst hP (-1) d_L_valued_7 (by decide) ?_
    exact nv_iret hG d_L_valued_8 (⟨_, rfl, hI, fun has v hS => (aValued_1 (isS_f hs_1 c_4)).symm⟩)

set_option maxHeartbeats 4000000 in
/-- order -/
theorem c_L_order (l : Launch) (h : Nat) (a : Nat → Nat) (σ : SG) (K A B : Nat → Nat) (x : Int32) (hI : InvL K A B σ) : MetN l y_L_order b_L_order 3 (some .int) (rm 5 128) 0 h a σ [.ref h, .int x] (pI (fun r σ' => InvL K A B σ' ∧ ∀ has v, Sol K A B has v → r = aOrder has v x)) := by
  refine nv_entry (by decide) (Nat.le_of_ble_eq_true rfl) (by intro v hv; simp only [List.mem_cons, List.not_mem_nil, or_false] at hv; rcases hv with rfl | rfl <;> rfl) (fun G hG => ?_)
  have hP := hG.pr
  refine nv_iload_n hP 1 d_L_order_0 rfl rfl ?_
  refine nv_callSI hG (c_L_isSeries l h a σ x) k_L_isSeries rfl ⟨rfl, rfl⟩ ⟨Nat.le_of_ble_eq_true rfl, Nat.le_of_ble_eq_true rfl⟩ rfl (Nat.le_of_ble_eq_true rfl) d_L_order_1 (fun r_1 σ_1 q_1 => ?_)
  obtain ⟨e_1, hs_1⟩ := q_1
  replace e_1 := e_1.symm
  subst e_1
  refine nv_ifneR hP 9 d_L_order_4 (by decide) (fun c_4 => ?_) (fun c_4 => ?_)
  · obtain ⟨s, hs, rfl⟩ := isS_t hs_1 c_4
    refine nv_iconst hP (nI 0) d_L_order_9 (by decide) ?_
    refine nv_istore_n hP 2 d_L_order_10 rfl (by decide) ?_
    have loop_11 : ∀ (f_11 : Nat) (n : Nat) (σ1 : SG) (_ : n ≤ 16) (_ : InvL K A B σ1) (_ : ∀ has v, Sol K A B has v → ord (fun n => has (16 * s + n)) (fun n => v (16 * s + n)) 16 0 = ord (fun n => has (16 * s + n)) (fun n => v (16 * s + n)) (16 - n) n), 16 - n < f_11 → G σ1 11 [(0, .ref h), (1, .int (nI s)), (2, .int (nI n))] [] := by
      intro f_11
      induction f_11 with
      | zero => intro n σ1 hn hI1 hA hf_11; exact absurd hf_11 (Nat.not_lt_zero _)
      | succ f_11 ih_11 =>
        intro n σ1 hn hI1 hA hf_11
        refine nv_iload_n hP 2 d_L_order_11 rfl rfl ?_
        refine nv_bipush hP (nI 16) d_L_order_12 (by decide) ?_
        refine nv_cmpge hP (by omega) (by omega) 55 d_L_order_14 (by decide) (fun c_14 => ?_) (fun c_14 => ?_)
        · refine nv_bipush hP (-2) d_L_order_55 (by decide) ?_
          exact nv_iret hG d_L_order_57 (⟨_, rfl, hI1, fun has v hS => by rw [aOrder_ok hs, hA has v hS, show n = 16 by omega]; rfl⟩)
        · refine nv_aload_n hP 0 d_L_order_17 rfl rfl ?_
          refine nv_bipush hP (nI 16) d_L_order_18 (by decide) ?_
          refine nv_iload_n hP 1 d_L_order_20 rfl rfl ?_
          refine nv_imul hP d_L_order_21 ?_
          refine nv_iload_n hP 2 d_L_order_22 rfl rfl ?_
          refine nv_iadd hP d_L_order_23 ?_
          refine nv_callVI hG (c_L_force l h a σ1 K A B (16 * s + n) (by omega) hI1) k_L_force rfl ⟨rfl, rfl⟩ ⟨Nat.le_of_ble_eq_true rfl, Nat.le_of_ble_eq_true rfl⟩ rfl (Nat.le_of_ble_eq_true rfl) d_L_order_24 (fun r_24 σ_24 q_24 => ?_)
          refine nv_ifneR hP 33 d_L_order_27 (by decide) (fun c_27 => ?_) (fun c_27 => ?_)
          · refine nv_aload_n hP 0 d_L_order_33 rfl rfl ?_
            refine nv_getf hG ff_L_4 (by decide) d_L_order_34 ?_
            refine nv_bipush hP (nI 16) d_L_order_37 (by decide) ?_
            refine nv_iload_n hP 1 d_L_order_39 rfl rfl ?_
            refine nv_imul hP d_L_order_40 ?_
            refine nv_iload_n hP 2 d_L_order_41 rfl rfl ?_
            refine nv_iadd hP d_L_order_42 ?_
            refine nv_iald hG 128 (by decide) rfl rfl (by omega) d_L_order_43 ?_
            have b1 := q_24.1.2.2.2.2.1 (16 * s + n)
            refine nv_ifeq hP (by omega) 49 d_L_order_44 (by decide) (fun c_44 => ?_) (fun c_44 => ?_)
            · refine nv_iinc hP d_L_order_49 rfl (by decide) ?_
              refine nv_goto hP 11 d_L_order_52 (by decide) ?_
              exact nv_lv hP (lsub_c rfl (lsub_c rfl (lsub_c rfl lsub_n))) (ih_11 (n + 1) σ_24 (by omega) q_24.1 (fun has v hS => (hA has v hS).trans (ord_s (f := fun n => has (16 * s + n)) (g := fun n => v (16 * s + n)) (n := n) (by omega) (FP_1 q_24 (by omega) c_27 has v hS).1 ((FP_1 q_24 (by omega) c_27 has v hS).2.trans c_44))) (by omega))
            · refine nv_iload_n hP 2 d_L_order_47 rfl rfl ?_
              exact nv_iret hG d_L_order_48 (⟨_, rfl, q_24.1, fun has v hS => by rw [aOrder_ok hs, hA has v hS, ord_v (f := fun n => has (16 * s + n)) (g := fun n => v (16 * s + n)) (n := n) (by omega) (FP_1 q_24 (by omega) c_27 has v hS).1 (by show v (16 * s + n) ≠ 0; rw [(FP_1 q_24 (by omega) c_27 has v hS).2]; exact c_44)]⟩)
          · refine nv_bipush hP (-2) d_L_order_30 (by decide) ?_
            exact nv_iret hG d_L_order_32 (⟨_, rfl, q_24.1, fun has v hS => by rw [aOrder_ok hs, hA has v hS, ord_e (f := fun n => has (16 * s + n)) (n := n) (by omega) (FP_0 q_24 (by omega) c_27 has v hS)]⟩)
    exact nv_lv hP (lsub_c rfl (lsub_c rfl (lsub_c rfl lsub_n))) (loop_11 _ 0 σ (by omega) hI (fun _ _ _ => rfl) (Nat.lt_succ_self _))
  · refine nv_iconst hP (-1) d_L_order_7 (by decide) ?_
    exact nv_iret hG d_L_order_8 (⟨_, rfl, hI, fun has v hS => (aOrder_1 (isS_f hs_1 c_4)).symm⟩)

set_option maxHeartbeats 4000000 in
/-- agreeing -/
theorem c_L_agreeing (l : Launch) (h : Nat) (a : Nat → Nat) (σ : SG) (K A B : Nat → Nat) (x y : Int32) (hI : InvL K A B σ) : MetN l y_L_agreeing b_L_agreeing 4 (some .int) (rm 5 128) 0 h a σ [.ref h, .int x, .int y] (pI (fun r σ' => InvL K A B σ' ∧ ∀ has v, Sol K A B has v → r = aAgree has v x y)) := by
  refine nv_entry (by decide) (Nat.le_of_ble_eq_true rfl) (by intro v hv; simp only [List.mem_cons, List.not_mem_nil, or_false] at hv; rcases hv with rfl | rfl | rfl <;> rfl) (fun G hG => ?_)
  have hP := hG.pr
  refine nv_iload_n hP 1 d_L_agreeing_0 rfl rfl ?_
  refine nv_callSI hG (c_L_isSeries l h a σ x) k_L_isSeries rfl ⟨rfl, rfl⟩ ⟨Nat.le_of_ble_eq_true rfl, Nat.le_of_ble_eq_true rfl⟩ rfl (Nat.le_of_ble_eq_true rfl) d_L_agreeing_1 (fun r_1 σ_1 q_1 => ?_)
  obtain ⟨e_1, hs_1⟩ := q_1
  replace e_1 := e_1.symm
  subst e_1
  refine nv_ifeqR hP 14 d_L_agreeing_4 (by decide) (fun c_4 => ?_) (fun c_4 => ?_)
  · refine nv_iconst hP (-1) d_L_agreeing_14 (by decide) ?_
    exact nv_iret hG d_L_agreeing_15 (⟨_, rfl, hI, fun has v hS => (aAgree_1 (isS_f hs_1 c_4)).symm⟩)
  · obtain ⟨s, hs, rfl⟩ := isS_t hs_1 c_4
    refine nv_iload_n hP 2 d_L_agreeing_7 rfl rfl ?_
    refine nv_callSI hG (c_L_isSeries l h a σ y) k_L_isSeries rfl ⟨rfl, rfl⟩ ⟨Nat.le_of_ble_eq_true rfl, Nat.le_of_ble_eq_true rfl⟩ rfl (Nat.le_of_ble_eq_true rfl) d_L_agreeing_8 (fun r_8 σ_8 q_8 => ?_)
    obtain ⟨e_8, hs_8⟩ := q_8
    replace e_8 := e_8.symm
    subst e_8
    refine nv_ifneR hP 16 d_L_agreeing_11 (by decide) (fun c_11 => ?_) (fun c_11 => ?_)
    · obtain ⟨t, ht, rfl⟩ := isS_t hs_8 c_11
      refine nv_iconst hP (nI 0) d_L_agreeing_16 (by decide) ?_
      refine nv_istore_n hP 3 d_L_agreeing_17 rfl (by decide) ?_
      have loop_18 : ∀ (f_18 : Nat) (n : Nat) (σ1 : SG) (_ : n ≤ 16) (_ : InvL K A B σ1) (_ : ∀ has v, Sol K A B has v → lead (fun n => has (16 * s + n) && has (16 * t + n) && (v (16 * s + n) == v (16 * t + n))) 16 0 = lead (fun n => has (16 * s + n) && has (16 * t + n) && (v (16 * s + n) == v (16 * t + n))) (16 - n) n), 16 - n < f_18 → G σ1 18 [(0, .ref h), (1, .int (nI s)), (2, .int (nI t)), (3, .int (nI n))] [] := by
        intro f_18
        induction f_18 with
        | zero => intro n σ1 hn hI1 hA hf_18; exact absurd hf_18 (Nat.not_lt_zero _)
        | succ f_18 ih_18 =>
          intro n σ1 hn hI1 hA hf_18
          refine nv_iload_n hP 3 d_L_agreeing_18 rfl rfl ?_
          refine nv_bipush hP (nI 16) d_L_agreeing_19 (by decide) ?_
          refine nv_cmpge hP (by omega) (by omega) 85 d_L_agreeing_21 (by decide) (fun c_21 => ?_) (fun c_21 => ?_)
          · refine nv_bipush hP (nI 16) d_L_agreeing_85 (by decide) ?_
            exact nv_iret hG d_L_agreeing_87 (⟨_, rfl, hI1, fun has v hS => by rw [aAgree_ok hs ht, hA has v hS, show n = 16 by omega]; rfl⟩)
          · refine nv_aload_n hP 0 d_L_agreeing_24 rfl rfl ?_
            refine nv_bipush hP (nI 16) d_L_agreeing_25 (by decide) ?_
            refine nv_iload_n hP 1 d_L_agreeing_27 rfl rfl ?_
            refine nv_imul hP d_L_agreeing_28 ?_
            refine nv_iload_n hP 3 d_L_agreeing_29 rfl rfl ?_
            refine nv_iadd hP d_L_agreeing_30 ?_
            refine nv_callVI hG (c_L_force l h a σ1 K A B (16 * s + n) (by omega) hI1) k_L_force rfl ⟨rfl, rfl⟩ ⟨Nat.le_of_ble_eq_true rfl, Nat.le_of_ble_eq_true rfl⟩ rfl (Nat.le_of_ble_eq_true rfl) d_L_agreeing_31 (fun r_31 σ_31 q_31 => ?_)
            refine nv_ifeqR hP 50 d_L_agreeing_34 (by decide) (fun c_34 => ?_) (fun c_34 => ?_)
            · refine nv_iload_n hP 3 d_L_agreeing_50 rfl rfl ?_
              exact nv_iret hG d_L_agreeing_51 (⟨_, rfl, q_31.1, fun has v hS => by rw [aAgree_ok hs ht, hA has v hS, lead_e (f := fun n => has (16 * s + n) && has (16 * t + n) && (v (16 * s + n) == v (16 * t + n))) (n := n) (by omega) (by show (has (16 * s + n) && has (16 * t + n) && (v (16 * s + n) == v (16 * t + n))) = false; rw [FP_0 q_31 (by omega) c_34 has v hS]; rfl)]⟩)
            · refine nv_aload_n hP 0 d_L_agreeing_37 rfl rfl ?_
              refine nv_bipush hP (nI 16) d_L_agreeing_38 (by decide) ?_
              refine nv_iload_n hP 2 d_L_agreeing_40 rfl rfl ?_
              refine nv_imul hP d_L_agreeing_41 ?_
              refine nv_iload_n hP 3 d_L_agreeing_42 rfl rfl ?_
              refine nv_iadd hP d_L_agreeing_43 ?_
              refine nv_callVI hG (c_L_force l h a σ_31 K A B (16 * t + n) (by omega) q_31.1) k_L_force rfl ⟨rfl, rfl⟩ ⟨Nat.le_of_ble_eq_true rfl, Nat.le_of_ble_eq_true rfl⟩ rfl (Nat.le_of_ble_eq_true rfl) d_L_agreeing_44 (fun r_44 σ_44 q_44 => ?_)
              refine nv_ifneR hP 52 d_L_agreeing_47 (by decide) (fun c_47 => ?_) (fun c_47 => ?_)
              · have e1 := FP_1 q_31 (by omega) c_34
                have e2 := FP_1 q_44 (by omega) c_47
                rw [← FP_k q_44 (by omega) (FP_2 q_31 c_34)] at e1
                refine nv_aload_n hP 0 d_L_agreeing_52 rfl rfl ?_
                refine nv_getf hG ff_L_4 (by decide) d_L_agreeing_53 ?_
                refine nv_bipush hP (nI 16) d_L_agreeing_56 (by decide) ?_
                refine nv_iload_n hP 1 d_L_agreeing_58 rfl rfl ?_
                refine nv_imul hP d_L_agreeing_59 ?_
                refine nv_iload_n hP 3 d_L_agreeing_60 rfl rfl ?_
                refine nv_iadd hP d_L_agreeing_61 ?_
                refine nv_iald hG 128 (by decide) rfl rfl (by omega) d_L_agreeing_62 ?_
                refine nv_aload_n hP 0 d_L_agreeing_63 rfl rfl ?_
                refine nv_getf hG ff_L_4 (by decide) d_L_agreeing_64 ?_
                refine nv_bipush hP (nI 16) d_L_agreeing_67 (by decide) ?_
                refine nv_iload_n hP 2 d_L_agreeing_69 rfl rfl ?_
                refine nv_imul hP d_L_agreeing_70 ?_
                refine nv_iload_n hP 3 d_L_agreeing_71 rfl rfl ?_
                refine nv_iadd hP d_L_agreeing_72 ?_
                refine nv_iald hG 128 (by decide) rfl rfl (by omega) d_L_agreeing_73 ?_
                have b1 := q_44.1.2.2.2.2.1 (16 * s + n)
                have b2 := q_44.1.2.2.2.2.1 (16 * t + n)
                refine nv_cmpeq hP (by omega) (by omega) 79 d_L_agreeing_74 (by decide) (fun c_74 => ?_) (fun c_74 => ?_)
                · refine nv_iinc hP d_L_agreeing_79 rfl (by decide) ?_
                  refine nv_goto hP 18 d_L_agreeing_82 (by decide) ?_
                  exact nv_lv hP (lsub_c rfl (lsub_c rfl (lsub_c rfl (lsub_c rfl lsub_n)))) (ih_18 (n + 1) σ_44 (by omega) q_44.1 (fun has v hS => (hA has v hS).trans (lead_s (f := fun n => has (16 * s + n) && has (16 * t + n) && (v (16 * s + n) == v (16 * t + n))) (n := n) (by omega) (by show (has (16 * s + n) && has (16 * t + n) && (v (16 * s + n) == v (16 * t + n))) = true; rw [(e1 has v hS).1, (e2 has v hS).1, (e1 has v hS).2, (e2 has v hS).2, c_74]; simp))) (by omega))
                · refine nv_iload_n hP 3 d_L_agreeing_77 rfl rfl ?_
                  exact nv_iret hG d_L_agreeing_78 (⟨_, rfl, q_44.1, fun has v hS => by rw [aAgree_ok hs ht, hA has v hS, lead_e (f := fun n => has (16 * s + n) && has (16 * t + n) && (v (16 * s + n) == v (16 * t + n))) (n := n) (by omega) (by show (has (16 * s + n) && has (16 * t + n) && (v (16 * s + n) == v (16 * t + n))) = false; rw [(e1 has v hS).2, (e2 has v hS).2]; simp [c_74])]⟩)
              · refine nv_iload_n hP 3 d_L_agreeing_50 rfl rfl ?_
                exact nv_iret hG d_L_agreeing_51 (⟨_, rfl, q_44.1, fun has v hS => by rw [aAgree_ok hs ht, hA has v hS, lead_e (f := fun n => has (16 * s + n) && has (16 * t + n) && (v (16 * s + n) == v (16 * t + n))) (n := n) (by omega) (by show (has (16 * s + n) && has (16 * t + n) && (v (16 * s + n) == v (16 * t + n))) = false; rw [FP_0 q_44 (by omega) c_47 has v hS]; simp)]⟩)
      exact nv_lv hP (lsub_c rfl (lsub_c rfl (lsub_c rfl (lsub_c rfl lsub_n)))) (loop_18 _ 0 σ (by omega) hI (fun _ _ _ => rfl) (Nat.lt_succ_self _))
    · refine nv_iconst hP (-1) d_L_agreeing_14 (by decide) ?_
      exact nv_iret hG d_L_agreeing_15 (⟨_, rfl, hI, fun has v hS => (aAgree_2 hs (isS_f hs_8 c_11)).symm⟩)
end
section
theorem dn_sub (t : Nat) : nI t - nI 1 = dn t := by
  unfold dn
  rw [Int32.sub_eq_add_neg, show -nI 1 = Int32.ofInt (-1) from by decide]
theorem sF_head (g : Nat → Nat) : ∀ n, sF g (n + 1) = g 0 + sF (fun j => g (j + 1)) n
  | 0 => by show 0 + g 0 = g 0 + 0; omega
  | n + 1 => by
    show sF g (n + 1) + g (n + 1) = g 0 + (sF (fun j => g (j + 1)) n + g (n + 1))
    rw [sF_head g n]
    omega
theorem sF_mulr (f : Nat → Nat) (c : Nat) : ∀ n, sF (fun j => f j * c) n = sF f n * c
  | 0 => (Nat.zero_mul c).symm
  | n + 1 => by
    show sF (fun j => f j * c) n + f n * c = (sF f n + f n) * c
    rw [sF_mulr f c n, Nat.add_mul]
theorem hor_s {f : Nat → Nat} {x i t : Nat} (hi : i < t) : (sF (fun j => f (i + 1 + j) * x ^ j) (t - (i + 1)) % 97 * x + f i) % 97 = sF (fun j => f (i + j) * x ^ j) (t - i) % 97 := by
  rw [show t - i = (t - (i + 1)) + 1 by omega, sF_head]
  rw [show sF (fun j => f (i + (j + 1)) * x ^ (j + 1)) (t - (i + 1)) = sF (fun j => f (i + 1 + j) * x ^ j) (t - (i + 1)) * x from by
    rw [← sF_mulr]
    exact sF_congr _ (fun j _ => by rw [Nat.pow_succ, Nat.mul_assoc, show i + (j + 1) = i + 1 + j by omega])]
  rw [Nat.pow_zero, Nat.mul_one, show f (i + 0) = f i from rfl, Nat.add_comm (f i), Nat.add_mod, Nat.mod_mul_mod, ← Nat.add_mod]
theorem sum_in {y z : Int32} (h1 : ¬ y < 0) (h2 : ¬ z < y) (h3 : z < nI 16) : ∃ i j, i ≤ j ∧ j < 16 ∧ y = nI i ∧ z = nI j := by
  have h4 : ¬ z < 0 := by
    rw [Int32.lt_iff_toInt_lt] at h1 h2 ⊢
    omega
  obtain ⟨j, hj, rfl⟩ := in_lt (by decide) h4 h3
  obtain ⟨i, hi, rfl⟩ := in_le (m := j) (by omega) h1 (not_lt_le h2)
  exact ⟨i, j, by omega, hj, rfl, rfl⟩

set_option maxHeartbeats 4000000 in
/-- evaluate -/
theorem c_L_evaluate (l : Launch) (h : Nat) (a : Nat → Nat) (σ : SG) (K A B : Nat → Nat) (x y z : Int32) (hI : InvL K A B σ) : MetN l y_L_evaluate b_L_evaluate 7 (some .int) (rm 5 128) 0 h a σ [.ref h, .int x, .int y, .int z] (pI (fun r σ' => InvL K A B σ' ∧ ∀ has v, Sol K A B has v → r = aEval has v x y z)) := by
  refine nv_entry (by decide) (Nat.le_of_ble_eq_true rfl) (by intro v hv; simp only [List.mem_cons, List.not_mem_nil, or_false] at hv; rcases hv with rfl | rfl | rfl | rfl <;> rfl) (fun G hG => ?_)
  have hP := hG.pr
  refine nv_iload_n hP 1 d_L_evaluate_0 rfl rfl ?_
  refine nv_callSI hG (c_L_isSeries l h a σ x) k_L_isSeries rfl ⟨rfl, rfl⟩ ⟨Nat.le_of_ble_eq_true rfl, Nat.le_of_ble_eq_true rfl⟩ rfl (Nat.le_of_ble_eq_true rfl) d_L_evaluate_1 (fun r_1 σ_1 q_1 => ?_)
  obtain ⟨e_1, hs_1⟩ := q_1
  replace e_1 := e_1.symm
  subst e_1
  refine nv_ifneR hP 9 d_L_evaluate_4 (by decide) (fun c_4 => ?_) (fun c_4 => ?_)
  · obtain ⟨s, hs, rfl⟩ := isS_t hs_1 c_4
    refine nv_iload_n hP 2 d_L_evaluate_9 rfl rfl ?_
    refine nv_ifltR hP 19 d_L_evaluate_10 (by decide) (fun c_10 => ?_) (fun c_10 => ?_)
    · refine nv_bipush hP (-2) d_L_evaluate_19 (by decide) ?_
      exact nv_iret hG d_L_evaluate_21 (⟨_, rfl, hI, fun has v hS => (aEval_2 hs (ix_neg c_10)).symm⟩)
    · refine nv_iload_n hP 2 d_L_evaluate_13 rfl rfl ?_
      refine nv_bipush hP (nI 16) d_L_evaluate_14 (by decide) ?_
      refine nv_cmpleR hP 22 d_L_evaluate_16 (by decide) (fun c_16 => ?_) (fun c_16 => ?_)
      · obtain ⟨t, ht, rfl⟩ := in_le (by decide) c_10 c_16
        refine nv_iload_n hP 3 d_L_evaluate_22 rfl rfl ?_
        refine nv_callSI hG (c_L_reduced l h a σ z) k_L_reduced rfl ⟨rfl, rfl⟩ ⟨Nat.le_of_ble_eq_true rfl, Nat.le_of_ble_eq_true rfl⟩ rfl (Nat.le_of_ble_eq_true rfl) d_L_evaluate_23 (fun r_23 σ_23 q_23 => ?_)
        obtain ⟨e_23, rfl⟩ := q_23
        replace e_23 := e_23.symm
        subst e_23
        refine nv_istore hP d_L_evaluate_26 (by decide) ?_
        refine nv_iconst hP (nI 0) d_L_evaluate_28 (by decide) ?_
        refine nv_istore hP d_L_evaluate_29 (by decide) ?_
        refine nv_iload_n hP 2 d_L_evaluate_31 rfl rfl ?_
        refine nv_iconst hP (nI 1) d_L_evaluate_32 (by decide) ?_
        refine nv_isubR hP d_L_evaluate_33 ?_
        rw [dn_sub]
        refine nv_istore hP d_L_evaluate_34 (by decide) ?_
        have loop_36 : ∀ (f_36 : Nat) (m tt : Nat) (σ1 : SG) (_ : m ≤ t) (_ : tt < 97) (_ : InvL K A B σ1) (_ : ∀ has v, Sol K A B has v → (∀ i, m ≤ i → i < t → has (16 * s + i) = true) ∧ tt = sF (fun j => v (16 * s + (m + j)) * rd z ^ j) (t - m) % 97), m < f_36 → G σ1 36 [(0, .ref h), (1, .int (nI s)), (4, .int (nI (rd z))), (5, .int (nI tt)), (6, .int (dn m))] [] := by
          intro f_36
          induction f_36 with
          | zero => intro m tt σ1 hm htt hI1 hA hf_36; exact absurd hf_36 (Nat.not_lt_zero _)
          | succ f_36 ih_36 =>
            intro m tt σ1 hm htt hI1 hA hf_36
            refine nv_iload hP d_L_evaluate_36 rfl ?_
            refine nv_ifltR hP 87 d_L_evaluate_38 (by decide) (fun c_38 => ?_) (fun c_38 => ?_)
            · have hm0 : m = 0 := dn_neg (by omega) c_38
              subst hm0
              refine nv_iload hP d_L_evaluate_87 rfl ?_
              exact nv_iret hG d_L_evaluate_89 (⟨_, rfl, hI1, fun has v hS => by
                obtain ⟨g1, g2⟩ := hA has v hS
                rw [aEval_ok hs ht, alB_t (fun i hi => g1 i (by omega) hi), if_pos rfl, g2, Nat.sub_zero]
                exact congrArg (fun x => nI (x % 97)) (sF_congr t (fun j _ => by rw [Nat.zero_add]))⟩)
            · obtain ⟨i, rfl⟩ : ∃ i, m = i + 1 := ⟨m - 1, by have := dn_nn c_38; omega⟩
              rw [dn_s]
              refine nv_aload_n hP 0 d_L_evaluate_41 rfl rfl ?_
              refine nv_bipush hP (nI 16) d_L_evaluate_42 (by decide) ?_
              refine nv_iload_n hP 1 d_L_evaluate_44 rfl rfl ?_
              refine nv_imul hP d_L_evaluate_45 ?_
              refine nv_iload hP d_L_evaluate_46 rfl ?_
              refine nv_iadd hP d_L_evaluate_48 ?_
              refine nv_callVI hG (c_L_force l h a σ1 K A B (16 * s + i) (by omega) hI1) k_L_force rfl ⟨rfl, rfl⟩ ⟨Nat.le_of_ble_eq_true rfl, Nat.le_of_ble_eq_true rfl⟩ rfl (Nat.le_of_ble_eq_true rfl) d_L_evaluate_49 (fun r_49 σ_49 q_49 => ?_)
              refine nv_ifneR hP 58 d_L_evaluate_52 (by decide) (fun c_52 => ?_) (fun c_52 => ?_)
              · refine nv_iload hP d_L_evaluate_58 rfl ?_
                refine nv_iload hP d_L_evaluate_60 rfl ?_
                refine nv_imul hP d_L_evaluate_62 ?_
                refine nv_aload_n hP 0 d_L_evaluate_63 rfl rfl ?_
                refine nv_getf hG ff_L_4 (by decide) d_L_evaluate_64 ?_
                refine nv_bipush hP (nI 16) d_L_evaluate_67 (by decide) ?_
                refine nv_iload_n hP 1 d_L_evaluate_69 rfl rfl ?_
                refine nv_imul hP d_L_evaluate_70 ?_
                refine nv_iload hP d_L_evaluate_71 rfl ?_
                refine nv_iadd hP d_L_evaluate_73 ?_
                refine nv_iald hG 128 (by decide) rfl rfl (by omega) d_L_evaluate_74 ?_
                refine nv_iadd hP d_L_evaluate_75 ?_
                have b1 := m97 htt (rd_lt z)
                have b2 := q_49.1.2.2.2.2.1 (16 * s + i)
                refine nv_bipush hP (nI 97) d_L_evaluate_76 (by decide) ?_
                refine nv_irem hP (by omega) (by omega) (by omega) d_L_evaluate_78 ?_
                refine nv_istore hP d_L_evaluate_79 (by decide) ?_
                refine nv_iincm hP d_L_evaluate_81 rfl (by decide) ?_
                refine nv_goto hP 36 d_L_evaluate_84 (by decide) ?_
                exact nv_lv hP (lsub_c rfl (lsub_c rfl (lsub_c rfl (lsub_c rfl (lsub_c rfl lsub_n))))) (ih_36 i _ σ_49 (by omega) (Nat.mod_lt _ (by decide)) q_49.1 (fun has v hS => by
                  obtain ⟨g1, g2⟩ := hA has v hS
                  obtain ⟨f1, f2⟩ := FP_1 q_49 (by omega) c_52 has v hS
                  refine ⟨fun j h1 h2 => ?_, ?_⟩
                  · by_cases e : j = i
                    · rw [e]; exact f1
                    · exact g1 j (by omega) h2
                  · rw [g2, ← f2]
                    exact hor_s (f := fun n => v (16 * s + n)) (by omega)) (by omega))
              · refine nv_bipush hP (-3) d_L_evaluate_55 (by decide) ?_
                exact nv_iret hG d_L_evaluate_57 (⟨_, rfl, q_49.1, fun has v hS => by rw [aEval_ok hs ht, alB_f (i := i) (by omega) (FP_0 q_49 (by omega) c_52 has v hS), if_neg (by decide)]⟩)
        exact nv_lv hP (lsub_c rfl (lsub_c rfl (lsub_c rfl (lsub_c rfl (lsub_c rfl lsub_n))))) (loop_36 _ t 0 σ (Nat.le_refl _) (by decide) hI (fun has v hS => ⟨fun i h1 h2 => by omega, by rw [Nat.sub_self]; rfl⟩) (Nat.lt_succ_self _))
      · refine nv_bipush hP (-2) d_L_evaluate_19 (by decide) ?_
        exact nv_iret hG d_L_evaluate_21 (⟨_, rfl, hI, fun has v hS => (aEval_2 hs (ix_ge (gt_ge (by decide) (not_le_lt c_16)))).symm⟩)
  · refine nv_iconst hP (-1) d_L_evaluate_7 (by decide) ?_
    exact nv_iret hG d_L_evaluate_8 (⟨_, rfl, hI, fun has v hS => (aEval_1 (isS_f hs_1 c_4)).symm⟩)

set_option maxHeartbeats 4000000 in
/-- sum -/
theorem c_L_sum (l : Launch) (h : Nat) (a : Nat → Nat) (σ : SG) (K A B : Nat → Nat) (x y z : Int32) (hI : InvL K A B σ) : MetN l y_L_sum b_L_sum 6 (some .int) (rm 5 128) 0 h a σ [.ref h, .int x, .int y, .int z] (pI (fun r σ' => InvL K A B σ' ∧ ∀ has v, Sol K A B has v → r = aSum has v x y z)) := by
  refine nv_entry (by decide) (Nat.le_of_ble_eq_true rfl) (by intro v hv; simp only [List.mem_cons, List.not_mem_nil, or_false] at hv; rcases hv with rfl | rfl | rfl | rfl <;> rfl) (fun G hG => ?_)
  have hP := hG.pr
  refine nv_iload_n hP 1 d_L_sum_0 rfl rfl ?_
  refine nv_callSI hG (c_L_isSeries l h a σ x) k_L_isSeries rfl ⟨rfl, rfl⟩ ⟨Nat.le_of_ble_eq_true rfl, Nat.le_of_ble_eq_true rfl⟩ rfl (Nat.le_of_ble_eq_true rfl) d_L_sum_1 (fun r_1 σ_1 q_1 => ?_)
  obtain ⟨e_1, hs_1⟩ := q_1
  replace e_1 := e_1.symm
  subst e_1
  refine nv_ifneR hP 9 d_L_sum_4 (by decide) (fun c_4 => ?_) (fun c_4 => ?_)
  · obtain ⟨s, hs, rfl⟩ := isS_t hs_1 c_4
    refine nv_iload_n hP 2 d_L_sum_9 rfl rfl ?_
    refine nv_ifltR hP 24 d_L_sum_10 (by decide) (fun c_10 => ?_) (fun c_10 => ?_)
    · refine nv_bipush hP (-2) d_L_sum_24 (by decide) ?_
      exact nv_iret hG d_L_sum_26 (⟨_, rfl, hI, fun has v hS => (aSum_2 hs c_10).symm⟩)
    · refine nv_iload_n hP 2 d_L_sum_13 rfl rfl ?_
      refine nv_iload_n hP 3 d_L_sum_14 rfl rfl ?_
      refine nv_cmpgtR hP 24 d_L_sum_15 (by decide) (fun c_15 => ?_) (fun c_15 => ?_)
      · refine nv_bipush hP (-2) d_L_sum_24 (by decide) ?_
        exact nv_iret hG d_L_sum_26 (⟨_, rfl, hI, fun has v hS => (aSum_3 hs c_15).symm⟩)
      · refine nv_iload_n hP 3 d_L_sum_18 rfl rfl ?_
        refine nv_bipush hP (nI 16) d_L_sum_19 (by decide) ?_
        refine nv_cmpltR hP 27 d_L_sum_21 (by decide) (fun c_21 => ?_) (fun c_21 => ?_)
        · obtain ⟨i, j, hij, hj, rfl, rfl⟩ := sum_in c_10 c_15 c_21
          refine nv_iconst hP (nI 0) d_L_sum_27 (by decide) ?_
          refine nv_istore hP d_L_sum_28 (by decide) ?_
          refine nv_iload_n hP 2 d_L_sum_30 rfl rfl ?_
          refine nv_istore hP d_L_sum_31 (by decide) ?_
          have loop_33 : ∀ (f_33 : Nat) (n tt : Nat) (σ1 : SG) (_ : i ≤ n) (_ : n ≤ j + 1) (_ : tt < 97) (_ : InvL K A B σ1) (_ : ∀ has v, Sol K A B has v → (∀ m, m < n - i → has (16 * s + (i + m)) = true) ∧ tt = sF (fun m => v (16 * s + (i + m))) (n - i) % 97), j + 1 - n < f_33 → G σ1 33 [(0, .ref h), (1, .int (nI s)), (3, .int (nI j)), (4, .int (nI tt)), (5, .int (nI n))] [] := by
            intro f_33
            induction f_33 with
            | zero => intro n tt σ1 hn1 hn2 htt hI1 hA hf_33; exact absurd hf_33 (Nat.not_lt_zero _)
            | succ f_33 ih_33 =>
              intro n tt σ1 hn1 hn2 htt hI1 hA hf_33
              refine nv_iload hP d_L_sum_33 rfl ?_
              refine nv_iload_n hP 3 d_L_sum_35 rfl rfl ?_
              refine nv_cmpgt hP (by omega) (by omega) 82 d_L_sum_36 (by decide) (fun c_36 => ?_) (fun c_36 => ?_)
              · refine nv_iload hP d_L_sum_82 rfl ?_
                exact nv_iret hG d_L_sum_84 (⟨_, rfl, hI1, fun has v hS => by
                  obtain ⟨g1, g2⟩ := hA has v hS
                  rw [show n = j + 1 by omega] at g1 g2
                  rw [aSum_ok hs hij hj, alB_t g1, if_pos rfl, g2]⟩)
              · refine nv_aload_n hP 0 d_L_sum_39 rfl rfl ?_
                refine nv_bipush hP (nI 16) d_L_sum_40 (by decide) ?_
                refine nv_iload_n hP 1 d_L_sum_42 rfl rfl ?_
                refine nv_imul hP d_L_sum_43 ?_
                refine nv_iload hP d_L_sum_44 rfl ?_
                refine nv_iadd hP d_L_sum_46 ?_
                refine nv_callVI hG (c_L_force l h a σ1 K A B (16 * s + n) (by omega) hI1) k_L_force rfl ⟨rfl, rfl⟩ ⟨Nat.le_of_ble_eq_true rfl, Nat.le_of_ble_eq_true rfl⟩ rfl (Nat.le_of_ble_eq_true rfl) d_L_sum_47 (fun r_47 σ_47 q_47 => ?_)
                refine nv_ifneR hP 56 d_L_sum_50 (by decide) (fun c_50 => ?_) (fun c_50 => ?_)
                · refine nv_iload hP d_L_sum_56 rfl ?_
                  refine nv_aload_n hP 0 d_L_sum_58 rfl rfl ?_
                  refine nv_getf hG ff_L_4 (by decide) d_L_sum_59 ?_
                  refine nv_bipush hP (nI 16) d_L_sum_62 (by decide) ?_
                  refine nv_iload_n hP 1 d_L_sum_64 rfl rfl ?_
                  refine nv_imul hP d_L_sum_65 ?_
                  refine nv_iload hP d_L_sum_66 rfl ?_
                  refine nv_iadd hP d_L_sum_68 ?_
                  refine nv_iald hG 128 (by decide) rfl rfl (by omega) d_L_sum_69 ?_
                  refine nv_iadd hP d_L_sum_70 ?_
                  have b2 := q_47.1.2.2.2.2.1 (16 * s + n)
                  refine nv_bipush hP (nI 97) d_L_sum_71 (by decide) ?_
                  refine nv_irem hP (by omega) (by omega) (by omega) d_L_sum_73 ?_
                  refine nv_istore hP d_L_sum_74 (by decide) ?_
                  refine nv_iinc hP d_L_sum_76 rfl (by decide) ?_
                  refine nv_goto hP 33 d_L_sum_79 (by decide) ?_
                  exact nv_lv hP (lsub_c rfl (lsub_c rfl (lsub_c rfl (lsub_c rfl (lsub_c rfl lsub_n))))) (ih_33 (n + 1) _ σ_47 (by omega) (by omega) (Nat.mod_lt _ (by decide)) q_47.1 (fun has v hS => by
                    obtain ⟨g1, g2⟩ := hA has v hS
                    obtain ⟨f1, f2⟩ := FP_1 q_47 (by omega) c_50 has v hS
                    refine ⟨fun m h1 => ?_, ?_⟩
                    · by_cases e : m = n - i
                      · rw [e, show i + (n - i) = n by omega]; exact f1
                      · exact g1 m (by omega)
                    · exact sF_step hn1 g2 (by show _ = v (16 * s + (i + (n - i))); rw [show i + (n - i) = n by omega, f2])) (by omega))
                · refine nv_bipush hP (-3) d_L_sum_53 (by decide) ?_
                  exact nv_iret hG d_L_sum_55 (⟨_, rfl, q_47.1, fun has v hS => by rw [aSum_ok hs hij hj, alB_f (i := n - i) (by omega) (by rw [show i + (n - i) = n by omega]; exact FP_0 q_47 (by omega) c_50 has v hS), if_neg (by decide)]⟩)
          exact nv_lv hP (lsub_c rfl (lsub_c rfl (lsub_c rfl (lsub_c rfl (lsub_c rfl lsub_n))))) (loop_33 _ i 0 σ (Nat.le_refl _) (by omega) (by decide) hI (fun has v hS => ⟨fun m h1 => by omega, by rw [Nat.sub_self]; rfl⟩) (Nat.lt_succ_self _))
        · refine nv_bipush hP (-2) d_L_sum_24 (by decide) ?_
          exact nv_iret hG d_L_sum_26 (⟨_, rfl, hI, fun has v hS => (aSum_4 hs (not_lt_le c_21)).symm⟩)
  · refine nv_iconst hP (-1) d_L_sum_7 (by decide) ?_
    exact nv_iret hG d_L_sum_8 (⟨_, rfl, hI, fun has v hS => (aSum_1 (isS_f hs_1 c_4)).symm⟩)
end
section
theorem two_iff {k : Nat} : two k = true ↔ (k = 2 ∨ k = 3 ∨ k = 9) := by
  unfold two
  simp only [Bool.or_eq_true, decide_eq_true_eq]
  omega
section Dfn
variable {K A B : Nat → Nat} {x k y z : Int32} {s kk : Nat}
theorem dfn_1 (h : ¬ isS x) : dfn K A B x k y z = (-1, K, A, B) := by unfold dfn; rw [ix_S h]
theorem dfn_2 (hs : s < 8) (h : ix 10 k = none) : dfn K A B (nI s) k y z = (-2, K, A, B) := by unfold dfn; rw [ix_nI hs (by decide), h]
theorem dfn_3 (hs : s < 8) (hk : kk < 10) (h1 : 1 < kk) (h : ¬ isS y) : dfn K A B (nI s) (nI kk) y z = (-3, K, A, B) := by
  unfold dfn
  rw [ix_nI hs (by decide), ix_nI hk (by decide)]
  show (if 1 < kk ∧ ix 8 y = none then (-3, K, A, B) else _) = _
  rw [if_pos ⟨h1, ix_S h⟩]
theorem isS_ix {y : Int32} (h : isS y) : ¬ ix 8 y = none := by
  obtain ⟨j, hj, rfl⟩ := h
  rw [ix_nI hj (by decide)]
  intro e
  cases e
theorem dfn_4 (hs : s < 8) (hk : kk < 10) (h1 : kk ≤ 1 ∨ isS y) (h2 : two kk = true) (h : ¬ isS z) : dfn K A B (nI s) (nI kk) y z = (-4, K, A, B) := by
  unfold dfn
  rw [ix_nI hs (by decide), ix_nI hk (by decide)]
  show (if 1 < kk ∧ ix 8 y = none then (-3, K, A, B) else if two kk = true ∧ ix 8 z = none then (-4, K, A, B) else _) = _
  rw [if_neg (fun e => by rcases h1 with q | q; · omega
                          · exact isS_ix q e.2), if_pos ⟨h2, ix_S h⟩]
theorem dfn_ok (hs : s < 8) (hk : kk < 10) (h1 : kk ≤ 1 ∨ isS y) (h2 : two kk = true → isS z) {ya zb : Nat} (hya : ya = if 1 < kk then (ix 8 y).getD 0 else 0) (hzb : zb = if two kk = true then (ix 8 z).getD 0 else rd z) : dfn K A B (nI s) (nI kk) y z = (nI (K s), st1 K s kk, st1 A s ya, st1 B s zb) := by
  unfold dfn
  rw [ix_nI hs (by decide), ix_nI hk (by decide)]
  show (if 1 < kk ∧ ix 8 y = none then (-3, K, A, B) else if two kk = true ∧ ix 8 z = none then (-4, K, A, B) else (nI (K s), st1 K s kk, st1 A s (if 1 < kk then (ix 8 y).getD 0 else 0), st1 B s (if two kk = true then (ix 8 z).getD 0 else rd z))) = _
  rw [if_neg (fun e => by rcases h1 with q | q; · omega
                          · exact isS_ix q e.2), if_neg (fun e => isS_ix (h2 e.1) e.2), hya, hzb]
theorem Wf_def (hw : Wf K A B) {ya zb : Nat} (hk : kk < 10) (hya : ya < 8) (hzb : zb < 97) (hz2 : two kk = true → zb < 8) : Wf (st1 K s kk) (st1 A s ya) (st1 B s zb) := by
  intro t ht
  by_cases e : t = s
  · subst e
    rw [st1_same, st1_same, st1_same]
    exact ⟨by omega, hya, hzb, fun q => hz2 (two_iff.mpr q)⟩
  · rw [st1_ne e, st1_ne e, st1_ne e]
    exact hw t ht
theorem isS_or (h : kk ≤ 1 ∨ isS y) (h1 : 1 < kk) : isS y := by
  rcases h with q | q
  · omega
  · exact q
end Dfn
theorem def_fin {K A B : Nat → Nat} {σ σ1 σ2 σ3 σ4 : SG} {s kk ya zb : Nat} (hI : InvL K A B σ) (hk : kk < 10) (hya : ya < 8) (hzb : zb < 97) (hz2 : two kk = true → zb < 8) (h1 : σ1 = st2 σ 0 s kk) (h2 : σ2 = st2 σ1 1 s ya) (h3 : σ3 = st2 σ2 2 s zb) (h4 : ∀ k, k ≠ 3 → σ4 k = σ3 k) (h5 : ∀ j, j < 128 → σ4 3 j = 0) : InvL (st1 K s kk) (st1 A s ya) (st1 B s zb) σ4 := by
  obtain ⟨a0, a1, a2, hw, hv, hi, -⟩ := hI
  have e : ∀ k, k ≠ 0 → k ≠ 1 → k ≠ 2 → k ≠ 3 → σ4 k = σ k := fun k q0 q1 q2 q3 => by rw [h4 k q3, h3, st2_k q2, h2, st2_k q1, h1, st2_k q0]
  refine ⟨?_, ?_, ?_, Wf_def hw hk hya hzb hz2, ?_, ?_, fun p hp => Or.inl (h5 p hp)⟩
  · rw [h4 0 (by decide), h3, st2_k (by decide), h2, st2_k (by decide), h1, st2_st1, a0]
  · rw [h4 1 (by decide), h3, st2_k (by decide), h2, st2_st1, h1, st2_k (by decide), a1]
  · rw [h4 2 (by decide), h3, st2_st1, h2, st2_k (by decide), h1, st2_k (by decide), a2]
  · rw [e 4 (by decide) (by decide) (by decide) (by decide)]; exact hv
  · rw [e 8 (by decide) (by decide) (by decide) (by decide)]; exact hi

set_option maxHeartbeats 4000000 in
/-- define -/
theorem c_L_define (l : Launch) (h : Nat) (a : Nat → Nat) (σ : SG) (K A B : Nat → Nat) (x k y z : Int32) (hI : InvL K A B σ) : MetN l y_L_define b_L_define 8 (some .int) (rm 1 22) 0 h a σ [.ref h, .int x, .int k, .int y, .int z] (pI (fun r σ' => InvL (dfn K A B x k y z).2.1 (dfn K A B x k y z).2.2.1 (dfn K A B x k y z).2.2.2 σ' ∧ r = (dfn K A B x k y z).1)) := by
  refine nv_entry (by decide) (Nat.le_of_ble_eq_true rfl) (by intro v hv; simp only [List.mem_cons, List.not_mem_nil, or_false] at hv; rcases hv with rfl | rfl | rfl | rfl | rfl <;> rfl) (fun G hG => ?_)
  have hP := hG.pr
  refine nv_iload_n hP 1 d_L_define_0 rfl rfl ?_
  refine nv_callSI hG (c_L_isSeries l h a σ x) k_L_isSeries rfl ⟨rfl, rfl⟩ ⟨Nat.le_of_ble_eq_true rfl, Nat.le_of_ble_eq_true rfl⟩ rfl (Nat.le_of_ble_eq_true rfl) d_L_define_1 (fun r_1 σ_1 q_1 => ?_)
  obtain ⟨e_1, hs_1⟩ := q_1
  replace e_1 := e_1.symm
  subst e_1
  refine nv_ifneR hP 9 d_L_define_4 (by decide) (fun c_4 => ?_) (fun c_4 => ?_)
  · obtain ⟨s, hs, rfl⟩ := isS_t hs_1 c_4
    refine nv_iload_n hP 2 d_L_define_9 rfl rfl ?_
    refine nv_ifltR hP 19 d_L_define_10 (by decide) (fun c_10 => ?_) (fun c_10 => ?_)
    · refine nv_bipush hP (-2) d_L_define_19 (by decide) ?_
      exact nv_iret hG d_L_define_21 (⟨_, rfl, by rw [dfn_2 hs (ix_neg c_10)]; exact ⟨hI, rfl⟩⟩)
    · refine nv_iload_n hP 2 d_L_define_13 rfl rfl ?_
      refine nv_bipush hP (nI 9) d_L_define_14 (by decide) ?_
      refine nv_cmpleR hP 22 d_L_define_16 (by decide) (fun c_16 => ?_) (fun c_16 => ?_)
      · obtain ⟨kk, hkk, rfl⟩ := in_le (by decide) c_10 c_16
        refine nv_iload_n hP 2 d_L_define_22 rfl rfl ?_
        have join_37 : ∀ (_ : kk ≤ 1 ∨ isS y), G σ 37 [(0, .ref h), (1, .int (nI s)), (2, .int (nI kk)), (3, .int y), (4, .int z)] [] := by
          intro hy
          have join_60 : ∀ (tw : Nat) (_ : tw = if two kk = true then 1 else 0), G σ 60 [(0, .ref h), (1, .int (nI s)), (2, .int (nI kk)), (3, .int y), (4, .int z), (5, .int (nI tw))] [] := by
            intro tw htw
            have htw1 : tw ≤ 1 := by rw [htw]; split <;> omega
            have join_76 : ∀ (_ : two kk = true → isS z), G σ 76 [(0, .ref h), (1, .int (nI s)), (2, .int (nI kk)), (3, .int y), (4, .int z), (5, .int (nI tw))] [] := by
              intro hz
              have w0 := (hI.2.2.2.1 s hs).1
              rw [← hI.1] at w0
              refine nv_aload_n hP 0 d_L_define_76 rfl rfl ?_
              refine nv_getf hG ff_L_0 (by decide) d_L_define_77 ?_
              refine nv_iload_n hP 1 d_L_define_80 rfl rfl ?_
              refine nv_iald hG 8 (by decide) rfl rfl (by omega) d_L_define_81 ?_
              refine nv_istore hP d_L_define_82 (by decide) ?_
              refine nv_aload_n hP 0 d_L_define_84 rfl rfl ?_
              refine nv_getf hG ff_L_0 (by decide) d_L_define_85 ?_
              refine nv_iload_n hP 1 d_L_define_88 rfl rfl ?_
              refine nv_iload_n hP 2 d_L_define_89 rfl rfl ?_
              refine nv_iast hG 8 (by decide) rfl rfl (by omega) d_L_define_90 (fun σ_90 hσ_90 => ?_)
              refine nv_aload_n hP 0 d_L_define_91 rfl rfl ?_
              refine nv_getf hG ff_L_1 (by decide) d_L_define_92 ?_
              refine nv_iload_n hP 1 d_L_define_95 rfl rfl ?_
              refine nv_iload_n hP 2 d_L_define_96 rfl rfl ?_
              refine nv_iconst hP (nI 1) d_L_define_97 (by decide) ?_
              refine nv_cmple hP (by omega) (by omega) 105 d_L_define_98 (by decide) (fun c_98 => ?_) (fun c_98 => ?_)
              · refine nv_iconst hP (nI 0) d_L_define_105 (by decide) ?_
                refine nv_iast hG 8 (by decide) rfl rfl (by omega) d_L_define_106 (fun σ_106 hσ_106 => ?_)
                refine nv_aload_n hP 0 d_L_define_107 rfl rfl ?_
                refine nv_getf hG ff_L_2 (by decide) d_L_define_108 ?_
                refine nv_iload_n hP 1 d_L_define_111 rfl rfl ?_
                refine nv_iload hP d_L_define_112 rfl ?_
                refine nv_ifeq hP (by omega) 122 d_L_define_114 (by decide) (fun c_114 => ?_) (fun c_114 => ?_)
                · have h2k : ¬ two kk = true := fun e => by rw [e, if_pos rfl] at htw; omega
                  refine nv_iload hP d_L_define_122 rfl ?_
                  refine nv_callSI hG (c_L_reduced l h a σ_106 z) k_L_reduced rfl ⟨rfl, rfl⟩ ⟨Nat.le_of_ble_eq_true rfl, Nat.le_of_ble_eq_true rfl⟩ rfl (Nat.le_of_ble_eq_true rfl) d_L_define_124 (fun r_124 σ_124 q_124 => ?_)
                  obtain ⟨e_124, rfl⟩ := q_124
                  replace e_124 := e_124.symm
                  subst e_124
                  refine nv_iast hG 8 (by decide) rfl rfl (by omega) d_L_define_127 (fun σ_127 hσ_127 => ?_)
                  refine nv_iconst hP (nI 0) d_L_define_128 (by decide) ?_
                  refine nv_istore hP d_L_define_129 (by decide) ?_
                  have loop_131 : ∀ (f_131 : Nat) (i : Nat) (σ1 : SG) (_ : i ≤ 128) (_ : ∀ k, k ≠ 3 → σ1 k = σ_127 k) (_ : ∀ j, j < i → σ1 3 j = 0), 128 - i < f_131 → G σ1 131 [(0, .ref h), (6, .int (nI (σ 0 s))), (7, .int (nI i))] [] := by
                    intro f_131
                    induction f_131 with
                    | zero => intro i σ1 g1 g2 g3 hf_131; exact absurd hf_131 (Nat.not_lt_zero _)
                    | succ f_131 ih_131 =>
                      intro i σ1 g1 g2 g3 hf_131
                      refine nv_iload hP d_L_define_131 rfl ?_
                      refine nv_sipush hP (nI 128) d_L_define_133 (by decide) ?_
                      refine nv_cmpge hP (by omega) (by omega) 153 d_L_define_136 (by decide) (fun c_136 => ?_) (fun c_136 => ?_)
                      · refine nv_iload hP d_L_define_153 rfl ?_
                        exact nv_iret hG d_L_define_155 (⟨_, rfl, by
                          rw [dfn_ok hs hkk hy hz (ya := 0) (zb := rd z) (by rw [if_neg (by omega)]) (by rw [if_neg h2k]), hI.1]
                          exact ⟨def_fin hI hkk (by omega) (rd_lt z) (fun e => absurd e h2k) hσ_90 hσ_106 hσ_127 g2 (fun j hj => g3 j (by omega)), rfl⟩⟩)
                      · refine nv_aload_n hP 0 d_L_define_139 rfl rfl ?_
                        refine nv_getf hG ff_L_3 (by decide) d_L_define_140 ?_
                        refine nv_iload hP d_L_define_143 rfl ?_
                        refine nv_iconst hP (nI 0) d_L_define_145 (by decide) ?_
                        refine nv_iast hG 128 (by decide) rfl rfl (by omega) d_L_define_146 (fun σ_146 hσ_146 => ?_)
                        refine nv_iinc hP d_L_define_147 rfl (by decide) ?_
                        refine nv_goto hP 131 d_L_define_150 (by decide) ?_
                        exact nv_lv hP (lsub_c rfl (lsub_c rfl (lsub_c rfl lsub_n))) (ih_131 (i + 1) σ_146 (by omega) (fun k hk => by rw [hσ_146, st2_k hk]; exact g2 k hk) (fun j hj => by rw [hσ_146, st2_at]; split <;> first | rfl | exact g3 j (by omega)) (by omega))
                  exact nv_lv hP (lsub_c rfl (lsub_c rfl (lsub_c rfl lsub_n))) (loop_131 _ 0 σ_127 (by omega) (fun _ _ => rfl) (fun j hj => absurd hj (Nat.not_lt_zero _)) (Nat.lt_succ_self _))
                · have h2k : two kk = true := by cases e : two kk with | true => rfl | false => (rw [e] at htw; exact absurd htw c_114)
                  obtain ⟨z1, hz1, rfl⟩ := hz h2k
                  refine nv_iload hP d_L_define_117 rfl ?_
                  refine nv_goto hP 127 d_L_define_119 (by decide) ?_
                  refine nv_iast hG 8 (by decide) rfl rfl (by omega) d_L_define_127 (fun σ_127 hσ_127 => ?_)
                  refine nv_iconst hP (nI 0) d_L_define_128 (by decide) ?_
                  refine nv_istore hP d_L_define_129 (by decide) ?_
                  have loop_131 : ∀ (f_131 : Nat) (i : Nat) (σ1 : SG) (_ : i ≤ 128) (_ : ∀ k, k ≠ 3 → σ1 k = σ_127 k) (_ : ∀ j, j < i → σ1 3 j = 0), 128 - i < f_131 → G σ1 131 [(0, .ref h), (6, .int (nI (σ 0 s))), (7, .int (nI i))] [] := by
                    intro f_131
                    induction f_131 with
                    | zero => intro i σ1 g1 g2 g3 hf_131; exact absurd hf_131 (Nat.not_lt_zero _)
                    | succ f_131 ih_131 =>
                      intro i σ1 g1 g2 g3 hf_131
                      refine nv_iload hP d_L_define_131 rfl ?_
                      refine nv_sipush hP (nI 128) d_L_define_133 (by decide) ?_
                      refine nv_cmpge hP (by omega) (by omega) 153 d_L_define_136 (by decide) (fun c_136 => ?_) (fun c_136 => ?_)
                      · refine nv_iload hP d_L_define_153 rfl ?_
                        exact nv_iret hG d_L_define_155 (⟨_, rfl, by
                          rw [dfn_ok hs hkk hy hz (ya := 0) (zb := z1) (by rw [if_neg (by omega)]) (by rw [if_pos h2k, ix_nI hz1 (by decide)]; rfl), hI.1]
                          exact ⟨def_fin hI hkk (by omega) (by omega) (fun _ => hz1) hσ_90 hσ_106 hσ_127 g2 (fun j hj => g3 j (by omega)), rfl⟩⟩)
                      · refine nv_aload_n hP 0 d_L_define_139 rfl rfl ?_
                        refine nv_getf hG ff_L_3 (by decide) d_L_define_140 ?_
                        refine nv_iload hP d_L_define_143 rfl ?_
                        refine nv_iconst hP (nI 0) d_L_define_145 (by decide) ?_
                        refine nv_iast hG 128 (by decide) rfl rfl (by omega) d_L_define_146 (fun σ_146 hσ_146 => ?_)
                        refine nv_iinc hP d_L_define_147 rfl (by decide) ?_
                        refine nv_goto hP 131 d_L_define_150 (by decide) ?_
                        exact nv_lv hP (lsub_c rfl (lsub_c rfl (lsub_c rfl lsub_n))) (ih_131 (i + 1) σ_146 (by omega) (fun k hk => by rw [hσ_146, st2_k hk]; exact g2 k hk) (fun j hj => by rw [hσ_146, st2_at]; split <;> first | rfl | exact g3 j (by omega)) (by omega))
                  exact nv_lv hP (lsub_c rfl (lsub_c rfl (lsub_c rfl lsub_n))) (loop_131 _ 0 σ_127 (by omega) (fun _ _ => rfl) (fun j hj => absurd hj (Nat.not_lt_zero _)) (Nat.lt_succ_self _))
              · obtain ⟨y1, hy1, rfl⟩ := isS_or hy c_98
                refine nv_iload_n hP 3 d_L_define_101 rfl rfl ?_
                refine nv_goto hP 106 d_L_define_102 (by decide) ?_
                refine nv_iast hG 8 (by decide) rfl rfl (by omega) d_L_define_106 (fun σ_106 hσ_106 => ?_)
                refine nv_aload_n hP 0 d_L_define_107 rfl rfl ?_
                refine nv_getf hG ff_L_2 (by decide) d_L_define_108 ?_
                refine nv_iload_n hP 1 d_L_define_111 rfl rfl ?_
                refine nv_iload hP d_L_define_112 rfl ?_
                refine nv_ifeq hP (by omega) 122 d_L_define_114 (by decide) (fun c_114 => ?_) (fun c_114 => ?_)
                · have h2k : ¬ two kk = true := fun e => by rw [e, if_pos rfl] at htw; omega
                  refine nv_iload hP d_L_define_122 rfl ?_
                  refine nv_callSI hG (c_L_reduced l h a σ_106 z) k_L_reduced rfl ⟨rfl, rfl⟩ ⟨Nat.le_of_ble_eq_true rfl, Nat.le_of_ble_eq_true rfl⟩ rfl (Nat.le_of_ble_eq_true rfl) d_L_define_124 (fun r_124 σ_124 q_124 => ?_)
                  obtain ⟨e_124, rfl⟩ := q_124
                  replace e_124 := e_124.symm
                  subst e_124
                  refine nv_iast hG 8 (by decide) rfl rfl (by omega) d_L_define_127 (fun σ_127 hσ_127 => ?_)
                  refine nv_iconst hP (nI 0) d_L_define_128 (by decide) ?_
                  refine nv_istore hP d_L_define_129 (by decide) ?_
                  have loop_131 : ∀ (f_131 : Nat) (i : Nat) (σ1 : SG) (_ : i ≤ 128) (_ : ∀ k, k ≠ 3 → σ1 k = σ_127 k) (_ : ∀ j, j < i → σ1 3 j = 0), 128 - i < f_131 → G σ1 131 [(0, .ref h), (6, .int (nI (σ 0 s))), (7, .int (nI i))] [] := by
                    intro f_131
                    induction f_131 with
                    | zero => intro i σ1 g1 g2 g3 hf_131; exact absurd hf_131 (Nat.not_lt_zero _)
                    | succ f_131 ih_131 =>
                      intro i σ1 g1 g2 g3 hf_131
                      refine nv_iload hP d_L_define_131 rfl ?_
                      refine nv_sipush hP (nI 128) d_L_define_133 (by decide) ?_
                      refine nv_cmpge hP (by omega) (by omega) 153 d_L_define_136 (by decide) (fun c_136 => ?_) (fun c_136 => ?_)
                      · refine nv_iload hP d_L_define_153 rfl ?_
                        exact nv_iret hG d_L_define_155 (⟨_, rfl, by
                          rw [dfn_ok hs hkk hy hz (ya := y1) (zb := rd z) (by rw [if_pos (by omega), ix_nI hy1 (by decide)]; rfl) (by rw [if_neg h2k]), hI.1]
                          exact ⟨def_fin hI hkk (hy1) (rd_lt z) (fun e => absurd e h2k) hσ_90 hσ_106 hσ_127 g2 (fun j hj => g3 j (by omega)), rfl⟩⟩)
                      · refine nv_aload_n hP 0 d_L_define_139 rfl rfl ?_
                        refine nv_getf hG ff_L_3 (by decide) d_L_define_140 ?_
                        refine nv_iload hP d_L_define_143 rfl ?_
                        refine nv_iconst hP (nI 0) d_L_define_145 (by decide) ?_
                        refine nv_iast hG 128 (by decide) rfl rfl (by omega) d_L_define_146 (fun σ_146 hσ_146 => ?_)
                        refine nv_iinc hP d_L_define_147 rfl (by decide) ?_
                        refine nv_goto hP 131 d_L_define_150 (by decide) ?_
                        exact nv_lv hP (lsub_c rfl (lsub_c rfl (lsub_c rfl lsub_n))) (ih_131 (i + 1) σ_146 (by omega) (fun k hk => by rw [hσ_146, st2_k hk]; exact g2 k hk) (fun j hj => by rw [hσ_146, st2_at]; split <;> first | rfl | exact g3 j (by omega)) (by omega))
                  exact nv_lv hP (lsub_c rfl (lsub_c rfl (lsub_c rfl lsub_n))) (loop_131 _ 0 σ_127 (by omega) (fun _ _ => rfl) (fun j hj => absurd hj (Nat.not_lt_zero _)) (Nat.lt_succ_self _))
                · have h2k : two kk = true := by cases e : two kk with | true => rfl | false => (rw [e] at htw; exact absurd htw c_114)
                  obtain ⟨z1, hz1, rfl⟩ := hz h2k
                  refine nv_iload hP d_L_define_117 rfl ?_
                  refine nv_goto hP 127 d_L_define_119 (by decide) ?_
                  refine nv_iast hG 8 (by decide) rfl rfl (by omega) d_L_define_127 (fun σ_127 hσ_127 => ?_)
                  refine nv_iconst hP (nI 0) d_L_define_128 (by decide) ?_
                  refine nv_istore hP d_L_define_129 (by decide) ?_
                  have loop_131 : ∀ (f_131 : Nat) (i : Nat) (σ1 : SG) (_ : i ≤ 128) (_ : ∀ k, k ≠ 3 → σ1 k = σ_127 k) (_ : ∀ j, j < i → σ1 3 j = 0), 128 - i < f_131 → G σ1 131 [(0, .ref h), (6, .int (nI (σ 0 s))), (7, .int (nI i))] [] := by
                    intro f_131
                    induction f_131 with
                    | zero => intro i σ1 g1 g2 g3 hf_131; exact absurd hf_131 (Nat.not_lt_zero _)
                    | succ f_131 ih_131 =>
                      intro i σ1 g1 g2 g3 hf_131
                      refine nv_iload hP d_L_define_131 rfl ?_
                      refine nv_sipush hP (nI 128) d_L_define_133 (by decide) ?_
                      refine nv_cmpge hP (by omega) (by omega) 153 d_L_define_136 (by decide) (fun c_136 => ?_) (fun c_136 => ?_)
                      · refine nv_iload hP d_L_define_153 rfl ?_
                        exact nv_iret hG d_L_define_155 (⟨_, rfl, by
                          rw [dfn_ok hs hkk hy hz (ya := y1) (zb := z1) (by rw [if_pos (by omega), ix_nI hy1 (by decide)]; rfl) (by rw [if_pos h2k, ix_nI hz1 (by decide)]; rfl), hI.1]
                          exact ⟨def_fin hI hkk (hy1) (by omega) (fun _ => hz1) hσ_90 hσ_106 hσ_127 g2 (fun j hj => g3 j (by omega)), rfl⟩⟩)
                      · refine nv_aload_n hP 0 d_L_define_139 rfl rfl ?_
                        refine nv_getf hG ff_L_3 (by decide) d_L_define_140 ?_
                        refine nv_iload hP d_L_define_143 rfl ?_
                        refine nv_iconst hP (nI 0) d_L_define_145 (by decide) ?_
                        refine nv_iast hG 128 (by decide) rfl rfl (by omega) d_L_define_146 (fun σ_146 hσ_146 => ?_)
                        refine nv_iinc hP d_L_define_147 rfl (by decide) ?_
                        refine nv_goto hP 131 d_L_define_150 (by decide) ?_
                        exact nv_lv hP (lsub_c rfl (lsub_c rfl (lsub_c rfl lsub_n))) (ih_131 (i + 1) σ_146 (by omega) (fun k hk => by rw [hσ_146, st2_k hk]; exact g2 k hk) (fun j hj => by rw [hσ_146, st2_at]; split <;> first | rfl | exact g3 j (by omega)) (by omega))
                  exact nv_lv hP (lsub_c rfl (lsub_c rfl (lsub_c rfl lsub_n))) (loop_131 _ 0 σ_127 (by omega) (fun _ _ => rfl) (fun j hj => absurd hj (Nat.not_lt_zero _)) (Nat.lt_succ_self _))
            refine nv_iload hP d_L_define_60 rfl ?_
            refine nv_ifeq hP (by omega) 76 d_L_define_62 (by decide) (fun c_62 => ?_) (fun c_62 => ?_)
            · exact nv_lv hP (lsub_c rfl (lsub_c rfl (lsub_c rfl (lsub_c rfl (lsub_c rfl (lsub_c rfl lsub_n)))))) (join_76 (fun e => by rw [e, if_pos rfl] at htw; omega))
            · refine nv_iload hP d_L_define_65 rfl ?_
              refine nv_callSI hG (c_L_isSeries l h a σ z) k_L_isSeries rfl ⟨rfl, rfl⟩ ⟨Nat.le_of_ble_eq_true rfl, Nat.le_of_ble_eq_true rfl⟩ rfl (Nat.le_of_ble_eq_true rfl) d_L_define_67 (fun r_67 σ_67 q_67 => ?_)
              obtain ⟨e_67, hs_67⟩ := q_67
              replace e_67 := e_67.symm
              subst e_67
              refine nv_ifneR hP 76 d_L_define_70 (by decide) (fun c_70 => ?_) (fun c_70 => ?_)
              · exact nv_lv hP (lsub_c rfl (lsub_c rfl (lsub_c rfl (lsub_c rfl (lsub_c rfl (lsub_c rfl lsub_n)))))) (join_76 (fun _ => isS_t hs_67 c_70))
              · refine nv_bipush hP (-4) d_L_define_73 (by decide) ?_
                exact nv_iret hG d_L_define_75 (⟨_, rfl, by rw [dfn_4 hs hkk hy (by cases e : two kk with | true => rfl | false => (rw [e] at htw; exact absurd htw c_62)) (isS_f hs_67 c_70)]; exact ⟨hI, rfl⟩⟩)
          refine nv_iload_n hP 2 d_L_define_37 rfl rfl ?_
          refine nv_iconst hP (nI 2) d_L_define_38 (by decide) ?_
          refine nv_cmpeq hP (by omega) (by omega) 53 d_L_define_39 (by decide) (fun c_39 => ?_) (fun c_39 => ?_)
          · refine nv_iconst hP (nI 1) d_L_define_53 (by decide) ?_
            refine nv_goto hP 58 d_L_define_54 (by decide) ?_
            refine nv_istore hP d_L_define_58 (by decide) ?_
            exact nv_lv hP (lsub_c rfl (lsub_c rfl (lsub_c rfl (lsub_c rfl (lsub_c rfl (lsub_c rfl lsub_n)))))) (join_60 1 (by rw [c_39]; rfl))
          · refine nv_iload_n hP 2 d_L_define_42 rfl rfl ?_
            refine nv_iconst hP (nI 3) d_L_define_43 (by decide) ?_
            refine nv_cmpeq hP (by omega) (by omega) 53 d_L_define_44 (by decide) (fun c_44 => ?_) (fun c_44 => ?_)
            · refine nv_iconst hP (nI 1) d_L_define_53 (by decide) ?_
              refine nv_goto hP 58 d_L_define_54 (by decide) ?_
              refine nv_istore hP d_L_define_58 (by decide) ?_
              exact nv_lv hP (lsub_c rfl (lsub_c rfl (lsub_c rfl (lsub_c rfl (lsub_c rfl (lsub_c rfl lsub_n)))))) (join_60 1 (by rw [c_44]; rfl))
            · refine nv_iload_n hP 2 d_L_define_47 rfl rfl ?_
              refine nv_bipush hP (nI 9) d_L_define_48 (by decide) ?_
              refine nv_cmpne hP (by omega) (by omega) 57 d_L_define_50 (by decide) (fun c_50 => ?_) (fun c_50 => ?_)
              · refine nv_iconst hP (nI 0) d_L_define_57 (by decide) ?_
                refine nv_istore hP d_L_define_58 (by decide) ?_
                exact nv_lv hP (lsub_c rfl (lsub_c rfl (lsub_c rfl (lsub_c rfl (lsub_c rfl (lsub_c rfl lsub_n)))))) (join_60 0 (by rw [if_neg (fun e => by have := two_iff.mp e; omega)]))
              · refine nv_iconst hP (nI 1) d_L_define_53 (by decide) ?_
                refine nv_goto hP 58 d_L_define_54 (by decide) ?_
                refine nv_istore hP d_L_define_58 (by decide) ?_
                exact nv_lv hP (lsub_c rfl (lsub_c rfl (lsub_c rfl (lsub_c rfl (lsub_c rfl (lsub_c rfl lsub_n)))))) (join_60 1 (by rw [c_50]; rfl))
        refine nv_iconst hP (nI 1) d_L_define_23 (by decide) ?_
        refine nv_cmple hP (by omega) (by omega) 37 d_L_define_24 (by decide) (fun c_24 => ?_) (fun c_24 => ?_)
        · exact nv_lv hP (lsub_c rfl (lsub_c rfl (lsub_c rfl (lsub_c rfl (lsub_c rfl lsub_n))))) (join_37 (Or.inl c_24))
        · refine nv_iload_n hP 3 d_L_define_27 rfl rfl ?_
          refine nv_callSI hG (c_L_isSeries l h a σ y) k_L_isSeries rfl ⟨rfl, rfl⟩ ⟨Nat.le_of_ble_eq_true rfl, Nat.le_of_ble_eq_true rfl⟩ rfl (Nat.le_of_ble_eq_true rfl) d_L_define_28 (fun r_28 σ_28 q_28 => ?_)
          obtain ⟨e_28, hs_28⟩ := q_28
          replace e_28 := e_28.symm
          subst e_28
          refine nv_ifneR hP 37 d_L_define_31 (by decide) (fun c_31 => ?_) (fun c_31 => ?_)
          · exact nv_lv hP (lsub_c rfl (lsub_c rfl (lsub_c rfl (lsub_c rfl (lsub_c rfl lsub_n))))) (join_37 (Or.inr (isS_t hs_28 c_31)))
          · refine nv_bipush hP (-3) d_L_define_34 (by decide) ?_
            exact nv_iret hG d_L_define_36 (⟨_, rfl, by rw [dfn_3 hs hkk c_24 (isS_f hs_28 c_31)]; exact ⟨hI, rfl⟩⟩)
      · refine nv_bipush hP (-2) d_L_define_19 (by decide) ?_
        exact nv_iret hG d_L_define_21 (⟨_, rfl, by rw [dfn_2 hs (ix_ge (gt_ge (by decide) (not_le_lt c_16)))]; exact ⟨hI, rfl⟩⟩)
  · refine nv_iconst hP (-1) d_L_define_7 (by decide) ?_
    exact nv_iret hG d_L_define_8 (⟨_, rfl, by rw [dfn_1 (isS_f hs_1 c_4)]; exact ⟨hI, rfl⟩⟩)
end
section
section Rch
variable {K A B : Nat → Nat} {p x y : Nat}
theorem Reach_one (h : nds K A B p x) : Reach K A B p x := fun _ h1 _ => h1 x h
theorem Reach_step (h : Reach K A B p y) (hn : nds K A B y x) : Reach K A B p x := fun S h1 h2 => h2 y x (h S h1 h2) hn
end Rch
/-- needs: its loops' invariant; Q queued, k places done, of the next one the first i needs -/
def NI (K A B : Nat → Nat) (σ0 : SG) (p q Q k i : Nat) (σ : SG) : Prop :=
  (∀ c, c ≠ 5 → c ≠ 6 → σ c = σ0 c) ∧ k ≤ Q ∧ 1 ≤ Q ∧ σ 5 0 = p ∧ (∀ j, j < Q → σ 5 j < 128)
  ∧ (∀ j, 1 ≤ j → j < Q → σ 6 (σ 5 j) = 1)
  ∧ (∀ x, x < 128 → σ 6 x = 0 ∨ (σ 6 x = 1 ∧ Reach K A B p x ∧ ∃ j, 1 ≤ j ∧ j < Q ∧ σ 5 j = x))
  ∧ σ 6 q = 0 ∧ Q = 1 + sF (σ 6) 128
  ∧ (∀ j, j < k → ∀ t x, ndf K A B (σ 5 j) t = some x → σ 6 x = 1)
  ∧ (∀ t x, t < i → ndf K A B (σ 5 k) t = some x → σ 6 x = 1)
theorem sF_zero {f : Nat → Nat} : ∀ n, (∀ i, i < n → f i = 0) → sF f n = 0
  | 0, _ => rfl
  | n + 1, h => by
    show sF f n + f n = 0
    rw [sF_zero n (fun i hi => h i (by omega)), h n (by omega)]
section Ni
variable {K A B : Nat → Nat} {σ0 σ : SG} {p q Q k i : Nat}
theorem NI_init (hp : p < 128) (h0 : ∀ c, c ≠ 6 → σ c = σ0 c) (h6 : ∀ j, j < 128 → σ 6 j = 0) (hq : q < 128) : NI K A B σ0 p q 1 0 0 (st2 σ 5 0 p) := by
  have e6 : st2 σ 5 0 p 6 = σ 6 := st2_k (by decide)
  refine ⟨fun c h1 h2 => by rw [st2_k h1]; exact h0 c h2, by omega, by omega, st2_same _ _ _ _, fun j hj => ?_, fun j h1 h2 => by omega, fun x hx => ?_, by rw [e6]; exact h6 q hq, by rw [e6, sF_zero 128 h6], fun j hj => absurd hj (Nat.not_lt_zero _), fun t x ht => absurd ht (Nat.not_lt_zero _)⟩
  · rw [show j = 0 by omega, st2_same]
    exact hp
  · rw [e6]
    exact Or.inl (h6 x hx)
theorem NI_Q (hq : q < 128) (h : NI K A B σ0 p q Q k i σ) : Q ≤ 128 := by
  obtain ⟨-, -, -, -, -, -, hm, hz, hQ, -⟩ := h
  have h1 := sF_upd (f := σ 6) (g := st1 (σ 6) q 1) 128 hq (fun j hj => st1_ne hj)
  have h2 : sF (st1 (σ 6) q 1) 128 ≤ 1 * 128 := sF_le 128 (fun j hj => by
    by_cases e : j = q
    · rw [e, st1_same]
      exact Nat.le_refl _
    · rw [st1_ne e]
      rcases hm j hj with h | h <;> omega)
  rw [st1_same] at h1
  omega
theorem NI_skip (h : NI K A B σ0 p q Q k i σ) (hn : ∀ x, ndf K A B (σ 5 k) i = some x → σ 6 x = 1) : NI K A B σ0 p q Q k (i + 1) σ := by
  obtain ⟨a1, a2, a3, a4, a5, a6, a7, a8, a9, a10, a11⟩ := h
  refine ⟨a1, a2, a3, a4, a5, a6, a7, a8, a9, a10, fun t x ht hx => ?_⟩
  by_cases e : t = i
  · rw [e] at hx
    exact hn x hx
  · exact a11 t x (by omega) hx
/-- the place at hand: it is p, or reached from p -/
theorem NI_at (h : NI K A B σ0 p q Q k i σ) (hk : k < Q) {x : Nat} (hx : ndf K A B (σ 5 k) i = some x) : Reach K A B p x := by
  obtain ⟨a1, a2, a3, a4, a5, a6, a7, a8, a9, a10, a11⟩ := h
  by_cases e : k = 0
  · rw [e, a4] at hx
    exact Reach_one ⟨i, hx⟩
  · have h1 := a6 k (by omega) hk
    rcases a7 (σ 5 k) (a5 k hk) with h2 | ⟨-, h2, -⟩
    · omega
    · exact Reach_step h2 ⟨i, hx⟩
theorem NI_push (hw : Wf K A B) (hq : q < 128) (h : NI K A B σ0 p q Q k i σ) (hk : k < Q) {x : Nat} (hx : ndf K A B (σ 5 k) i = some x) (hxq : x ≠ q) (h0 : σ 6 x = 0) : Q < 128 ∧ NI K A B σ0 p q (Q + 1) k (i + 1) (st2 (st2 σ 6 x 1) 5 Q x) := by
  have hR := NI_at h hk hx
  obtain ⟨a1, a2, a3, a4, a5, a6, a7, a8, a9, a10, a11⟩ := h
  have hxl : x < 128 := ndf_lt hw (a5 k hk) hx
  generalize hσ' : st2 (st2 σ 6 x 1) 5 Q x = σ'
  have e0 : ∀ c, c ≠ 5 → c ≠ 6 → σ' c = σ c := fun c h1 h2 => by rw [← hσ', st2_k h1, st2_k h2]
  have e6 : σ' 6 = st1 (σ 6) x 1 := by rw [← hσ', st2_k (by decide), st2_st1]
  have e5 : σ' 5 = st1 (σ 5) Q x := by rw [← hσ', st2_st1, st2_k (by decide)]
  have h5 : ∀ j, j < Q → σ' 5 j = σ 5 j := fun j hj => by rw [e5, st1_ne (by omega)]
  have h5Q : σ' 5 Q = x := by rw [e5, st1_same]
  have h6x : σ' 6 x = 1 := by rw [e6, st1_same]
  have h6 : ∀ y, σ 6 y = 1 → σ' 6 y = 1 := fun y hy => by
    by_cases e : y = x
    · rw [e]; exact h6x
    · rw [e6, st1_ne e]; exact hy
  have hN : NI K A B σ0 p q (Q + 1) k (i + 1) σ' := by
    refine ⟨fun c h1 h2 => (e0 c h1 h2).trans (a1 c h1 h2), by omega, by omega, by rw [h5 0 (by omega)]; exact a4, fun j hj => ?_, fun j h1 h2 => ?_, fun y hy => ?_, ?_, ?_, fun j hj t y hy => ?_, fun t y ht hy => ?_⟩
    · by_cases e : j = Q
      · rw [e, h5Q]; exact hxl
      · rw [h5 j (by omega)]; exact a5 j (by omega)
    · by_cases e : j = Q
      · rw [e, h5Q]; exact h6x
      · rw [h5 j (by omega)]; exact h6 _ (a6 j h1 (by omega))
    · by_cases e : y = x
      · rw [e]; exact Or.inr ⟨h6x, hR, Q, by omega, by omega, h5Q⟩
      · rw [e6, st1_ne e]
        rcases a7 y hy with h | ⟨g1, g2, j, g3, g4, g5⟩
        · exact Or.inl h
        · exact Or.inr ⟨g1, g2, j, g3, by omega, by rw [← e6] at *; rw [h5 j g4]; exact g5⟩
    · rw [e6, st1_ne (fun e => hxq e.symm)]; exact a8
    · have h1 := sF_upd (f := σ 6) (g := st1 (σ 6) x 1) 128 hxl (fun j hj => st1_ne hj)
      rw [st1_same] at h1
      rw [e6]
      omega
    · rw [h5 j (by omega)] at hy
      exact h6 y (a10 j hj t y hy)
    · rw [h5 k hk] at hy
      by_cases e : t = i
      · rw [e, hx] at hy
        cases hy
        exact h6x
      · exact h6 y (a11 t y (by omega) hy)
  exact ⟨by have := NI_Q hq hN; omega, hN⟩
theorem NI_next (h : NI K A B σ0 p q Q k 32 σ) (hk : k < Q) : NI K A B σ0 p q Q (k + 1) 0 σ := by
  obtain ⟨a1, a2, a3, a4, a5, a6, a7, a8, a9, a10, a11⟩ := h
  refine ⟨a1, by omega, a3, a4, a5, a6, a7, a8, a9, fun j hj t x hx => ?_, fun t x ht => absurd ht (Nat.not_lt_zero _)⟩
  by_cases e : j = k
  · rw [e] at hx
    exact a11 t x (ndf_i hx) hx
  · exact a10 j (by omega) t x hx
theorem NI_done (hw : Wf K A B) (h : NI K A B σ0 p q Q k i σ) (hk : Q ≤ k) (hq : q < 128) : ¬ Reach K A B p q := by
  obtain ⟨a1, a2, a3, a4, a5, a6, a7, a8, a9, a10, a11⟩ := h
  intro hR
  have h1 := hR (fun x => x < 128 ∧ σ 6 x = 1) (fun x hx => by
    obtain ⟨t, ht⟩ := hx
    rw [← a4] at ht
    exact ⟨ndf_lt hw (a5 0 (by omega)) ht, a10 0 (by omega) t x ht⟩) (fun x y hx hy => by
    obtain ⟨t, ht⟩ := hy
    rcases a7 x hx.1 with h | ⟨-, -, j, g3, g4, g5⟩
    · omega
    · exact ⟨ndf_lt hw hx.1 ht, a10 j (by omega) t y (by rw [g5]; exact ht)⟩)
  omega
theorem NI_inv (hI : InvL K A B σ0) (h : NI K A B σ0 p q Q k i σ) : InvL K A B σ := by
  obtain ⟨b0, b1, b2, hw, hv, hi, hs⟩ := hI
  have e := h.1
  refine ⟨by rw [e 0 (by decide) (by decide)]; exact b0, by rw [e 1 (by decide) (by decide)]; exact b1, by rw [e 2 (by decide) (by decide)]; exact b2, hw, by rw [e 4 (by decide) (by decide)]; exact hv, by rw [e 8 (by decide) (by decide)]; exact hi, fun x hx => ?_⟩
  unfold stOK
  rw [e 3 (by decide) (by decide), e 4 (by decide) (by decide)]
  exact hs x hx
end Ni
theorem opI_eq {w : Option Nat} {q : Nat} (hq : q < 128) (hb : ∀ x, w = some x → x < 128) (h : opI w = nI q) : w = some q := by
  cases w with
  | none =>
    have h1 : (nI q).toInt = -1 := by rw [← h]; decide
    rw [nI_toInt (by omega)] at h1
    omega
  | some x =>
    have := hb x rfl
    rw [(nI_eq (by omega) (by omega)).mp (show nI x = nI q from h)]

set_option maxHeartbeats 4000000 in
/-- needs -/
theorem c_L_needs (l : Launch) (h : Nat) (a : Nat → Nat) (σ : SG) (K A B : Nat → Nat) (x y : Int32) (hI : InvL K A B σ) : MetN l y_L_needs b_L_needs 7 (some .int) (rm 1 26) 0 h a σ [.ref h, .int x, .int y] (pI (fun r σ' => InvL K A B σ' ∧ aNeeds K A B x y r)) := by
  refine nv_entry (by decide) (Nat.le_of_ble_eq_true rfl) (by intro v hv; simp only [List.mem_cons, List.not_mem_nil, or_false] at hv; rcases hv with rfl | rfl | rfl <;> rfl) (fun G hG => ?_)
  have hP := hG.pr
  have hw := hI.2.2.2.1
  refine nv_iload_n hP 1 d_L_needs_0 rfl rfl ?_
  refine nv_ifltR hP 22 d_L_needs_1 (by decide) (fun c_1 => ?_) (fun c_1 => ?_)
  · refine nv_iconst hP (-1) d_L_needs_22 (by decide) ?_
    exact nv_iret hG d_L_needs_23 (⟨_, rfl, hI, aNeeds_1 (ix_neg c_1)⟩)
  · refine nv_iload_n hP 1 d_L_needs_4 rfl rfl ?_
    refine nv_sipush hP (nI 128) d_L_needs_5 (by decide) ?_
    refine nv_cmpgeR hP 22 d_L_needs_8 (by decide) (fun c_8 => ?_) (fun c_8 => ?_)
    · refine nv_iconst hP (-1) d_L_needs_22 (by decide) ?_
      exact nv_iret hG d_L_needs_23 (⟨_, rfl, hI, aNeeds_1 (ix_ge c_8)⟩)
    · refine nv_iload_n hP 2 d_L_needs_11 rfl rfl ?_
      refine nv_ifltR hP 22 d_L_needs_12 (by decide) (fun c_12 => ?_) (fun c_12 => ?_)
      · refine nv_iconst hP (-1) d_L_needs_22 (by decide) ?_
        exact nv_iret hG d_L_needs_23 (⟨_, rfl, hI, aNeeds_2 (ix_neg c_12)⟩)
      · refine nv_iload_n hP 2 d_L_needs_15 rfl rfl ?_
        refine nv_sipush hP (nI 128) d_L_needs_16 (by decide) ?_
        refine nv_cmpltR hP 24 d_L_needs_19 (by decide) (fun c_19 => ?_) (fun c_19 => ?_)
        · obtain ⟨p, hp, rfl⟩ := in_lt (by decide) c_1 (not_le_lt c_8)
          obtain ⟨q, hq, rfl⟩ := in_lt (by decide) c_12 c_19
          refine nv_iconst hP (nI 0) d_L_needs_24 (by decide) ?_
          refine nv_istore_n hP 3 d_L_needs_25 rfl (by decide) ?_
          have loop_26 : ∀ (f_26 : Nat) (i : Nat) (σ1 : SG) (_ : i ≤ 128) (_ : ∀ c, c ≠ 6 → σ1 c = σ c) (_ : ∀ j, j < i → σ1 6 j = 0), 128 - i < f_26 → G σ1 26 [(0, .ref h), (1, .int (nI p)), (2, .int (nI q)), (3, .int (nI i))] [] := by
            intro f_26
            induction f_26 with
            | zero => intro i σ1 g1 g2 g3 hf_26; exact absurd hf_26 (Nat.not_lt_zero _)
            | succ f_26 ih_26 =>
              intro i σ1 g1 g2 g3 hf_26
              refine nv_iload_n hP 3 d_L_needs_26 rfl rfl ?_
              refine nv_sipush hP (nI 128) d_L_needs_27 (by decide) ?_
              refine nv_cmpge hP (by omega) (by omega) 46 d_L_needs_30 (by decide) (fun c_30 => ?_) (fun c_30 => ?_)
              · refine nv_iconst hP (nI 1) d_L_needs_46 (by decide) ?_
                refine nv_istore_n hP 3 d_L_needs_47 rfl (by decide) ?_
                refine nv_aload_n hP 0 d_L_needs_48 rfl rfl ?_
                refine nv_getf hG ff_L_5 (by decide) d_L_needs_49 ?_
                refine nv_iconst hP (nI 0) d_L_needs_52 (by decide) ?_
                refine nv_iload_n hP 1 d_L_needs_53 rfl rfl ?_
                refine nv_iast hG 128 (by decide) rfl rfl (by omega) d_L_needs_54 (fun σ_54 hσ_54 => ?_)
                refine nv_iconst hP (nI 0) d_L_needs_55 (by decide) ?_
                refine nv_istore hP d_L_needs_56 (by decide) ?_
                have loop_58 : ∀ (f_58 : Nat) (Q k : Nat) (σ1 : SG) (_ : k ≤ 128) (_ : NI K A B σ p q Q k 0 σ1), 128 - k < f_58 → G σ1 58 [(0, .ref h), (1, .int (nI p)), (2, .int (nI q)), (3, .int (nI Q)), (4, .int (nI k))] [] := by
                  intro f_58
                  induction f_58 with
                  | zero => intro Q k σ1 hk hN hf_58; exact absurd hf_58 (Nat.not_lt_zero _)
                  | succ f_58 ih_58 =>
                    intro Q k σ1 hk hN hf_58
                    have hQ := NI_Q hq hN
                    refine nv_iload hP d_L_needs_58 rfl ?_
                    refine nv_sipush hP (nI 128) d_L_needs_60 (by decide) ?_
                    refine nv_cmpge hP (by omega) (by omega) 159 d_L_needs_63 (by decide) (fun c_63 => ?_) (fun c_63 => ?_)
                    · refine nv_iconst hP (nI 0) d_L_needs_159 (by decide) ?_
                      exact nv_iret hG d_L_needs_160 (⟨_, rfl, NI_inv hI hN, aNeeds_ok hp hq (Or.inr ⟨NI_done hw hN (by omega) hq, rfl⟩)⟩)
                    · refine nv_iload hP d_L_needs_66 rfl ?_
                      refine nv_iload_n hP 3 d_L_needs_68 rfl rfl ?_
                      refine nv_cmpge hP (by omega) (by omega) 159 d_L_needs_69 (by decide) (fun c_69 => ?_) (fun c_69 => ?_)
                      · refine nv_iconst hP (nI 0) d_L_needs_159 (by decide) ?_
                        exact nv_iret hG d_L_needs_160 (⟨_, rfl, NI_inv hI hN, aNeeds_ok hp hq (Or.inr ⟨NI_done hw hN (by omega) hq, rfl⟩)⟩)
                      · refine nv_iconst hP (nI 0) d_L_needs_72 (by decide) ?_
                        refine nv_istore hP d_L_needs_73 (by decide) ?_
                        have loop_75 : ∀ (f_75 : Nat) (Q1 i : Nat) (σ2 : SG) (_ : i ≤ 32) (_ : k < Q1) (_ : NI K A B σ p q Q1 k i σ2), 32 - i < f_75 → G σ2 75 [(0, .ref h), (1, .int (nI p)), (2, .int (nI q)), (3, .int (nI Q1)), (4, .int (nI k)), (5, .int (nI i))] [] := by
                          intro f_75
                          induction f_75 with
                          | zero => intro Q1 i σ2 hi hkQ hN1 hf_75; exact absurd hf_75 (Nat.not_lt_zero _)
                          | succ f_75 ih_75 =>
                            intro Q1 i σ2 hi hkQ hN1 hf_75
                            have hQ1 := NI_Q hq hN1
                            refine nv_iload hP d_L_needs_75 rfl ?_
                            refine nv_bipush hP (nI 32) d_L_needs_77 (by decide) ?_
                            refine nv_cmpge hP (by omega) (by omega) 153 d_L_needs_79 (by decide) (fun c_79 => ?_) (fun c_79 => ?_)
                            · refine nv_iinc hP d_L_needs_153 rfl (by decide) ?_
                              refine nv_goto hP 58 d_L_needs_156 (by decide) ?_
                              exact nv_lv hP (lsub_c rfl (lsub_c rfl (lsub_c rfl (lsub_c rfl (lsub_c rfl lsub_n))))) (ih_58 Q1 (k + 1) σ2 (by omega) (NI_next (by rw [show i = 32 by omega] at hN1; exact hN1) hkQ) (by omega))
                            · have hk5 := hN1.2.2.2.2.1 k hkQ
                              refine nv_aload_n hP 0 d_L_needs_82 rfl rfl ?_
                              refine nv_aload_n hP 0 d_L_needs_83 rfl rfl ?_
                              refine nv_getf hG ff_L_5 (by decide) d_L_needs_84 ?_
                              refine nv_iload hP d_L_needs_87 rfl ?_
                              refine nv_iald hG 128 (by decide) rfl rfl (by omega) d_L_needs_89 ?_
                              refine nv_iload hP d_L_needs_90 rfl ?_
                              refine nv_callVI hG (c_L_need l h a σ2 (σ2 5 k) i hk5 (by omega) (by rw [hN1.1 0 (by decide) (by decide), hN1.1 1 (by decide) (by decide), hN1.1 2 (by decide) (by decide), hI.1, hI.2.1, hI.2.2.1]; exact hw)) k_L_need rfl ⟨rfl, rfl⟩ ⟨Nat.le_of_ble_eq_true rfl, Nat.le_of_ble_eq_true rfl⟩ rfl (Nat.le_of_ble_eq_true rfl) d_L_needs_92 (fun r_92 σ_92 q_92 => ?_)
                              obtain ⟨e_92, rfl⟩ := q_92
                              replace e_92 := e_92.symm
                              subst e_92
                              rw [hN1.1 0 (by decide) (by decide), hN1.1 1 (by decide) (by decide), hN1.1 2 (by decide) (by decide), hI.1, hI.2.1, hI.2.2.1]
                              refine nv_istore hP d_L_needs_95 (by decide) ?_
                              refine nv_iload hP d_L_needs_97 rfl ?_
                              refine nv_iload_n hP 2 d_L_needs_99 rfl rfl ?_
                              refine nv_cmpneR hP 105 d_L_needs_100 (by decide) (fun c_100 => ?_) (fun c_100 => ?_)
                              · have hwx : ∀ x, ndf K A B (σ2 5 k) i = some x → x < 128 := fun x hx => ndf_lt hw hk5 hx
                                refine nv_iload hP d_L_needs_105 rfl ?_
                                refine nv_iconst hP (-1) d_L_needs_107 (by decide) ?_
                                refine nv_cmpeqR hP 147 d_L_needs_108 (by decide) (fun c_108 => ?_) (fun c_108 => ?_)
                                · refine nv_iinc hP d_L_needs_147 rfl (by decide) ?_
                                  refine nv_goto hP 75 d_L_needs_150 (by decide) ?_
                                  exact nv_lv hP (lsub_c rfl (lsub_c rfl (lsub_c rfl (lsub_c rfl (lsub_c rfl (lsub_c rfl lsub_n)))))) (ih_75 Q1 (i + 1) σ2 (by omega) hkQ (NI_skip hN1 (fun x hx => by have := opI_none c_108 hwx; rw [this] at hx; cases hx)) (by omega))
                                · obtain ⟨x, hx⟩ := opI_some c_108
                                  rw [hx, show opI (some x) = nI x from rfl]
                                  have hxl := hwx x hx
                                  have hxq : x ≠ q := fun e => c_100 (by rw [hx, e]; rfl)
                                  have hm1 : σ2 6 x ≤ 1 := by rcases hN1.2.2.2.2.2.2.1 x hxl with h | h <;> omega
                                  refine nv_aload_n hP 0 d_L_needs_111 rfl rfl ?_
                                  refine nv_getf hG ff_L_6 (by decide) d_L_needs_112 ?_
                                  refine nv_iload hP d_L_needs_115 rfl ?_
                                  refine nv_iald hG 128 (by decide) rfl rfl (by omega) d_L_needs_117 ?_
                                  refine nv_ifne hP (by omega) 147 d_L_needs_118 (by decide) (fun c_118 => ?_) (fun c_118 => ?_)
                                  · refine nv_iinc hP d_L_needs_147 rfl (by decide) ?_
                                    refine nv_goto hP 75 d_L_needs_150 (by decide) ?_
                                    exact nv_lv hP (lsub_c rfl (lsub_c rfl (lsub_c rfl (lsub_c rfl (lsub_c rfl (lsub_c rfl lsub_n)))))) (ih_75 Q1 (i + 1) σ2 (by omega) hkQ (NI_skip hN1 (fun z hz => by rw [hx] at hz; cases hz; omega)) (by omega))
                                  · refine nv_iload_n hP 3 d_L_needs_121 rfl rfl ?_
                                    refine nv_sipush hP (nI 128) d_L_needs_122 (by decide) ?_
                                    refine nv_cmpge hP (by omega) (by omega) 147 d_L_needs_125 (by decide) (fun c_125 => absurd c_125 (by have := (NI_push hw hq hN1 hkQ hx hxq c_118).1; omega)) (fun c_125 => ?_)
                                    refine nv_aload_n hP 0 d_L_needs_128 rfl rfl ?_
                                    refine nv_getf hG ff_L_6 (by decide) d_L_needs_129 ?_
                                    refine nv_iload hP d_L_needs_132 rfl ?_
                                    refine nv_iconst hP (nI 1) d_L_needs_134 (by decide) ?_
                                    refine nv_iast hG 128 (by decide) rfl rfl (by omega) d_L_needs_135 (fun σ_135 hσ_135 => ?_)
                                    refine nv_aload_n hP 0 d_L_needs_136 rfl rfl ?_
                                    refine nv_getf hG ff_L_5 (by decide) d_L_needs_137 ?_
                                    refine nv_iload_n hP 3 d_L_needs_140 rfl rfl ?_
                                    refine nv_iload hP d_L_needs_141 rfl ?_
                                    refine nv_iast hG 128 (by decide) rfl rfl (by omega) d_L_needs_143 (fun σ_143 hσ_143 => ?_)
                                    refine nv_iinc hP d_L_needs_144 rfl (by decide) ?_
                                    refine nv_iinc hP d_L_needs_147 rfl (by decide) ?_
                                    refine nv_goto hP 75 d_L_needs_150 (by decide) ?_
                                    exact nv_lv hP (lsub_c rfl (lsub_c rfl (lsub_c rfl (lsub_c rfl (lsub_c rfl (lsub_c rfl lsub_n)))))) (ih_75 (Q1 + 1) (i + 1) σ_143 (by omega) (by omega) (by rw [hσ_143, hσ_135]; exact (NI_push hw hq hN1 hkQ hx hxq c_118).2) (by omega))
                              · refine nv_iconst hP (nI 1) d_L_needs_103 (by decide) ?_
                                exact nv_iret hG d_L_needs_104 (⟨_, rfl, NI_inv hI hN1, aNeeds_ok hp hq (Or.inl ⟨NI_at hN1 hkQ (opI_eq hq (fun x hx => ndf_lt hw hk5 hx) c_100), rfl⟩)⟩)
                        exact nv_lv hP (lsub_c rfl (lsub_c rfl (lsub_c rfl (lsub_c rfl (lsub_c rfl (lsub_c rfl lsub_n)))))) (loop_75 _ Q 0 σ1 (by omega) c_69 hN (Nat.lt_succ_self _))
                exact nv_lv hP (lsub_c rfl (lsub_c rfl (lsub_c rfl (lsub_c rfl (lsub_c rfl lsub_n))))) (loop_58 _ 1 0 σ_54 (by omega) (by rw [hσ_54]; exact NI_init hp g2 (fun j hj => g3 j (by omega)) hq) (Nat.lt_succ_self _))
              · refine nv_aload_n hP 0 d_L_needs_33 rfl rfl ?_
                refine nv_getf hG ff_L_6 (by decide) d_L_needs_34 ?_
                refine nv_iload_n hP 3 d_L_needs_37 rfl rfl ?_
                refine nv_iconst hP (nI 0) d_L_needs_38 (by decide) ?_
                refine nv_iast hG 128 (by decide) rfl rfl (by omega) d_L_needs_39 (fun σ_39 hσ_39 => ?_)
                refine nv_iinc hP d_L_needs_40 rfl (by decide) ?_
                refine nv_goto hP 26 d_L_needs_43 (by decide) ?_
                exact nv_lv hP (lsub_c rfl (lsub_c rfl (lsub_c rfl (lsub_c rfl lsub_n)))) (ih_26 (i + 1) σ_39 (by omega) (fun k hk => by rw [hσ_39, st2_k hk]; exact g2 k hk) (fun j hj => by rw [hσ_39, st2_at]; split <;> first | rfl | exact g3 j (by omega)) (by omega))
          exact nv_lv hP (lsub_c rfl (lsub_c rfl (lsub_c rfl (lsub_c rfl lsub_n)))) (loop_26 _ 0 σ (by omega) (fun _ _ => rfl) (fun j hj => absurd hj (Nat.not_lt_zero _)) (Nat.lt_succ_self _))
        · refine nv_iconst hP (-1) d_L_needs_22 (by decide) ?_
          exact nv_iret hG d_L_needs_23 (⟨_, rfl, hI, aNeeds_2 (ix_ge (not_lt_le c_19))⟩)
end
section
/-! LazySeriesModel: leaves -/
/-- coefficient n of s needs coefficient m of t directly -/
def dr (K A B : Nat → Nat) (s n t m : Nat) : Prop := ∃ i, ndN K A B s n i = some (16 * t + m)
section Drk
variable {K A B : Nat → Nat} {s n t m : Nat}
theorem dr2 (h : K s = 2) (hn : n < 16) (hm : m < 16) : dr K A B s n t m ↔ (m = n ∧ (t = A s ∨ t = B s)) := by
  constructor
  · rintro ⟨i, hi⟩
    unfold ndN at hi
    rw [if_neg (by omega), if_neg (by omega)] at hi
    by_cases e : K s = 2 ∧ i = 1
    · rw [if_pos e] at hi
      have := Option.some.inj hi
      omega
    · rw [if_neg e] at hi
      by_cases e2 : 0 < i ∨ K s ≤ 1
      · rw [if_pos e2] at hi; cases hi
      · rw [if_neg e2, if_neg (by omega), if_neg (by omega)] at hi
        have := Option.some.inj hi
        omega
  · rintro ⟨h2, h3⟩
    subst h2
    rcases h3 with rfl | rfl
    · exact (nd_sum h).1
    · exact (nd_sum h).2
theorem dr3 (h : K s = 3 ∨ K s = 9) (hn : n < 16) (hm : m < 16) : dr K A B s n t m ↔ (m ≤ n ∧ (t = A s ∨ t = B s)) := by
  constructor
  · rintro ⟨i, hi⟩
    unfold ndN at hi
    rw [if_pos h] at hi
    by_cases e : i ≤ n
    · rw [if_pos e] at hi
      have := Option.some.inj hi
      omega
    · rw [if_neg e] at hi
      by_cases e2 : i ≤ 2 * n + 1
      · rw [if_pos e2] at hi
        have := Option.some.inj hi
        omega
      · rw [if_neg e2] at hi; cases hi
  · rintro ⟨h2, h3⟩
    rcases h3 with rfl | rfl
    · exact nd_a (by omega) h2
    · exact nd_b h h2
theorem dr4 (h : K s = 4) (hn : n < 16) (hm : m < 16) : dr K A B s n t m ↔ (m = n ∧ t = A s) := by
  constructor
  · rintro ⟨i, hi⟩
    unfold ndN at hi
    rw [if_neg (by omega), if_neg (by omega), if_neg (by omega)] at hi
    by_cases e2 : 0 < i ∨ K s ≤ 1
    · rw [if_pos e2] at hi; cases hi
    · rw [if_neg e2, if_neg (by omega), if_neg (by omega)] at hi
      have := Option.some.inj hi
      omega
  · rintro ⟨h2, h3⟩
    subst h2; subst h3
    exact nd_scale h
theorem dr5 (h : K s = 5) (hn : n < 16) (hm : m < 16) : dr K A B s n t m ↔ (n < 15 ∧ m = n + 1 ∧ t = A s) := by
  constructor
  · rintro ⟨i, hi⟩
    unfold ndN at hi
    rw [if_neg (by omega), if_neg (by omega), if_neg (by omega)] at hi
    by_cases e2 : 0 < i ∨ K s ≤ 1
    · rw [if_pos e2] at hi; cases hi
    · rw [if_neg e2, if_pos h] at hi
      by_cases e : n < 15
      · rw [if_pos e] at hi
        have := Option.some.inj hi
        omega
      · rw [if_neg e] at hi; cases hi
  · rintro ⟨h2, h3, h4⟩
    subst h3; subst h4
    exact nd_der h h2
theorem dr6 (h : K s = 6 ∨ K s = 8) (hn : n < 16) (hm : m < 16) : dr K A B s n t m ↔ (0 < n ∧ m + 1 = n ∧ t = A s) := by
  constructor
  · rintro ⟨i, hi⟩
    unfold ndN at hi
    rw [if_neg (by omega), if_neg (by omega), if_neg (by omega)] at hi
    by_cases e2 : 0 < i ∨ K s ≤ 1
    · rw [if_pos e2] at hi; cases hi
    · rw [if_neg e2, if_neg (by omega), if_pos h] at hi
      by_cases e : 0 < n
      · rw [if_pos e] at hi
        have := Option.some.inj hi
        omega
      · rw [if_neg e] at hi; cases hi
  · rintro ⟨h2, h3, h4⟩
    subst h4
    obtain ⟨j, hj⟩ := nd_int (K := K) (A := A) (B := B) (n := n) h h2
    exact ⟨j, by rw [hj]; exact congrArg some (by omega)⟩
theorem dr7 (h : K s = 7) (hn : n < 16) (hm : m < 16) : dr K A B s n t m ↔ ((m ≤ n ∧ t = A s) ∨ (m < n ∧ t = s)) := by
  constructor
  · rintro ⟨i, hi⟩
    unfold ndN at hi
    rw [if_neg (by omega), if_pos h] at hi
    by_cases e : i ≤ n
    · rw [if_pos e] at hi
      have := Option.some.inj hi
      omega
    · rw [if_neg e] at hi
      by_cases e2 : i ≤ 2 * n
      · rw [if_pos e2] at hi
        have := Option.some.inj hi
        omega
      · rw [if_neg e2] at hi; cases hi
  · rintro (⟨h2, h3⟩ | ⟨h2, h3⟩)
    · subst h3
      exact nd_a (by omega) h2
    · subst h3
      exact nd_s h h2
theorem dr0 (h : K s ≤ 1) : ¬ dr K A B s n t m := by
  rintro ⟨i, hi⟩
  unfold ndN at hi
  rw [if_neg (by omega), if_neg (by omega), if_neg (by omega), if_pos (Or.inr h)] at hi
  cases hi
end Drk
/-- all that coefficient n of s needs has a value -/
def Rdy (σ : SG) (s n : Nat) : Prop := ∀ q, (∃ i, ndN (σ 0) (σ 1) (σ 2) s n i = some q) → σ 3 q = 1

set_option maxHeartbeats 4000000 in
/-- bad(x) -/
theorem c_M_bad (l : Launch) (h : Nat) (a : Nat → Nat) (σ : SG) (x : Int32) : MetN l y_M_bad b_M_bad 2 (some .boolean) (rm 0 0) 1 h a σ [.ref h, .int x] (pI (fun r σ' => σ' = σ ∧ ((isS x ∧ r = nI 0) ∨ (¬ isS x ∧ r = nI 1)))) := by
  refine nv_entry (by decide) (Nat.le_of_ble_eq_true rfl) (by intro v hv; simp only [List.mem_cons, List.not_mem_nil, or_false] at hv; rcases hv with rfl | rfl <;> rfl) (fun G hG => ?_)
  have hP := hG.pr
  refine nv_iload_n hP 1 d_M_bad_0 rfl rfl ?_
  refine nv_ifltR hP 10 d_M_bad_1 (by decide) (fun c_1 => ?_) (fun c_1 => ?_)
  · refine nv_iconst hP (nI 1) d_M_bad_10 (by decide) ?_
    refine nv_goto hP 15 d_M_bad_11 (by decide) ?_
    exact nv_zret hG (by omega) d_M_bad_15 (⟨_, rfl, rfl, Or.inr ⟨isS_neg c_1, rfl⟩⟩)
  · refine nv_iload_n hP 1 d_M_bad_4 rfl rfl ?_
    refine nv_bipush hP (nI 7) d_M_bad_5 (by decide) ?_
    refine nv_cmpleR hP 14 d_M_bad_7 (by decide) (fun c_7 => ?_) (fun c_7 => ?_)
    · refine nv_iconst hP (nI 0) d_M_bad_14 (by decide) ?_
      exact nv_zret hG (by omega) d_M_bad_15 (⟨_, rfl, rfl, Or.inl ⟨isS_ok c_1 (fun e => by rw [Int32.lt_iff_toInt_lt] at e; rw [Int32.le_iff_toInt_le] at c_7; omega), rfl⟩⟩)
    · refine nv_iconst hP (nI 1) d_M_bad_10 (by decide) ?_
      refine nv_goto hP 15 d_M_bad_11 (by decide) ?_
      exact nv_zret hG (by omega) d_M_bad_15 (⟨_, rfl, rfl, Or.inr ⟨isS_big (not_le_lt c_7), rfl⟩⟩)

set_option maxHeartbeats 4000000 in
/-- direct(s, n, t, m) -/
theorem c_M_direct (l : Launch) (h : Nat) (a : Nat → Nat) (σ : SG) (s n t m : Nat) (hs : s < 8) (hn : n < 16) (ht : t < 8) (hm : m < 16) (hw : Wf (σ 0) (σ 1) (σ 2)) : MetN l y_M_direct b_M_direct 6 (some .boolean) (rm 0 0) 1 h a σ [.ref h, .int (nI s), .int (nI n), .int (nI t), .int (nI m)] (pI (fun r σ' => σ' = σ ∧ ((dr (σ 0) (σ 1) (σ 2) s n t m ∧ r = nI 1) ∨ (¬ dr (σ 0) (σ 1) (σ 2) s n t m ∧ r = nI 0)))) := by
  refine nv_entry (by decide) (Nat.le_of_ble_eq_true rfl) (by intro v hv; simp only [List.mem_cons, List.not_mem_nil, or_false] at hv; rcases hv with rfl | rfl | rfl | rfl | rfl <;> rfl) (fun G hG => ?_)
  have hP := hG.pr
  obtain ⟨w1, w2, w3, w4⟩ := hw s hs
  refine nv_aload_n hP 0 d_M_direct_0 rfl rfl ?_
  refine nv_getf hG ff_M_0 (by decide) d_M_direct_1 ?_
  refine nv_iload_n hP 1 d_M_direct_4 rfl rfl ?_
  refine nv_iald hG 8 (by decide) rfl rfl (by omega) d_M_direct_5 ?_
  refine nv_istore hP d_M_direct_6 (by decide) ?_
  refine nv_iload hP d_M_direct_8 rfl ?_
  refine nv_iconst hP (nI 2) d_M_direct_10 (by decide) ?_
  refine nv_cmpne hP (by omega) (by omega) 46 d_M_direct_11 (by decide) (fun c_11 => ?_) (fun c_11 => ?_)
  · refine nv_iload hP d_M_direct_46 rfl ?_
    refine nv_iconst hP (nI 3) d_M_direct_48 (by decide) ?_
    refine nv_cmpeq hP (by omega) (by omega) 59 d_M_direct_49 (by decide) (fun c_49 => ?_) (fun c_49 => ?_)
    · refine nv_iload hP d_M_direct_59 rfl ?_
      refine nv_iload_n hP 2 d_M_direct_61 rfl rfl ?_
      refine nv_cmpgt hP (by omega) (by omega) 89 d_M_direct_62 (by decide) (fun c_62 => ?_) (fun c_62 => ?_)
      · refine nv_iconst hP (nI 0) d_M_direct_89 (by decide) ?_
        exact nv_zret hG (by omega) d_M_direct_90 (⟨_, rfl, rfl, Or.inr ⟨fun e => by have := (dr3 (by omega) hn hm).mp e; omega, rfl⟩⟩)
      · refine nv_iload_n hP 3 d_M_direct_65 rfl rfl ?_
        refine nv_aload_n hP 0 d_M_direct_66 rfl rfl ?_
        refine nv_getf hG ff_M_1 (by decide) d_M_direct_67 ?_
        refine nv_iload_n hP 1 d_M_direct_70 rfl rfl ?_
        refine nv_iald hG 8 (by decide) rfl rfl (by omega) d_M_direct_71 ?_
        refine nv_cmpeq hP (by omega) (by omega) 85 d_M_direct_72 (by decide) (fun c_72 => ?_) (fun c_72 => ?_)
        · refine nv_iconst hP (nI 1) d_M_direct_85 (by decide) ?_
          refine nv_goto hP 90 d_M_direct_86 (by decide) ?_
          exact nv_zret hG (by omega) d_M_direct_90 (⟨_, rfl, rfl, Or.inl ⟨(dr3 (by omega) hn hm).mpr (by omega), rfl⟩⟩)
        · refine nv_iload_n hP 3 d_M_direct_75 rfl rfl ?_
          refine nv_aload_n hP 0 d_M_direct_76 rfl rfl ?_
          refine nv_getf hG ff_M_2 (by decide) d_M_direct_77 ?_
          refine nv_iload_n hP 1 d_M_direct_80 rfl rfl ?_
          refine nv_iald hG 8 (by decide) rfl rfl (by omega) d_M_direct_81 ?_
          refine nv_cmpne hP (by omega) (by omega) 89 d_M_direct_82 (by decide) (fun c_82 => ?_) (fun c_82 => ?_)
          · refine nv_iconst hP (nI 0) d_M_direct_89 (by decide) ?_
            exact nv_zret hG (by omega) d_M_direct_90 (⟨_, rfl, rfl, Or.inr ⟨fun e => by have := (dr3 (by omega) hn hm).mp e; omega, rfl⟩⟩)
          · refine nv_iconst hP (nI 1) d_M_direct_85 (by decide) ?_
            refine nv_goto hP 90 d_M_direct_86 (by decide) ?_
            exact nv_zret hG (by omega) d_M_direct_90 (⟨_, rfl, rfl, Or.inl ⟨(dr3 (by omega) hn hm).mpr (by omega), rfl⟩⟩)
    · refine nv_iload hP d_M_direct_52 rfl ?_
      refine nv_bipush hP (nI 9) d_M_direct_54 (by decide) ?_
      refine nv_cmpne hP (by omega) (by omega) 91 d_M_direct_56 (by decide) (fun c_56 => ?_) (fun c_56 => ?_)
      · refine nv_iload hP d_M_direct_91 rfl ?_
        refine nv_iconst hP (nI 4) d_M_direct_93 (by decide) ?_
        refine nv_cmpne hP (by omega) (by omega) 119 d_M_direct_94 (by decide) (fun c_94 => ?_) (fun c_94 => ?_)
        · refine nv_iload hP d_M_direct_119 rfl ?_
          refine nv_iconst hP (nI 5) d_M_direct_121 (by decide) ?_
          refine nv_cmpne hP (by omega) (by omega) 155 d_M_direct_122 (by decide) (fun c_122 => ?_) (fun c_122 => ?_)
          · refine nv_iload hP d_M_direct_155 rfl ?_
            refine nv_bipush hP (nI 6) d_M_direct_157 (by decide) ?_
            refine nv_cmpeq hP (by omega) (by omega) 169 d_M_direct_159 (by decide) (fun c_159 => ?_) (fun c_159 => ?_)
            · refine nv_iload_n hP 2 d_M_direct_169 rfl rfl ?_
              refine nv_ifle hP (by omega) 195 d_M_direct_170 (by decide) (fun c_170 => ?_) (fun c_170 => ?_)
              · refine nv_iconst hP (nI 0) d_M_direct_195 (by decide) ?_
                exact nv_zret hG (by omega) d_M_direct_196 (⟨_, rfl, rfl, Or.inr ⟨fun e => by have := (dr6 (by omega) hn hm).mp e; omega, rfl⟩⟩)
              · refine nv_iload hP d_M_direct_173 rfl ?_
                refine nv_iload_n hP 2 d_M_direct_175 rfl rfl ?_
                refine nv_iconst hP (nI 1) d_M_direct_176 (by decide) ?_
                refine nv_isub hP (by omega) d_M_direct_177 ?_
                refine nv_cmpne hP (by omega) (by omega) 195 d_M_direct_178 (by decide) (fun c_178 => ?_) (fun c_178 => ?_)
                · refine nv_iconst hP (nI 0) d_M_direct_195 (by decide) ?_
                  exact nv_zret hG (by omega) d_M_direct_196 (⟨_, rfl, rfl, Or.inr ⟨fun e => by have := (dr6 (by omega) hn hm).mp e; omega, rfl⟩⟩)
                · refine nv_iload_n hP 3 d_M_direct_181 rfl rfl ?_
                  refine nv_aload_n hP 0 d_M_direct_182 rfl rfl ?_
                  refine nv_getf hG ff_M_1 (by decide) d_M_direct_183 ?_
                  refine nv_iload_n hP 1 d_M_direct_186 rfl rfl ?_
                  refine nv_iald hG 8 (by decide) rfl rfl (by omega) d_M_direct_187 ?_
                  refine nv_cmpne hP (by omega) (by omega) 195 d_M_direct_188 (by decide) (fun c_188 => ?_) (fun c_188 => ?_)
                  · refine nv_iconst hP (nI 0) d_M_direct_195 (by decide) ?_
                    exact nv_zret hG (by omega) d_M_direct_196 (⟨_, rfl, rfl, Or.inr ⟨fun e => by have := (dr6 (by omega) hn hm).mp e; omega, rfl⟩⟩)
                  · refine nv_iconst hP (nI 1) d_M_direct_191 (by decide) ?_
                    refine nv_goto hP 196 d_M_direct_192 (by decide) ?_
                    exact nv_zret hG (by omega) d_M_direct_196 (⟨_, rfl, rfl, Or.inl ⟨(dr6 (by omega) hn hm).mpr (by omega), rfl⟩⟩)
            · refine nv_iload hP d_M_direct_162 rfl ?_
              refine nv_bipush hP (nI 8) d_M_direct_164 (by decide) ?_
              refine nv_cmpne hP (by omega) (by omega) 197 d_M_direct_166 (by decide) (fun c_166 => ?_) (fun c_166 => ?_)
              · refine nv_iload hP d_M_direct_197 rfl ?_
                refine nv_bipush hP (nI 7) d_M_direct_199 (by decide) ?_
                refine nv_cmpne hP (by omega) (by omega) 237 d_M_direct_201 (by decide) (fun c_201 => ?_) (fun c_201 => ?_)
                · refine nv_iconst hP (nI 0) d_M_direct_237 (by decide) ?_
                  exact nv_zret hG (by omega) d_M_direct_238 (⟨_, rfl, rfl, Or.inr ⟨dr0 (by omega), rfl⟩⟩)
                · refine nv_iload hP d_M_direct_204 rfl ?_
                  refine nv_iload_n hP 2 d_M_direct_206 rfl rfl ?_
                  refine nv_cmpgt hP (by omega) (by omega) 220 d_M_direct_207 (by decide) (fun c_207 => ?_) (fun c_207 => ?_)
                  · refine nv_iload hP d_M_direct_220 rfl ?_
                    refine nv_iload_n hP 2 d_M_direct_222 rfl rfl ?_
                    refine nv_cmpge hP (by omega) (by omega) 235 d_M_direct_223 (by decide) (fun c_223 => ?_) (fun c_223 => ?_)
                    · refine nv_iconst hP (nI 0) d_M_direct_235 (by decide) ?_
                      exact nv_zret hG (by omega) d_M_direct_236 (⟨_, rfl, rfl, Or.inr ⟨fun e => by have := (dr7 (by omega) hn hm).mp e; omega, rfl⟩⟩)
                    · refine nv_iload_n hP 3 d_M_direct_226 rfl rfl ?_
                      refine nv_iload_n hP 1 d_M_direct_227 rfl rfl ?_
                      refine nv_cmpne hP (by omega) (by omega) 235 d_M_direct_228 (by decide) (fun c_228 => ?_) (fun c_228 => ?_)
                      · refine nv_iconst hP (nI 0) d_M_direct_235 (by decide) ?_
                        exact nv_zret hG (by omega) d_M_direct_236 (⟨_, rfl, rfl, Or.inr ⟨fun e => by have := (dr7 (by omega) hn hm).mp e; omega, rfl⟩⟩)
                      · refine nv_iconst hP (nI 1) d_M_direct_231 (by decide) ?_
                        refine nv_goto hP 236 d_M_direct_232 (by decide) ?_
                        exact nv_zret hG (by omega) d_M_direct_236 (⟨_, rfl, rfl, Or.inl ⟨(dr7 (by omega) hn hm).mpr (by omega), rfl⟩⟩)
                  · refine nv_iload_n hP 3 d_M_direct_210 rfl rfl ?_
                    refine nv_aload_n hP 0 d_M_direct_211 rfl rfl ?_
                    refine nv_getf hG ff_M_1 (by decide) d_M_direct_212 ?_
                    refine nv_iload_n hP 1 d_M_direct_215 rfl rfl ?_
                    refine nv_iald hG 8 (by decide) rfl rfl (by omega) d_M_direct_216 ?_
                    refine nv_cmpeq hP (by omega) (by omega) 231 d_M_direct_217 (by decide) (fun c_217 => ?_) (fun c_217 => ?_)
                    · refine nv_iconst hP (nI 1) d_M_direct_231 (by decide) ?_
                      refine nv_goto hP 236 d_M_direct_232 (by decide) ?_
                      exact nv_zret hG (by omega) d_M_direct_236 (⟨_, rfl, rfl, Or.inl ⟨(dr7 (by omega) hn hm).mpr (by omega), rfl⟩⟩)
                    · refine nv_iload hP d_M_direct_220 rfl ?_
                      refine nv_iload_n hP 2 d_M_direct_222 rfl rfl ?_
                      refine nv_cmpge hP (by omega) (by omega) 235 d_M_direct_223 (by decide) (fun c_223 => ?_) (fun c_223 => ?_)
                      · refine nv_iconst hP (nI 0) d_M_direct_235 (by decide) ?_
                        exact nv_zret hG (by omega) d_M_direct_236 (⟨_, rfl, rfl, Or.inr ⟨fun e => by have := (dr7 (by omega) hn hm).mp e; omega, rfl⟩⟩)
                      · refine nv_iload_n hP 3 d_M_direct_226 rfl rfl ?_
                        refine nv_iload_n hP 1 d_M_direct_227 rfl rfl ?_
                        refine nv_cmpne hP (by omega) (by omega) 235 d_M_direct_228 (by decide) (fun c_228 => ?_) (fun c_228 => ?_)
                        · refine nv_iconst hP (nI 0) d_M_direct_235 (by decide) ?_
                          exact nv_zret hG (by omega) d_M_direct_236 (⟨_, rfl, rfl, Or.inr ⟨fun e => by have := (dr7 (by omega) hn hm).mp e; omega, rfl⟩⟩)
                        · refine nv_iconst hP (nI 1) d_M_direct_231 (by decide) ?_
                          refine nv_goto hP 236 d_M_direct_232 (by decide) ?_
                          exact nv_zret hG (by omega) d_M_direct_236 (⟨_, rfl, rfl, Or.inl ⟨(dr7 (by omega) hn hm).mpr (by omega), rfl⟩⟩)
              · refine nv_iload_n hP 2 d_M_direct_169 rfl rfl ?_
                refine nv_ifle hP (by omega) 195 d_M_direct_170 (by decide) (fun c_170 => ?_) (fun c_170 => ?_)
                · refine nv_iconst hP (nI 0) d_M_direct_195 (by decide) ?_
                  exact nv_zret hG (by omega) d_M_direct_196 (⟨_, rfl, rfl, Or.inr ⟨fun e => by have := (dr6 (by omega) hn hm).mp e; omega, rfl⟩⟩)
                · refine nv_iload hP d_M_direct_173 rfl ?_
                  refine nv_iload_n hP 2 d_M_direct_175 rfl rfl ?_
                  refine nv_iconst hP (nI 1) d_M_direct_176 (by decide) ?_
                  refine nv_isub hP (by omega) d_M_direct_177 ?_
                  refine nv_cmpne hP (by omega) (by omega) 195 d_M_direct_178 (by decide) (fun c_178 => ?_) (fun c_178 => ?_)
                  · refine nv_iconst hP (nI 0) d_M_direct_195 (by decide) ?_
                    exact nv_zret hG (by omega) d_M_direct_196 (⟨_, rfl, rfl, Or.inr ⟨fun e => by have := (dr6 (by omega) hn hm).mp e; omega, rfl⟩⟩)
                  · refine nv_iload_n hP 3 d_M_direct_181 rfl rfl ?_
                    refine nv_aload_n hP 0 d_M_direct_182 rfl rfl ?_
                    refine nv_getf hG ff_M_1 (by decide) d_M_direct_183 ?_
                    refine nv_iload_n hP 1 d_M_direct_186 rfl rfl ?_
                    refine nv_iald hG 8 (by decide) rfl rfl (by omega) d_M_direct_187 ?_
                    refine nv_cmpne hP (by omega) (by omega) 195 d_M_direct_188 (by decide) (fun c_188 => ?_) (fun c_188 => ?_)
                    · refine nv_iconst hP (nI 0) d_M_direct_195 (by decide) ?_
                      exact nv_zret hG (by omega) d_M_direct_196 (⟨_, rfl, rfl, Or.inr ⟨fun e => by have := (dr6 (by omega) hn hm).mp e; omega, rfl⟩⟩)
                    · refine nv_iconst hP (nI 1) d_M_direct_191 (by decide) ?_
                      refine nv_goto hP 196 d_M_direct_192 (by decide) ?_
                      exact nv_zret hG (by omega) d_M_direct_196 (⟨_, rfl, rfl, Or.inl ⟨(dr6 (by omega) hn hm).mpr (by omega), rfl⟩⟩)
          · refine nv_iload_n hP 2 d_M_direct_125 rfl rfl ?_
            refine nv_bipush hP (nI 15) d_M_direct_126 (by decide) ?_
            refine nv_cmpge hP (by omega) (by omega) 153 d_M_direct_128 (by decide) (fun c_128 => ?_) (fun c_128 => ?_)
            · refine nv_iconst hP (nI 0) d_M_direct_153 (by decide) ?_
              exact nv_zret hG (by omega) d_M_direct_154 (⟨_, rfl, rfl, Or.inr ⟨fun e => by have := (dr5 (by omega) hn hm).mp e; omega, rfl⟩⟩)
            · refine nv_iload hP d_M_direct_131 rfl ?_
              refine nv_iload_n hP 2 d_M_direct_133 rfl rfl ?_
              refine nv_iconst hP (nI 1) d_M_direct_134 (by decide) ?_
              refine nv_iadd hP d_M_direct_135 ?_
              refine nv_cmpne hP (by omega) (by omega) 153 d_M_direct_136 (by decide) (fun c_136 => ?_) (fun c_136 => ?_)
              · refine nv_iconst hP (nI 0) d_M_direct_153 (by decide) ?_
                exact nv_zret hG (by omega) d_M_direct_154 (⟨_, rfl, rfl, Or.inr ⟨fun e => by have := (dr5 (by omega) hn hm).mp e; omega, rfl⟩⟩)
              · refine nv_iload_n hP 3 d_M_direct_139 rfl rfl ?_
                refine nv_aload_n hP 0 d_M_direct_140 rfl rfl ?_
                refine nv_getf hG ff_M_1 (by decide) d_M_direct_141 ?_
                refine nv_iload_n hP 1 d_M_direct_144 rfl rfl ?_
                refine nv_iald hG 8 (by decide) rfl rfl (by omega) d_M_direct_145 ?_
                refine nv_cmpne hP (by omega) (by omega) 153 d_M_direct_146 (by decide) (fun c_146 => ?_) (fun c_146 => ?_)
                · refine nv_iconst hP (nI 0) d_M_direct_153 (by decide) ?_
                  exact nv_zret hG (by omega) d_M_direct_154 (⟨_, rfl, rfl, Or.inr ⟨fun e => by have := (dr5 (by omega) hn hm).mp e; omega, rfl⟩⟩)
                · refine nv_iconst hP (nI 1) d_M_direct_149 (by decide) ?_
                  refine nv_goto hP 154 d_M_direct_150 (by decide) ?_
                  exact nv_zret hG (by omega) d_M_direct_154 (⟨_, rfl, rfl, Or.inl ⟨(dr5 (by omega) hn hm).mpr (by omega), rfl⟩⟩)
        · refine nv_iload hP d_M_direct_97 rfl ?_
          refine nv_iload_n hP 2 d_M_direct_99 rfl rfl ?_
          refine nv_cmpne hP (by omega) (by omega) 117 d_M_direct_100 (by decide) (fun c_100 => ?_) (fun c_100 => ?_)
          · refine nv_iconst hP (nI 0) d_M_direct_117 (by decide) ?_
            exact nv_zret hG (by omega) d_M_direct_118 (⟨_, rfl, rfl, Or.inr ⟨fun e => by have := (dr4 (by omega) hn hm).mp e; omega, rfl⟩⟩)
          · refine nv_iload_n hP 3 d_M_direct_103 rfl rfl ?_
            refine nv_aload_n hP 0 d_M_direct_104 rfl rfl ?_
            refine nv_getf hG ff_M_1 (by decide) d_M_direct_105 ?_
            refine nv_iload_n hP 1 d_M_direct_108 rfl rfl ?_
            refine nv_iald hG 8 (by decide) rfl rfl (by omega) d_M_direct_109 ?_
            refine nv_cmpne hP (by omega) (by omega) 117 d_M_direct_110 (by decide) (fun c_110 => ?_) (fun c_110 => ?_)
            · refine nv_iconst hP (nI 0) d_M_direct_117 (by decide) ?_
              exact nv_zret hG (by omega) d_M_direct_118 (⟨_, rfl, rfl, Or.inr ⟨fun e => by have := (dr4 (by omega) hn hm).mp e; omega, rfl⟩⟩)
            · refine nv_iconst hP (nI 1) d_M_direct_113 (by decide) ?_
              refine nv_goto hP 118 d_M_direct_114 (by decide) ?_
              exact nv_zret hG (by omega) d_M_direct_118 (⟨_, rfl, rfl, Or.inl ⟨(dr4 (by omega) hn hm).mpr (by omega), rfl⟩⟩)
      · refine nv_iload hP d_M_direct_59 rfl ?_
        refine nv_iload_n hP 2 d_M_direct_61 rfl rfl ?_
        refine nv_cmpgt hP (by omega) (by omega) 89 d_M_direct_62 (by decide) (fun c_62 => ?_) (fun c_62 => ?_)
        · refine nv_iconst hP (nI 0) d_M_direct_89 (by decide) ?_
          exact nv_zret hG (by omega) d_M_direct_90 (⟨_, rfl, rfl, Or.inr ⟨fun e => by have := (dr3 (by omega) hn hm).mp e; omega, rfl⟩⟩)
        · refine nv_iload_n hP 3 d_M_direct_65 rfl rfl ?_
          refine nv_aload_n hP 0 d_M_direct_66 rfl rfl ?_
          refine nv_getf hG ff_M_1 (by decide) d_M_direct_67 ?_
          refine nv_iload_n hP 1 d_M_direct_70 rfl rfl ?_
          refine nv_iald hG 8 (by decide) rfl rfl (by omega) d_M_direct_71 ?_
          refine nv_cmpeq hP (by omega) (by omega) 85 d_M_direct_72 (by decide) (fun c_72 => ?_) (fun c_72 => ?_)
          · refine nv_iconst hP (nI 1) d_M_direct_85 (by decide) ?_
            refine nv_goto hP 90 d_M_direct_86 (by decide) ?_
            exact nv_zret hG (by omega) d_M_direct_90 (⟨_, rfl, rfl, Or.inl ⟨(dr3 (by omega) hn hm).mpr (by omega), rfl⟩⟩)
          · refine nv_iload_n hP 3 d_M_direct_75 rfl rfl ?_
            refine nv_aload_n hP 0 d_M_direct_76 rfl rfl ?_
            refine nv_getf hG ff_M_2 (by decide) d_M_direct_77 ?_
            refine nv_iload_n hP 1 d_M_direct_80 rfl rfl ?_
            refine nv_iald hG 8 (by decide) rfl rfl (by omega) d_M_direct_81 ?_
            refine nv_cmpne hP (by omega) (by omega) 89 d_M_direct_82 (by decide) (fun c_82 => ?_) (fun c_82 => ?_)
            · refine nv_iconst hP (nI 0) d_M_direct_89 (by decide) ?_
              exact nv_zret hG (by omega) d_M_direct_90 (⟨_, rfl, rfl, Or.inr ⟨fun e => by have := (dr3 (by omega) hn hm).mp e; omega, rfl⟩⟩)
            · refine nv_iconst hP (nI 1) d_M_direct_85 (by decide) ?_
              refine nv_goto hP 90 d_M_direct_86 (by decide) ?_
              exact nv_zret hG (by omega) d_M_direct_90 (⟨_, rfl, rfl, Or.inl ⟨(dr3 (by omega) hn hm).mpr (by omega), rfl⟩⟩)
  · refine nv_iload hP d_M_direct_14 rfl ?_
    refine nv_iload_n hP 2 d_M_direct_16 rfl rfl ?_
    refine nv_cmpne hP (by omega) (by omega) 44 d_M_direct_17 (by decide) (fun c_17 => ?_) (fun c_17 => ?_)
    · refine nv_iconst hP (nI 0) d_M_direct_44 (by decide) ?_
      exact nv_zret hG (by omega) d_M_direct_45 (⟨_, rfl, rfl, Or.inr ⟨fun e => by have := (dr2 (by omega) hn hm).mp e; omega, rfl⟩⟩)
    · refine nv_iload_n hP 3 d_M_direct_20 rfl rfl ?_
      refine nv_aload_n hP 0 d_M_direct_21 rfl rfl ?_
      refine nv_getf hG ff_M_1 (by decide) d_M_direct_22 ?_
      refine nv_iload_n hP 1 d_M_direct_25 rfl rfl ?_
      refine nv_iald hG 8 (by decide) rfl rfl (by omega) d_M_direct_26 ?_
      refine nv_cmpeq hP (by omega) (by omega) 40 d_M_direct_27 (by decide) (fun c_27 => ?_) (fun c_27 => ?_)
      · refine nv_iconst hP (nI 1) d_M_direct_40 (by decide) ?_
        refine nv_goto hP 45 d_M_direct_41 (by decide) ?_
        exact nv_zret hG (by omega) d_M_direct_45 (⟨_, rfl, rfl, Or.inl ⟨(dr2 (by omega) hn hm).mpr (by omega), rfl⟩⟩)
      · refine nv_iload_n hP 3 d_M_direct_30 rfl rfl ?_
        refine nv_aload_n hP 0 d_M_direct_31 rfl rfl ?_
        refine nv_getf hG ff_M_2 (by decide) d_M_direct_32 ?_
        refine nv_iload_n hP 1 d_M_direct_35 rfl rfl ?_
        refine nv_iald hG 8 (by decide) rfl rfl (by omega) d_M_direct_36 ?_
        refine nv_cmpne hP (by omega) (by omega) 44 d_M_direct_37 (by decide) (fun c_37 => ?_) (fun c_37 => ?_)
        · refine nv_iconst hP (nI 0) d_M_direct_44 (by decide) ?_
          exact nv_zret hG (by omega) d_M_direct_45 (⟨_, rfl, rfl, Or.inr ⟨fun e => by have := (dr2 (by omega) hn hm).mp e; omega, rfl⟩⟩)
        · refine nv_iconst hP (nI 1) d_M_direct_40 (by decide) ?_
          refine nv_goto hP 45 d_M_direct_41 (by decide) ?_
          exact nv_zret hG (by omega) d_M_direct_45 (⟨_, rfl, rfl, Or.inl ⟨(dr2 (by omega) hn hm).mpr (by omega), rfl⟩⟩)

section Dr
variable {K A B : Nat → Nat} {s n t m : Nat} {r : Int32}
theorem dr_t (h : (dr K A B s n t m ∧ r = nI 1) ∨ (¬ dr K A B s n t m ∧ r = nI 0)) (hr : ¬ r = 0) : dr K A B s n t m := by
  rcases h with h | h
  · exact h.1
  · exact absurd h.2 hr
theorem dr_f (h : (dr K A B s n t m ∧ r = nI 1) ∨ (¬ dr K A B s n t m ∧ r = nI 0)) (hr : r = 0) : ¬ dr K A B s n t m := by
  rcases h with h | h
  · rw [h.2] at hr
    exact absurd hr (by decide)
  · exact h.1
/-- what is needed lies in one of the three series that ready looks at -/
theorem dr_at (hw : Wf K A B) (hs : s < 8) (hn : n < 16) {q : Nat} (hq : ∃ i, ndN K A B s n i = some q) : ∃ t m, m < 16 ∧ q = 16 * t + m ∧ dr K A B s n t m ∧ (t = A s ∨ t = B s % 8 ∨ t = s) := by
  obtain ⟨i, hi⟩ := hq
  have hd : dr K A B s n (q / 16) (q % 16) := ⟨i, by rw [hi]; exact congrArg some (by omega)⟩
  obtain ⟨w1, w2, w3, w4⟩ := hw s hs
  refine ⟨q / 16, q % 16, by omega, by omega, hd, ?_⟩
  have hm : q % 16 < 16 := by omega
  rcases (show K s ≤ 1 ∨ K s = 2 ∨ (K s = 3 ∨ K s = 9) ∨ K s = 4 ∨ K s = 5 ∨ (K s = 6 ∨ K s = 8) ∨ K s = 7 by omega) with h | h | h | h | h | h | h
  · exact absurd hd (dr0 h)
  · have := (dr2 h hn hm).mp hd; have := w4 (by omega); omega
  · have := (dr3 h hn hm).mp hd; have := w4 (by omega); omega
  · have := (dr4 h hn hm).mp hd; omega
  · have := (dr5 h hn hm).mp hd; omega
  · have := (dr6 h hn hm).mp hd; omega
  · have := (dr7 h hn hm).mp hd; omega
end Dr

set_option maxHeartbeats 4000000 in
/-- ready(s, n) -/
theorem c_M_ready (l : Launch) (h : Nat) (a : Nat → Nat) (σ : SG) (s n : Nat) (hs : s < 8) (hn : n < 16) (hw : Wf (σ 0) (σ 1) (σ 2)) (h3 : ∀ q, q < 128 → σ 3 q ≤ 1) : MetN l y_M_ready b_M_ready 5 (some .boolean) (rm 1 25) 1 h a σ [.ref h, .int (nI s), .int (nI n)] (pI (fun r σ' => σ' = σ ∧ ((Rdy σ s n ∧ r = nI 1) ∨ (¬ Rdy σ s n ∧ r = nI 0)))) := by
  refine nv_entry (by decide) (Nat.le_of_ble_eq_true rfl) (by intro v hv; simp only [List.mem_cons, List.not_mem_nil, or_false] at hv; rcases hv with rfl | rfl | rfl <;> rfl) (fun G hG => ?_)
  have hP := hG.pr
  obtain ⟨w1, w2, w3, w4⟩ := hw s hs
  refine nv_aload_n hP 0 d_M_ready_0 rfl rfl ?_
  refine nv_getf hG ff_M_2 (by decide) d_M_ready_1 ?_
  refine nv_iload_n hP 1 d_M_ready_4 rfl rfl ?_
  refine nv_iald hG 8 (by decide) rfl rfl (by omega) d_M_ready_5 ?_
  refine nv_bipush hP (nI 7) d_M_ready_6 (by decide) ?_
  refine nv_iand7 hP (by omega) d_M_ready_8 ?_
  refine nv_istore_n hP 3 d_M_ready_9 rfl (by decide) ?_
  refine nv_iconst hP (nI 0) d_M_ready_10 (by decide) ?_
  refine nv_istore hP d_M_ready_11 (by decide) ?_
  have loop_13 : ∀ (f_13 : Nat) (m : Nat) (_ : m ≤ 16) (_ : ∀ k, k < m → (dr (σ 0) (σ 1) (σ 2) s n (σ 1 s) k → σ 3 (16 * σ 1 s + k) = 1) ∧ (dr (σ 0) (σ 1) (σ 2) s n (σ 2 s % 8) k → σ 3 (16 * (σ 2 s % 8) + k) = 1) ∧ (dr (σ 0) (σ 1) (σ 2) s n s k → σ 3 (16 * s + k) = 1)), 16 - m < f_13 → G σ 13 [(0, .ref h), (1, .int (nI s)), (2, .int (nI n)), (3, .int (nI (σ 2 s % 8))), (4, .int (nI m))] [] := by
    intro f_13
    induction f_13 with
    | zero => intro m hm hA hf_13; exact absurd hf_13 (Nat.not_lt_zero _)
    | succ f_13 ih_13 =>
      intro m hm hA hf_13
      refine nv_iload hP d_M_ready_13 rfl ?_
      refine nv_bipush hP (nI 16) d_M_ready_15 (by decide) ?_
      refine nv_cmpge hP (by omega) (by omega) 123 d_M_ready_17 (by decide) (fun c_17 => ?_) (fun c_17 => ?_)
      · refine nv_iconst hP (nI 1) d_M_ready_123 (by decide) ?_
        exact nv_zret hG (by omega) d_M_ready_124 (⟨_, rfl, rfl, Or.inl ⟨fun q hq => by
          obtain ⟨t, k, hk, rfl, hd, ht⟩ := dr_at hw hs hn hq
          obtain ⟨f1, f2, f3⟩ := hA k (by omega)
          rcases ht with rfl | rfl | rfl
          · exact f1 hd
          · exact f2 hd
          · exact f3 hd, rfl⟩⟩)
      · have join_59 : ∀ (_ : dr (σ 0) (σ 1) (σ 2) s n (σ 1 s) m → σ 3 (16 * (σ 1 s) + m) = 1), G σ 59 [(0, .ref h), (1, .int (nI s)), (2, .int (nI n)), (3, .int (nI (σ 2 s % 8))), (4, .int (nI m))] [] := by
          intro j1
          have join_88 : ∀ (_ : dr (σ 0) (σ 1) (σ 2) s n (σ 2 s % 8) m → σ 3 (16 * (σ 2 s % 8) + m) = 1), G σ 88 [(0, .ref h), (1, .int (nI s)), (2, .int (nI n)), (3, .int (nI (σ 2 s % 8))), (4, .int (nI m))] [] := by
            intro j2
            have join_117 : ∀ (_ : dr (σ 0) (σ 1) (σ 2) s n (s) m → σ 3 (16 * s + m) = 1), G σ 117 [(0, .ref h), (1, .int (nI s)), (2, .int (nI n)), (3, .int (nI (σ 2 s % 8))), (4, .int (nI m))] [] := by
              intro j3
              refine nv_iinc hP d_M_ready_117 rfl (by decide) ?_
              refine nv_goto hP 13 d_M_ready_120 (by decide) ?_
              exact nv_lv hP (lsub_c rfl (lsub_c rfl (lsub_c rfl (lsub_c rfl (lsub_c rfl lsub_n))))) (ih_13 (m + 1) (by omega) (fun k hk => by
                by_cases e : k = m
                · rw [e]; exact ⟨j1, j2, j3⟩
                · exact hA k (by omega)) (by omega))
            refine nv_aload_n hP 0 d_M_ready_88 rfl rfl ?_
            refine nv_iload_n hP 1 d_M_ready_89 rfl rfl ?_
            refine nv_iload_n hP 2 d_M_ready_90 rfl rfl ?_
            refine nv_iload_n hP 1 d_M_ready_91 rfl rfl ?_
            refine nv_iload hP d_M_ready_92 rfl ?_
            refine nv_callVI hG (c_M_direct l h a σ s n (s) m hs hn (by omega) (by omega) hw) k_M_direct rfl ⟨rfl, rfl⟩ ⟨Nat.le_of_ble_eq_true rfl, Nat.le_of_ble_eq_true rfl⟩ rfl (Nat.le_of_ble_eq_true rfl) d_M_ready_94 (fun r_94 σ_94 q_94 => ?_)
            obtain ⟨e_94, hd_94⟩ := q_94
            replace e_94 := e_94.symm
            subst e_94
            refine nv_ifeqR hP 117 d_M_ready_97 (by decide) (fun c_97 => ?_) (fun c_97 => ?_)
            · exact nv_lv hP (lsub_c rfl (lsub_c rfl (lsub_c rfl (lsub_c rfl (lsub_c rfl lsub_n))))) (join_117 (fun e => absurd e (dr_f hd_94 c_97)))
            · refine nv_aload_n hP 0 d_M_ready_100 rfl rfl ?_
              refine nv_getf hG ff_M_3 (by decide) d_M_ready_101 ?_
              refine nv_bipush hP (nI 16) d_M_ready_104 (by decide) ?_
              refine nv_iload_n hP 1 d_M_ready_106 rfl rfl ?_
              refine nv_imul hP d_M_ready_107 ?_
              refine nv_iload hP d_M_ready_108 rfl ?_
              refine nv_iadd hP d_M_ready_110 ?_
              have b1 := h3 (16 * s + m) (by omega)
              refine nv_zald hG 128 (by decide) rfl rfl (by omega) d_M_ready_111 ?_
              refine nv_ifne hP (by omega) 117 d_M_ready_112 (by decide) (fun c_112 => ?_) (fun c_112 => ?_)
              · exact nv_lv hP (lsub_c rfl (lsub_c rfl (lsub_c rfl (lsub_c rfl (lsub_c rfl lsub_n))))) (join_117 (fun _ => by omega))
              · refine nv_iconst hP (nI 0) d_M_ready_115 (by decide) ?_
                exact nv_zret hG (by omega) d_M_ready_116 (⟨_, rfl, rfl, Or.inr ⟨fun e => by have := e _ (dr_t hd_94 c_97); omega, rfl⟩⟩)
          refine nv_aload_n hP 0 d_M_ready_59 rfl rfl ?_
          refine nv_iload_n hP 1 d_M_ready_60 rfl rfl ?_
          refine nv_iload_n hP 2 d_M_ready_61 rfl rfl ?_
          refine nv_iload_n hP 3 d_M_ready_62 rfl rfl ?_
          refine nv_iload hP d_M_ready_63 rfl ?_
          refine nv_callVI hG (c_M_direct l h a σ s n (σ 2 s % 8) m hs hn (by omega) (by omega) hw) k_M_direct rfl ⟨rfl, rfl⟩ ⟨Nat.le_of_ble_eq_true rfl, Nat.le_of_ble_eq_true rfl⟩ rfl (Nat.le_of_ble_eq_true rfl) d_M_ready_65 (fun r_65 σ_65 q_65 => ?_)
          obtain ⟨e_65, hd_65⟩ := q_65
          replace e_65 := e_65.symm
          subst e_65
          refine nv_ifeqR hP 88 d_M_ready_68 (by decide) (fun c_68 => ?_) (fun c_68 => ?_)
          · exact nv_lv hP (lsub_c rfl (lsub_c rfl (lsub_c rfl (lsub_c rfl (lsub_c rfl lsub_n))))) (join_88 (fun e => absurd e (dr_f hd_65 c_68)))
          · refine nv_aload_n hP 0 d_M_ready_71 rfl rfl ?_
            refine nv_getf hG ff_M_3 (by decide) d_M_ready_72 ?_
            refine nv_bipush hP (nI 16) d_M_ready_75 (by decide) ?_
            refine nv_iload_n hP 3 d_M_ready_77 rfl rfl ?_
            refine nv_imul hP d_M_ready_78 ?_
            refine nv_iload hP d_M_ready_79 rfl ?_
            refine nv_iadd hP d_M_ready_81 ?_
            have b1 := h3 (16 * (σ 2 s % 8) + m) (by omega)
            refine nv_zald hG 128 (by decide) rfl rfl (by omega) d_M_ready_82 ?_
            refine nv_ifne hP (by omega) 88 d_M_ready_83 (by decide) (fun c_83 => ?_) (fun c_83 => ?_)
            · exact nv_lv hP (lsub_c rfl (lsub_c rfl (lsub_c rfl (lsub_c rfl (lsub_c rfl lsub_n))))) (join_88 (fun _ => by omega))
            · refine nv_iconst hP (nI 0) d_M_ready_86 (by decide) ?_
              exact nv_zret hG (by omega) d_M_ready_87 (⟨_, rfl, rfl, Or.inr ⟨fun e => by have := e _ (dr_t hd_65 c_68); omega, rfl⟩⟩)
        refine nv_aload_n hP 0 d_M_ready_20 rfl rfl ?_
        refine nv_iload_n hP 1 d_M_ready_21 rfl rfl ?_
        refine nv_iload_n hP 2 d_M_ready_22 rfl rfl ?_
        refine nv_aload_n hP 0 d_M_ready_23 rfl rfl ?_
        refine nv_getf hG ff_M_1 (by decide) d_M_ready_24 ?_
        refine nv_iload_n hP 1 d_M_ready_27 rfl rfl ?_
        refine nv_iald hG 8 (by decide) rfl rfl (by omega) d_M_ready_28 ?_
        refine nv_iload hP d_M_ready_29 rfl ?_
        refine nv_callVI hG (c_M_direct l h a σ s n (σ 1 s) m hs hn (by omega) (by omega) hw) k_M_direct rfl ⟨rfl, rfl⟩ ⟨Nat.le_of_ble_eq_true rfl, Nat.le_of_ble_eq_true rfl⟩ rfl (Nat.le_of_ble_eq_true rfl) d_M_ready_31 (fun r_31 σ_31 q_31 => ?_)
        obtain ⟨e_31, hd_31⟩ := q_31
        replace e_31 := e_31.symm
        subst e_31
        refine nv_ifeqR hP 59 d_M_ready_34 (by decide) (fun c_34 => ?_) (fun c_34 => ?_)
        · exact nv_lv hP (lsub_c rfl (lsub_c rfl (lsub_c rfl (lsub_c rfl (lsub_c rfl lsub_n))))) (join_59 (fun e => absurd e (dr_f hd_31 c_34)))
        · refine nv_aload_n hP 0 d_M_ready_37 rfl rfl ?_
          refine nv_getf hG ff_M_3 (by decide) d_M_ready_38 ?_
          refine nv_bipush hP (nI 16) d_M_ready_41 (by decide) ?_
          refine nv_aload_n hP 0 d_M_ready_43 rfl rfl ?_
          refine nv_getf hG ff_M_1 (by decide) d_M_ready_44 ?_
          refine nv_iload_n hP 1 d_M_ready_47 rfl rfl ?_
          refine nv_iald hG 8 (by decide) rfl rfl (by omega) d_M_ready_48 ?_
          refine nv_imul hP d_M_ready_49 ?_
          refine nv_iload hP d_M_ready_50 rfl ?_
          refine nv_iadd hP d_M_ready_52 ?_
          have b1 := h3 (16 * σ 1 s + m) (by omega)
          refine nv_zald hG 128 (by decide) rfl rfl (by omega) d_M_ready_53 ?_
          refine nv_ifne hP (by omega) 59 d_M_ready_54 (by decide) (fun c_54 => ?_) (fun c_54 => ?_)
          · exact nv_lv hP (lsub_c rfl (lsub_c rfl (lsub_c rfl (lsub_c rfl (lsub_c rfl lsub_n))))) (join_59 (fun _ => by omega))
          · refine nv_iconst hP (nI 0) d_M_ready_57 (by decide) ?_
            exact nv_zret hG (by omega) d_M_ready_58 (⟨_, rfl, rfl, Or.inr ⟨fun e => by have := e _ (dr_t hd_31 c_34); omega, rfl⟩⟩)
  exact nv_lv hP (lsub_c rfl (lsub_c rfl (lsub_c rfl (lsub_c rfl (lsub_c rfl lsub_n))))) (loop_13 _ 0 (by omega) (fun k hk => absurd hk (Nat.not_lt_zero _)) (Nat.lt_succ_self _))

theorem qt_ok {x y z : Nat} (hy : y < 97) (h0 : y ≠ 0) (hz : z < 97) (h : y * z % 97 = x) : z = x * ivT y % 97 := by
  have h1 := ivT_mul y hy h0
  rw [← h, Nat.mod_mul_mod, show y * z * ivT y = z * (y * ivT y) by rw [Nat.mul_comm y z, Nat.mul_assoc], Nat.mul_mod, h1, Nat.mul_one, Nat.mod_mod, Nat.mod_eq_of_lt hz]
theorem qt_ex {x y : Nat} (hx : x < 97) (hy : y < 97) (h0 : y ≠ 0) : y * (x * ivT y % 97) % 97 = x := by
  have h1 := ivT_mul y hy h0
  rw [Nat.mul_mod_mod, show y * (x * ivT y) = x * (y * ivT y) by rw [← Nat.mul_assoc, Nat.mul_comm y x, Nat.mul_assoc], Nat.mul_mod, h1, Nat.mul_one, Nat.mod_mod, Nat.mod_eq_of_lt hx]

set_option maxHeartbeats 4000000 in
/-- quotient(x, y) -/
theorem c_M_quotient (l : Launch) (h : Nat) (a : Nat → Nat) (σ : SG) (x y : Nat) (hx : x < 97) (hy : y < 97) (h0 : y ≠ 0) : MetN l y_M_quotient b_M_quotient 4 (some .int) (rm 0 0) 1 h a σ [.ref h, .int (nI x), .int (nI y)] (pI (fun r σ' => σ' = σ ∧ r = nI (x * ivT y % 97))) := by
  refine nv_entry (by decide) (Nat.le_of_ble_eq_true rfl) (by intro v hv; simp only [List.mem_cons, List.not_mem_nil, or_false] at hv; rcases hv with rfl | rfl | rfl <;> rfl) (fun G hG => ?_)
  have hP := hG.pr
  refine nv_iconst hP (nI 0) d_M_quotient_0 (by decide) ?_
  refine nv_istore_n hP 3 d_M_quotient_1 rfl (by decide) ?_
  have loop_2 : ∀ (f_2 : Nat) (z : Nat) (_ : z ≤ 97) (_ : ∀ k, k < z → y * k % 97 ≠ x), 97 - z < f_2 → G σ 2 [(0, .ref h), (1, .int (nI x)), (2, .int (nI y)), (3, .int (nI z))] [] := by
    intro f_2
    induction f_2 with
    | zero => intro z hz hA hf_2; exact absurd hf_2 (Nat.not_lt_zero _)
    | succ f_2 ih_2 =>
      intro z hz hA hf_2
      refine nv_iload_n hP 3 d_M_quotient_2 rfl rfl ?_
      refine nv_bipush hP (nI 97) d_M_quotient_3 (by decide) ?_
      refine nv_cmpge hP (by omega) (by omega) 26 d_M_quotient_5 (by decide) (fun c_5 => ?_) (fun c_5 => ?_)
      · refine nv_iconst hP (nI 0) d_M_quotient_26 (by decide) ?_
        exact nv_iret hG d_M_quotient_27 (⟨_, rfl, rfl, absurd (qt_ex hx hy h0) (hA _ (by have := Nat.mod_lt (x * ivT y) (show 0 < 97 by decide); omega))⟩)
      · refine nv_iload_n hP 2 d_M_quotient_8 rfl rfl ?_
        refine nv_iload_n hP 3 d_M_quotient_9 rfl rfl ?_
        refine nv_imul hP d_M_quotient_10 ?_
        refine nv_bipush hP (nI 97) d_M_quotient_11 (by decide) ?_
        have b1 := m97 hy (show z < 97 by omega)
        refine nv_irem hP (by omega) (by omega) (by omega) d_M_quotient_13 ?_
        refine nv_iload_n hP 1 d_M_quotient_14 rfl rfl ?_
        have b2 := Nat.mod_lt (y * z) (show 0 < 97 by decide)
        refine nv_cmpne hP (by omega) (by omega) 20 d_M_quotient_15 (by decide) (fun c_15 => ?_) (fun c_15 => ?_)
        · refine nv_iinc hP d_M_quotient_20 rfl (by decide) ?_
          refine nv_goto hP 2 d_M_quotient_23 (by decide) ?_
          exact nv_lv hP (lsub_c rfl (lsub_c rfl (lsub_c rfl (lsub_c rfl lsub_n)))) (ih_2 (z + 1) (by omega) (fun k hk => by
            by_cases e : k = z
            · rw [e]; exact c_15
            · exact hA k (by omega)) (by omega))
        · refine nv_iload_n hP 3 d_M_quotient_18 rfl rfl ?_
          exact nv_iret hG d_M_quotient_19 (⟨_, rfl, rfl, by rw [qt_ok hy h0 (by omega) c_15]⟩)
  exact nv_lv hP (lsub_c rfl (lsub_c rfl (lsub_c rfl (lsub_c rfl lsub_n)))) (loop_2 _ 0 (by omega) (fun k hk => absurd hk (Nat.not_lt_zero _)) (Nat.lt_succ_self _))

set_option maxHeartbeats 4000000 in
/-- convolved(s, n) -/
theorem c_M_convolved (l : Launch) (h : Nat) (a : Nat → Nat) (σ : SG) (s n : Nat) (hs : s < 8) (hn : n < 16) (ha : σ 1 s < 8) (hb : σ 2 s < 8) (hv : ∀ q, σ 4 q < 97) : MetN l y_M_convolved b_M_convolved 5 (some .int) (rm 0 0) 1 h a σ [.ref h, .int (nI s), .int (nI n)] (pI (fun r σ' => σ' = σ ∧ r = nI (sF (fun i => σ 4 (16 * σ 1 s + i) * σ 4 (16 * σ 2 s + n - i)) (n + 1) % 97))) := by
  refine nv_entry (by decide) (Nat.le_of_ble_eq_true rfl) (by intro v hv; simp only [List.mem_cons, List.not_mem_nil, or_false] at hv; rcases hv with rfl | rfl | rfl <;> rfl) (fun G hG => ?_)
  have hP := hG.pr
  refine nv_iconst hP (nI 0) d_M_convolved_0 (by decide) ?_
  refine nv_istore_n hP 3 d_M_convolved_1 rfl (by decide) ?_
  refine nv_iconst hP (nI 0) d_M_convolved_2 (by decide) ?_
  refine nv_istore hP d_M_convolved_3 (by decide) ?_
  have loop_5 : ∀ (f_5 : Nat) (i t : Nat) (_ : i ≤ n + 1) (_ : t = sF (fun i => σ 4 (16 * σ 1 s + i) * σ 4 (16 * σ 2 s + n - i)) i), n + 1 - i < f_5 → G σ 5 [(0, .ref h), (1, .int (nI s)), (2, .int (nI n)), (3, .int (nI t)), (4, .int (nI i))] [] := by
    intro f_5
    induction f_5 with
    | zero => intro i t hi ht hf_5; exact absurd hf_5 (Nat.not_lt_zero _)
    | succ f_5 ih_5 =>
      intro i t hi ht hf_5
      have hb9 : t ≤ 9216 * i := by rw [ht]; exact sF_le i (fun j _ => m97 (hv _) (hv _))
      refine nv_iload hP d_M_convolved_5 rfl ?_
      refine nv_iload_n hP 2 d_M_convolved_7 rfl rfl ?_
      refine nv_cmpgt hP (by omega) (by omega) 57 d_M_convolved_8 (by decide) (fun c_8 => ?_) (fun c_8 => ?_)
      · refine nv_iload_n hP 3 d_M_convolved_57 rfl rfl ?_
        refine nv_bipush hP (nI 97) d_M_convolved_58 (by decide) ?_
        refine nv_irem hP (by omega) (by omega) (by omega) d_M_convolved_60 ?_
        exact nv_iret hG d_M_convolved_61 (⟨_, rfl, rfl, by rw [ht, show i = n + 1 by omega]⟩)
      · refine nv_iload_n hP 3 d_M_convolved_11 rfl rfl ?_
        refine nv_aload_n hP 0 d_M_convolved_12 rfl rfl ?_
        refine nv_getf hG ff_M_4 (by decide) d_M_convolved_13 ?_
        refine nv_bipush hP (nI 16) d_M_convolved_16 (by decide) ?_
        refine nv_aload_n hP 0 d_M_convolved_18 rfl rfl ?_
        refine nv_getf hG ff_M_1 (by decide) d_M_convolved_19 ?_
        refine nv_iload_n hP 1 d_M_convolved_22 rfl rfl ?_
        refine nv_iald hG 8 (by decide) rfl rfl (by omega) d_M_convolved_23 ?_
        refine nv_imul hP d_M_convolved_24 ?_
        refine nv_iload hP d_M_convolved_25 rfl ?_
        refine nv_iadd hP d_M_convolved_27 ?_
        refine nv_iald hG 128 (by decide) rfl rfl (by omega) d_M_convolved_28 ?_
        refine nv_aload_n hP 0 d_M_convolved_29 rfl rfl ?_
        refine nv_getf hG ff_M_4 (by decide) d_M_convolved_30 ?_
        refine nv_bipush hP (nI 16) d_M_convolved_33 (by decide) ?_
        refine nv_aload_n hP 0 d_M_convolved_35 rfl rfl ?_
        refine nv_getf hG ff_M_2 (by decide) d_M_convolved_36 ?_
        refine nv_iload_n hP 1 d_M_convolved_39 rfl rfl ?_
        refine nv_iald hG 8 (by decide) rfl rfl (by omega) d_M_convolved_40 ?_
        refine nv_imul hP d_M_convolved_41 ?_
        refine nv_iload_n hP 2 d_M_convolved_42 rfl rfl ?_
        refine nv_iadd hP d_M_convolved_43 ?_
        refine nv_iload hP d_M_convolved_44 rfl ?_
        refine nv_isub hP (by omega) d_M_convolved_46 ?_
        refine nv_iald hG 128 (by decide) rfl rfl (by omega) d_M_convolved_47 ?_
        refine nv_imul hP d_M_convolved_48 ?_
        refine nv_iadd hP d_M_convolved_49 ?_
        refine nv_istore_n hP 3 d_M_convolved_50 rfl (by decide) ?_
        refine nv_iinc hP d_M_convolved_51 rfl (by decide) ?_
        refine nv_goto hP 5 d_M_convolved_54 (by decide) ?_
        exact nv_lv hP (lsub_c rfl (lsub_c rfl (lsub_c rfl (lsub_c rfl (lsub_c rfl lsub_n))))) (ih_5 (i + 1) _ (by omega) (by rw [ht]; rfl) (by omega))
  exact nv_lv hP (lsub_c rfl (lsub_c rfl (lsub_c rfl (lsub_c rfl (lsub_c rfl lsub_n))))) (loop_5 _ 0 0 (by omega) rfl (Nat.lt_succ_self _))

set_option maxHeartbeats 4000000 in
/-- reciprocal(s, n) -/
theorem c_M_reciprocal (l : Launch) (h : Nat) (a : Nat → Nat) (σ : SG) (s n : Nat) (hs : s < 8) (hn : n < 16) (ha : σ 1 s < 8) (hv : ∀ q, σ 4 q < 97) (h0 : σ 4 (16 * σ 1 s) ≠ 0) (h1 : n ≠ 0 → σ 4 (16 * s) = ivT (σ 4 (16 * σ 1 s))) : MetN l y_M_reciprocal b_M_reciprocal 6 (some .int) (rm 1 23) 1 h a σ [.ref h, .int (nI s), .int (nI n)] (pI (fun r σ' => σ' = σ ∧ r = nI (if n = 0 then ivT (σ 4 (16 * σ 1 s)) else (97 - sF (fun i => σ 4 (16 * σ 1 s + (1 + i)) * σ 4 (16 * s + n - (1 + i))) n % 97) * ivT (σ 4 (16 * σ 1 s)) % 97))) := by
  refine nv_entry (by decide) (Nat.le_of_ble_eq_true rfl) (by intro v hv; simp only [List.mem_cons, List.not_mem_nil, or_false] at hv; rcases hv with rfl | rfl | rfl <;> rfl) (fun G hG => ?_)
  have hP := hG.pr
  refine nv_aload_n hP 0 d_M_reciprocal_0 rfl rfl ?_
  refine nv_getf hG ff_M_4 (by decide) d_M_reciprocal_1 ?_
  refine nv_bipush hP (nI 16) d_M_reciprocal_4 (by decide) ?_
  refine nv_aload_n hP 0 d_M_reciprocal_6 rfl rfl ?_
  refine nv_getf hG ff_M_1 (by decide) d_M_reciprocal_7 ?_
  refine nv_iload_n hP 1 d_M_reciprocal_10 rfl rfl ?_
  refine nv_iald hG 8 (by decide) rfl rfl (by omega) d_M_reciprocal_11 ?_
  refine nv_imul hP d_M_reciprocal_12 ?_
  refine nv_iald hG 128 (by decide) rfl rfl (by omega) d_M_reciprocal_13 ?_
  refine nv_istore_n hP 3 d_M_reciprocal_14 rfl (by decide) ?_
  refine nv_iload_n hP 2 d_M_reciprocal_15 rfl rfl ?_
  refine nv_ifne hP (by omega) 26 d_M_reciprocal_16 (by decide) (fun c_16 => ?_) (fun c_16 => ?_)
  · refine nv_iconst hP (nI 0) d_M_reciprocal_26 (by decide) ?_
    refine nv_istore hP d_M_reciprocal_27 (by decide) ?_
    refine nv_iconst hP (nI 1) d_M_reciprocal_29 (by decide) ?_
    refine nv_istore hP d_M_reciprocal_30 (by decide) ?_
    have loop_32 : ∀ (f_32 : Nat) (i t : Nat) (_ : 1 ≤ i) (_ : i ≤ n + 1) (_ : t = sF (fun i => σ 4 (16 * σ 1 s + (1 + i)) * σ 4 (16 * s + n - (1 + i))) (i - 1)), n + 1 - i < f_32 → G σ 32 [(0, .ref h), (1, .int (nI s)), (2, .int (nI n)), (4, .int (nI t)), (5, .int (nI i))] [] := by
      intro f_32
      induction f_32 with
      | zero => intro i t hi1 hi ht hf_32; exact absurd hf_32 (Nat.not_lt_zero _)
      | succ f_32 ih_32 =>
        intro i t hi1 hi ht hf_32
        have hb9 : t ≤ 9216 * (i - 1) := by rw [ht]; exact sF_le _ (fun j _ => m97 (hv _) (hv _))
        refine nv_iload hP d_M_reciprocal_32 rfl ?_
        refine nv_iload_n hP 2 d_M_reciprocal_34 rfl rfl ?_
        refine nv_cmpgt hP (by omega) (by omega) 81 d_M_reciprocal_35 (by decide) (fun c_35 => ?_) (fun c_35 => ?_)
        · refine nv_bipush hP (nI 97) d_M_reciprocal_81 (by decide) ?_
          refine nv_iload hP d_M_reciprocal_83 rfl ?_
          refine nv_bipush hP (nI 97) d_M_reciprocal_85 (by decide) ?_
          refine nv_irem hP (by omega) (by omega) (by omega) d_M_reciprocal_87 ?_
          have b7 := Nat.mod_lt t (show 0 < 97 by decide)
          refine nv_isub hP (by omega) d_M_reciprocal_88 ?_
          refine nv_aload_n hP 0 d_M_reciprocal_89 rfl rfl ?_
          refine nv_getf hG ff_M_4 (by decide) d_M_reciprocal_90 ?_
          refine nv_bipush hP (nI 16) d_M_reciprocal_93 (by decide) ?_
          refine nv_iload_n hP 1 d_M_reciprocal_95 rfl rfl ?_
          refine nv_imul hP d_M_reciprocal_96 ?_
          refine nv_iald hG 128 (by decide) rfl rfl (by omega) d_M_reciprocal_97 ?_
          refine nv_imul hP d_M_reciprocal_98 ?_
          refine nv_bipush hP (nI 97) d_M_reciprocal_99 (by decide) ?_
          have b8 := Nat.mul_le_mul (Nat.sub_le 97 (t % 97)) (Nat.le_of_lt (hv (16 * s)))
          refine nv_irem hP (by omega) (by omega) (by omega) d_M_reciprocal_101 ?_
          exact nv_iret hG d_M_reciprocal_102 (⟨_, rfl, rfl, by rw [if_neg c_16, ht, show i - 1 = n by omega, h1 c_16]⟩)
        · refine nv_iload hP d_M_reciprocal_38 rfl ?_
          refine nv_aload_n hP 0 d_M_reciprocal_40 rfl rfl ?_
          refine nv_getf hG ff_M_4 (by decide) d_M_reciprocal_41 ?_
          refine nv_bipush hP (nI 16) d_M_reciprocal_44 (by decide) ?_
          refine nv_aload_n hP 0 d_M_reciprocal_46 rfl rfl ?_
          refine nv_getf hG ff_M_1 (by decide) d_M_reciprocal_47 ?_
          refine nv_iload_n hP 1 d_M_reciprocal_50 rfl rfl ?_
          refine nv_iald hG 8 (by decide) rfl rfl (by omega) d_M_reciprocal_51 ?_
          refine nv_imul hP d_M_reciprocal_52 ?_
          refine nv_iload hP d_M_reciprocal_53 rfl ?_
          refine nv_iadd hP d_M_reciprocal_55 ?_
          refine nv_iald hG 128 (by decide) rfl rfl (by omega) d_M_reciprocal_56 ?_
          refine nv_aload_n hP 0 d_M_reciprocal_57 rfl rfl ?_
          refine nv_getf hG ff_M_4 (by decide) d_M_reciprocal_58 ?_
          refine nv_bipush hP (nI 16) d_M_reciprocal_61 (by decide) ?_
          refine nv_iload_n hP 1 d_M_reciprocal_63 rfl rfl ?_
          refine nv_imul hP d_M_reciprocal_64 ?_
          refine nv_iload_n hP 2 d_M_reciprocal_65 rfl rfl ?_
          refine nv_iadd hP d_M_reciprocal_66 ?_
          refine nv_iload hP d_M_reciprocal_67 rfl ?_
          refine nv_isub hP (by omega) d_M_reciprocal_69 ?_
          refine nv_iald hG 128 (by decide) rfl rfl (by omega) d_M_reciprocal_70 ?_
          refine nv_imul hP d_M_reciprocal_71 ?_
          refine nv_iadd hP d_M_reciprocal_72 ?_
          refine nv_istore hP d_M_reciprocal_73 (by decide) ?_
          refine nv_iinc hP d_M_reciprocal_75 rfl (by decide) ?_
          refine nv_goto hP 32 d_M_reciprocal_78 (by decide) ?_
          exact nv_lv hP (lsub_c rfl (lsub_c rfl (lsub_c rfl (lsub_c rfl (lsub_c rfl lsub_n))))) (ih_32 (i + 1) _ (by omega) (by omega) (by
            rw [ht, show i + 1 - 1 = (i - 1) + 1 by omega]
            show _ = sF (fun i => σ 4 (16 * σ 1 s + (1 + i)) * σ 4 (16 * s + n - (1 + i))) (i - 1) + σ 4 (16 * σ 1 s + (1 + (i - 1))) * σ 4 (16 * s + n - (1 + (i - 1)))
            rw [show 1 + (i - 1) = i by omega]) (by omega))
    exact nv_lv hP (lsub_c rfl (lsub_c rfl (lsub_c rfl (lsub_c rfl (lsub_c rfl lsub_n))))) (loop_32 _ 1 0 (by omega) (by omega) rfl (Nat.lt_succ_self _))
  · refine nv_aload_n hP 0 d_M_reciprocal_19 rfl rfl ?_
    refine nv_iconst hP (nI 1) d_M_reciprocal_20 (by decide) ?_
    refine nv_iload_n hP 3 d_M_reciprocal_21 rfl rfl ?_
    refine nv_callVI hG (c_M_quotient l h a σ 1 (σ 4 (16 * σ 1 s)) (by decide) (hv _) h0) k_M_quotient rfl ⟨rfl, rfl⟩ ⟨Nat.le_of_ble_eq_true rfl, Nat.le_of_ble_eq_true rfl⟩ rfl (Nat.le_of_ble_eq_true rfl) d_M_reciprocal_22 (fun r_22 σ_22 q_22 => ?_)
    obtain ⟨e_22, rfl⟩ := q_22
    replace e_22 := e_22.symm
    subst e_22
    exact nv_iret hG d_M_reciprocal_25 (⟨_, rfl, rfl, by rw [if_pos c_16, Nat.one_mul, Nat.mod_eq_of_lt (ivT_lt _)]⟩)

set_option maxHeartbeats 4000000 in
/-- barren(s, n) -/
theorem c_M_barren (l : Launch) (h : Nat) (a : Nat → Nat) (σ : SG) (s n : Nat) (hs : s < 8) (hn : n < 16) (hw : Wf (σ 0) (σ 1) (σ 2)) (hv : ∀ q, σ 4 q < 97) : MetN l y_M_barren b_M_barren 3 (some .boolean) (rm 0 0) 1 h a σ [.ref h, .int (nI s), .int (nI n)] (pI (fun r σ' => σ' = σ ∧ ((brN (σ 0) (σ 1) (σ 2) (σ 4) s n ∧ r = nI 1) ∨ (¬ brN (σ 0) (σ 1) (σ 2) (σ 4) s n ∧ r = nI 0)))) := by
  refine nv_entry (by decide) (Nat.le_of_ble_eq_true rfl) (by intro v hv; simp only [List.mem_cons, List.not_mem_nil, or_false] at hv; rcases hv with rfl | rfl | rfl <;> rfl) (fun G hG => ?_)
  have hP := hG.pr
  obtain ⟨w1, w2, w3, w4⟩ := hw s hs
  refine nv_aload_n hP 0 d_M_barren_0 rfl rfl ?_
  refine nv_getf hG ff_M_0 (by decide) d_M_barren_1 ?_
  refine nv_iload_n hP 1 d_M_barren_4 rfl rfl ?_
  refine nv_iald hG 8 (by decide) rfl rfl (by omega) d_M_barren_5 ?_
  refine nv_iconst hP (nI 5) d_M_barren_6 (by decide) ?_
  refine nv_cmpne hP (by omega) (by omega) 22 d_M_barren_7 (by decide) (fun c_7 => ?_) (fun c_7 => ?_)
  · refine nv_aload_n hP 0 d_M_barren_22 rfl rfl ?_
    refine nv_getf hG ff_M_0 (by decide) d_M_barren_23 ?_
    refine nv_iload_n hP 1 d_M_barren_26 rfl rfl ?_
    refine nv_iald hG 8 (by decide) rfl rfl (by omega) d_M_barren_27 ?_
    refine nv_bipush hP (nI 7) d_M_barren_28 (by decide) ?_
    refine nv_cmpne hP (by omega) (by omega) 56 d_M_barren_30 (by decide) (fun c_30 => ?_) (fun c_30 => ?_)
    · refine nv_aload_n hP 0 d_M_barren_56 rfl rfl ?_
      refine nv_getf hG ff_M_0 (by decide) d_M_barren_57 ?_
      refine nv_iload_n hP 1 d_M_barren_60 rfl rfl ?_
      refine nv_iald hG 8 (by decide) rfl rfl (by omega) d_M_barren_61 ?_
      refine nv_bipush hP (nI 9) d_M_barren_62 (by decide) ?_
      refine nv_cmpne hP (by omega) (by omega) 88 d_M_barren_64 (by decide) (fun c_64 => ?_) (fun c_64 => ?_)
      · refine nv_iconst hP (nI 0) d_M_barren_88 (by decide) ?_
        exact nv_zret hG (by omega) d_M_barren_89 (⟨_, rfl, rfl, Or.inr ⟨by unfold brN; omega, rfl⟩⟩)
      · refine nv_aload_n hP 0 d_M_barren_67 rfl rfl ?_
        refine nv_getf hG ff_M_4 (by decide) d_M_barren_68 ?_
        refine nv_bipush hP (nI 16) d_M_barren_71 (by decide) ?_
        refine nv_aload_n hP 0 d_M_barren_73 rfl rfl ?_
        refine nv_getf hG ff_M_2 (by decide) d_M_barren_74 ?_
        refine nv_iload_n hP 1 d_M_barren_77 rfl rfl ?_
        refine nv_iald hG 8 (by decide) rfl rfl (by omega) d_M_barren_78 ?_
        refine nv_imul hP d_M_barren_79 ?_
        refine nv_iald hG 128 (by decide) rfl rfl (by omega) d_M_barren_80 ?_
        have b1 := hv (16 * σ 2 s)
        refine nv_ifeq hP (by omega) 88 d_M_barren_81 (by decide) (fun c_81 => ?_) (fun c_81 => ?_)
        · refine nv_iconst hP (nI 0) d_M_barren_88 (by decide) ?_
          exact nv_zret hG (by omega) d_M_barren_89 (⟨_, rfl, rfl, Or.inr ⟨by unfold brN; omega, rfl⟩⟩)
        · refine nv_iconst hP (nI 1) d_M_barren_84 (by decide) ?_
          refine nv_goto hP 89 d_M_barren_85 (by decide) ?_
          exact nv_zret hG (by omega) d_M_barren_89 (⟨_, rfl, rfl, Or.inl ⟨by unfold brN; omega, rfl⟩⟩)
    · refine nv_aload_n hP 0 d_M_barren_33 rfl rfl ?_
      refine nv_getf hG ff_M_4 (by decide) d_M_barren_34 ?_
      refine nv_bipush hP (nI 16) d_M_barren_37 (by decide) ?_
      refine nv_aload_n hP 0 d_M_barren_39 rfl rfl ?_
      refine nv_getf hG ff_M_1 (by decide) d_M_barren_40 ?_
      refine nv_iload_n hP 1 d_M_barren_43 rfl rfl ?_
      refine nv_iald hG 8 (by decide) rfl rfl (by omega) d_M_barren_44 ?_
      refine nv_imul hP d_M_barren_45 ?_
      refine nv_iald hG 128 (by decide) rfl rfl (by omega) d_M_barren_46 ?_
      have b1 := hv (16 * σ 1 s)
      refine nv_ifne hP (by omega) 54 d_M_barren_47 (by decide) (fun c_47 => ?_) (fun c_47 => ?_)
      · refine nv_iconst hP (nI 0) d_M_barren_54 (by decide) ?_
        exact nv_zret hG (by omega) d_M_barren_55 (⟨_, rfl, rfl, Or.inr ⟨by unfold brN; omega, rfl⟩⟩)
      · refine nv_iconst hP (nI 1) d_M_barren_50 (by decide) ?_
        refine nv_goto hP 55 d_M_barren_51 (by decide) ?_
        exact nv_zret hG (by omega) d_M_barren_55 (⟨_, rfl, rfl, Or.inl ⟨by unfold brN; omega, rfl⟩⟩)
  · refine nv_iload_n hP 2 d_M_barren_10 rfl rfl ?_
    refine nv_bipush hP (nI 15) d_M_barren_11 (by decide) ?_
    refine nv_cmpne hP (by omega) (by omega) 20 d_M_barren_13 (by decide) (fun c_13 => ?_) (fun c_13 => ?_)
    · refine nv_iconst hP (nI 0) d_M_barren_20 (by decide) ?_
      exact nv_zret hG (by omega) d_M_barren_21 (⟨_, rfl, rfl, Or.inr ⟨by unfold brN; omega, rfl⟩⟩)
    · refine nv_iconst hP (nI 1) d_M_barren_16 (by decide) ?_
      refine nv_goto hP 21 d_M_barren_17 (by decide) ?_
      exact nv_zret hG (by omega) d_M_barren_21 (⟨_, rfl, rfl, Or.inl ⟨by unfold brN; omega, rfl⟩⟩)
end
section
/-- coefficient i of the j-th power of the series at b, as raise works it out -/
def pw (v : Nat → Nat) (b : Nat) : Nat → Nat → Nat
  | 0 => fun i => if i = 0 then 1 else 0
  | j + 1 => fun i => sF (fun k => pw v b j k * v (b + i - k)) (i + 1) % 97
theorem pw_lt (v : Nat → Nat) (b j i : Nat) : pw v b j i < 97 := by
  cases j with
  | zero =>
    show (if i = 0 then 1 else 0) < 97
    split <;> omega
  | succ j => exact Nat.mod_lt _ (by decide)
theorem sF_modc {f g : Nat → Nat} : ∀ n, (∀ i, i < n → f i % 97 = g i % 97) → sF f n % 97 = sF g n % 97
  | 0, _ => rfl
  | n + 1, h => by
    show (sF f n + f n) % 97 = (sF g n + g n) % 97
    rw [Nat.add_mod, sF_modc n (fun i hi => h i (by omega)), h n (by omega), ← Nat.add_mod]
theorem sF_add (f g : Nat → Nat) : ∀ n, sF (fun i => f i + g i) n = sF f n + sF g n
  | 0 => rfl
  | n + 1 => by
    show sF (fun i => f i + g i) n + (f n + g n) = sF f n + f n + (sF g n + g n)
    rw [sF_add f g n]
    omega
theorem sF_mull (c : Nat) (f : Nat → Nat) : ∀ n, sF (fun j => c * f j) n = c * sF f n
  | 0 => (Nat.mul_zero c).symm
  | n + 1 => by
    show sF (fun j => c * f j) n + c * f n = c * (sF f n + f n)
    rw [sF_mull c f n, Nat.mul_add]
theorem sF_swap (f : Nat → Nat → Nat) (n : Nat) : ∀ m, sF (fun i => sF (f i) n) m = sF (fun j => sF (fun i => f i j) m) n
  | 0 => (sF_zero n (fun _ _ => rfl)).symm
  | m + 1 => by
    show sF (fun i => sF (f i) n) m + sF (f m) n = sF (fun j => sF (fun i => f i j) m + f m j) n
    rw [sF_swap f n m, sF_add]
theorem sF_rev : ∀ (n : Nat) (f : Nat → Nat), sF f n = sF (fun k => f (n - 1 - k)) n
  | 0, _ => rfl
  | n + 1, f => by
    rw [sF_head (fun k => f (n + 1 - 1 - k)) n]
    show sF f n + f n = f (n + 1 - 1 - 0) + sF (fun j => f (n + 1 - 1 - (j + 1))) n
    rw [sF_rev n f, show n + 1 - 1 - 0 = n by omega, sF_congr n (g := fun j => f (n + 1 - 1 - (j + 1))) (f := fun k => f (n - 1 - k)) (fun k _ => by rw [show n + 1 - 1 - (k + 1) = n - 1 - k by omega])]
    omega
/-- the power's next coefficient, where the inner series starts with 0 -/
theorem pw_next {v : Nat → Nat} {b : Nat} (hb : v b = 0) (j i : Nat) : pw v b (j + 1) i % 97 = sF (fun k => v (b + (k + 1)) * pw v b j (i - (k + 1))) i % 97 := by
  show sF (fun k => pw v b j k * v (b + i - k)) (i + 1) % 97 % 97 = _
  rw [Nat.mod_mod]
  show (sF (fun k => pw v b j k * v (b + i - k)) i + pw v b j i * v (b + i - i)) % 97 = _
  rw [show b + i - i = b by omega, hb, Nat.mul_zero, Nat.add_zero, sF_rev]
  exact congrArg (fun x => x % 97) (sF_congr i (fun k hk => by rw [show b + i - (i - 1 - k) = b + (k + 1) by omega, show i - 1 - k = i - (k + 1) by omega, Nat.mul_comm]))
theorem hrn_pw {v : Nat → Nat} {a b n : Nat} (hb : v b = 0) : ∀ t, t ≤ n + 1 → ∀ i, i ≤ n → hrn v a b n t i % 97 = sF (fun j => v (a + (n + 1 - t + j)) * pw v b j i) t % 97
  | 0, _, _, _ => rfl
  | t + 1, ht, i, hi => by
    rw [hrn_next, sF_head]
    rw [show n + 1 - (t + 1) + 0 = n - t by omega]
    by_cases e : i = 0
    · subst e
      rw [if_pos rfl, Nat.mod_mod, show pw v b 0 0 = 1 from rfl, Nat.mul_one]
      have hz : sF (fun j => v (a + (n + 1 - (t + 1) + (j + 1))) * pw v b (j + 1) 0) t = 0 := sF_zero t (fun j _ => by
        have h1 := pw_next hb j 0
        have h2 := pw_lt v b (j + 1) 0
        rw [Nat.mod_eq_of_lt h2] at h1
        rw [h1]
        exact Nat.mul_zero _)
      rw [hz, Nat.add_zero]
    · rw [if_neg e, Nat.mod_mod, show pw v b 0 i = 0 from if_neg e, Nat.mul_zero, Nat.zero_add]
      have h1 : ∀ k, k < i → (v (b + (k + 1)) * hrn v a b n t (i - (k + 1))) % 97 = sF (fun j => v (b + (k + 1)) * (v (a + (n + 1 - t + j)) * pw v b j (i - (k + 1)))) t % 97 := fun k hk => by
        rw [sF_mull, Nat.mul_mod, hrn_pw hb t (by omega) (i - (k + 1)) (by omega), ← Nat.mul_mod]
      rw [sF_modc i h1, sF_swap]
      refine sF_modc t (fun j hj => ?_)
      rw [Nat.mul_mod (v (a + (n + 1 - (t + 1) + (j + 1)))), pw_next hb, ← Nat.mul_mod, ← sF_mull, show n + 1 - (t + 1) + (j + 1) = n + 1 - t + j by omega]
      exact congrArg (fun x => x % 97) (sF_congr i (fun k _ => by rw [← Nat.mul_assoc, ← Nat.mul_assoc, Nat.mul_comm (v (b + (k + 1)))]))
theorem hrn_sum {v : Nat → Nat} {a b n : Nat} (hb : v b = 0) : sF (fun j => v (a + j) * pw v b j n) (n + 1) % 97 = hrn v a b n (n + 1) n := by
  have h := hrn_pw (a := a) hb (n + 1) (Nat.le_refl _) n (Nat.le_refl _)
  rw [Nat.mod_eq_of_lt (hrn_lt _ _ _ _ _ _)] at h
  rw [h]
  exact congrArg (fun x => x % 97) (sF_congr (n + 1) (fun j _ => by rw [Nat.sub_self, Nat.zero_add]))

set_option maxHeartbeats 4000000 in
/-- raise(t, n) -/
theorem c_M_raise (l : Launch) (h : Nat) (a : Nat → Nat) (σ : SG) (t n : Nat) (ht : t < 8) (hn : n < 16) (hv : ∀ q, σ 4 q < 97) (hp6 : ∀ j, j ≤ n → σ 6 j < 97) : MetN l y_M_raise b_M_raise 6 none (rm 0 0) 1 h a σ [.ref h, .int (nI t), .int (nI n)] (pV (fun σ' => (∀ k, k ≠ 6 → k ≠ 7 → σ' k = σ k) ∧ ∀ i, i ≤ n → σ' 6 i = sF (fun j => σ 6 j * σ 4 (16 * t + i - j)) (i + 1) % 97)) := by
  refine nv_entry (by decide) (Nat.le_of_ble_eq_true rfl) (by intro v hv; simp only [List.mem_cons, List.not_mem_nil, or_false] at hv; rcases hv with rfl | rfl | rfl <;> rfl) (fun G hG => ?_)
  have hP := hG.pr
  refine nv_iconst hP (nI 0) d_M_raise_0 (by decide) ?_
  refine nv_istore_n hP 3 d_M_raise_1 rfl (by decide) ?_
  have loop_2 : ∀ (f_2 : Nat) (i : Nat) (σ1 : SG) (_ : i ≤ n + 1) (_ : ∀ k, k ≠ 7 → σ1 k = σ k) (_ : ∀ i1, i1 < i → σ1 7 i1 = sF (fun j => σ 6 j * σ 4 (16 * t + i1 - j)) (i1 + 1) % 97), n + 1 - i < f_2 → G σ1 2 [(0, .ref h), (1, .int (nI t)), (2, .int (nI n)), (3, .int (nI i))] [] := by
    intro f_2
    induction f_2 with
    | zero => intro i σ1 h1 h2 h3 hf_2; exact absurd hf_2 (Nat.not_lt_zero _)
    | succ f_2 ih_2 =>
      intro i σ1 h1 h2 h3 hf_2
      refine nv_iload_n hP 3 d_M_raise_2 rfl rfl ?_
      refine nv_iload_n hP 2 d_M_raise_3 rfl rfl ?_
      refine nv_cmpgt hP (by omega) (by omega) 75 d_M_raise_4 (by decide) (fun c_4 => ?_) (fun c_4 => ?_)
      · refine nv_iconst hP (nI 0) d_M_raise_75 (by decide) ?_
        refine nv_istore_n hP 3 d_M_raise_76 rfl (by decide) ?_
        have loop_77 : ∀ (f_77 : Nat) (k : Nat) (σ2 : SG) (_ : k ≤ n + 1) (_ : ∀ c, c ≠ 6 → σ2 c = σ1 c) (_ : ∀ j, j < k → σ2 6 j = σ1 7 j), n + 1 - k < f_77 → G σ2 77 [(0, .ref h), (1, .int (nI t)), (2, .int (nI n)), (3, .int (nI k))] [] := by
          intro f_77
          induction f_77 with
          | zero => intro k σ2 f1 f2 f3 hf_77; exact absurd hf_77 (Nat.not_lt_zero _)
          | succ f_77 ih_77 =>
            intro k σ2 f1 f2 f3 hf_77
            refine nv_iload_n hP 3 d_M_raise_77 rfl rfl ?_
            refine nv_iload_n hP 2 d_M_raise_78 rfl rfl ?_
            refine nv_cmpgt hP (by omega) (by omega) 106 d_M_raise_79 (by decide) (fun c_79 => ?_) (fun c_79 => ?_)
            · exact nv_vret hG d_M_raise_106 (⟨rfl, fun c h6 h7 => (f2 c h6).trans (h2 c h7), fun i1 hi1 => by rw [f3 i1 (by omega)]; exact h3 i1 (by omega)⟩)
            · refine nv_iload_n hP 3 d_M_raise_82 rfl rfl ?_
              refine nv_bipush hP (nI 16) d_M_raise_83 (by decide) ?_
              refine nv_cmpge hP (by omega) (by omega) 106 d_M_raise_85 (by decide) (fun c_85 => absurd c_85 (by omega)) (fun c_85 => ?_)
              refine nv_aload_n hP 0 d_M_raise_88 rfl rfl ?_
              refine nv_getf hG ff_M_6 (by decide) d_M_raise_89 ?_
              refine nv_iload_n hP 3 d_M_raise_92 rfl rfl ?_
              refine nv_aload_n hP 0 d_M_raise_93 rfl rfl ?_
              refine nv_getf hG ff_M_7 (by decide) d_M_raise_94 ?_
              refine nv_iload_n hP 3 d_M_raise_97 rfl rfl ?_
              refine nv_iald hG 16 (by decide) rfl rfl (by omega) d_M_raise_98 ?_
              refine nv_iast hG 16 (by decide) rfl rfl (by omega) d_M_raise_99 (fun σ_99 hσ_99 => ?_)
              refine nv_iinc hP d_M_raise_100 rfl (by decide) ?_
              refine nv_goto hP 77 d_M_raise_103 (by decide) ?_
              exact nv_lv hP (lsub_c rfl (lsub_c rfl (lsub_c rfl (lsub_c rfl lsub_n)))) (ih_77 (k + 1) σ_99 (by omega) (fun c hc => by rw [hσ_99, st2_k hc]; exact f2 c hc) (fun j hj => by
                rw [hσ_99, st2_at]
                split
                · rename_i e; rw [e, f2 7 (by decide)]
                · exact f3 j (by omega)) (by omega))
        exact nv_lv hP (lsub_c rfl (lsub_c rfl (lsub_c rfl (lsub_c rfl lsub_n)))) (loop_77 _ 0 σ1 (by omega) (fun _ _ => rfl) (fun j hj => absurd hj (Nat.not_lt_zero _)) (Nat.lt_succ_self _))
      · refine nv_iload_n hP 3 d_M_raise_7 rfl rfl ?_
        refine nv_bipush hP (nI 16) d_M_raise_8 (by decide) ?_
        refine nv_cmpge hP (by omega) (by omega) 75 d_M_raise_10 (by decide) (fun c_10 => absurd c_10 (by omega)) (fun c_10 => ?_)
        refine nv_iconst hP (nI 0) d_M_raise_13 (by decide) ?_
        refine nv_istore hP d_M_raise_14 (by decide) ?_
        refine nv_iconst hP (nI 0) d_M_raise_16 (by decide) ?_
        refine nv_istore hP d_M_raise_17 (by decide) ?_
        have loop_19 : ∀ (f_19 : Nat) (j c : Nat) (_ : j ≤ i + 1) (_ : c = sF (fun j => σ 6 j * σ 4 (16 * t + i - j)) j), i + 1 - j < f_19 → G σ1 19 [(0, .ref h), (1, .int (nI t)), (2, .int (nI n)), (3, .int (nI i)), (4, .int (nI c)), (5, .int (nI j))] [] := by
          intro f_19
          induction f_19 with
          | zero => intro j c g1 g2 hf_19; exact absurd hf_19 (Nat.not_lt_zero _)
          | succ f_19 ih_19 =>
            intro j c g1 g2 hf_19
            have hb9 : c ≤ 9216 * j := by rw [g2]; exact sF_le j (fun q hq => m97 (hp6 q (by omega)) (hv _))
            refine nv_iload hP d_M_raise_19 rfl ?_
            refine nv_iload_n hP 3 d_M_raise_21 rfl rfl ?_
            refine nv_cmpgt hP (by omega) (by omega) 58 d_M_raise_22 (by decide) (fun c_22 => ?_) (fun c_22 => ?_)
            · refine nv_aload_n hP 0 d_M_raise_58 rfl rfl ?_
              refine nv_getf hG ff_M_7 (by decide) d_M_raise_59 ?_
              refine nv_iload_n hP 3 d_M_raise_62 rfl rfl ?_
              refine nv_iload hP d_M_raise_63 rfl ?_
              refine nv_bipush hP (nI 97) d_M_raise_65 (by decide) ?_
              refine nv_irem hP (by omega) (by omega) (by omega) d_M_raise_67 ?_
              refine nv_iast hG 16 (by decide) rfl rfl (by omega) d_M_raise_68 (fun σ_68 hσ_68 => ?_)
              refine nv_iinc hP d_M_raise_69 rfl (by decide) ?_
              refine nv_goto hP 2 d_M_raise_72 (by decide) ?_
              exact nv_lv hP (lsub_c rfl (lsub_c rfl (lsub_c rfl (lsub_c rfl lsub_n)))) (ih_2 (i + 1) σ_68 (by omega) (fun k hk => by rw [hσ_68, st2_k hk]; exact h2 k hk) (fun i1 hi1 => by
                rw [hσ_68, st2_at]
                split
                · rename_i e; rw [e, g2, show j = i + 1 by omega]
                · exact h3 i1 (by omega)) (by omega))
            · refine nv_iload hP d_M_raise_25 rfl ?_
              refine nv_aload_n hP 0 d_M_raise_27 rfl rfl ?_
              refine nv_getf hG ff_M_6 (by decide) d_M_raise_28 ?_
              refine nv_iload hP d_M_raise_31 rfl ?_
              refine nv_iald hG 16 (by decide) rfl rfl (by omega) d_M_raise_33 ?_
              refine nv_aload_n hP 0 d_M_raise_34 rfl rfl ?_
              refine nv_getf hG ff_M_4 (by decide) d_M_raise_35 ?_
              refine nv_bipush hP (nI 16) d_M_raise_38 (by decide) ?_
              refine nv_iload_n hP 1 d_M_raise_40 rfl rfl ?_
              refine nv_imul hP d_M_raise_41 ?_
              refine nv_iload_n hP 3 d_M_raise_42 rfl rfl ?_
              refine nv_iadd hP d_M_raise_43 ?_
              refine nv_iload hP d_M_raise_44 rfl ?_
              refine nv_isub hP (by omega) d_M_raise_46 ?_
              refine nv_iald hG 128 (by decide) rfl rfl (by omega) d_M_raise_47 ?_
              refine nv_imul hP d_M_raise_48 ?_
              refine nv_iadd hP d_M_raise_49 ?_
              refine nv_istore hP d_M_raise_50 (by decide) ?_
              refine nv_iinc hP d_M_raise_52 rfl (by decide) ?_
              refine nv_goto hP 19 d_M_raise_55 (by decide) ?_
              exact nv_lv hP (lsub_c rfl (lsub_c rfl (lsub_c rfl (lsub_c rfl (lsub_c rfl (lsub_c rfl lsub_n)))))) (ih_19 (j + 1) _ (by omega) (by rw [g2, h2 6 (by decide), h2 4 (by decide)]; rfl) (by omega))
        exact nv_lv hP (lsub_c rfl (lsub_c rfl (lsub_c rfl (lsub_c rfl (lsub_c rfl (lsub_c rfl lsub_n)))))) (loop_19 _ 0 0 (by omega) rfl (Nat.lt_succ_self _))
  exact nv_lv hP (lsub_c rfl (lsub_c rfl (lsub_c rfl (lsub_c rfl lsub_n)))) (loop_2 _ 0 σ (by omega) (fun _ _ => rfl) (fun j hj => absurd hj (Nat.not_lt_zero _)) (Nat.lt_succ_self _))

set_option maxHeartbeats 4000000 in
/-- composed(s, n) -/
theorem c_M_composed (l : Launch) (h : Nat) (a : Nat → Nat) (σ : SG) (s n : Nat) (hs : s < 8) (hn : n < 16) (ha : σ 1 s < 8) (hb : σ 2 s < 8) (hv : ∀ q, σ 4 q < 97) (h0 : σ 4 (16 * σ 2 s) = 0) : MetN l y_M_composed b_M_composed 5 (some .int) (rm 1 25) 1 h a σ [.ref h, .int (nI s), .int (nI n)] (pI (fun r σ' => (∀ k, k ≠ 6 → k ≠ 7 → σ' k = σ k) ∧ r = nI (hrn (σ 4) (16 * σ 1 s) (16 * σ 2 s) n (n + 1) n))) := by
  refine nv_entry (by decide) (Nat.le_of_ble_eq_true rfl) (by intro v hv; simp only [List.mem_cons, List.not_mem_nil, or_false] at hv; rcases hv with rfl | rfl | rfl <;> rfl) (fun G hG => ?_)
  have hP := hG.pr
  refine nv_iconst hP (nI 0) d_M_composed_0 (by decide) ?_
  refine nv_istore_n hP 3 d_M_composed_1 rfl (by decide) ?_
  have loop_2 : ∀ (f_2 : Nat) (i : Nat) (σ1 : SG) (_ : i ≤ 16) (_ : ∀ k, k ≠ 6 → σ1 k = σ k) (_ : ∀ j, j < i → σ1 6 j = if j = 0 then 1 else 0), 16 - i < f_2 → G σ1 2 [(0, .ref h), (1, .int (nI s)), (2, .int (nI n)), (3, .int (nI i))] [] := by
    intro f_2
    induction f_2 with
    | zero => intro i σ1 h1 h2 h3 hf_2; exact absurd hf_2 (Nat.not_lt_zero _)
    | succ f_2 ih_2 =>
      intro i σ1 h1 h2 h3 hf_2
      refine nv_iload_n hP 3 d_M_composed_2 rfl rfl ?_
      refine nv_bipush hP (nI 16) d_M_composed_3 (by decide) ?_
      refine nv_cmpge hP (by omega) (by omega) 29 d_M_composed_5 (by decide) (fun c_5 => ?_) (fun c_5 => ?_)
      · refine nv_iconst hP (nI 0) d_M_composed_29 (by decide) ?_
        refine nv_istore_n hP 3 d_M_composed_30 rfl (by decide) ?_
        refine nv_iconst hP (nI 0) d_M_composed_31 (by decide) ?_
        refine nv_istore hP d_M_composed_32 (by decide) ?_
        have loop_34 : ∀ (f_34 : Nat) (j c : Nat) (σ2 : SG) (_ : j ≤ n + 1) (_ : ∀ k, k ≠ 6 → k ≠ 7 → σ2 k = σ k) (_ : ∀ i, i ≤ n → σ2 6 i = pw (σ 4) (16 * σ 2 s) j i) (_ : c = sF (fun j => σ 4 (16 * σ 1 s + j) * pw (σ 4) (16 * σ 2 s) j n) j), n + 1 - j < f_34 → G σ2 34 [(0, .ref h), (1, .int (nI s)), (2, .int (nI n)), (3, .int (nI c)), (4, .int (nI j))] [] := by
          intro f_34
          induction f_34 with
          | zero => intro j c σ2 g1 g2 g3 g4 hf_34; exact absurd hf_34 (Nat.not_lt_zero _)
          | succ f_34 ih_34 =>
            intro j c σ2 g1 g2 g3 g4 hf_34
            have hb9 : c ≤ 9216 * j := by rw [g4]; exact sF_le j (fun q hq => m97 (hv _) (pw_lt _ _ _ _))
            have e1 : σ2 1 = σ 1 := g2 1 (by decide) (by decide)
            have e2 : σ2 2 = σ 2 := g2 2 (by decide) (by decide)
            have e4 : σ2 4 = σ 4 := g2 4 (by decide) (by decide)
            refine nv_iload hP d_M_composed_34 rfl ?_
            refine nv_iload_n hP 2 d_M_composed_36 rfl rfl ?_
            refine nv_cmpgt hP (by omega) (by omega) 84 d_M_composed_37 (by decide) (fun c_37 => ?_) (fun c_37 => ?_)
            · refine nv_iload_n hP 3 d_M_composed_84 rfl rfl ?_
              refine nv_bipush hP (nI 97) d_M_composed_85 (by decide) ?_
              refine nv_irem hP (by omega) (by omega) (by omega) d_M_composed_87 ?_
              exact nv_iret hG d_M_composed_88 (⟨_, rfl, g2, by rw [g4, show j = n + 1 by omega, hrn_sum h0]⟩)
            · refine nv_iload_n hP 3 d_M_composed_40 rfl rfl ?_
              refine nv_aload_n hP 0 d_M_composed_41 rfl rfl ?_
              refine nv_getf hG ff_M_4 (by decide) d_M_composed_42 ?_
              refine nv_bipush hP (nI 16) d_M_composed_45 (by decide) ?_
              refine nv_aload_n hP 0 d_M_composed_47 rfl rfl ?_
              refine nv_getf hG ff_M_1 (by decide) d_M_composed_48 ?_
              refine nv_iload_n hP 1 d_M_composed_51 rfl rfl ?_
              refine nv_iald hG 8 (by decide) rfl rfl (by omega) d_M_composed_52 ?_
              rw [e1]
              refine nv_imul hP d_M_composed_53 ?_
              refine nv_iload hP d_M_composed_54 rfl ?_
              refine nv_iadd hP d_M_composed_56 ?_
              refine nv_iald hG 128 (by decide) rfl rfl (by omega) d_M_composed_57 ?_
              rw [e4]
              refine nv_aload_n hP 0 d_M_composed_58 rfl rfl ?_
              refine nv_getf hG ff_M_6 (by decide) d_M_composed_59 ?_
              refine nv_iload_n hP 2 d_M_composed_62 rfl rfl ?_
              refine nv_iald hG 16 (by decide) rfl rfl (by omega) d_M_composed_63 ?_
              refine nv_imul hP d_M_composed_64 ?_
              refine nv_iadd hP d_M_composed_65 ?_
              refine nv_istore_n hP 3 d_M_composed_66 rfl (by decide) ?_
              refine nv_aload_n hP 0 d_M_composed_67 rfl rfl ?_
              refine nv_aload_n hP 0 d_M_composed_68 rfl rfl ?_
              refine nv_getf hG ff_M_2 (by decide) d_M_composed_69 ?_
              refine nv_iload_n hP 1 d_M_composed_72 rfl rfl ?_
              refine nv_iald hG 8 (by decide) rfl rfl (by omega) d_M_composed_73 ?_
              rw [e2]
              refine nv_iload_n hP 2 d_M_composed_74 rfl rfl ?_
              refine nv_callVV hG (c_M_raise l h a σ2 (σ 2 s) n hb hn (by rw [e4]; exact hv) (fun j1 hj => by rw [g3 j1 hj]; exact pw_lt _ _ _ _)) k_M_raise rfl ⟨rfl, rfl⟩ ⟨Nat.le_of_ble_eq_true rfl, Nat.le_of_ble_eq_true rfl⟩ rfl (Nat.le_of_ble_eq_true rfl) d_M_composed_75 (fun σ_75 q_75 => ?_)
              refine nv_iinc hP d_M_composed_78 rfl (by decide) ?_
              refine nv_goto hP 34 d_M_composed_81 (by decide) ?_
              exact nv_lv hP (lsub_c rfl (lsub_c rfl (lsub_c rfl (lsub_c rfl (lsub_c rfl lsub_n))))) (ih_34 (j + 1) _ σ_75 (by omega) (fun k h6 h7 => (q_75.1 k h6 h7).trans (g2 k h6 h7)) (fun i1 hi1 => by
                rw [q_75.2 i1 hi1, e4]
                exact congrArg (fun x => x % 97) (sF_congr (i1 + 1) (fun k hk => by rw [g3 k (by omega)]))) (by rw [g4, g3 n (Nat.le_refl _)]; rfl) (by omega))
        exact nv_lv hP (lsub_c rfl (lsub_c rfl (lsub_c rfl (lsub_c rfl (lsub_c rfl lsub_n))))) (loop_34 _ 0 0 σ1 (by omega) (fun k h6 _ => h2 k h6) (fun i1 hi1 => h3 i1 (by omega)) rfl (Nat.lt_succ_self _))
      · refine nv_aload_n hP 0 d_M_composed_8 rfl rfl ?_
        refine nv_getf hG ff_M_6 (by decide) d_M_composed_9 ?_
        refine nv_iload_n hP 3 d_M_composed_12 rfl rfl ?_
        refine nv_iload_n hP 3 d_M_composed_13 rfl rfl ?_
        refine nv_ifne hP (by omega) 21 d_M_composed_14 (by decide) (fun c_14 => ?_) (fun c_14 => ?_)
        · refine nv_iconst hP (nI 0) d_M_composed_21 (by decide) ?_
          refine nv_iast hG 16 (by decide) rfl rfl (by omega) d_M_composed_22 (fun σ_22 hσ_22 => ?_)
          refine nv_iinc hP d_M_composed_23 rfl (by decide) ?_
          refine nv_goto hP 2 d_M_composed_26 (by decide) ?_
          exact nv_lv hP (lsub_c rfl (lsub_c rfl (lsub_c rfl (lsub_c rfl lsub_n)))) (ih_2 (i + 1) σ_22 (by omega) (fun k hk => by rw [hσ_22, st2_k hk]; exact h2 k hk) (fun j hj => by
            rw [hσ_22, st2_at]
            by_cases e : j = i
            · rw [if_pos e]; subst e; first | rw [if_pos c_14] | rw [if_neg c_14]
            · rw [if_neg e]; exact h3 j (by omega)) (by omega))
        · refine nv_iconst hP (nI 1) d_M_composed_17 (by decide) ?_
          refine nv_goto hP 22 d_M_composed_18 (by decide) ?_
          refine nv_iast hG 16 (by decide) rfl rfl (by omega) d_M_composed_22 (fun σ_22 hσ_22 => ?_)
          refine nv_iinc hP d_M_composed_23 rfl (by decide) ?_
          refine nv_goto hP 2 d_M_composed_26 (by decide) ?_
          exact nv_lv hP (lsub_c rfl (lsub_c rfl (lsub_c rfl (lsub_c rfl lsub_n)))) (ih_2 (i + 1) σ_22 (by omega) (fun k hk => by rw [hσ_22, st2_k hk]; exact h2 k hk) (fun j hj => by
            rw [hσ_22, st2_at]
            by_cases e : j = i
            · rw [if_pos e]; subst e; first | rw [if_pos c_14] | rw [if_neg c_14]
            · rw [if_neg e]; exact h3 j (by omega)) (by omega))
  exact nv_lv hP (lsub_c rfl (lsub_c rfl (lsub_c rfl (lsub_c rfl lsub_n)))) (loop_2 _ 0 σ (by omega) (fun _ _ => rfl) (fun j hj => absurd hj (Nat.not_lt_zero _)) (Nat.lt_succ_self _))

theorem wk_7 {K A B v : Nat → Nat} {s n : Nat} (h : K s = 7) : wkN K A B v s n = if n = 0 then ivT (v (16 * A s)) else (97 - sF (fun i => v (16 * A s + (1 + i)) * v (16 * s + n - (1 + i))) n % 97) * ivT (v (16 * A s)) % 97 := by
  unfold wkN
  exact (if_neg (by omega)).trans ((if_neg (by omega)).trans ((if_neg (by omega)).trans ((if_neg (by omega)).trans ((if_neg (by omega)).trans ((if_neg (by omega)).trans ((if_neg (by omega)).trans (if_pos h)))))))
theorem wk_68 {K A B v : Nat → Nat} {s n : Nat} (h : K s = 6 ∨ K s = 8) (hn : n = 0) : B s = wkN K A B v s n := by
  unfold wkN
  rw [if_neg (by omega), if_neg (by omega), if_neg (by omega), if_neg (by omega), if_neg (by omega), if_neg (by omega)]
  by_cases e : K s = 6
  · rw [if_pos e, if_pos hn]
  · rw [if_neg e, if_neg (by omega), if_pos (by omega), if_pos hn]

set_option maxHeartbeats 4000000 in
/-- worked(s, n) -/
theorem c_M_worked (l : Launch) (h : Nat) (a : Nat → Nat) (σ : SG) (s n : Nat) (hs : s < 8) (hn : n < 16) (hw : Wf (σ 0) (σ 1) (σ 2)) (hv : ∀ q, σ 4 q < 97) (hb : ¬ brN (σ 0) (σ 1) (σ 2) (σ 4) s n) (h7 : σ 0 s = 7 → n ≠ 0 → σ 4 (16 * s) = ivT (σ 4 (16 * σ 1 s))) : MetN l y_M_worked b_M_worked 5 (some .int) (rm 2 49) 1 h a σ [.ref h, .int (nI s), .int (nI n)] (pI (fun r σ' => (∀ k, k ≠ 6 → k ≠ 7 → σ' k = σ k) ∧ r = nI (wkN (σ 0) (σ 1) (σ 2) (σ 4) s n))) := by
  refine nv_entry (by decide) (Nat.le_of_ble_eq_true rfl) (by intro v hv; simp only [List.mem_cons, List.not_mem_nil, or_false] at hv; rcases hv with rfl | rfl | rfl <;> rfl) (fun G hG => ?_)
  have hP := hG.pr
  obtain ⟨w1, w2, w3, w4⟩ := hw s hs
  unfold brN at hb
  refine nv_aload_n hP 0 d_M_worked_0 rfl rfl ?_
  refine nv_getf hG ff_M_0 (by decide) d_M_worked_1 ?_
  refine nv_iload_n hP 1 d_M_worked_4 rfl rfl ?_
  refine nv_iald hG 8 (by decide) rfl rfl (by omega) d_M_worked_5 ?_
  refine nv_istore_n hP 3 d_M_worked_6 rfl (by decide) ?_
  refine nv_bipush hP (nI 16) d_M_worked_7 (by decide) ?_
  refine nv_aload_n hP 0 d_M_worked_9 rfl rfl ?_
  refine nv_getf hG ff_M_1 (by decide) d_M_worked_10 ?_
  refine nv_iload_n hP 1 d_M_worked_13 rfl rfl ?_
  refine nv_iald hG 8 (by decide) rfl rfl (by omega) d_M_worked_14 ?_
  refine nv_imul hP d_M_worked_15 ?_
  refine nv_istore hP d_M_worked_16 (by decide) ?_
  refine nv_iload_n hP 3 d_M_worked_18 rfl rfl ?_
  refine nv_ifne hP (by omega) 37 d_M_worked_19 (by decide) (fun c_19 => ?_) (fun c_19 => ?_)
  · refine nv_iload_n hP 3 d_M_worked_37 rfl rfl ?_
    refine nv_iconst hP (nI 1) d_M_worked_38 (by decide) ?_
    refine nv_cmpne hP (by omega) (by omega) 53 d_M_worked_39 (by decide) (fun c_39 => ?_) (fun c_39 => ?_)
    · refine nv_iload_n hP 3 d_M_worked_53 rfl rfl ?_
      refine nv_iconst hP (nI 2) d_M_worked_54 (by decide) ?_
      refine nv_cmpne hP (by omega) (by omega) 88 d_M_worked_55 (by decide) (fun c_55 => ?_) (fun c_55 => ?_)
      · refine nv_iload_n hP 3 d_M_worked_88 rfl rfl ?_
        refine nv_iconst hP (nI 3) d_M_worked_89 (by decide) ?_
        refine nv_cmpne hP (by omega) (by omega) 100 d_M_worked_90 (by decide) (fun c_90 => ?_) (fun c_90 => ?_)
        · refine nv_iload_n hP 3 d_M_worked_100 rfl rfl ?_
          refine nv_iconst hP (nI 4) d_M_worked_101 (by decide) ?_
          refine nv_cmpne hP (by omega) (by omega) 125 d_M_worked_102 (by decide) (fun c_102 => ?_) (fun c_102 => ?_)
          · refine nv_iload_n hP 3 d_M_worked_125 rfl rfl ?_
            refine nv_iconst hP (nI 5) d_M_worked_126 (by decide) ?_
            refine nv_cmpne hP (by omega) (by omega) 149 d_M_worked_127 (by decide) (fun c_127 => ?_) (fun c_127 => ?_)
            · refine nv_iload_n hP 3 d_M_worked_149 rfl rfl ?_
              refine nv_bipush hP (nI 7) d_M_worked_150 (by decide) ?_
              refine nv_cmpne hP (by omega) (by omega) 162 d_M_worked_152 (by decide) (fun c_152 => ?_) (fun c_152 => ?_)
              · refine nv_iload_n hP 3 d_M_worked_162 rfl rfl ?_
                refine nv_bipush hP (nI 9) d_M_worked_163 (by decide) ?_
                refine nv_cmpne hP (by omega) (by omega) 175 d_M_worked_165 (by decide) (fun c_165 => ?_) (fun c_165 => ?_)
                · refine nv_iload_n hP 2 d_M_worked_175 rfl rfl ?_
                  refine nv_ifne hP (by omega) 186 d_M_worked_176 (by decide) (fun c_176 => ?_) (fun c_176 => ?_)
                  · refine nv_iload_n hP 3 d_M_worked_186 rfl rfl ?_
                    refine nv_bipush hP (nI 8) d_M_worked_187 (by decide) ?_
                    refine nv_cmpne hP (by omega) (by omega) 206 d_M_worked_189 (by decide) (fun c_189 => ?_) (fun c_189 => ?_)
                    · refine nv_aload_n hP 0 d_M_worked_206 rfl rfl ?_
                      refine nv_aload_n hP 0 d_M_worked_207 rfl rfl ?_
                      refine nv_getf hG ff_M_4 (by decide) d_M_worked_208 ?_
                      refine nv_iload hP d_M_worked_211 rfl ?_
                      refine nv_iload_n hP 2 d_M_worked_213 rfl rfl ?_
                      refine nv_iadd hP d_M_worked_214 ?_
                      refine nv_iconst hP (nI 1) d_M_worked_215 (by decide) ?_
                      refine nv_isub hP (by omega) d_M_worked_216 ?_
                      refine nv_iald hG 128 (by decide) rfl rfl (by omega) d_M_worked_217 ?_
                      refine nv_iload_n hP 2 d_M_worked_218 rfl rfl ?_
                      refine nv_callVI hG (c_M_quotient l h a σ (σ 4 (16 * σ 1 s + n - 1)) n (hv _) (by omega) (by omega)) k_M_quotient rfl ⟨rfl, rfl⟩ ⟨Nat.le_of_ble_eq_true rfl, Nat.le_of_ble_eq_true rfl⟩ rfl (Nat.le_of_ble_eq_true rfl) d_M_worked_219 (fun r_219 σ_219 q_219 => ?_)
                      obtain ⟨e_219, rfl⟩ := q_219
                      replace e_219 := e_219.symm
                      subst e_219
                      exact nv_iret hG d_M_worked_222 (⟨_, rfl, fun _ _ _ => rfl, congrArg nI (by unfold wkN; rw [if_neg (by omega), if_neg (by omega), if_neg (by omega), if_neg (by omega), if_neg (by omega), if_neg (by omega), if_pos (by omega), if_neg (by omega)])⟩)
                    · refine nv_aload_n hP 0 d_M_worked_192 rfl rfl ?_
                      refine nv_getf hG ff_M_4 (by decide) d_M_worked_193 ?_
                      refine nv_iload hP d_M_worked_196 rfl ?_
                      refine nv_iload_n hP 2 d_M_worked_198 rfl rfl ?_
                      refine nv_iadd hP d_M_worked_199 ?_
                      refine nv_iconst hP (nI 1) d_M_worked_200 (by decide) ?_
                      refine nv_isub hP (by omega) d_M_worked_201 ?_
                      refine nv_iald hG 128 (by decide) rfl rfl (by omega) d_M_worked_202 ?_
                      refine nv_goto hP 222 d_M_worked_203 (by decide) ?_
                      exact nv_iret hG d_M_worked_222 (⟨_, rfl, fun _ _ _ => rfl, congrArg nI (by unfold wkN; rw [if_neg (by omega), if_neg (by omega), if_neg (by omega), if_neg (by omega), if_neg (by omega), if_neg (by omega), if_neg (by omega), if_neg (by omega), if_pos (by omega), if_neg (by omega)])⟩)
                  · refine nv_aload_n hP 0 d_M_worked_179 rfl rfl ?_
                    refine nv_getf hG ff_M_2 (by decide) d_M_worked_180 ?_
                    refine nv_iload_n hP 1 d_M_worked_183 rfl rfl ?_
                    refine nv_iald hG 8 (by decide) rfl rfl (by omega) d_M_worked_184 ?_
                    exact nv_iret hG d_M_worked_185 (⟨_, rfl, fun _ _ _ => rfl, congrArg nI (wk_68 (by omega) c_176)⟩)
                · refine nv_aload_n hP 0 d_M_worked_168 rfl rfl ?_
                  refine nv_iload_n hP 1 d_M_worked_169 rfl rfl ?_
                  refine nv_iload_n hP 2 d_M_worked_170 rfl rfl ?_
                  refine nv_callVI hG (c_M_composed l h a σ s n hs hn w2 (w4 (by omega)) hv (by omega)) k_M_composed rfl ⟨rfl, rfl⟩ ⟨Nat.le_of_ble_eq_true rfl, Nat.le_of_ble_eq_true rfl⟩ rfl (Nat.le_of_ble_eq_true rfl) d_M_worked_171 (fun r_171 σ_171 q_171 => ?_)
                  obtain ⟨e_171, rfl⟩ := q_171
                  exact nv_iret hG d_M_worked_174 (⟨_, rfl, e_171, congrArg nI (by unfold wkN; rw [if_neg (by omega), if_neg (by omega), if_neg (by omega), if_neg (by omega), if_neg (by omega), if_neg (by omega), if_neg (by omega), if_neg (by omega), if_neg (by omega)])⟩)
              · refine nv_aload_n hP 0 d_M_worked_155 rfl rfl ?_
                refine nv_iload_n hP 1 d_M_worked_156 rfl rfl ?_
                refine nv_iload_n hP 2 d_M_worked_157 rfl rfl ?_
                refine nv_callVI hG (c_M_reciprocal l h a σ s n hs hn w2 hv (fun e => hb (Or.inr (Or.inl ⟨by omega, e⟩))) (h7 (by omega))) k_M_reciprocal rfl ⟨rfl, rfl⟩ ⟨Nat.le_of_ble_eq_true rfl, Nat.le_of_ble_eq_true rfl⟩ rfl (Nat.le_of_ble_eq_true rfl) d_M_worked_158 (fun r_158 σ_158 q_158 => ?_)
                obtain ⟨e_158, rfl⟩ := q_158
                replace e_158 := e_158.symm
                subst e_158
                exact nv_iret hG d_M_worked_161 (⟨_, rfl, fun _ _ _ => rfl, congrArg nI ((wk_7 (by omega)).symm)⟩)
            · refine nv_iload_n hP 2 d_M_worked_130 rfl rfl ?_
              refine nv_iconst hP (nI 1) d_M_worked_131 (by decide) ?_
              refine nv_iadd hP d_M_worked_132 ?_
              refine nv_aload_n hP 0 d_M_worked_133 rfl rfl ?_
              refine nv_getf hG ff_M_4 (by decide) d_M_worked_134 ?_
              refine nv_iload hP d_M_worked_137 rfl ?_
              refine nv_iload_n hP 2 d_M_worked_139 rfl rfl ?_
              refine nv_iadd hP d_M_worked_140 ?_
              refine nv_iconst hP (nI 1) d_M_worked_141 (by decide) ?_
              refine nv_iadd hP d_M_worked_142 ?_
              refine nv_iald hG 128 (by decide) rfl rfl (by omega) d_M_worked_143 ?_
              refine nv_imul hP d_M_worked_144 ?_
              refine nv_bipush hP (nI 97) d_M_worked_145 (by decide) ?_
              have b1 := Nat.mul_le_mul (show n + 1 ≤ 16 by omega) (Nat.le_of_lt (hv (16 * σ 1 s + n + 1)))
              refine nv_irem hP (by omega) (by omega) (by omega) d_M_worked_147 ?_
              exact nv_iret hG d_M_worked_148 (⟨_, rfl, fun _ _ _ => rfl, congrArg nI (by unfold wkN; rw [if_neg (by omega), if_neg (by omega), if_neg (by omega), if_neg (by omega), if_neg (by omega), if_pos (by omega)])⟩)
          · refine nv_aload_n hP 0 d_M_worked_105 rfl rfl ?_
            refine nv_getf hG ff_M_2 (by decide) d_M_worked_106 ?_
            refine nv_iload_n hP 1 d_M_worked_109 rfl rfl ?_
            refine nv_iald hG 8 (by decide) rfl rfl (by omega) d_M_worked_110 ?_
            refine nv_aload_n hP 0 d_M_worked_111 rfl rfl ?_
            refine nv_getf hG ff_M_4 (by decide) d_M_worked_112 ?_
            refine nv_iload hP d_M_worked_115 rfl ?_
            refine nv_iload_n hP 2 d_M_worked_117 rfl rfl ?_
            refine nv_iadd hP d_M_worked_118 ?_
            refine nv_iald hG 128 (by decide) rfl rfl (by omega) d_M_worked_119 ?_
            refine nv_imul hP d_M_worked_120 ?_
            refine nv_bipush hP (nI 97) d_M_worked_121 (by decide) ?_
            have b1 := m97 w3 (hv (16 * σ 1 s + n))
            refine nv_irem hP (by omega) (by omega) (by omega) d_M_worked_123 ?_
            exact nv_iret hG d_M_worked_124 (⟨_, rfl, fun _ _ _ => rfl, congrArg nI (by unfold wkN; rw [if_neg (by omega), if_neg (by omega), if_neg (by omega), if_neg (by omega), if_pos (by omega)])⟩)
        · refine nv_aload_n hP 0 d_M_worked_93 rfl rfl ?_
          refine nv_iload_n hP 1 d_M_worked_94 rfl rfl ?_
          refine nv_iload_n hP 2 d_M_worked_95 rfl rfl ?_
          refine nv_callVI hG (c_M_convolved l h a σ s n hs hn w2 (w4 (by omega)) hv) k_M_convolved rfl ⟨rfl, rfl⟩ ⟨Nat.le_of_ble_eq_true rfl, Nat.le_of_ble_eq_true rfl⟩ rfl (Nat.le_of_ble_eq_true rfl) d_M_worked_96 (fun r_96 σ_96 q_96 => ?_)
          obtain ⟨e_96, rfl⟩ := q_96
          replace e_96 := e_96.symm
          subst e_96
          exact nv_iret hG d_M_worked_99 (⟨_, rfl, fun _ _ _ => rfl, congrArg nI (by unfold wkN; rw [if_neg (by omega), if_neg (by omega), if_neg (by omega), if_pos (by omega)])⟩)
      · refine nv_aload_n hP 0 d_M_worked_58 rfl rfl ?_
        refine nv_getf hG ff_M_4 (by decide) d_M_worked_59 ?_
        refine nv_iload hP d_M_worked_62 rfl ?_
        refine nv_iload_n hP 2 d_M_worked_64 rfl rfl ?_
        refine nv_iadd hP d_M_worked_65 ?_
        refine nv_iald hG 128 (by decide) rfl rfl (by omega) d_M_worked_66 ?_
        refine nv_aload_n hP 0 d_M_worked_67 rfl rfl ?_
        refine nv_getf hG ff_M_4 (by decide) d_M_worked_68 ?_
        refine nv_bipush hP (nI 16) d_M_worked_71 (by decide) ?_
        refine nv_aload_n hP 0 d_M_worked_73 rfl rfl ?_
        refine nv_getf hG ff_M_2 (by decide) d_M_worked_74 ?_
        refine nv_iload_n hP 1 d_M_worked_77 rfl rfl ?_
        refine nv_iald hG 8 (by decide) rfl rfl (by omega) d_M_worked_78 ?_
        refine nv_imul hP d_M_worked_79 ?_
        refine nv_iload_n hP 2 d_M_worked_80 rfl rfl ?_
        refine nv_iadd hP d_M_worked_81 ?_
        refine nv_iald hG 128 (by decide) rfl rfl (by omega) d_M_worked_82 ?_
        refine nv_iadd hP d_M_worked_83 ?_
        refine nv_bipush hP (nI 97) d_M_worked_84 (by decide) ?_
        have b1 := hv (16 * σ 1 s + n)
        have b2 := hv (16 * σ 2 s + n)
        refine nv_irem hP (by omega) (by omega) (by omega) d_M_worked_86 ?_
        exact nv_iret hG d_M_worked_87 (⟨_, rfl, fun _ _ _ => rfl, congrArg nI (by unfold wkN; rw [if_neg (by omega), if_neg (by omega), if_pos (by omega)])⟩)
    · refine nv_iload_n hP 2 d_M_worked_42 rfl rfl ?_
      refine nv_iconst hP (nI 1) d_M_worked_43 (by decide) ?_
      refine nv_cmpne hP (by omega) (by omega) 51 d_M_worked_44 (by decide) (fun c_44 => ?_) (fun c_44 => ?_)
      · refine nv_iconst hP (nI 0) d_M_worked_51 (by decide) ?_
        exact nv_iret hG d_M_worked_52 (⟨_, rfl, fun _ _ _ => rfl, congrArg nI (by unfold wkN; rw [if_neg (by omega), if_pos (by omega), if_neg (by omega)])⟩)
      · refine nv_iconst hP (nI 1) d_M_worked_47 (by decide) ?_
        refine nv_goto hP 52 d_M_worked_48 (by decide) ?_
        exact nv_iret hG d_M_worked_52 (⟨_, rfl, fun _ _ _ => rfl, congrArg nI (by unfold wkN; rw [if_neg (by omega), if_pos (by omega), if_pos (by omega)])⟩)
  · refine nv_iload_n hP 2 d_M_worked_22 rfl rfl ?_
    refine nv_ifne hP (by omega) 35 d_M_worked_23 (by decide) (fun c_23 => ?_) (fun c_23 => ?_)
    · refine nv_iconst hP (nI 0) d_M_worked_35 (by decide) ?_
      exact nv_iret hG d_M_worked_36 (⟨_, rfl, fun _ _ _ => rfl, congrArg nI (by unfold wkN; rw [if_pos (by omega), if_neg (by omega)])⟩)
    · refine nv_aload_n hP 0 d_M_worked_26 rfl rfl ?_
      refine nv_getf hG ff_M_2 (by decide) d_M_worked_27 ?_
      refine nv_iload_n hP 1 d_M_worked_30 rfl rfl ?_
      refine nv_iald hG 8 (by decide) rfl rfl (by omega) d_M_worked_31 ?_
      refine nv_goto hP 36 d_M_worked_32 (by decide) ?_
      exact nv_iret hG d_M_worked_36 (⟨_, rfl, fun _ _ _ => rfl, congrArg nI (by unfold wkN; rw [if_pos (by omega), if_pos (by omega)])⟩)
end
section
/-! LazySeriesModel: pass and workOut -/
section Sn
variable {K A B v : Nat → Nat} {s n q : Nat}
theorem nds_sn (hn : n < 16) : nds K A B (16 * s + n) q ↔ ∃ i, ndN K A B s n i = some q := by
  unfold nds ndf
  rw [show (16 * s + n) / 16 = s by omega, show (16 * s + n) % 16 = n by omega]
theorem brn_sn (hn : n < 16) : brn K A B v (16 * s + n) ↔ brN K A B v s n := by
  unfold brn
  rw [show (16 * s + n) / 16 = s by omega, show (16 * s + n) % 16 = n by omega]
theorem wk_sn (hn : n < 16) : wk K A B v (16 * s + n) = wkN K A B v s n := by
  unfold wk
  rw [show (16 * s + n) / 16 = s by omega, show (16 * s + n) % 16 = n by omega]
end Sn
/-- LazySeriesModel between calls -/
def InvM (K A B : Nat → Nat) (σ : SG) : Prop := σ 0 = K ∧ σ 1 = A ∧ σ 2 = B ∧ Wf K A B ∧ ∀ q, σ 4 q < 97
/-- while it works: what has a value has it rightly, in an order rk -/
def MI (K A B : Nat → Nat) (σ : SG) : Prop := InvM K A B σ ∧ (∀ q, q < 128 → σ 3 q ≤ 1) ∧ ∃ (rk : Nat → Nat) (M : Nat), ∀ p, p < 128 → σ 3 p = 1 → (∀ q, nds K A B p q → σ 3 q = 1 ∧ rk q < rk p) ∧ ¬ brn K A B (σ 4) p ∧ σ 4 p = wk K A B (σ 4) p ∧ rk p < M
/-- nothing more comes -/
def CL (K A B : Nat → Nat) (σ : SG) : Prop := ∀ p, p < 128 → σ 3 p = 0 → (∀ q, nds K A B p q → σ 3 q = 1) → brn K A B (σ 4) p
def hB (σ : SG) (p : Nat) : Bool := decide (σ 3 p = 1)
theorem nds_lt {K A B : Nat → Nat} (hw : Wf K A B) {p q : Nat} (hp : p < 128) (h : nds K A B p q) : q < 128 := by
  obtain ⟨i, hi⟩ := h
  exact ndf_lt hw hp hi
theorem MI_sol {K A B : Nat → Nat} {σ : SG} (h : MI K A B σ) (hc : CL K A B σ) : Sol K A B (hB σ) (σ 4) := by
  obtain ⟨⟨a0, a1, a2, hw, hv⟩, h3, rk, M, hm⟩ := h
  refine ⟨rk, fun p hp => ⟨⟨fun e => ?_, fun e => ?_⟩, fun e => ?_⟩⟩
  · have h1 := hm p hp (of_decide_eq_true e)
    exact ⟨fun q hq => decide_eq_true (h1.1 q hq).1, h1.2.1⟩
  · rcases Nat.lt_or_ge (σ 3 p) 1 with h0 | h0
    · exact absurd (hc p hp (by omega) (fun q hq => of_decide_eq_true (e.1 q hq))) e.2
    · exact decide_eq_true (by have := h3 p hp; omega)
  · have h1 := hm p hp (of_decide_eq_true e)
    exact ⟨h1.2.2.1, fun q hq => (h1.1 q hq).2⟩
theorem MI_init {K A B : Nat → Nat} {σ : SG} (h : InvM K A B σ) (h0 : ∀ j, j < 128 → σ 3 j = 0) : MI K A B σ := ⟨h, fun q hq => by rw [h0 q hq]; omega, fun _ => 0, 0, fun p hp e => by rw [h0 p hp] at e; omega⟩
/-- the recurrence of a reciprocal finds its first coefficient done -/
theorem MI_7 {K A B : Nat → Nat} {σ : SG} {s n : Nat} (h : MI K A B σ) (hs : s < 8) (hn : n < 16) (hr : Rdy σ s n) (h7 : σ 0 s = 7) (h0 : n ≠ 0) : σ 4 (16 * s) = ivT (σ 4 (16 * σ 1 s)) := by
  obtain ⟨⟨a0, a1, a2, hw, hv⟩, h3, rk, M, hm⟩ := h
  have h1 : σ 3 (16 * s) = 1 := hr (16 * s) (nd_s (i := 0) h7 (by omega))
  have h2 := (hm (16 * s) (by omega) h1).2.2.1
  rw [show 16 * s = 16 * s + 0 from rfl, wk_sn (by decide), wk_7 (by rw [← a0]; exact h7), if_pos rfl, ← a1] at h2
  exact h2
theorem MI_add {K A B : Nat → Nat} {σ σ' : SG} {s n : Nat} (h : MI K A B σ) (hs : s < 8) (hn : n < 16) (h0 : σ 3 (16 * s + n) = 0) (hr : Rdy σ s n) (hb : ¬ brN K A B (σ 4) s n) (e0 : ∀ k, k ≠ 3 → k ≠ 4 → k ≠ 6 → k ≠ 7 → σ' k = σ k) (e3 : σ' 3 = st1 (σ 3) (16 * s + n) 1) (e4 : σ' 4 = st1 (σ 4) (16 * s + n) (wkN K A B (σ 4) s n)) : MI K A B σ' ∧ sF (σ' 3) 128 = sF (σ 3) 128 + 1 := by
  obtain ⟨⟨a0, a1, a2, hw, hv⟩, h3, rk, M, hm⟩ := h
  have hp : 16 * s + n < 128 := by omega
  have hr' : ∀ q, nds K A B (16 * s + n) q → σ 3 q = 1 := fun q hq => hr q (by rw [a0, a1, a2]; exact (nds_sn hn).mp hq)
  generalize hpe : 16 * s + n = p at *
  have g3 : ∀ q, q ≠ p → σ' 3 q = σ 3 q := fun q hq => by rw [e3, st1_ne hq]
  have g4 : ∀ q, q ≠ p → σ' 4 q = σ 4 q := fun q hq => by rw [e4, st1_ne hq]
  have g3p : σ' 3 p = 1 := by rw [e3, st1_same]
  have hne : ∀ q, σ 3 q = 1 → q ≠ p := fun q hq e => by rw [e] at hq; omega
  have hbp : ¬ brn K A B (σ 4) p := by rw [← hpe, brn_sn hn]; exact hb
  have hwk : wkN K A B (σ 4) s n = wk K A B (σ 4) p := by rw [← hpe, wk_sn hn]
  refine ⟨⟨⟨by rw [e0 0 (by decide) (by decide) (by decide) (by decide)]; exact a0, by rw [e0 1 (by decide) (by decide) (by decide) (by decide)]; exact a1, by rw [e0 2 (by decide) (by decide) (by decide) (by decide)]; exact a2, hw, fun q => ?_⟩, fun q hq => ?_, st1 rk p M, M + 1, fun q hq hq1 => ?_⟩, ?_⟩
  · by_cases e : q = p
    · rw [e, e4, st1_same]; exact wkN_lt (hw s hs).2.2.1 hv
    · rw [g4 q e]; exact hv q
  · by_cases e : q = p
    · rw [e, g3p]; exact Nat.le_refl _
    · rw [g3 q e]; exact h3 q hq
  · by_cases e : q = p
    · subst e
      have hc : ∀ x, nds K A B q x → σ 4 x = σ' 4 x := fun x hx => (g4 x (hne x (hr' x hx))).symm
      refine ⟨fun x hx => ?_, fun z => hbp ((brN_congr hc).mpr z), ?_, by rw [st1_same]; omega⟩
      · have hx1 := hr' x hx
        have hxn := hne x hx1
        rw [g3 x hxn, st1_ne hxn, st1_same]
        exact ⟨hx1, (hm x (nds_lt hw hq hx) hx1).2.2.2⟩
      · have h9 : σ' 4 q = wk K A B (σ 4) q := by rw [e4, st1_same, hwk]
        rw [h9]
        exact wkN_congr (hw _ (by omega)).1 (by omega) hbp hc
    · rw [g3 q e] at hq1
      obtain ⟨m1, m2, m3, m4⟩ := hm q hq hq1
      have hc : ∀ x, nds K A B q x → σ 4 x = σ' 4 x := fun x hx => (g4 x (hne x (m1 x hx).1)).symm
      refine ⟨fun x hx => ?_, fun z => m2 ((brN_congr hc).mpr z), ?_, by rw [st1_ne e]; omega⟩
      · have hxn := hne x (m1 x hx).1
        rw [g3 x hxn, st1_ne hxn, st1_ne e]
        exact m1 x hx
      · rw [g4 q e, m3]
        exact wkN_congr (hw _ (by omega)).1 (by omega) m2 hc
  · have h1 := sF_upd (f := σ 3) (g := σ' 3) 128 hp g3
    omega
def PI (K A B : Nat → Nat) (σ : SG) (c n s : Nat) (σ1 : SG) : Prop := MI K A B σ1 ∧ ((c = 1 ∧ sF (σ 3) 128 < sF (σ1 3) 128) ∨ (c = 0 ∧ σ1 = σ ∧ ∀ n1 s1, s1 < 8 → n1 < 16 → (n1 < n ∨ (n1 = n ∧ s1 < s)) → σ 3 (16 * s1 + n1) = 0 → Rdy σ s1 n1 → brN K A B (σ 4) s1 n1))
section Pi
variable {K A B : Nat → Nat} {σ σ1 : SG} {c n s : Nat}
theorem PI_skip (h : PI K A B σ c n s σ1) (hx : σ1 3 (16 * s + n) = 0 → Rdy σ1 s n → brN K A B (σ1 4) s n) : PI K A B σ c n (s + 1) σ1 := by
  obtain ⟨h1, h2 | ⟨h2, h3, h4⟩⟩ := h
  · exact ⟨h1, Or.inl h2⟩
  · refine ⟨h1, Or.inr ⟨h2, h3, fun n1 s1 k1 k2 k3 k4 k5 => ?_⟩⟩
    by_cases e : n1 = n ∧ s1 = s
    · obtain ⟨rfl, rfl⟩ := e
      rw [h3] at hx
      exact hx k4 k5
    · exact h4 n1 s1 k1 k2 (by omega) k4 k5
theorem PI_line (h : PI K A B σ c n 8 σ1) : PI K A B σ c (n + 1) 0 σ1 := by
  obtain ⟨h1, h2 | ⟨h2, h3, h4⟩⟩ := h
  · exact ⟨h1, Or.inl h2⟩
  · exact ⟨h1, Or.inr ⟨h2, h3, fun n1 s1 k1 k2 k3 k4 k5 => h4 n1 s1 k1 k2 (by omega) k4 k5⟩⟩
theorem PI_add {σ' : SG} (h : PI K A B σ c n s σ1) (hs : s < 8) (hn : n < 16) (h0 : σ1 3 (16 * s + n) = 0) (hr : Rdy σ1 s n) (hb : ¬ brN K A B (σ1 4) s n) (e0 : ∀ k, k ≠ 3 → k ≠ 4 → k ≠ 6 → k ≠ 7 → σ' k = σ1 k) (e3 : σ' 3 = st1 (σ1 3) (16 * s + n) 1) (e4 : σ' 4 = st1 (σ1 4) (16 * s + n) (wkN K A B (σ1 4) s n)) : PI K A B σ 1 n (s + 1) σ' := by
  obtain ⟨h1, h2⟩ := MI_add h.1 hs hn h0 hr hb e0 e3 e4
  refine ⟨h1, Or.inl ⟨rfl, ?_⟩⟩
  obtain ⟨-, ⟨-, q⟩ | ⟨-, q, -⟩⟩ := h
  · omega
  · rw [q] at h2
    omega
theorem PI_end (h : PI K A B σ c 16 0 σ1) : MI K A B σ1 ∧ ((c = 1 ∧ sF (σ 3) 128 < sF (σ1 3) 128) ∨ (c = 0 ∧ CL K A B σ1)) := by
  obtain ⟨h1, h2 | ⟨h2, h3, h4⟩⟩ := h
  · exact ⟨h1, Or.inl h2⟩
  · refine ⟨h1, Or.inr ⟨h2, fun p hp k4 k5 => ?_⟩⟩
    obtain ⟨⟨a0, a1, a2, -⟩, -⟩ := h1
    have e : p = 16 * (p / 16) + p % 16 := by omega
    rw [h3] at k4 k5 a0 a1 a2 ⊢
    rw [e] at k4 k5 ⊢
    rw [brn_sn (by omega)]
    exact h4 (p % 16) (p / 16) (by omega) (by omega) (by omega) k4 (fun q hq => k5 q ((nds_sn (by omega)).mpr (by rw [a0, a1, a2] at hq; exact hq)))
end Pi
theorem CL_of {P Q : Prop} {c : Nat} (h : (c = 1 ∧ P) ∨ (c = 0 ∧ Q)) (hc : c = 1 → ¬ P) : Q := by
  rcases h with h | h
  · exact absurd h.2 (hc h.1)
  · exact h.2
theorem or_t {P : Prop} {r : Int32} (h : (P ∧ r = nI 1) ∨ (¬ P ∧ r = nI 0)) (hr : ¬ r = 0) : P := by
  rcases h with h | h
  · exact h.1
  · exact absurd h.2 hr
theorem or_f {P : Prop} {r : Int32} (h : (P ∧ r = nI 1) ∨ (¬ P ∧ r = nI 0)) (hr : r = 0) : ¬ P := by
  rcases h with h | h
  · rw [h.2] at hr
    exact absurd hr (by decide)
  · exact h.1

set_option maxHeartbeats 4000000 in
/-- pass() -/
theorem c_M_pass (l : Launch) (h : Nat) (a : Nat → Nat) (σ : SG) (K A B : Nat → Nat) (hM : MI K A B σ) : MetN l y_M_pass b_M_pass 4 (some .boolean) (rm 3 73) 1 h a σ [.ref h] (pI (fun r σ' => MI K A B σ' ∧ ((r = nI 1 ∧ sF (σ 3) 128 < sF (σ' 3) 128) ∨ (r = nI 0 ∧ CL K A B σ')))) := by
  refine nv_entry (by decide) (Nat.le_of_ble_eq_true rfl) (by intro v hv; simp only [List.mem_cons, List.not_mem_nil, or_false] at hv; rcases hv with rfl <;> rfl) (fun G hG => ?_)
  have hP := hG.pr
  refine nv_iconst hP (nI 0) d_M_pass_0 (by decide) ?_
  refine nv_istore_n hP 1 d_M_pass_1 rfl (by decide) ?_
  refine nv_iconst hP (nI 0) d_M_pass_2 (by decide) ?_
  refine nv_istore_n hP 2 d_M_pass_3 rfl (by decide) ?_
  have loop_4 : ∀ (f_4 : Nat) (n c : Nat) (σ1 : SG) (_ : n ≤ 16) (_ : c ≤ 1) (_ : PI K A B σ c n 0 σ1), 16 - n < f_4 → G σ1 4 [(0, .ref h), (1, .int (nI c)), (2, .int (nI n))] [] := by
    intro f_4
    induction f_4 with
    | zero => intro n c σ1 hn hc hPI1 hf_4; exact absurd hf_4 (Nat.not_lt_zero _)
    | succ f_4 ih_4 =>
      intro n c σ1 hn hc hPI1 hf_4
      refine nv_iload_n hP 2 d_M_pass_4 rfl rfl ?_
      refine nv_bipush hP (nI 16) d_M_pass_5 (by decide) ?_
      refine nv_cmpge hP (by omega) (by omega) 93 d_M_pass_7 (by decide) (fun c_7 => ?_) (fun c_7 => ?_)
      · refine nv_iload_n hP 1 d_M_pass_93 rfl rfl ?_
        exact nv_zret hG (by omega) d_M_pass_94 (⟨_, rfl, by
          rw [show n = 16 by omega] at hPI1
          obtain ⟨k1, k2⟩ := PI_end hPI1
          refine ⟨k1, ?_⟩
          rcases k2 with ⟨rfl, k2⟩ | ⟨rfl, k2⟩
          · exact Or.inl ⟨rfl, k2⟩
          · exact Or.inr ⟨rfl, k2⟩⟩)
      · refine nv_iconst hP (nI 0) d_M_pass_10 (by decide) ?_
        refine nv_istore_n hP 3 d_M_pass_11 rfl (by decide) ?_
        have loop_12 : ∀ (f_12 : Nat) (s c1 : Nat) (σ2 : SG) (_ : s ≤ 8) (_ : c1 ≤ 1) (_ : PI K A B σ c1 n s σ2), 8 - s < f_12 → G σ2 12 [(0, .ref h), (1, .int (nI c1)), (2, .int (nI n)), (3, .int (nI s))] [] := by
          intro f_12
          induction f_12 with
          | zero => intro s c1 σ2 hs hc1 hPI hf_12; exact absurd hf_12 (Nat.not_lt_zero _)
          | succ f_12 ih_12 =>
            intro s c1 σ2 hs hc1 hPI hf_12
            refine nv_iload_n hP 3 d_M_pass_12 rfl rfl ?_
            refine nv_bipush hP (nI 8) d_M_pass_13 (by decide) ?_
            refine nv_cmpge hP (by omega) (by omega) 87 d_M_pass_15 (by decide) (fun c_15 => ?_) (fun c_15 => ?_)
            · refine nv_iinc hP d_M_pass_87 rfl (by decide) ?_
              refine nv_goto hP 4 d_M_pass_90 (by decide) ?_
              exact nv_lv hP (lsub_c rfl (lsub_c rfl (lsub_c rfl lsub_n))) (ih_4 (n + 1) c1 σ2 (by omega) hc1 (PI_line (by rw [show s = 8 by omega] at hPI; exact hPI)) (by omega))
            · have hw2 : Wf (σ2 0) (σ2 1) (σ2 2) := by rw [hPI.1.1.1, hPI.1.1.2.1, hPI.1.1.2.2.1]; exact hPI.1.1.2.2.2.1
              have hv2 := hPI.1.1.2.2.2.2
              have h32 := hPI.1.2.1
              have h3p := h32 (16 * s + n) (by omega)
              refine nv_aload_n hP 0 d_M_pass_18 rfl rfl ?_
              refine nv_getf hG ff_M_3 (by decide) d_M_pass_19 ?_
              refine nv_bipush hP (nI 16) d_M_pass_22 (by decide) ?_
              refine nv_iload_n hP 3 d_M_pass_24 rfl rfl ?_
              refine nv_imul hP d_M_pass_25 ?_
              refine nv_iload_n hP 2 d_M_pass_26 rfl rfl ?_
              refine nv_iadd hP d_M_pass_27 ?_
              refine nv_zald hG 128 (by decide) rfl rfl (by omega) d_M_pass_28 ?_
              refine nv_ifne hP (by omega) 81 d_M_pass_29 (by decide) (fun c_29 => ?_) (fun c_29 => ?_)
              · refine nv_iinc hP d_M_pass_81 rfl (by decide) ?_
                refine nv_goto hP 12 d_M_pass_84 (by decide) ?_
                exact nv_lv hP (lsub_c rfl (lsub_c rfl (lsub_c rfl (lsub_c rfl lsub_n)))) (ih_12 (s + 1) c1 σ2 (by omega) hc1 (PI_skip hPI (fun e _ => absurd e c_29)) (by omega))
              · refine nv_aload_n hP 0 d_M_pass_32 rfl rfl ?_
                refine nv_iload_n hP 3 d_M_pass_33 rfl rfl ?_
                refine nv_iload_n hP 2 d_M_pass_34 rfl rfl ?_
                refine nv_callVI hG (c_M_ready l h a σ2 s n (by omega) (by omega) hw2 h32) k_M_ready rfl ⟨rfl, rfl⟩ ⟨Nat.le_of_ble_eq_true rfl, Nat.le_of_ble_eq_true rfl⟩ rfl (Nat.le_of_ble_eq_true rfl) d_M_pass_35 (fun r_35 σ_35 q_35 => ?_)
                obtain ⟨e_35, hr_35⟩ := q_35
                replace e_35 := e_35.symm
                subst e_35
                refine nv_ifeqR hP 81 d_M_pass_38 (by decide) (fun c_38 => ?_) (fun c_38 => ?_)
                · refine nv_iinc hP d_M_pass_81 rfl (by decide) ?_
                  refine nv_goto hP 12 d_M_pass_84 (by decide) ?_
                  exact nv_lv hP (lsub_c rfl (lsub_c rfl (lsub_c rfl (lsub_c rfl lsub_n)))) (ih_12 (s + 1) c1 σ2 (by omega) hc1 (PI_skip hPI (fun _ e => absurd e (or_f hr_35 c_38))) (by omega))
                · refine nv_aload_n hP 0 d_M_pass_41 rfl rfl ?_
                  refine nv_iload_n hP 3 d_M_pass_42 rfl rfl ?_
                  refine nv_iload_n hP 2 d_M_pass_43 rfl rfl ?_
                  refine nv_callVI hG (c_M_barren l h a σ2 s n (by omega) (by omega) hw2 hv2) k_M_barren rfl ⟨rfl, rfl⟩ ⟨Nat.le_of_ble_eq_true rfl, Nat.le_of_ble_eq_true rfl⟩ rfl (Nat.le_of_ble_eq_true rfl) d_M_pass_44 (fun r_44 σ_44 q_44 => ?_)
                  obtain ⟨e_44, hb_44⟩ := q_44
                  replace e_44 := e_44.symm
                  subst e_44
                  refine nv_ifneR hP 81 d_M_pass_47 (by decide) (fun c_47 => ?_) (fun c_47 => ?_)
                  · refine nv_iinc hP d_M_pass_81 rfl (by decide) ?_
                    refine nv_goto hP 12 d_M_pass_84 (by decide) ?_
                    exact nv_lv hP (lsub_c rfl (lsub_c rfl (lsub_c rfl (lsub_c rfl lsub_n)))) (ih_12 (s + 1) c1 σ2 (by omega) hc1 (PI_skip hPI (fun _ _ => by have := or_t hb_44 c_47; rw [hPI.1.1.1, hPI.1.1.2.1, hPI.1.1.2.2.1] at this; exact this)) (by omega))
                  · refine nv_aload_n hP 0 d_M_pass_50 rfl rfl ?_
                    refine nv_getf hG ff_M_4 (by decide) d_M_pass_51 ?_
                    refine nv_bipush hP (nI 16) d_M_pass_54 (by decide) ?_
                    refine nv_iload_n hP 3 d_M_pass_56 rfl rfl ?_
                    refine nv_imul hP d_M_pass_57 ?_
                    refine nv_iload_n hP 2 d_M_pass_58 rfl rfl ?_
                    refine nv_iadd hP d_M_pass_59 ?_
                    refine nv_aload_n hP 0 d_M_pass_60 rfl rfl ?_
                    refine nv_iload_n hP 3 d_M_pass_61 rfl rfl ?_
                    refine nv_iload_n hP 2 d_M_pass_62 rfl rfl ?_
                    refine nv_callVI hG (c_M_worked l h a σ2 s n (by omega) (by omega) hw2 hv2 (or_f hb_44 c_47) (fun e7 e0 => MI_7 hPI.1 (by omega) (by omega) (or_t hr_35 c_38) e7 e0)) k_M_worked rfl ⟨rfl, rfl⟩ ⟨Nat.le_of_ble_eq_true rfl, Nat.le_of_ble_eq_true rfl⟩ rfl (Nat.le_of_ble_eq_true rfl) d_M_pass_63 (fun r_63 σ_63 q_63 => ?_)
                    obtain ⟨e_63, rfl⟩ := q_63
                    refine nv_iast hG 128 (by decide) rfl rfl (by omega) d_M_pass_66 (fun σ_66 hσ_66 => ?_)
                    refine nv_aload_n hP 0 d_M_pass_67 rfl rfl ?_
                    refine nv_getf hG ff_M_3 (by decide) d_M_pass_68 ?_
                    refine nv_bipush hP (nI 16) d_M_pass_71 (by decide) ?_
                    refine nv_iload_n hP 3 d_M_pass_73 rfl rfl ?_
                    refine nv_imul hP d_M_pass_74 ?_
                    refine nv_iload_n hP 2 d_M_pass_75 rfl rfl ?_
                    refine nv_iadd hP d_M_pass_76 ?_
                    refine nv_iconst hP (nI 1) d_M_pass_77 (by decide) ?_
                    refine nv_zast hG 128 (by omega) (by decide) rfl rfl (by omega) d_M_pass_78 (fun σ_78 hσ_78 => ?_)
                    refine nv_iconst hP (nI 1) d_M_pass_79 (by decide) ?_
                    refine nv_istore_n hP 1 d_M_pass_80 rfl (by decide) ?_
                    refine nv_iinc hP d_M_pass_81 rfl (by decide) ?_
                    refine nv_goto hP 12 d_M_pass_84 (by decide) ?_
                    exact nv_lv hP (lsub_c rfl (lsub_c rfl (lsub_c rfl (lsub_c rfl lsub_n)))) (ih_12 (s + 1) 1 σ_78 (by omega) (by omega) (PI_add hPI (by omega) (by omega) c_29 (or_t hr_35 c_38) (by have := or_f hb_44 c_47; rw [hPI.1.1.1, hPI.1.1.2.1, hPI.1.1.2.2.1] at this; exact this)
                      (fun k k3 k4 k6 k7 => by rw [hσ_78, st2_k k3, hσ_66, st2_k k4]; exact e_63 k k6 k7)
                      (by rw [hσ_78, st2_st1, hσ_66, st2_k (by decide), e_63 3 (by decide) (by decide)])
                      (by rw [hσ_78, st2_k (by decide), hσ_66, st2_st1, e_63 4 (by decide) (by decide), hPI.1.1.1, hPI.1.1.2.1, hPI.1.1.2.2.1])) (by omega))
        exact nv_lv hP (lsub_c rfl (lsub_c rfl (lsub_c rfl (lsub_c rfl lsub_n)))) (loop_12 _ 0 c σ1 (by omega) hc hPI1 (Nat.lt_succ_self _))
  exact nv_lv hP (lsub_c rfl (lsub_c rfl (lsub_c rfl lsub_n))) (loop_4 _ 0 0 σ (by omega) (by omega) ⟨hM, Or.inr ⟨rfl, rfl, fun n1 s1 _ _ k => by omega⟩⟩ (Nat.lt_succ_self _))

set_option maxHeartbeats 4000000 in
/-- workOut() -/
theorem c_M_workOut (l : Launch) (h : Nat) (a : Nat → Nat) (σ : SG) (K A B : Nat → Nat) (hI : InvM K A B σ) : MetN l y_M_workOut b_M_workOut 3 none (rm 4 96) 1 h a σ [.ref h] (pV (fun σ' => InvM K A B σ' ∧ (∀ q, q < 128 → σ' 3 q ≤ 1) ∧ Sol K A B (hB σ') (σ' 4))) := by
  refine nv_entry (by decide) (Nat.le_of_ble_eq_true rfl) (by intro v hv; simp only [List.mem_cons, List.not_mem_nil, or_false] at hv; rcases hv with rfl <;> rfl) (fun G hG => ?_)
  have hP := hG.pr
  refine nv_iconst hP (nI 0) d_M_workOut_0 (by decide) ?_
  refine nv_istore_n hP 1 d_M_workOut_1 rfl (by decide) ?_
  have loop_2 : ∀ (f_2 : Nat) (i : Nat) (σ1 : SG) (_ : i ≤ 128) (_ : ∀ k, k ≠ 3 → σ1 k = σ k) (_ : ∀ j, j < i → σ1 3 j = 0), 128 - i < f_2 → G σ1 2 [(0, .ref h), (1, .int (nI i))] [] := by
    intro f_2
    induction f_2 with
    | zero => intro i σ1 g1 g2 g3 hf_2; exact absurd hf_2 (Nat.not_lt_zero _)
    | succ f_2 ih_2 =>
      intro i σ1 g1 g2 g3 hf_2
      refine nv_iload_n hP 1 d_M_workOut_2 rfl rfl ?_
      refine nv_sipush hP (nI 128) d_M_workOut_3 (by decide) ?_
      refine nv_cmpge hP (by omega) (by omega) 22 d_M_workOut_6 (by decide) (fun c_6 => ?_) (fun c_6 => ?_)
      · refine nv_iconst hP (nI 1) d_M_workOut_22 (by decide) ?_
        refine nv_istore_n hP 1 d_M_workOut_23 rfl (by decide) ?_
        refine nv_iconst hP (nI 0) d_M_workOut_24 (by decide) ?_
        refine nv_istore_n hP 2 d_M_workOut_25 rfl (by decide) ?_
        have loop_26 : ∀ (f_26 : Nat) (c k : Nat) (σ2 : SG) (_ : c ≤ 1) (_ : k ≤ 129) (_ : MI K A B σ2) (_ : (c = 1 ∧ k ≤ sF (σ2 3) 128) ∨ (c = 0 ∧ CL K A B σ2)), 129 - k < f_26 → G σ2 26 [(0, .ref h), (1, .int (nI c)), (2, .int (nI k))] [] := by
          intro f_26
          induction f_26 with
          | zero => intro c k σ2 hc hk hM hcl hf_26; exact absurd hf_26 (Nat.not_lt_zero _)
          | succ f_26 ih_26 =>
            intro c k σ2 hc hk hM hcl hf_26
            have hle : sF (σ2 3) 128 ≤ 1 * 128 := sF_le 128 hM.2.1
            refine nv_iload_n hP 2 d_M_workOut_26 rfl rfl ?_
            refine nv_sipush hP (nI 129) d_M_workOut_27 (by decide) ?_
            refine nv_cmpge hP (by omega) (by omega) 48 d_M_workOut_30 (by decide) (fun c_30 => ?_) (fun c_30 => ?_)
            · exact nv_vret hG d_M_workOut_48 (⟨rfl, hM.1, hM.2.1, MI_sol hM (CL_of hcl (fun _ e => by omega))⟩)
            · refine nv_iload_n hP 1 d_M_workOut_33 rfl rfl ?_
              refine nv_ifeq hP (by omega) 48 d_M_workOut_34 (by decide) (fun c_34 => ?_) (fun c_34 => ?_)
              · exact nv_vret hG d_M_workOut_48 (⟨rfl, hM.1, hM.2.1, MI_sol hM (CL_of hcl (fun e => by omega))⟩)
              · refine nv_aload_n hP 0 d_M_workOut_37 rfl rfl ?_
                refine nv_callVI hG (c_M_pass l h a σ2 K A B hM) k_M_pass rfl ⟨rfl, rfl⟩ ⟨Nat.le_of_ble_eq_true rfl, Nat.le_of_ble_eq_true rfl⟩ rfl (Nat.le_of_ble_eq_true rfl) d_M_workOut_38 (fun r_38 σ_38 q_38 => ?_)
                refine nv_istore_n hP 1 d_M_workOut_41 rfl (by decide) ?_
                refine nv_iinc hP d_M_workOut_42 rfl (by decide) ?_
                refine nv_goto hP 26 d_M_workOut_45 (by decide) ?_
                obtain ⟨c2, hc2, rfl, hcl2⟩ : ∃ c2, c2 ≤ 1 ∧ r_38 = nI c2 ∧ ((c2 = 1 ∧ sF (σ2 3) 128 < sF (σ_38 3) 128) ∨ (c2 = 0 ∧ CL K A B σ_38)) := by
                  rcases q_38.2 with ⟨k1, k2⟩ | ⟨k1, k2⟩
                  · exact ⟨1, by omega, k1, Or.inl ⟨rfl, k2⟩⟩
                  · exact ⟨0, by omega, k1, Or.inr ⟨rfl, k2⟩⟩
                exact nv_lv hP (lsub_c rfl (lsub_c rfl (lsub_c rfl lsub_n))) (ih_26 c2 (k + 1) σ_38 hc2 (by omega) q_38.1 (by
                  rcases hcl2 with ⟨k1, k2⟩ | k1
                  · left; refine ⟨k1, ?_⟩; rcases hcl with ⟨-, k3⟩ | ⟨k3, -⟩ <;> omega
                  · exact Or.inr k1) (by omega))
        exact nv_lv hP (lsub_c rfl (lsub_c rfl (lsub_c rfl lsub_n))) (loop_26 _ 1 0 σ1 (by omega) (by omega) (MI_init ⟨by rw [g2 0 (by decide)]; exact hI.1, by rw [g2 1 (by decide)]; exact hI.2.1, by rw [g2 2 (by decide)]; exact hI.2.2.1, hI.2.2.2.1, by rw [g2 4 (by decide)]; exact hI.2.2.2.2⟩ (fun j hj => g3 j (by omega))) (Or.inl ⟨rfl, Nat.zero_le _⟩) (Nat.lt_succ_self _))
      · refine nv_aload_n hP 0 d_M_workOut_9 rfl rfl ?_
        refine nv_getf hG ff_M_3 (by decide) d_M_workOut_10 ?_
        refine nv_iload_n hP 1 d_M_workOut_13 rfl rfl ?_
        refine nv_iconst hP (nI 0) d_M_workOut_14 (by decide) ?_
        refine nv_zast hG 128 (by omega) (by decide) rfl rfl (by omega) d_M_workOut_15 (fun σ_15 hσ_15 => ?_)
        refine nv_iinc hP d_M_workOut_16 rfl (by decide) ?_
        refine nv_goto hP 2 d_M_workOut_19 (by decide) ?_
        exact nv_lv hP (lsub_c rfl (lsub_c rfl lsub_n)) (ih_2 (i + 1) σ_15 (by omega) (fun k hk => by rw [hσ_15, st2_k hk]; exact g2 k hk) (fun j hj => by rw [hσ_15, st2_at]; split <;> first | rfl | exact g3 j (by omega)) (by omega))
  exact nv_lv hP (lsub_c rfl (lsub_c rfl lsub_n)) (loop_2 _ 0 σ (by omega) (fun _ _ => rfl) (fun j hj => absurd hj (Nat.not_lt_zero _)) (Nat.lt_succ_self _))
end
section
/-- the definitions always have a solution -/
theorem MI_ex {K A B : Nat → Nat} : ∀ (f : Nat) (σ : SG), MI K A B σ → 128 - sF (σ 3) 128 < f → ∃ has v, Sol K A B has v := by
  intro f
  induction f with
  | zero => intro σ _ h; exact absurd h (Nat.not_lt_zero _)
  | succ f ih =>
    intro σ hM hf
    by_cases hc : CL K A B σ
    · exact ⟨_, _, MI_sol hM hc⟩
    · have h1 : ∃ p, p < 128 ∧ σ 3 p = 0 ∧ (∀ q, nds K A B p q → σ 3 q = 1) ∧ ¬ brn K A B (σ 4) p := by
        refine Classical.byContradiction (fun hn => hc (fun p hp k1 k2 => Classical.byContradiction (fun k3 => hn ⟨p, hp, k1, k2, k3⟩)))
      obtain ⟨p, hp, k1, k2, k3⟩ := h1
      obtain ⟨a0, a1, a2, -⟩ := hM.1
      have e : p = 16 * (p / 16) + p % 16 := by omega
      rw [e] at k1 k2 k3
      rw [brn_sn (by omega)] at k3
      obtain ⟨g1, g2⟩ := MI_add (σ' := st2 (st2 σ 4 (16 * (p / 16) + p % 16) (wkN K A B (σ 4) (p / 16) (p % 16))) 3 (16 * (p / 16) + p % 16) 1) hM (by omega) (by omega) k1 (fun q hq => k2 q ((nds_sn (by omega)).mpr (by rw [a0, a1, a2] at hq; exact hq))) k3 (fun k q3 q4 _ _ => by rw [st2_k q3, st2_k q4]) (by rw [st2_st1, st2_k (by decide)]) (by rw [st2_k (by decide), st2_st1])
      have hle : sF (σ 3) 128 ≤ 1 * 128 := sF_le 128 hM.2.1
      have hle2 : sF (st2 (st2 σ 4 (16 * (p / 16) + p % 16) (wkN K A B (σ 4) (p / 16) (p % 16))) 3 (16 * (p / 16) + p % 16) 1 3) 128 ≤ 1 * 128 := sF_le 128 g1.2.1
      exact ih _ g1 (by omega)
theorem Sol_ex {K A B : Nat → Nat} (hw : Wf K A B) : ∃ has v, Sol K A B has v :=
  MI_ex 129 (fun k => if k = 0 then K else if k = 1 then A else if k = 2 then B else fun _ => 0) (MI_init ⟨rfl, rfl, rfl, hw, fun _ => (show 0 < 97 by decide)⟩ (fun _ _ => rfl)) (by omega)
theorem hB_t {σ : SG} {p : Nat} (h3 : σ 3 p ≤ 1) (h : σ 3 p ≠ 0) : hB σ p = true := decide_eq_true (by omega)
theorem hB_f {σ : SG} {p : Nat} (h : σ 3 p = 0) : hB σ p = false := decide_eq_false (by omega)
theorem bad_f {x r : Int32} (h : (isS x ∧ r = nI 0) ∨ (¬ isS x ∧ r = nI 1)) (hr : r = 0) : isS x := by
  rcases h with h | h
  · exact h.1
  · rw [h.2] at hr
    exact absurd hr (by decide)
theorem bad_t {x r : Int32} (h : (isS x ∧ r = nI 0) ∨ (¬ isS x ∧ r = nI 1)) (hr : ¬ r = 0) : ¬ isS x := by
  rcases h with h | h
  · exact absurd h.2 hr
  · exact h.1
theorem ex_of {K A B : Nat → Nat} {σ : SG} (hI : InvM K A B σ) {P : (Nat → Bool) → (Nat → Nat) → Prop} (h : ∀ has v, P has v) : InvM K A B σ ∧ ∃ has v, Sol K A B has v ∧ P has v := by
  obtain ⟨has, v, hS⟩ := Sol_ex hI.2.2.2.1
  exact ⟨hI, has, v, hS, h has v⟩
theorem sum_in15 {y z : Int32} (h1 : ¬ y < 0) (h2 : ¬ z < y) (h3 : z ≤ nI 15) : ∃ i j, i ≤ j ∧ j < 16 ∧ y = nI i ∧ z = nI j := by
  have h4 : ¬ z < 0 := by
    rw [Int32.lt_iff_toInt_lt] at h1 h2 ⊢
    omega
  obtain ⟨j, hj, rfl⟩ := in_le (by decide) h4 h3
  obtain ⟨i, hi, rfl⟩ := in_le (m := j) (by omega) h1 (not_lt_le h2)
  exact ⟨i, j, by omega, hj, rfl, rfl⟩
theorem ev_s {S v w x n : Nat} (hS : S = x % 97) (hw : w = n % 97) : (S + v * w) % 97 = (x + v * n) % 97 := by
  rw [hS, hw, Nat.mod_add_mod, Nat.add_mod, Nat.mul_mod_mod, ← Nat.add_mod]

set_option maxHeartbeats 4000000 in
/-- kindOf -/
theorem c_M_kindOf (l : Launch) (h : Nat) (a : Nat → Nat) (σ : SG) (K A B : Nat → Nat) (x : Int32) (hI : InvM K A B σ) : MetN l y_M_kindOf b_M_kindOf 2 (some .int) (rm 1 21) 1 h a σ [.ref h, .int x] (pI (fun r σ' => σ' = σ ∧ r = aKind K x)) := by
  refine nv_entry (by decide) (Nat.le_of_ble_eq_true rfl) (by intro v hv; simp only [List.mem_cons, List.not_mem_nil, or_false] at hv; rcases hv with rfl | rfl <;> rfl) (fun G hG => ?_)
  have hP := hG.pr
  refine nv_aload_n hP 0 d_M_kindOf_0 rfl rfl ?_
  refine nv_iload_n hP 1 d_M_kindOf_1 rfl rfl ?_
  refine nv_callVI hG (c_M_bad l h a σ x) k_M_bad rfl ⟨rfl, rfl⟩ ⟨Nat.le_of_ble_eq_true rfl, Nat.le_of_ble_eq_true rfl⟩ rfl (Nat.le_of_ble_eq_true rfl) d_M_kindOf_2 (fun r_2 σ_2 q_2 => ?_)
  obtain ⟨e_2, hs_2⟩ := q_2
  replace e_2 := e_2.symm
  subst e_2
  refine nv_ifeqR hP 12 d_M_kindOf_5 (by decide) (fun c_5 => ?_) (fun c_5 => ?_)
  · obtain ⟨s, hs, rfl⟩ := bad_f hs_2 c_5
    refine nv_aload_n hP 0 d_M_kindOf_12 rfl rfl ?_
    refine nv_getf hG ff_M_0 (by decide) d_M_kindOf_13 ?_
    refine nv_iload_n hP 1 d_M_kindOf_16 rfl rfl ?_
    refine nv_iald hG 8 (by decide) rfl rfl (by omega) d_M_kindOf_17 ?_
    exact nv_iret hG d_M_kindOf_18 (⟨_, rfl, rfl, by rw [aKind_ok hs, hI.1]⟩)
  · refine nv_iconst hP (-1) d_M_kindOf_8 (by decide) ?_
    refine nv_goto hP 18 d_M_kindOf_9 (by decide) ?_
    exact nv_iret hG d_M_kindOf_18 (⟨_, rfl, rfl, (aKind_1 (bad_t hs_2 c_5)).symm⟩)

set_option maxHeartbeats 4000000 in
/-- coefficient -/
theorem c_M_coefficient (l : Launch) (h : Nat) (a : Nat → Nat) (σ : SG) (K A B : Nat → Nat) (x y : Int32) (hI : InvM K A B σ) : MetN l y_M_coefficient b_M_coefficient 3 (some .int) (rm 5 118) 1 h a σ [.ref h, .int x, .int y] (pI (fun r σ' => InvM K A B σ' ∧ ∃ has v, Sol K A B has v ∧ r = aCoef has v x y)) := by
  refine nv_entry (by decide) (Nat.le_of_ble_eq_true rfl) (by intro v hv; simp only [List.mem_cons, List.not_mem_nil, or_false] at hv; rcases hv with rfl | rfl | rfl <;> rfl) (fun G hG => ?_)
  have hP := hG.pr
  refine nv_aload_n hP 0 d_M_coefficient_0 rfl rfl ?_
  refine nv_iload_n hP 1 d_M_coefficient_1 rfl rfl ?_
  refine nv_callVI hG (c_M_bad l h a σ x) k_M_bad rfl ⟨rfl, rfl⟩ ⟨Nat.le_of_ble_eq_true rfl, Nat.le_of_ble_eq_true rfl⟩ rfl (Nat.le_of_ble_eq_true rfl) d_M_coefficient_2 (fun r_2 σ_2 q_2 => ?_)
  obtain ⟨e_2, hs_2⟩ := q_2
  replace e_2 := e_2.symm
  subst e_2
  refine nv_ifeqR hP 10 d_M_coefficient_5 (by decide) (fun c_5 => ?_) (fun c_5 => ?_)
  · obtain ⟨s, hs, rfl⟩ := bad_f hs_2 c_5
    refine nv_iload_n hP 2 d_M_coefficient_10 rfl rfl ?_
    refine nv_ifltR hP 20 d_M_coefficient_11 (by decide) (fun c_11 => ?_) (fun c_11 => ?_)
    · refine nv_bipush hP (-2) d_M_coefficient_20 (by decide) ?_
      exact nv_iret hG d_M_coefficient_22 (⟨_, rfl, ex_of hI (fun has v => (aCoef_2 hs (ix_neg c_11)).symm)⟩)
    · refine nv_iload_n hP 2 d_M_coefficient_14 rfl rfl ?_
      refine nv_bipush hP (nI 15) d_M_coefficient_15 (by decide) ?_
      refine nv_cmpleR hP 23 d_M_coefficient_17 (by decide) (fun c_17 => ?_) (fun c_17 => ?_)
      · obtain ⟨n, hn, rfl⟩ := in_le (by decide) c_11 c_17
        refine nv_aload_n hP 0 d_M_coefficient_23 rfl rfl ?_
        refine nv_callVV hG (c_M_workOut l h a σ K A B hI) k_M_workOut rfl ⟨rfl, rfl⟩ ⟨Nat.le_of_ble_eq_true rfl, Nat.le_of_ble_eq_true rfl⟩ rfl (Nat.le_of_ble_eq_true rfl) d_M_coefficient_24 (fun σ_24 q_24 => ?_)
        obtain ⟨hI1, h31, hS⟩ := q_24
        refine nv_aload_n hP 0 d_M_coefficient_27 rfl rfl ?_
        refine nv_getf hG ff_M_3 (by decide) d_M_coefficient_28 ?_
        refine nv_bipush hP (nI 16) d_M_coefficient_31 (by decide) ?_
        refine nv_iload_n hP 1 d_M_coefficient_33 rfl rfl ?_
        refine nv_imul hP d_M_coefficient_34 ?_
        refine nv_iload_n hP 2 d_M_coefficient_35 rfl rfl ?_
        refine nv_iadd hP d_M_coefficient_36 ?_
        refine nv_zald hG 128 (by decide) rfl rfl (by omega) d_M_coefficient_37 ?_
        have b3 := h31 (16 * s + n) (by omega)
        refine nv_ifeq hP (by omega) 55 d_M_coefficient_38 (by decide) (fun c_38 => ?_) (fun c_38 => ?_)
        · refine nv_bipush hP (-3) d_M_coefficient_55 (by decide) ?_
          exact nv_iret hG d_M_coefficient_57 (⟨_, rfl, hI1, _, _, hS, by rw [aCoef_ok hs hn, hB_f c_38, if_neg (by decide)]⟩)
        · refine nv_aload_n hP 0 d_M_coefficient_41 rfl rfl ?_
          refine nv_getf hG ff_M_4 (by decide) d_M_coefficient_42 ?_
          refine nv_bipush hP (nI 16) d_M_coefficient_45 (by decide) ?_
          refine nv_iload_n hP 1 d_M_coefficient_47 rfl rfl ?_
          refine nv_imul hP d_M_coefficient_48 ?_
          refine nv_iload_n hP 2 d_M_coefficient_49 rfl rfl ?_
          refine nv_iadd hP d_M_coefficient_50 ?_
          refine nv_iald hG 128 (by decide) rfl rfl (by omega) d_M_coefficient_51 ?_
          refine nv_goto hP 57 d_M_coefficient_52 (by decide) ?_
          exact nv_iret hG d_M_coefficient_57 (⟨_, rfl, hI1, _, _, hS, by rw [aCoef_ok hs hn, hB_t b3 c_38, if_pos rfl]⟩)
      · refine nv_bipush hP (-2) d_M_coefficient_20 (by decide) ?_
        exact nv_iret hG d_M_coefficient_22 (⟨_, rfl, ex_of hI (fun has v => (aCoef_2 hs (ix_ge (gt_ge (by decide) (not_le_lt c_17)))).symm)⟩)
  · refine nv_iconst hP (-1) d_M_coefficient_8 (by decide) ?_
    exact nv_iret hG d_M_coefficient_9 (⟨_, rfl, ex_of hI (fun has v => (aCoef_1 (bad_t hs_2 c_5)).symm)⟩)

set_option maxHeartbeats 4000000 in
/-- known -/
theorem c_M_known (l : Launch) (h : Nat) (a : Nat → Nat) (σ : SG) (K A B : Nat → Nat) (x : Int32) (hI : InvM K A B σ) : MetN l y_M_known b_M_known 3 (some .int) (rm 5 118) 1 h a σ [.ref h, .int x] (pI (fun r σ' => InvM K A B σ' ∧ ∃ has v, Sol K A B has v ∧ r = aKnown has x)) := by
  refine nv_entry (by decide) (Nat.le_of_ble_eq_true rfl) (by intro v hv; simp only [List.mem_cons, List.not_mem_nil, or_false] at hv; rcases hv with rfl | rfl <;> rfl) (fun G hG => ?_)
  have hP := hG.pr
  refine nv_aload_n hP 0 d_M_known_0 rfl rfl ?_
  refine nv_iload_n hP 1 d_M_known_1 rfl rfl ?_
  refine nv_callVI hG (c_M_bad l h a σ x) k_M_bad rfl ⟨rfl, rfl⟩ ⟨Nat.le_of_ble_eq_true rfl, Nat.le_of_ble_eq_true rfl⟩ rfl (Nat.le_of_ble_eq_true rfl) d_M_known_2 (fun r_2 σ_2 q_2 => ?_)
  obtain ⟨e_2, hs_2⟩ := q_2
  replace e_2 := e_2.symm
  subst e_2
  refine nv_ifeqR hP 10 d_M_known_5 (by decide) (fun c_5 => ?_) (fun c_5 => ?_)
  · obtain ⟨s, hs, rfl⟩ := bad_f hs_2 c_5
    refine nv_aload_n hP 0 d_M_known_10 rfl rfl ?_
    refine nv_callVV hG (c_M_workOut l h a σ K A B hI) k_M_workOut rfl ⟨rfl, rfl⟩ ⟨Nat.le_of_ble_eq_true rfl, Nat.le_of_ble_eq_true rfl⟩ rfl (Nat.le_of_ble_eq_true rfl) d_M_known_11 (fun σ_11 q_11 => ?_)
    obtain ⟨hI1, h31, hS⟩ := q_11
    refine nv_iconst hP (nI 0) d_M_known_14 (by decide) ?_
    refine nv_istore_n hP 2 d_M_known_15 rfl (by decide) ?_
    have loop_16 : ∀ (f_16 : Nat) (n : Nat) (_ : n ≤ 16) (_ : lead (fun n => hB σ_11 (16 * s + n)) 16 0 = lead (fun n => hB σ_11 (16 * s + n)) (16 - n) n), 16 - n < f_16 → G σ_11 16 [(0, .ref h), (1, .int (nI s)), (2, .int (nI n))] [] := by
      intro f_16
      induction f_16 with
      | zero => intro n hn hA hf_16; exact absurd hf_16 (Nat.not_lt_zero _)
      | succ f_16 ih_16 =>
        intro n hn hA hf_16
        refine nv_iload_n hP 2 d_M_known_16 rfl rfl ?_
        refine nv_bipush hP (nI 16) d_M_known_17 (by decide) ?_
        refine nv_cmpge hP (by omega) (by omega) 42 d_M_known_19 (by decide) (fun c_19 => ?_) (fun c_19 => ?_)
        · refine nv_iload_n hP 2 d_M_known_42 rfl rfl ?_
          exact nv_iret hG d_M_known_43 (⟨_, rfl, hI1, _, _, hS, by rw [aKnown_ok hs, hA, show n = 16 by omega]; rfl⟩)
        · refine nv_aload_n hP 0 d_M_known_22 rfl rfl ?_
          refine nv_getf hG ff_M_3 (by decide) d_M_known_23 ?_
          refine nv_bipush hP (nI 16) d_M_known_26 (by decide) ?_
          refine nv_iload_n hP 1 d_M_known_28 rfl rfl ?_
          refine nv_imul hP d_M_known_29 ?_
          refine nv_iload_n hP 2 d_M_known_30 rfl rfl ?_
          refine nv_iadd hP d_M_known_31 ?_
          refine nv_zald hG 128 (by decide) rfl rfl (by omega) d_M_known_32 ?_
          have b3 := h31 (16 * s + n) (by omega)
          refine nv_ifeq hP (by omega) 42 d_M_known_33 (by decide) (fun c_33 => ?_) (fun c_33 => ?_)
          · refine nv_iload_n hP 2 d_M_known_42 rfl rfl ?_
            exact nv_iret hG d_M_known_43 (⟨_, rfl, hI1, _, _, hS, by rw [aKnown_ok hs, hA, lead_e (f := fun n => hB σ_11 (16 * s + n)) (n := n) (by omega) (hB_f c_33)]⟩)
          · refine nv_iinc hP d_M_known_36 rfl (by decide) ?_
            refine nv_goto hP 16 d_M_known_39 (by decide) ?_
            exact nv_lv hP (lsub_c rfl (lsub_c rfl (lsub_c rfl lsub_n))) (ih_16 (n + 1) (by omega) (hA.trans (lead_s (f := fun n => hB σ_11 (16 * s + n)) (n := n) (by omega) (hB_t b3 c_33))) (by omega))
    exact nv_lv hP (lsub_c rfl (lsub_c rfl (lsub_c rfl lsub_n))) (loop_16 _ 0 (by omega) rfl (Nat.lt_succ_self _))
  · refine nv_iconst hP (-1) d_M_known_8 (by decide) ?_
    exact nv_iret hG d_M_known_9 (⟨_, rfl, ex_of hI (fun has v => (aKnown_1 (bad_t hs_2 c_5)).symm)⟩)

set_option maxHeartbeats 4000000 in
/-- valued -/
theorem c_M_valued (l : Launch) (h : Nat) (a : Nat → Nat) (σ : SG) (K A B : Nat → Nat) (x : Int32) (hI : InvM K A B σ) : MetN l y_M_valued b_M_valued 4 (some .int) (rm 5 118) 1 h a σ [.ref h, .int x] (pI (fun r σ' => InvM K A B σ' ∧ ∃ has v, Sol K A B has v ∧ r = aValued has x)) := by
  refine nv_entry (by decide) (Nat.le_of_ble_eq_true rfl) (by intro v hv; simp only [List.mem_cons, List.not_mem_nil, or_false] at hv; rcases hv with rfl | rfl <;> rfl) (fun G hG => ?_)
  have hP := hG.pr
  refine nv_aload_n hP 0 d_M_valued_0 rfl rfl ?_
  refine nv_iload_n hP 1 d_M_valued_1 rfl rfl ?_
  refine nv_callVI hG (c_M_bad l h a σ x) k_M_bad rfl ⟨rfl, rfl⟩ ⟨Nat.le_of_ble_eq_true rfl, Nat.le_of_ble_eq_true rfl⟩ rfl (Nat.le_of_ble_eq_true rfl) d_M_valued_2 (fun r_2 σ_2 q_2 => ?_)
  obtain ⟨e_2, hs_2⟩ := q_2
  replace e_2 := e_2.symm
  subst e_2
  refine nv_ifeqR hP 10 d_M_valued_5 (by decide) (fun c_5 => ?_) (fun c_5 => ?_)
  · obtain ⟨s, hs, rfl⟩ := bad_f hs_2 c_5
    refine nv_aload_n hP 0 d_M_valued_10 rfl rfl ?_
    refine nv_callVV hG (c_M_workOut l h a σ K A B hI) k_M_workOut rfl ⟨rfl, rfl⟩ ⟨Nat.le_of_ble_eq_true rfl, Nat.le_of_ble_eq_true rfl⟩ rfl (Nat.le_of_ble_eq_true rfl) d_M_valued_11 (fun σ_11 q_11 => ?_)
    obtain ⟨hI1, h31, hS⟩ := q_11
    refine nv_iconst hP (nI 0) d_M_valued_14 (by decide) ?_
    refine nv_istore_n hP 2 d_M_valued_15 rfl (by decide) ?_
    refine nv_iconst hP (nI 0) d_M_valued_16 (by decide) ?_
    refine nv_istore_n hP 3 d_M_valued_17 rfl (by decide) ?_
    have loop_18 : ∀ (f_18 : Nat) (n c : Nat) (_ : n ≤ 16) (_ : c = sF (fun n => if hB σ_11 (16 * s + n) = true then 1 else 0) n), 16 - n < f_18 → G σ_11 18 [(0, .ref h), (1, .int (nI s)), (2, .int (nI c)), (3, .int (nI n))] [] := by
      intro f_18
      induction f_18 with
      | zero => intro n c hn hA hf_18; exact absurd hf_18 (Nat.not_lt_zero _)
      | succ f_18 ih_18 =>
        intro n c hn hA hf_18
        refine nv_iload_n hP 3 d_M_valued_18 rfl rfl ?_
        refine nv_bipush hP (nI 16) d_M_valued_19 (by decide) ?_
        refine nv_cmpge hP (by omega) (by omega) 47 d_M_valued_21 (by decide) (fun c_21 => ?_) (fun c_21 => ?_)
        · refine nv_iload_n hP 2 d_M_valued_47 rfl rfl ?_
          exact nv_iret hG d_M_valued_48 (⟨_, rfl, hI1, _, _, hS, by rw [aValued_ok hs, hA, show n = 16 by omega]⟩)
        · refine nv_aload_n hP 0 d_M_valued_24 rfl rfl ?_
          refine nv_getf hG ff_M_3 (by decide) d_M_valued_25 ?_
          refine nv_bipush hP (nI 16) d_M_valued_28 (by decide) ?_
          refine nv_iload_n hP 1 d_M_valued_30 rfl rfl ?_
          refine nv_imul hP d_M_valued_31 ?_
          refine nv_iload_n hP 3 d_M_valued_32 rfl rfl ?_
          refine nv_iadd hP d_M_valued_33 ?_
          refine nv_zald hG 128 (by decide) rfl rfl (by omega) d_M_valued_34 ?_
          have b3 := h31 (16 * s + n) (by omega)
          refine nv_ifeq hP (by omega) 41 d_M_valued_35 (by decide) (fun c_35 => ?_) (fun c_35 => ?_)
          · refine nv_iinc hP d_M_valued_41 rfl (by decide) ?_
            refine nv_goto hP 18 d_M_valued_44 (by decide) ?_
            exact nv_lv hP (lsub_c rfl (lsub_c rfl (lsub_c rfl (lsub_c rfl lsub_n)))) (ih_18 (n + 1) c (by omega) (by show c = sF (fun n => if hB σ_11 (16 * s + n) = true then 1 else 0) n + (if hB σ_11 (16 * s + n) = true then 1 else 0); rw [hB_f c_35, if_neg (by decide), hA]; rfl) (by omega))
          · refine nv_iinc hP d_M_valued_38 rfl (by decide) ?_
            refine nv_iinc hP d_M_valued_41 rfl (by decide) ?_
            refine nv_goto hP 18 d_M_valued_44 (by decide) ?_
            exact nv_lv hP (lsub_c rfl (lsub_c rfl (lsub_c rfl (lsub_c rfl lsub_n)))) (ih_18 (n + 1) (c + 1) (by omega) (by show c + 1 = sF (fun n => if hB σ_11 (16 * s + n) = true then 1 else 0) n + (if hB σ_11 (16 * s + n) = true then 1 else 0); rw [hB_t b3 c_35, if_pos rfl, hA]) (by omega))
    exact nv_lv hP (lsub_c rfl (lsub_c rfl (lsub_c rfl (lsub_c rfl lsub_n)))) (loop_18 _ 0 0 (by omega) rfl (Nat.lt_succ_self _))
  · refine nv_iconst hP (-1) d_M_valued_8 (by decide) ?_
    exact nv_iret hG d_M_valued_9 (⟨_, rfl, ex_of hI (fun has v => (aValued_1 (bad_t hs_2 c_5)).symm)⟩)

set_option maxHeartbeats 4000000 in
/-- order -/
theorem c_M_order (l : Launch) (h : Nat) (a : Nat → Nat) (σ : SG) (K A B : Nat → Nat) (x : Int32) (hI : InvM K A B σ) : MetN l y_M_order b_M_order 3 (some .int) (rm 5 118) 1 h a σ [.ref h, .int x] (pI (fun r σ' => InvM K A B σ' ∧ ∃ has v, Sol K A B has v ∧ r = aOrder has v x)) := by
  refine nv_entry (by decide) (Nat.le_of_ble_eq_true rfl) (by intro v hv; simp only [List.mem_cons, List.not_mem_nil, or_false] at hv; rcases hv with rfl | rfl <;> rfl) (fun G hG => ?_)
  have hP := hG.pr
  refine nv_aload_n hP 0 d_M_order_0 rfl rfl ?_
  refine nv_iload_n hP 1 d_M_order_1 rfl rfl ?_
  refine nv_callVI hG (c_M_bad l h a σ x) k_M_bad rfl ⟨rfl, rfl⟩ ⟨Nat.le_of_ble_eq_true rfl, Nat.le_of_ble_eq_true rfl⟩ rfl (Nat.le_of_ble_eq_true rfl) d_M_order_2 (fun r_2 σ_2 q_2 => ?_)
  obtain ⟨e_2, hs_2⟩ := q_2
  replace e_2 := e_2.symm
  subst e_2
  refine nv_ifeqR hP 10 d_M_order_5 (by decide) (fun c_5 => ?_) (fun c_5 => ?_)
  · obtain ⟨s, hs, rfl⟩ := bad_f hs_2 c_5
    refine nv_aload_n hP 0 d_M_order_10 rfl rfl ?_
    refine nv_callVV hG (c_M_workOut l h a σ K A B hI) k_M_workOut rfl ⟨rfl, rfl⟩ ⟨Nat.le_of_ble_eq_true rfl, Nat.le_of_ble_eq_true rfl⟩ rfl (Nat.le_of_ble_eq_true rfl) d_M_order_11 (fun σ_11 q_11 => ?_)
    obtain ⟨hI1, h31, hS⟩ := q_11
    refine nv_iconst hP (nI 0) d_M_order_14 (by decide) ?_
    refine nv_istore_n hP 2 d_M_order_15 rfl (by decide) ?_
    have loop_16 : ∀ (f_16 : Nat) (n : Nat) (_ : n ≤ 16) (_ : ord (fun n => hB σ_11 (16 * s + n)) (fun n => σ_11 4 (16 * s + n)) 16 0 = ord (fun n => hB σ_11 (16 * s + n)) (fun n => σ_11 4 (16 * s + n)) (16 - n) n), 16 - n < f_16 → G σ_11 16 [(0, .ref h), (1, .int (nI s)), (2, .int (nI n))] [] := by
      intro f_16
      induction f_16 with
      | zero => intro n hn hA hf_16; exact absurd hf_16 (Nat.not_lt_zero _)
      | succ f_16 ih_16 =>
        intro n hn hA hf_16
        refine nv_iload_n hP 2 d_M_order_16 rfl rfl ?_
        refine nv_bipush hP (nI 16) d_M_order_17 (by decide) ?_
        refine nv_cmpge hP (by omega) (by omega) 61 d_M_order_19 (by decide) (fun c_19 => ?_) (fun c_19 => ?_)
        · refine nv_bipush hP (-2) d_M_order_61 (by decide) ?_
          exact nv_iret hG d_M_order_63 (⟨_, rfl, hI1, _, _, hS, by rw [aOrder_ok hs, hA, show n = 16 by omega]; rfl⟩)
        · refine nv_aload_n hP 0 d_M_order_22 rfl rfl ?_
          refine nv_getf hG ff_M_3 (by decide) d_M_order_23 ?_
          refine nv_bipush hP (nI 16) d_M_order_26 (by decide) ?_
          refine nv_iload_n hP 1 d_M_order_28 rfl rfl ?_
          refine nv_imul hP d_M_order_29 ?_
          refine nv_iload_n hP 2 d_M_order_30 rfl rfl ?_
          refine nv_iadd hP d_M_order_31 ?_
          refine nv_zald hG 128 (by decide) rfl rfl (by omega) d_M_order_32 ?_
          have b3 := h31 (16 * s + n) (by omega)
          refine nv_ifne hP (by omega) 39 d_M_order_33 (by decide) (fun c_33 => ?_) (fun c_33 => ?_)
          · refine nv_aload_n hP 0 d_M_order_39 rfl rfl ?_
            refine nv_getf hG ff_M_4 (by decide) d_M_order_40 ?_
            refine nv_bipush hP (nI 16) d_M_order_43 (by decide) ?_
            refine nv_iload_n hP 1 d_M_order_45 rfl rfl ?_
            refine nv_imul hP d_M_order_46 ?_
            refine nv_iload_n hP 2 d_M_order_47 rfl rfl ?_
            refine nv_iadd hP d_M_order_48 ?_
            refine nv_iald hG 128 (by decide) rfl rfl (by omega) d_M_order_49 ?_
            have b4 := hI1.2.2.2.2 (16 * s + n)
            refine nv_ifeq hP (by omega) 55 d_M_order_50 (by decide) (fun c_50 => ?_) (fun c_50 => ?_)
            · refine nv_iinc hP d_M_order_55 rfl (by decide) ?_
              refine nv_goto hP 16 d_M_order_58 (by decide) ?_
              exact nv_lv hP (lsub_c rfl (lsub_c rfl (lsub_c rfl lsub_n))) (ih_16 (n + 1) (by omega) (hA.trans (ord_s (f := fun n => hB σ_11 (16 * s + n)) (g := fun n => σ_11 4 (16 * s + n)) (n := n) (by omega) (hB_t b3 c_33) c_50)) (by omega))
            · refine nv_iload_n hP 2 d_M_order_53 rfl rfl ?_
              exact nv_iret hG d_M_order_54 (⟨_, rfl, hI1, _, _, hS, by rw [aOrder_ok hs, hA, ord_v (f := fun n => hB σ_11 (16 * s + n)) (g := fun n => σ_11 4 (16 * s + n)) (n := n) (by omega) (hB_t b3 c_33) c_50]⟩)
          · refine nv_bipush hP (-2) d_M_order_36 (by decide) ?_
            exact nv_iret hG d_M_order_38 (⟨_, rfl, hI1, _, _, hS, by rw [aOrder_ok hs, hA, ord_e (f := fun n => hB σ_11 (16 * s + n)) (g := fun n => σ_11 4 (16 * s + n)) (n := n) (by omega) (hB_f c_33)]⟩)
    exact nv_lv hP (lsub_c rfl (lsub_c rfl (lsub_c rfl lsub_n))) (loop_16 _ 0 (by omega) rfl (Nat.lt_succ_self _))
  · refine nv_iconst hP (-1) d_M_order_8 (by decide) ?_
    exact nv_iret hG d_M_order_9 (⟨_, rfl, ex_of hI (fun has v => (aOrder_1 (bad_t hs_2 c_5)).symm)⟩)

set_option maxHeartbeats 4000000 in
/-- agreeing -/
theorem c_M_agreeing (l : Launch) (h : Nat) (a : Nat → Nat) (σ : SG) (K A B : Nat → Nat) (x y : Int32) (hI : InvM K A B σ) : MetN l y_M_agreeing b_M_agreeing 4 (some .int) (rm 5 118) 1 h a σ [.ref h, .int x, .int y] (pI (fun r σ' => InvM K A B σ' ∧ ∃ has v, Sol K A B has v ∧ r = aAgree has v x y)) := by
  refine nv_entry (by decide) (Nat.le_of_ble_eq_true rfl) (by intro v hv; simp only [List.mem_cons, List.not_mem_nil, or_false] at hv; rcases hv with rfl | rfl | rfl <;> rfl) (fun G hG => ?_)
  have hP := hG.pr
  refine nv_aload_n hP 0 d_M_agreeing_0 rfl rfl ?_
  refine nv_iload_n hP 1 d_M_agreeing_1 rfl rfl ?_
  refine nv_callVI hG (c_M_bad l h a σ x) k_M_bad rfl ⟨rfl, rfl⟩ ⟨Nat.le_of_ble_eq_true rfl, Nat.le_of_ble_eq_true rfl⟩ rfl (Nat.le_of_ble_eq_true rfl) d_M_agreeing_2 (fun r_2 σ_2 q_2 => ?_)
  obtain ⟨e_2, hs_2⟩ := q_2
  replace e_2 := e_2.symm
  subst e_2
  refine nv_ifneR hP 16 d_M_agreeing_5 (by decide) (fun c_5 => ?_) (fun c_5 => ?_)
  · refine nv_iconst hP (-1) d_M_agreeing_16 (by decide) ?_
    exact nv_iret hG d_M_agreeing_17 (⟨_, rfl, ex_of hI (fun has v => (aAgree_1 (bad_t hs_2 c_5)).symm)⟩)
  · obtain ⟨s, hs, rfl⟩ := bad_f hs_2 c_5
    refine nv_aload_n hP 0 d_M_agreeing_8 rfl rfl ?_
    refine nv_iload_n hP 2 d_M_agreeing_9 rfl rfl ?_
    refine nv_callVI hG (c_M_bad l h a σ y) k_M_bad rfl ⟨rfl, rfl⟩ ⟨Nat.le_of_ble_eq_true rfl, Nat.le_of_ble_eq_true rfl⟩ rfl (Nat.le_of_ble_eq_true rfl) d_M_agreeing_10 (fun r_10 σ_10 q_10 => ?_)
    obtain ⟨e_10, hs_10⟩ := q_10
    replace e_10 := e_10.symm
    subst e_10
    refine nv_ifeqR hP 18 d_M_agreeing_13 (by decide) (fun c_13 => ?_) (fun c_13 => ?_)
    · obtain ⟨t, ht, rfl⟩ := bad_f hs_10 c_13
      refine nv_aload_n hP 0 d_M_agreeing_18 rfl rfl ?_
      refine nv_callVV hG (c_M_workOut l h a σ K A B hI) k_M_workOut rfl ⟨rfl, rfl⟩ ⟨Nat.le_of_ble_eq_true rfl, Nat.le_of_ble_eq_true rfl⟩ rfl (Nat.le_of_ble_eq_true rfl) d_M_agreeing_19 (fun σ_19 q_19 => ?_)
      obtain ⟨hI1, h31, hS⟩ := q_19
      refine nv_iconst hP (nI 0) d_M_agreeing_22 (by decide) ?_
      refine nv_istore_n hP 3 d_M_agreeing_23 rfl (by decide) ?_
      have loop_24 : ∀ (f_24 : Nat) (n : Nat) (_ : n ≤ 16) (_ : lead (fun n => hB σ_19 (16 * s + n) && hB σ_19 (16 * t + n) && (σ_19 4 (16 * s + n) == σ_19 4 (16 * t + n))) 16 0 = lead (fun n => hB σ_19 (16 * s + n) && hB σ_19 (16 * t + n) && (σ_19 4 (16 * s + n) == σ_19 4 (16 * t + n))) (16 - n) n), 16 - n < f_24 → G σ_19 24 [(0, .ref h), (1, .int (nI s)), (2, .int (nI t)), (3, .int (nI n))] [] := by
        intro f_24
        induction f_24 with
        | zero => intro n hn hA hf_24; exact absurd hf_24 (Nat.not_lt_zero _)
        | succ f_24 ih_24 =>
          intro n hn hA hf_24
          refine nv_iload_n hP 3 d_M_agreeing_24 rfl rfl ?_
          refine nv_bipush hP (nI 16) d_M_agreeing_25 (by decide) ?_
          refine nv_cmpge hP (by omega) (by omega) 91 d_M_agreeing_27 (by decide) (fun c_27 => ?_) (fun c_27 => ?_)
          · refine nv_bipush hP (nI 16) d_M_agreeing_91 (by decide) ?_
            exact nv_iret hG d_M_agreeing_93 (⟨_, rfl, hI1, _, _, hS, by rw [aAgree_ok hs ht, hA, show n = 16 by omega]; rfl⟩)
          · refine nv_aload_n hP 0 d_M_agreeing_30 rfl rfl ?_
            refine nv_getf hG ff_M_3 (by decide) d_M_agreeing_31 ?_
            refine nv_bipush hP (nI 16) d_M_agreeing_34 (by decide) ?_
            refine nv_iload_n hP 1 d_M_agreeing_36 rfl rfl ?_
            refine nv_imul hP d_M_agreeing_37 ?_
            refine nv_iload_n hP 3 d_M_agreeing_38 rfl rfl ?_
            refine nv_iadd hP d_M_agreeing_39 ?_
            refine nv_zald hG 128 (by decide) rfl rfl (by omega) d_M_agreeing_40 ?_
            have b3 := h31 (16 * s + n) (by omega)
            refine nv_ifeq hP (by omega) 83 d_M_agreeing_41 (by decide) (fun c_41 => ?_) (fun c_41 => ?_)
            · refine nv_iload_n hP 3 d_M_agreeing_83 rfl rfl ?_
              exact nv_iret hG d_M_agreeing_84 (⟨_, rfl, hI1, _, _, hS, by rw [aAgree_ok hs ht, hA, lead_e (f := fun n => hB σ_19 (16 * s + n) && hB σ_19 (16 * t + n) && (σ_19 4 (16 * s + n) == σ_19 4 (16 * t + n))) (n := n) (by omega) (by show (hB σ_19 (16 * s + n) && hB σ_19 (16 * t + n) && (σ_19 4 (16 * s + n) == σ_19 4 (16 * t + n))) = false; rw [hB_f c_41]; rfl)]⟩)
            · refine nv_aload_n hP 0 d_M_agreeing_44 rfl rfl ?_
              refine nv_getf hG ff_M_3 (by decide) d_M_agreeing_45 ?_
              refine nv_bipush hP (nI 16) d_M_agreeing_48 (by decide) ?_
              refine nv_iload_n hP 2 d_M_agreeing_50 rfl rfl ?_
              refine nv_imul hP d_M_agreeing_51 ?_
              refine nv_iload_n hP 3 d_M_agreeing_52 rfl rfl ?_
              refine nv_iadd hP d_M_agreeing_53 ?_
              refine nv_zald hG 128 (by decide) rfl rfl (by omega) d_M_agreeing_54 ?_
              have b4 := h31 (16 * t + n) (by omega)
              refine nv_ifeq hP (by omega) 83 d_M_agreeing_55 (by decide) (fun c_55 => ?_) (fun c_55 => ?_)
              · refine nv_iload_n hP 3 d_M_agreeing_83 rfl rfl ?_
                exact nv_iret hG d_M_agreeing_84 (⟨_, rfl, hI1, _, _, hS, by rw [aAgree_ok hs ht, hA, lead_e (f := fun n => hB σ_19 (16 * s + n) && hB σ_19 (16 * t + n) && (σ_19 4 (16 * s + n) == σ_19 4 (16 * t + n))) (n := n) (by omega) (by show (hB σ_19 (16 * s + n) && hB σ_19 (16 * t + n) && (σ_19 4 (16 * s + n) == σ_19 4 (16 * t + n))) = false; rw [hB_f c_55]; simp)]⟩)
              · refine nv_aload_n hP 0 d_M_agreeing_58 rfl rfl ?_
                refine nv_getf hG ff_M_4 (by decide) d_M_agreeing_59 ?_
                refine nv_bipush hP (nI 16) d_M_agreeing_62 (by decide) ?_
                refine nv_iload_n hP 1 d_M_agreeing_64 rfl rfl ?_
                refine nv_imul hP d_M_agreeing_65 ?_
                refine nv_iload_n hP 3 d_M_agreeing_66 rfl rfl ?_
                refine nv_iadd hP d_M_agreeing_67 ?_
                refine nv_iald hG 128 (by decide) rfl rfl (by omega) d_M_agreeing_68 ?_
                refine nv_aload_n hP 0 d_M_agreeing_69 rfl rfl ?_
                refine nv_getf hG ff_M_4 (by decide) d_M_agreeing_70 ?_
                refine nv_bipush hP (nI 16) d_M_agreeing_73 (by decide) ?_
                refine nv_iload_n hP 2 d_M_agreeing_75 rfl rfl ?_
                refine nv_imul hP d_M_agreeing_76 ?_
                refine nv_iload_n hP 3 d_M_agreeing_77 rfl rfl ?_
                refine nv_iadd hP d_M_agreeing_78 ?_
                refine nv_iald hG 128 (by decide) rfl rfl (by omega) d_M_agreeing_79 ?_
                have b5 := hI1.2.2.2.2 (16 * s + n)
                have b6 := hI1.2.2.2.2 (16 * t + n)
                refine nv_cmpeq hP (by omega) (by omega) 85 d_M_agreeing_80 (by decide) (fun c_80 => ?_) (fun c_80 => ?_)
                · refine nv_iinc hP d_M_agreeing_85 rfl (by decide) ?_
                  refine nv_goto hP 24 d_M_agreeing_88 (by decide) ?_
                  exact nv_lv hP (lsub_c rfl (lsub_c rfl (lsub_c rfl (lsub_c rfl lsub_n)))) (ih_24 (n + 1) (by omega) (hA.trans (lead_s (f := fun n => hB σ_19 (16 * s + n) && hB σ_19 (16 * t + n) && (σ_19 4 (16 * s + n) == σ_19 4 (16 * t + n))) (n := n) (by omega) (by show (hB σ_19 (16 * s + n) && hB σ_19 (16 * t + n) && (σ_19 4 (16 * s + n) == σ_19 4 (16 * t + n))) = true; rw [hB_t b3 c_41, hB_t b4 c_55, c_80]; simp))) (by omega))
                · refine nv_iload_n hP 3 d_M_agreeing_83 rfl rfl ?_
                  exact nv_iret hG d_M_agreeing_84 (⟨_, rfl, hI1, _, _, hS, by rw [aAgree_ok hs ht, hA, lead_e (f := fun n => hB σ_19 (16 * s + n) && hB σ_19 (16 * t + n) && (σ_19 4 (16 * s + n) == σ_19 4 (16 * t + n))) (n := n) (by omega) (by show (hB σ_19 (16 * s + n) && hB σ_19 (16 * t + n) && (σ_19 4 (16 * s + n) == σ_19 4 (16 * t + n))) = false; simp [c_80])]⟩)
      exact nv_lv hP (lsub_c rfl (lsub_c rfl (lsub_c rfl (lsub_c rfl lsub_n)))) (loop_24 _ 0 (by omega) rfl (Nat.lt_succ_self _))
    · refine nv_iconst hP (-1) d_M_agreeing_16 (by decide) ?_
      exact nv_iret hG d_M_agreeing_17 (⟨_, rfl, ex_of hI (fun has v => (aAgree_2 hs (bad_t hs_10 c_13)).symm)⟩)

set_option maxHeartbeats 4000000 in
/-- evaluate -/
theorem c_M_evaluate (l : Launch) (h : Nat) (a : Nat → Nat) (σ : SG) (K A B : Nat → Nat) (x y z : Int32) (hI : InvM K A B σ) : MetN l y_M_evaluate b_M_evaluate 7 (some .int) (rm 5 118) 1 h a σ [.ref h, .int x, .int y, .int z] (pI (fun r σ' => InvM K A B σ' ∧ ∃ has v, Sol K A B has v ∧ r = aEval has v x y z)) := by
  refine nv_entry (by decide) (Nat.le_of_ble_eq_true rfl) (by intro v hv; simp only [List.mem_cons, List.not_mem_nil, or_false] at hv; rcases hv with rfl | rfl | rfl | rfl <;> rfl) (fun G hG => ?_)
  have hP := hG.pr
  refine nv_aload_n hP 0 d_M_evaluate_0 rfl rfl ?_
  refine nv_iload_n hP 1 d_M_evaluate_1 rfl rfl ?_
  refine nv_callVI hG (c_M_bad l h a σ x) k_M_bad rfl ⟨rfl, rfl⟩ ⟨Nat.le_of_ble_eq_true rfl, Nat.le_of_ble_eq_true rfl⟩ rfl (Nat.le_of_ble_eq_true rfl) d_M_evaluate_2 (fun r_2 σ_2 q_2 => ?_)
  obtain ⟨e_2, hs_2⟩ := q_2
  replace e_2 := e_2.symm
  subst e_2
  refine nv_ifeqR hP 10 d_M_evaluate_5 (by decide) (fun c_5 => ?_) (fun c_5 => ?_)
  · obtain ⟨s, hs, rfl⟩ := bad_f hs_2 c_5
    refine nv_iload_n hP 2 d_M_evaluate_10 rfl rfl ?_
    refine nv_ifltR hP 20 d_M_evaluate_11 (by decide) (fun c_11 => ?_) (fun c_11 => ?_)
    · refine nv_bipush hP (-2) d_M_evaluate_20 (by decide) ?_
      exact nv_iret hG d_M_evaluate_22 (⟨_, rfl, ex_of hI (fun has v => (aEval_2 hs (ix_neg c_11)).symm)⟩)
    · refine nv_iload_n hP 2 d_M_evaluate_14 rfl rfl ?_
      refine nv_bipush hP (nI 16) d_M_evaluate_15 (by decide) ?_
      refine nv_cmpleR hP 23 d_M_evaluate_17 (by decide) (fun c_17 => ?_) (fun c_17 => ?_)
      · obtain ⟨t, ht, rfl⟩ := in_le (by decide) c_11 c_17
        refine nv_aload_n hP 0 d_M_evaluate_23 rfl rfl ?_
        refine nv_callVV hG (c_M_workOut l h a σ K A B hI) k_M_workOut rfl ⟨rfl, rfl⟩ ⟨Nat.le_of_ble_eq_true rfl, Nat.le_of_ble_eq_true rfl⟩ rfl (Nat.le_of_ble_eq_true rfl) d_M_evaluate_24 (fun σ_24 q_24 => ?_)
        obtain ⟨hI1, h31, hS⟩ := q_24
        refine nv_iconst hP (nI 0) d_M_evaluate_27 (by decide) ?_
        refine nv_istore hP d_M_evaluate_28 (by decide) ?_
        refine nv_iconst hP (nI 1) d_M_evaluate_30 (by decide) ?_
        refine nv_istore hP d_M_evaluate_31 (by decide) ?_
        refine nv_iconst hP (nI 0) d_M_evaluate_33 (by decide) ?_
        refine nv_istore hP d_M_evaluate_34 (by decide) ?_
        have loop_36 : ∀ (f_36 : Nat) (n c w : Nat) (_ : n ≤ t) (_ : c < 97) (_ : w < 97) (_ : ∀ i, i < n → hB σ_24 (16 * s + i) = true) (_ : c = sF (fun n => σ_24 4 (16 * s + n) * rd z ^ n) n % 97) (_ : w = rd z ^ n % 97), t - n < f_36 → G σ_24 36 [(0, .ref h), (1, .int (nI s)), (2, .int (nI t)), (3, .int z), (4, .int (nI c)), (5, .int (nI w)), (6, .int (nI n))] [] := by
          intro f_36
          induction f_36 with
          | zero => intro n c w hn hc9 hw9 hall hA hW hf_36; exact absurd hf_36 (Nat.not_lt_zero _)
          | succ f_36 ih_36 =>
            intro n c w hn hc9 hw9 hall hA hW hf_36
            refine nv_iload hP d_M_evaluate_36 rfl ?_
            refine nv_iload_n hP 2 d_M_evaluate_38 rfl rfl ?_
            refine nv_cmpge hP (by omega) (by omega) 102 d_M_evaluate_39 (by decide) (fun c_39 => ?_) (fun c_39 => ?_)
            · refine nv_iload hP d_M_evaluate_102 rfl ?_
              exact nv_iret hG d_M_evaluate_104 (⟨_, rfl, hI1, _, _, hS, by rw [aEval_ok hs ht, show t = n by omega, alB_t hall, if_pos rfl, hA]⟩)
            · refine nv_aload_n hP 0 d_M_evaluate_42 rfl rfl ?_
              refine nv_getf hG ff_M_3 (by decide) d_M_evaluate_43 ?_
              refine nv_bipush hP (nI 16) d_M_evaluate_46 (by decide) ?_
              refine nv_iload_n hP 1 d_M_evaluate_48 rfl rfl ?_
              refine nv_imul hP d_M_evaluate_49 ?_
              refine nv_iload hP d_M_evaluate_50 rfl ?_
              refine nv_iadd hP d_M_evaluate_52 ?_
              refine nv_zald hG 128 (by decide) rfl rfl (by omega) d_M_evaluate_53 ?_
              have b3 := h31 (16 * s + n) (by omega)
              refine nv_ifne hP (by omega) 60 d_M_evaluate_54 (by decide) (fun c_54 => ?_) (fun c_54 => ?_)
              · refine nv_iload hP d_M_evaluate_60 rfl ?_
                refine nv_aload_n hP 0 d_M_evaluate_62 rfl rfl ?_
                refine nv_getf hG ff_M_4 (by decide) d_M_evaluate_63 ?_
                refine nv_bipush hP (nI 16) d_M_evaluate_66 (by decide) ?_
                refine nv_iload_n hP 1 d_M_evaluate_68 rfl rfl ?_
                refine nv_imul hP d_M_evaluate_69 ?_
                refine nv_iload hP d_M_evaluate_70 rfl ?_
                refine nv_iadd hP d_M_evaluate_72 ?_
                refine nv_iald hG 128 (by decide) rfl rfl (by omega) d_M_evaluate_73 ?_
                refine nv_iload hP d_M_evaluate_74 rfl ?_
                refine nv_imul hP d_M_evaluate_76 ?_
                refine nv_iadd hP d_M_evaluate_77 ?_
                refine nv_bipush hP (nI 97) d_M_evaluate_78 (by decide) ?_
                have b4 := m97 (hI1.2.2.2.2 (16 * s + n)) hw9
                refine nv_irem hP (by omega) (by omega) (by omega) d_M_evaluate_80 ?_
                refine nv_istore hP d_M_evaluate_81 (by decide) ?_
                refine nv_iload hP d_M_evaluate_83 rfl ?_
                refine nv_aload_n hP 0 d_M_evaluate_85 rfl rfl ?_
                refine nv_iload_n hP 3 d_M_evaluate_86 rfl rfl ?_
                refine nv_callVI hG (c_M_reduced l h a σ_24 z) k_M_reduced rfl ⟨rfl, rfl⟩ ⟨Nat.le_of_ble_eq_true rfl, Nat.le_of_ble_eq_true rfl⟩ rfl (Nat.le_of_ble_eq_true rfl) d_M_evaluate_87 (fun r_87 σ_87 q_87 => ?_)
                obtain ⟨e_87, rfl⟩ := q_87
                replace e_87 := e_87.symm
                subst e_87
                refine nv_imul hP d_M_evaluate_90 ?_
                refine nv_bipush hP (nI 97) d_M_evaluate_91 (by decide) ?_
                have b5 := m97 hw9 (rd_lt z)
                refine nv_irem hP (by omega) (by omega) (by omega) d_M_evaluate_93 ?_
                refine nv_istore hP d_M_evaluate_94 (by decide) ?_
                refine nv_iinc hP d_M_evaluate_96 rfl (by decide) ?_
                refine nv_goto hP 36 d_M_evaluate_99 (by decide) ?_
                exact nv_lv hP (lsub_c rfl (lsub_c rfl (lsub_c rfl (lsub_c rfl (lsub_c rfl (lsub_c rfl (lsub_c rfl lsub_n))))))) (ih_36 (n + 1) _ _ (by omega) (Nat.mod_lt _ (by decide)) (Nat.mod_lt _ (by decide)) (fun i hi => by
                  by_cases e : i = n
                  · rw [e]; exact hB_t b3 c_54
                  · exact hall i (by omega)) (ev_s hA hW) (by rw [hW, Nat.mod_mul_mod, Nat.pow_succ]) (by omega))
              · refine nv_bipush hP (-3) d_M_evaluate_57 (by decide) ?_
                exact nv_iret hG d_M_evaluate_59 (⟨_, rfl, hI1, _, _, hS, by rw [aEval_ok hs ht, alB_f (f := fun n => hB σ_24 (16 * s + n)) (i := n) (by omega) (hB_f c_54), if_neg (by decide)]⟩)
        exact nv_lv hP (lsub_c rfl (lsub_c rfl (lsub_c rfl (lsub_c rfl (lsub_c rfl (lsub_c rfl (lsub_c rfl lsub_n))))))) (loop_36 _ 0 0 1 (by omega) (by omega) (by omega) (fun i hi => absurd hi (Nat.not_lt_zero _)) rfl rfl (Nat.lt_succ_self _))
      · refine nv_bipush hP (-2) d_M_evaluate_20 (by decide) ?_
        exact nv_iret hG d_M_evaluate_22 (⟨_, rfl, ex_of hI (fun has v => (aEval_2 hs (ix_ge (gt_ge (by decide) (not_le_lt c_17)))).symm)⟩)
  · refine nv_iconst hP (-1) d_M_evaluate_8 (by decide) ?_
    exact nv_iret hG d_M_evaluate_9 (⟨_, rfl, ex_of hI (fun has v => (aEval_1 (bad_t hs_2 c_5)).symm)⟩)

set_option maxHeartbeats 4000000 in
/-- sum -/
theorem c_M_sum (l : Launch) (h : Nat) (a : Nat → Nat) (σ : SG) (K A B : Nat → Nat) (x y z : Int32) (hI : InvM K A B σ) : MetN l y_M_sum b_M_sum 6 (some .int) (rm 5 118) 1 h a σ [.ref h, .int x, .int y, .int z] (pI (fun r σ' => InvM K A B σ' ∧ ∃ has v, Sol K A B has v ∧ r = aSum has v x y z)) := by
  refine nv_entry (by decide) (Nat.le_of_ble_eq_true rfl) (by intro v hv; simp only [List.mem_cons, List.not_mem_nil, or_false] at hv; rcases hv with rfl | rfl | rfl | rfl <;> rfl) (fun G hG => ?_)
  have hP := hG.pr
  refine nv_aload_n hP 0 d_M_sum_0 rfl rfl ?_
  refine nv_iload_n hP 1 d_M_sum_1 rfl rfl ?_
  refine nv_callVI hG (c_M_bad l h a σ x) k_M_bad rfl ⟨rfl, rfl⟩ ⟨Nat.le_of_ble_eq_true rfl, Nat.le_of_ble_eq_true rfl⟩ rfl (Nat.le_of_ble_eq_true rfl) d_M_sum_2 (fun r_2 σ_2 q_2 => ?_)
  obtain ⟨e_2, hs_2⟩ := q_2
  replace e_2 := e_2.symm
  subst e_2
  refine nv_ifeqR hP 10 d_M_sum_5 (by decide) (fun c_5 => ?_) (fun c_5 => ?_)
  · obtain ⟨s, hs, rfl⟩ := bad_f hs_2 c_5
    refine nv_iload_n hP 2 d_M_sum_10 rfl rfl ?_
    refine nv_ifltR hP 25 d_M_sum_11 (by decide) (fun c_11 => ?_) (fun c_11 => ?_)
    · refine nv_bipush hP (-2) d_M_sum_25 (by decide) ?_
      exact nv_iret hG d_M_sum_27 (⟨_, rfl, ex_of hI (fun has v => (aSum_2 hs c_11).symm)⟩)
    · refine nv_iload_n hP 2 d_M_sum_14 rfl rfl ?_
      refine nv_iload_n hP 3 d_M_sum_15 rfl rfl ?_
      refine nv_cmpgtR hP 25 d_M_sum_16 (by decide) (fun c_16 => ?_) (fun c_16 => ?_)
      · refine nv_bipush hP (-2) d_M_sum_25 (by decide) ?_
        exact nv_iret hG d_M_sum_27 (⟨_, rfl, ex_of hI (fun has v => (aSum_3 hs c_16).symm)⟩)
      · refine nv_iload_n hP 3 d_M_sum_19 rfl rfl ?_
        refine nv_bipush hP (nI 15) d_M_sum_20 (by decide) ?_
        refine nv_cmpleR hP 28 d_M_sum_22 (by decide) (fun c_22 => ?_) (fun c_22 => ?_)
        · obtain ⟨i, j, hij, hj, rfl, rfl⟩ := sum_in15 c_11 c_16 c_22
          refine nv_aload_n hP 0 d_M_sum_28 rfl rfl ?_
          refine nv_callVV hG (c_M_workOut l h a σ K A B hI) k_M_workOut rfl ⟨rfl, rfl⟩ ⟨Nat.le_of_ble_eq_true rfl, Nat.le_of_ble_eq_true rfl⟩ rfl (Nat.le_of_ble_eq_true rfl) d_M_sum_29 (fun σ_29 q_29 => ?_)
          obtain ⟨hI1, h31, hS⟩ := q_29
          refine nv_iconst hP (nI 0) d_M_sum_32 (by decide) ?_
          refine nv_istore hP d_M_sum_33 (by decide) ?_
          refine nv_iload_n hP 2 d_M_sum_35 rfl rfl ?_
          refine nv_istore hP d_M_sum_36 (by decide) ?_
          have loop_38 : ∀ (f_38 : Nat) (n c : Nat) (_ : i ≤ n) (_ : n ≤ j + 1) (_ : ∀ m, m < n - i → hB σ_29 (16 * s + (i + m)) = true) (_ : c = sF (fun m => σ_29 4 (16 * s + (i + m))) (n - i)), j + 1 - n < f_38 → G σ_29 38 [(0, .ref h), (1, .int (nI s)), (3, .int (nI j)), (4, .int (nI c)), (5, .int (nI n))] [] := by
            intro f_38
            induction f_38 with
            | zero => intro n c hn1 hn2 hall hA hf_38; exact absurd hf_38 (Nat.not_lt_zero _)
            | succ f_38 ih_38 =>
              intro n c hn1 hn2 hall hA hf_38
              have hb9 : c ≤ 96 * (n - i) := by rw [hA]; exact sF_le _ (fun m _ => by have := hI1.2.2.2.2 (16 * s + (i + m)); omega)
              refine nv_iload hP d_M_sum_38 rfl ?_
              refine nv_iload_n hP 3 d_M_sum_40 rfl rfl ?_
              refine nv_cmpgt hP (by omega) (by omega) 85 d_M_sum_41 (by decide) (fun c_41 => ?_) (fun c_41 => ?_)
              · refine nv_iload hP d_M_sum_85 rfl ?_
                refine nv_bipush hP (nI 97) d_M_sum_87 (by decide) ?_
                refine nv_irem hP (by omega) (by omega) (by omega) d_M_sum_89 ?_
                exact nv_iret hG d_M_sum_90 (⟨_, rfl, hI1, _, _, hS, by rw [show n = j + 1 by omega] at hall hA; rw [aSum_ok hs hij hj, alB_t hall, if_pos rfl, hA]⟩)
              · refine nv_aload_n hP 0 d_M_sum_44 rfl rfl ?_
                refine nv_getf hG ff_M_3 (by decide) d_M_sum_45 ?_
                refine nv_bipush hP (nI 16) d_M_sum_48 (by decide) ?_
                refine nv_iload_n hP 1 d_M_sum_50 rfl rfl ?_
                refine nv_imul hP d_M_sum_51 ?_
                refine nv_iload hP d_M_sum_52 rfl ?_
                refine nv_iadd hP d_M_sum_54 ?_
                refine nv_zald hG 128 (by decide) rfl rfl (by omega) d_M_sum_55 ?_
                have b3 := h31 (16 * s + n) (by omega)
                refine nv_ifne hP (by omega) 62 d_M_sum_56 (by decide) (fun c_56 => ?_) (fun c_56 => ?_)
                · refine nv_iload hP d_M_sum_62 rfl ?_
                  refine nv_aload_n hP 0 d_M_sum_64 rfl rfl ?_
                  refine nv_getf hG ff_M_4 (by decide) d_M_sum_65 ?_
                  refine nv_bipush hP (nI 16) d_M_sum_68 (by decide) ?_
                  refine nv_iload_n hP 1 d_M_sum_70 rfl rfl ?_
                  refine nv_imul hP d_M_sum_71 ?_
                  refine nv_iload hP d_M_sum_72 rfl ?_
                  refine nv_iadd hP d_M_sum_74 ?_
                  refine nv_iald hG 128 (by decide) rfl rfl (by omega) d_M_sum_75 ?_
                  refine nv_iadd hP d_M_sum_76 ?_
                  refine nv_istore hP d_M_sum_77 (by decide) ?_
                  refine nv_iinc hP d_M_sum_79 rfl (by decide) ?_
                  refine nv_goto hP 38 d_M_sum_82 (by decide) ?_
                  exact nv_lv hP (lsub_c rfl (lsub_c rfl (lsub_c rfl (lsub_c rfl (lsub_c rfl lsub_n))))) (ih_38 (n + 1) _ (by omega) (by omega) (fun m hm => by
                    by_cases e : m = n - i
                    · rw [e, show i + (n - i) = n by omega]; exact hB_t b3 c_56
                    · exact hall m (by omega)) (by
                    rw [hA, show n + 1 - i = (n - i) + 1 by omega]
                    show _ = sF (fun m => σ_29 4 (16 * s + (i + m))) (n - i) + σ_29 4 (16 * s + (i + (n - i)))
                    rw [show i + (n - i) = n by omega]) (by omega))
                · refine nv_bipush hP (-3) d_M_sum_59 (by decide) ?_
                  exact nv_iret hG d_M_sum_61 (⟨_, rfl, hI1, _, _, hS, by rw [aSum_ok hs hij hj, alB_f (i := n - i) (by omega) (by rw [show i + (n - i) = n by omega]; exact hB_f c_56), if_neg (by decide)]⟩)
          exact nv_lv hP (lsub_c rfl (lsub_c rfl (lsub_c rfl (lsub_c rfl (lsub_c rfl lsub_n))))) (loop_38 _ i 0 (by omega) (by omega) (fun m hm => by omega) (by rw [Nat.sub_self]; rfl) (Nat.lt_succ_self _))
        · refine nv_bipush hP (-2) d_M_sum_25 (by decide) ?_
          exact nv_iret hG d_M_sum_27 (⟨_, rfl, ex_of hI (fun has v => (aSum_4 hs (gt_ge (by decide) (not_le_lt c_22))).symm)⟩)
  · refine nv_iconst hP (-1) d_M_sum_8 (by decide) ?_
    exact nv_iret hG d_M_sum_9 (⟨_, rfl, ex_of hI (fun has v => (aSum_1 (bad_t hs_2 c_5)).symm)⟩)
end
section
theorem defM_fin {K A B : Nat → Nat} {σ σ1 σ2 σ3 : SG} {s kk ya zb : Nat} (hI : InvM K A B σ) (hk : kk < 10) (hya : ya < 8) (hzb : zb < 97) (hz2 : two kk = true → zb < 8) (h1 : σ1 = st2 σ 0 s kk) (h2 : σ2 = st2 σ1 1 s ya) (h3 : σ3 = st2 σ2 2 s zb) : InvM (st1 K s kk) (st1 A s ya) (st1 B s zb) σ3 := by
  obtain ⟨a0, a1, a2, hw, hv⟩ := hI
  refine ⟨?_, ?_, ?_, Wf_def hw hk hya hzb hz2, ?_⟩
  · rw [h3, st2_k (by decide), h2, st2_k (by decide), h1, st2_st1, a0]
  · rw [h3, st2_k (by decide), h2, st2_st1, h1, st2_k (by decide), a1]
  · rw [h3, st2_st1, h2, st2_k (by decide), h1, st2_k (by decide), a2]
  · rw [h3, st2_k (by decide), h2, st2_k (by decide), h1, st2_k (by decide)]; exact hv
/-- what spread(p) does -/
def SPo (K A B : Nat → Nat) (σ : SG) (p c : Nat) (σ' : SG) : Prop := (∀ k, k ≠ 5 → σ' k = σ k) ∧ (∀ x, x < 128 → σ' 5 x ≤ 1) ∧ (∀ x, σ 5 x = 1 → σ' 5 x = 1) ∧ (∀ x, x < 128 → σ' 5 x = 1 → σ 5 x = 1 ∨ nds K A B p x) ∧ (∀ x, x < 128 → nds K A B p x → σ' 5 x = 1) ∧ ((c = 1 ∧ sF (σ 5) 128 < sF (σ' 5) 128) ∨ (c = 0 ∧ σ' = σ))
def SI (K A B : Nat → Nat) (σ : SG) (p q c : Nat) (σ' : SG) : Prop := (∀ k, k ≠ 5 → σ' k = σ k) ∧ (∀ x, x < 128 → σ' 5 x ≤ 1) ∧ (∀ x, σ 5 x = 1 → σ' 5 x = 1) ∧ (∀ x, x < 128 → σ' 5 x = 1 → σ 5 x = 1 ∨ nds K A B p x) ∧ (∀ x, x < q → nds K A B p x → σ' 5 x = 1) ∧ ((c = 1 ∧ sF (σ 5) 128 < sF (σ' 5) 128) ∨ (c = 0 ∧ σ' = σ))
section Si
variable {K A B : Nat → Nat} {σ σ' : SG} {p q c : Nat}
theorem SI_skip (h : SI K A B σ p q c σ') (hx : nds K A B p q → σ' 5 q = 1) : SI K A B σ p (q + 1) c σ' := by
  obtain ⟨h1, h2, h3, h4, h5, h6⟩ := h
  refine ⟨h1, h2, h3, h4, fun x hxq hn => ?_, h6⟩
  by_cases e : x = q
  · subst e; exact hx hn
  · exact h5 x (by omega) hn
theorem SI_add (h : SI K A B σ p q c σ') (hq : q < 128) (hn : nds K A B p q) (h0 : σ' 5 q = 0) : SI K A B σ p (q + 1) 1 (st2 σ' 5 q 1) := by
  obtain ⟨h1, h2, h3, h4, h5, h6⟩ := h
  have e5 : st2 σ' 5 q 1 5 = st1 (σ' 5) q 1 := st2_st1 _ _ _ _
  have hsum := sF_upd (f := σ' 5) (g := st1 (σ' 5) q 1) 128 hq (fun i hi => st1_ne hi)
  rw [st1_same] at hsum
  refine ⟨fun k hk => by rw [st2_k hk]; exact h1 k hk, fun x hx => ?_, fun x hx => ?_, fun x hx k => ?_, fun x hx k => ?_, Or.inl ⟨rfl, ?_⟩⟩
  · rw [e5]
    by_cases e : x = q
    · rw [e, st1_same]; exact Nat.le_refl _
    · rw [st1_ne e]; exact h2 x hx
  · rw [e5]
    by_cases e : x = q
    · rw [e, st1_same]
    · rw [st1_ne e]; exact h3 x hx
  · rw [e5] at k
    by_cases e : x = q
    · rw [e]; exact Or.inr hn
    · rw [st1_ne e] at k; exact h4 x hx k
  · rw [e5]
    by_cases e : x = q
    · rw [e, st1_same]
    · rw [st1_ne e]; exact h5 x (by omega) k
  · rw [e5]
    rcases h6 with ⟨-, k⟩ | ⟨-, k⟩
    · omega
    · rw [k] at hsum h0
      rw [k]
      omega
end Si
def QI (K A B : Nat → Nat) (σ0 : SG) (p : Nat) (σ : SG) : Prop := (∀ k, k ≠ 5 → σ k = σ0 k) ∧ (∀ x, x < 128 → σ 5 x ≤ 1) ∧ (∀ x, x < 128 → σ 5 x = 1 → Reach K A B p x) ∧ (∀ x, nds K A B p x → σ 5 x = 1)
def cls5 (K A B : Nat → Nat) (σ : SG) (j : Nat) : Prop := ∀ x, x < j → σ 5 x = 1 → ∀ y, nds K A B x y → σ 5 y = 1
section Qi
variable {K A B : Nat → Nat} {σ0 σ1 σ2 σ3 : SG} {p q c j : Nat}
theorem QI_init (hw : Wf K A B) (hp : p < 128) (h0 : ∀ k, k ≠ 5 → σ1 k = σ0 k) (h5 : ∀ x, x < 128 → σ1 5 x = 0) (h : SPo K A B σ1 p c σ2) : QI K A B σ0 p σ2 := by
  obtain ⟨h1, h2, h3, h4, h6, h7⟩ := h
  refine ⟨fun k hk => (h1 k hk).trans (h0 k hk), h2, fun x hx k => ?_, fun x hx => h6 x (nds_lt hw hp hx) hx⟩
  rcases h4 x hx k with k | k
  · rw [h5 x hx] at k; omega
  · exact Reach_one k
theorem QI_spread (h : QI K A B σ0 p σ2) (hj : j < 128) (hm : σ2 5 j = 1) (hs : SPo K A B σ2 j c σ3) : QI K A B σ0 p σ3 := by
  obtain ⟨a1, a2, a3, a4⟩ := h
  obtain ⟨h1, h2, h3, h4, h6, h7⟩ := hs
  refine ⟨fun k hk => (h1 k hk).trans (a1 k hk), h2, fun x hx k => ?_, fun x hx => h3 x (a4 x hx)⟩
  rcases h4 x hx k with k | k
  · exact a3 x hx k
  · exact Reach_step (a3 j hj hm) k
theorem QI_no (hw : Wf K A B) (hp : p < 128) (h : QI K A B σ0 p σ1) (hc : cls5 K A B σ1 128) (hq : q < 128) (h0 : σ1 5 q = 0) : ¬ Reach K A B p q := by
  intro hR
  have := hR (fun x => x < 128 ∧ σ1 5 x = 1) (fun x hx => ⟨nds_lt hw hp hx, h.2.2.2 x hx⟩) (fun x y hx hy => ⟨nds_lt hw hx.1 hy, hc x hx.1 hx.2 y hy⟩)
  omega
theorem QI_inv (hI : InvM K A B σ0) (h : QI K A B σ0 p σ1) : InvM K A B σ1 := by
  obtain ⟨b0, b1, b2, hw, hv⟩ := hI
  have e := h.1
  exact ⟨by rw [e 0 (by decide)]; exact b0, by rw [e 1 (by decide)]; exact b1, by rw [e 2 (by decide)]; exact b2, hw, by rw [e 4 (by decide)]; exact hv⟩
/-- the state of a round: something came, or nothing did and the first j places are closed -/
def RI (K A B : Nat → Nat) (σ1 : SG) (c j : Nat) (σ2 : SG) : Prop := (c = 1 ∧ sF (σ1 5) 128 < sF (σ2 5) 128) ∨ (c = 0 ∧ σ2 = σ1 ∧ cls5 K A B σ1 j)
theorem RI_skip (h : RI K A B σ1 c j σ2) (h0 : σ2 5 j = 0) : RI K A B σ1 c (j + 1) σ2 := by
  rcases h with h | ⟨h1, h2, h3⟩
  · exact Or.inl h
  · refine Or.inr ⟨h1, h2, fun x hx k y hy => ?_⟩
    by_cases e : x = j
    · rw [h2, ← e] at h0; omega
    · exact h3 x (by omega) k y hy
theorem RI_0 (hw : Wf K A B) (h : RI K A B σ1 c j σ2) (hj : j < 128) (hs : SPo K A B σ2 j 0 σ3) : RI K A B σ1 c (j + 1) σ3 := by
  obtain ⟨h1, h2, h3, h4, h6, ⟨h7, -⟩ | ⟨-, h7⟩⟩ := hs
  · omega
  · rw [h7]
    rw [h7] at h6
    rcases h with h | ⟨k1, k2, k3⟩
    · exact Or.inl h
    · refine Or.inr ⟨k1, k2, fun x hx k y hy => ?_⟩
      by_cases e : x = j
      · subst e
        rw [k2] at h6
        exact h6 y (nds_lt hw hj hy) hy
      · exact k3 x (by omega) k y hy
theorem RI_1 (h : RI K A B σ1 c j σ2) (hs : SPo K A B σ2 j 1 σ3) : RI K A B σ1 1 (j + 1) σ3 := by
  obtain ⟨h1, h2, h3, h4, h6, ⟨-, h7⟩ | ⟨h7, -⟩⟩ := hs
  · refine Or.inl ⟨rfl, ?_⟩
    rcases h with ⟨-, h⟩ | ⟨-, k2, -⟩
    · omega
    · rw [k2] at h7; exact h7
  · omega
end Qi
theorem SP_r {K A B : Nat → Nat} {σ σ' : SG} {p : Nat} {r : Int32} (h : ∃ c, c ≤ 1 ∧ r = nI c ∧ SPo K A B σ p c σ') (hr : ¬ r = 0) : SPo K A B σ p 1 σ' := by
  obtain ⟨c, h1, h2, h3⟩ := h
  have : c = 1 := by
    rcases (show c = 0 ∨ c = 1 by omega) with e | e
    · rw [e] at h2; exact absurd h2 hr
    · exact e
  rw [this] at h3
  exact h3
theorem SP_z {K A B : Nat → Nat} {σ σ' : SG} {p : Nat} {r : Int32} (h : ∃ c, c ≤ 1 ∧ r = nI c ∧ SPo K A B σ p c σ') (hr : r = 0) : SPo K A B σ p 0 σ' := by
  obtain ⟨c, h1, h2, h3⟩ := h
  have : c = 0 := by
    rcases (show c = 0 ∨ c = 1 by omega) with e | e
    · exact e
    · rw [h2, e] at hr; exact absurd hr (by decide)
  rw [this] at h3
  exact h3

set_option maxHeartbeats 4000000 in
/-- define -/
theorem c_M_define (l : Launch) (h : Nat) (a : Nat → Nat) (σ : SG) (K A B : Nat → Nat) (x k y z : Int32) (hI : InvM K A B σ) : MetN l y_M_define b_M_define 7 (some .int) (rm 1 22) 1 h a σ [.ref h, .int x, .int k, .int y, .int z] (pI (fun r σ' => InvM (dfn K A B x k y z).2.1 (dfn K A B x k y z).2.2.1 (dfn K A B x k y z).2.2.2 σ' ∧ r = (dfn K A B x k y z).1)) := by
  refine nv_entry (by decide) (Nat.le_of_ble_eq_true rfl) (by intro v hv; simp only [List.mem_cons, List.not_mem_nil, or_false] at hv; rcases hv with rfl | rfl | rfl | rfl | rfl <;> rfl) (fun G hG => ?_)
  have hP := hG.pr
  refine nv_aload_n hP 0 d_M_define_0 rfl rfl ?_
  refine nv_iload_n hP 1 d_M_define_1 rfl rfl ?_
  refine nv_callVI hG (c_M_bad l h a σ x) k_M_bad rfl ⟨rfl, rfl⟩ ⟨Nat.le_of_ble_eq_true rfl, Nat.le_of_ble_eq_true rfl⟩ rfl (Nat.le_of_ble_eq_true rfl) d_M_define_2 (fun r_2 σ_2 q_2 => ?_)
  obtain ⟨e_2, hs_2⟩ := q_2
  replace e_2 := e_2.symm
  subst e_2
  refine nv_ifeqR hP 10 d_M_define_5 (by decide) (fun c_5 => ?_) (fun c_5 => ?_)
  · obtain ⟨s, hs, rfl⟩ := bad_f hs_2 c_5
    refine nv_iload_n hP 2 d_M_define_10 rfl rfl ?_
    refine nv_ifltR hP 20 d_M_define_11 (by decide) (fun c_11 => ?_) (fun c_11 => ?_)
    · refine nv_bipush hP (-2) d_M_define_20 (by decide) ?_
      exact nv_iret hG d_M_define_22 (⟨_, rfl, by rw [dfn_2 hs (ix_neg c_11)]; exact ⟨hI, rfl⟩⟩)
    · refine nv_iload_n hP 2 d_M_define_14 rfl rfl ?_
      refine nv_bipush hP (nI 9) d_M_define_15 (by decide) ?_
      refine nv_cmpleR hP 23 d_M_define_17 (by decide) (fun c_17 => ?_) (fun c_17 => ?_)
      · obtain ⟨kk, hkk, rfl⟩ := in_le (by decide) c_11 c_17
        refine nv_iload_n hP 2 d_M_define_23 rfl rfl ?_
        have join_39 : ∀ (_ : kk ≤ 1 ∨ isS y), G σ 39 [(0, .ref h), (1, .int (nI s)), (2, .int (nI kk)), (3, .int y), (4, .int z)] [] := by
          intro hy
          have join_62 : ∀ (tw : Nat) (_ : tw = if two kk = true then 1 else 0), G σ 62 [(0, .ref h), (1, .int (nI s)), (2, .int (nI kk)), (3, .int y), (4, .int z), (5, .int (nI tw))] [] := by
            intro tw htw
            have htw1 : tw ≤ 1 := by rw [htw]; split <;> omega
            have join_79 : ∀ (_ : two kk = true → isS z), G σ 79 [(0, .ref h), (1, .int (nI s)), (2, .int (nI kk)), (3, .int y), (4, .int z), (5, .int (nI tw))] [] := by
              intro hz
              have w0 := (hI.2.2.2.1 s hs).1
              rw [← hI.1] at w0
              refine nv_aload_n hP 0 d_M_define_79 rfl rfl ?_
              refine nv_getf hG ff_M_0 (by decide) d_M_define_80 ?_
              refine nv_iload_n hP 1 d_M_define_83 rfl rfl ?_
              refine nv_iald hG 8 (by decide) rfl rfl (by omega) d_M_define_84 ?_
              refine nv_istore hP d_M_define_85 (by decide) ?_
              refine nv_aload_n hP 0 d_M_define_87 rfl rfl ?_
              refine nv_getf hG ff_M_0 (by decide) d_M_define_88 ?_
              refine nv_iload_n hP 1 d_M_define_91 rfl rfl ?_
              refine nv_iload_n hP 2 d_M_define_92 rfl rfl ?_
              refine nv_iast hG 8 (by decide) rfl rfl (by omega) d_M_define_93 (fun σ_93 hσ_93 => ?_)
              refine nv_aload_n hP 0 d_M_define_94 rfl rfl ?_
              refine nv_getf hG ff_M_1 (by decide) d_M_define_95 ?_
              refine nv_iload_n hP 1 d_M_define_98 rfl rfl ?_
              refine nv_iload_n hP 2 d_M_define_99 rfl rfl ?_
              refine nv_iconst hP (nI 1) d_M_define_100 (by decide) ?_
              refine nv_cmple hP (by omega) (by omega) 108 d_M_define_101 (by decide) (fun c_101 => ?_) (fun c_101 => ?_)
              · refine nv_iconst hP (nI 0) d_M_define_108 (by decide) ?_
                refine nv_iast hG 8 (by decide) rfl rfl (by omega) d_M_define_109 (fun σ_109 hσ_109 => ?_)
                refine nv_aload_n hP 0 d_M_define_110 rfl rfl ?_
                refine nv_getf hG ff_M_2 (by decide) d_M_define_111 ?_
                refine nv_iload_n hP 1 d_M_define_114 rfl rfl ?_
                refine nv_iload hP d_M_define_115 rfl ?_
                refine nv_ifeq hP (by omega) 125 d_M_define_117 (by decide) (fun c_117 => ?_) (fun c_117 => ?_)
                · have h2k : ¬ two kk = true := fun e => by rw [e, if_pos rfl] at htw; omega
                  refine nv_aload_n hP 0 d_M_define_125 rfl rfl ?_
                  refine nv_iload hP d_M_define_126 rfl ?_
                  refine nv_callVI hG (c_M_reduced l h a σ_109 z) k_M_reduced rfl ⟨rfl, rfl⟩ ⟨Nat.le_of_ble_eq_true rfl, Nat.le_of_ble_eq_true rfl⟩ rfl (Nat.le_of_ble_eq_true rfl) d_M_define_128 (fun r_128 σ_128 q_128 => ?_)
                  obtain ⟨e_128, rfl⟩ := q_128
                  replace e_128 := e_128.symm
                  subst e_128
                  refine nv_iast hG 8 (by decide) rfl rfl (by omega) d_M_define_131 (fun σ_131 hσ_131 => ?_)
                  refine nv_iload hP d_M_define_132 rfl ?_
                  exact nv_iret hG d_M_define_134 (⟨_, rfl, by
                    rw [dfn_ok hs hkk hy hz (ya := 0) (zb := rd z) (by rw [if_neg (by omega)]) (by rw [if_neg h2k]), hI.1]
                    exact ⟨defM_fin hI hkk (by omega) (rd_lt z) (fun e => absurd e h2k) hσ_93 hσ_109 hσ_131, rfl⟩⟩)
                · have h2k : two kk = true := by cases e : two kk with | true => rfl | false => (rw [e] at htw; exact absurd htw c_117)
                  obtain ⟨z1, hz1, rfl⟩ := hz h2k
                  refine nv_iload hP d_M_define_120 rfl ?_
                  refine nv_goto hP 131 d_M_define_122 (by decide) ?_
                  refine nv_iast hG 8 (by decide) rfl rfl (by omega) d_M_define_131 (fun σ_131 hσ_131 => ?_)
                  refine nv_iload hP d_M_define_132 rfl ?_
                  exact nv_iret hG d_M_define_134 (⟨_, rfl, by
                    rw [dfn_ok hs hkk hy hz (ya := 0) (zb := z1) (by rw [if_neg (by omega)]) (by rw [if_pos h2k, ix_nI hz1 (by decide)]; rfl), hI.1]
                    exact ⟨defM_fin hI hkk (by omega) (by omega) (fun _ => hz1) hσ_93 hσ_109 hσ_131, rfl⟩⟩)
              · obtain ⟨y1, hy1, rfl⟩ := isS_or hy c_101
                refine nv_iload_n hP 3 d_M_define_104 rfl rfl ?_
                refine nv_goto hP 109 d_M_define_105 (by decide) ?_
                refine nv_iast hG 8 (by decide) rfl rfl (by omega) d_M_define_109 (fun σ_109 hσ_109 => ?_)
                refine nv_aload_n hP 0 d_M_define_110 rfl rfl ?_
                refine nv_getf hG ff_M_2 (by decide) d_M_define_111 ?_
                refine nv_iload_n hP 1 d_M_define_114 rfl rfl ?_
                refine nv_iload hP d_M_define_115 rfl ?_
                refine nv_ifeq hP (by omega) 125 d_M_define_117 (by decide) (fun c_117 => ?_) (fun c_117 => ?_)
                · have h2k : ¬ two kk = true := fun e => by rw [e, if_pos rfl] at htw; omega
                  refine nv_aload_n hP 0 d_M_define_125 rfl rfl ?_
                  refine nv_iload hP d_M_define_126 rfl ?_
                  refine nv_callVI hG (c_M_reduced l h a σ_109 z) k_M_reduced rfl ⟨rfl, rfl⟩ ⟨Nat.le_of_ble_eq_true rfl, Nat.le_of_ble_eq_true rfl⟩ rfl (Nat.le_of_ble_eq_true rfl) d_M_define_128 (fun r_128 σ_128 q_128 => ?_)
                  obtain ⟨e_128, rfl⟩ := q_128
                  replace e_128 := e_128.symm
                  subst e_128
                  refine nv_iast hG 8 (by decide) rfl rfl (by omega) d_M_define_131 (fun σ_131 hσ_131 => ?_)
                  refine nv_iload hP d_M_define_132 rfl ?_
                  exact nv_iret hG d_M_define_134 (⟨_, rfl, by
                    rw [dfn_ok hs hkk hy hz (ya := y1) (zb := rd z) (by rw [if_pos (by omega), ix_nI hy1 (by decide)]; rfl) (by rw [if_neg h2k]), hI.1]
                    exact ⟨defM_fin hI hkk (hy1) (rd_lt z) (fun e => absurd e h2k) hσ_93 hσ_109 hσ_131, rfl⟩⟩)
                · have h2k : two kk = true := by cases e : two kk with | true => rfl | false => (rw [e] at htw; exact absurd htw c_117)
                  obtain ⟨z1, hz1, rfl⟩ := hz h2k
                  refine nv_iload hP d_M_define_120 rfl ?_
                  refine nv_goto hP 131 d_M_define_122 (by decide) ?_
                  refine nv_iast hG 8 (by decide) rfl rfl (by omega) d_M_define_131 (fun σ_131 hσ_131 => ?_)
                  refine nv_iload hP d_M_define_132 rfl ?_
                  exact nv_iret hG d_M_define_134 (⟨_, rfl, by
                    rw [dfn_ok hs hkk hy hz (ya := y1) (zb := z1) (by rw [if_pos (by omega), ix_nI hy1 (by decide)]; rfl) (by rw [if_pos h2k, ix_nI hz1 (by decide)]; rfl), hI.1]
                    exact ⟨defM_fin hI hkk (hy1) (by omega) (fun _ => hz1) hσ_93 hσ_109 hσ_131, rfl⟩⟩)
            refine nv_iload hP d_M_define_62 rfl ?_
            refine nv_ifeq hP (by omega) 79 d_M_define_64 (by decide) (fun c_64 => ?_) (fun c_64 => ?_)
            · exact nv_lv hP (lsub_c rfl (lsub_c rfl (lsub_c rfl (lsub_c rfl (lsub_c rfl (lsub_c rfl lsub_n)))))) (join_79 (fun e => by rw [e, if_pos rfl] at htw; omega))
            · refine nv_aload_n hP 0 d_M_define_67 rfl rfl ?_
              refine nv_iload hP d_M_define_68 rfl ?_
              refine nv_callVI hG (c_M_bad l h a σ z) k_M_bad rfl ⟨rfl, rfl⟩ ⟨Nat.le_of_ble_eq_true rfl, Nat.le_of_ble_eq_true rfl⟩ rfl (Nat.le_of_ble_eq_true rfl) d_M_define_70 (fun r_70 σ_70 q_70 => ?_)
              obtain ⟨e_70, hs_70⟩ := q_70
              replace e_70 := e_70.symm
              subst e_70
              refine nv_ifeqR hP 79 d_M_define_73 (by decide) (fun c_73 => ?_) (fun c_73 => ?_)
              · exact nv_lv hP (lsub_c rfl (lsub_c rfl (lsub_c rfl (lsub_c rfl (lsub_c rfl (lsub_c rfl lsub_n)))))) (join_79 (fun _ => bad_f hs_70 c_73))
              · refine nv_bipush hP (-4) d_M_define_76 (by decide) ?_
                exact nv_iret hG d_M_define_78 (⟨_, rfl, by rw [dfn_4 hs hkk hy (by cases e : two kk with | true => rfl | false => (rw [e] at htw; exact absurd htw c_64)) (bad_t hs_70 c_73)]; exact ⟨hI, rfl⟩⟩)
          refine nv_iload_n hP 2 d_M_define_39 rfl rfl ?_
          refine nv_iconst hP (nI 2) d_M_define_40 (by decide) ?_
          refine nv_cmpeq hP (by omega) (by omega) 55 d_M_define_41 (by decide) (fun c_41 => ?_) (fun c_41 => ?_)
          · refine nv_iconst hP (nI 1) d_M_define_55 (by decide) ?_
            refine nv_goto hP 60 d_M_define_56 (by decide) ?_
            refine nv_istore hP d_M_define_60 (by decide) ?_
            exact nv_lv hP (lsub_c rfl (lsub_c rfl (lsub_c rfl (lsub_c rfl (lsub_c rfl (lsub_c rfl lsub_n)))))) (join_62 1 (by rw [c_41]; rfl))
          · refine nv_iload_n hP 2 d_M_define_44 rfl rfl ?_
            refine nv_iconst hP (nI 3) d_M_define_45 (by decide) ?_
            refine nv_cmpeq hP (by omega) (by omega) 55 d_M_define_46 (by decide) (fun c_46 => ?_) (fun c_46 => ?_)
            · refine nv_iconst hP (nI 1) d_M_define_55 (by decide) ?_
              refine nv_goto hP 60 d_M_define_56 (by decide) ?_
              refine nv_istore hP d_M_define_60 (by decide) ?_
              exact nv_lv hP (lsub_c rfl (lsub_c rfl (lsub_c rfl (lsub_c rfl (lsub_c rfl (lsub_c rfl lsub_n)))))) (join_62 1 (by rw [c_46]; rfl))
            · refine nv_iload_n hP 2 d_M_define_49 rfl rfl ?_
              refine nv_bipush hP (nI 9) d_M_define_50 (by decide) ?_
              refine nv_cmpne hP (by omega) (by omega) 59 d_M_define_52 (by decide) (fun c_52 => ?_) (fun c_52 => ?_)
              · refine nv_iconst hP (nI 0) d_M_define_59 (by decide) ?_
                refine nv_istore hP d_M_define_60 (by decide) ?_
                exact nv_lv hP (lsub_c rfl (lsub_c rfl (lsub_c rfl (lsub_c rfl (lsub_c rfl (lsub_c rfl lsub_n)))))) (join_62 0 (by rw [if_neg (fun e => by have := two_iff.mp e; omega)]))
              · refine nv_iconst hP (nI 1) d_M_define_55 (by decide) ?_
                refine nv_goto hP 60 d_M_define_56 (by decide) ?_
                refine nv_istore hP d_M_define_60 (by decide) ?_
                exact nv_lv hP (lsub_c rfl (lsub_c rfl (lsub_c rfl (lsub_c rfl (lsub_c rfl (lsub_c rfl lsub_n)))))) (join_62 1 (by rw [c_52]; rfl))
        refine nv_iconst hP (nI 1) d_M_define_24 (by decide) ?_
        refine nv_cmple hP (by omega) (by omega) 39 d_M_define_25 (by decide) (fun c_25 => ?_) (fun c_25 => ?_)
        · exact nv_lv hP (lsub_c rfl (lsub_c rfl (lsub_c rfl (lsub_c rfl (lsub_c rfl lsub_n))))) (join_39 (Or.inl c_25))
        · refine nv_aload_n hP 0 d_M_define_28 rfl rfl ?_
          refine nv_iload_n hP 3 d_M_define_29 rfl rfl ?_
          refine nv_callVI hG (c_M_bad l h a σ y) k_M_bad rfl ⟨rfl, rfl⟩ ⟨Nat.le_of_ble_eq_true rfl, Nat.le_of_ble_eq_true rfl⟩ rfl (Nat.le_of_ble_eq_true rfl) d_M_define_30 (fun r_30 σ_30 q_30 => ?_)
          obtain ⟨e_30, hs_30⟩ := q_30
          replace e_30 := e_30.symm
          subst e_30
          refine nv_ifeqR hP 39 d_M_define_33 (by decide) (fun c_33 => ?_) (fun c_33 => ?_)
          · exact nv_lv hP (lsub_c rfl (lsub_c rfl (lsub_c rfl (lsub_c rfl (lsub_c rfl lsub_n))))) (join_39 (Or.inr (bad_f hs_30 c_33)))
          · refine nv_bipush hP (-3) d_M_define_36 (by decide) ?_
            exact nv_iret hG d_M_define_38 (⟨_, rfl, by rw [dfn_3 hs hkk c_25 (bad_t hs_30 c_33)]; exact ⟨hI, rfl⟩⟩)
      · refine nv_bipush hP (-2) d_M_define_20 (by decide) ?_
        exact nv_iret hG d_M_define_22 (⟨_, rfl, by rw [dfn_2 hs (ix_ge (gt_ge (by decide) (not_le_lt c_17)))]; exact ⟨hI, rfl⟩⟩)
  · refine nv_iconst hP (-1) d_M_define_8 (by decide) ?_
    exact nv_iret hG d_M_define_9 (⟨_, rfl, by rw [dfn_1 (bad_t hs_2 c_5)]; exact ⟨hI, rfl⟩⟩)

theorem dr_nds {K A B : Nat → Nat} {p q : Nat} : dr K A B (p / 16) (p % 16) (q / 16) (q % 16) ↔ nds K A B p q := by
  unfold dr nds ndf
  rw [show 16 * (q / 16) + q % 16 = q by omega]

set_option maxHeartbeats 4000000 in
/-- spread(p) -/
theorem c_M_spread (l : Launch) (h : Nat) (a : Nat → Nat) (σ : SG) (K A B : Nat → Nat) (p : Nat) (hI : InvM K A B σ) (hp : p < 128) (h5 : ∀ x, x < 128 → σ 5 x ≤ 1) : MetN l y_M_spread b_M_spread 4 (some .boolean) (rm 1 25) 1 h a σ [.ref h, .int (nI p)] (pI (fun r σ' => ∃ c, c ≤ 1 ∧ r = nI c ∧ SPo K A B σ p c σ')) := by
  refine nv_entry (by decide) (Nat.le_of_ble_eq_true rfl) (by intro v hv; simp only [List.mem_cons, List.not_mem_nil, or_false] at hv; rcases hv with rfl | rfl <;> rfl) (fun G hG => ?_)
  have hP := hG.pr
  refine nv_iconst hP (nI 0) d_M_spread_0 (by decide) ?_
  refine nv_istore_n hP 2 d_M_spread_1 rfl (by decide) ?_
  refine nv_iconst hP (nI 0) d_M_spread_2 (by decide) ?_
  refine nv_istore_n hP 3 d_M_spread_3 rfl (by decide) ?_
  have loop_4 : ∀ (f_4 : Nat) (q c : Nat) (σ1 : SG) (_ : q ≤ 128) (_ : c ≤ 1) (_ : SI K A B σ p q c σ1), 128 - q < f_4 → G σ1 4 [(0, .ref h), (1, .int (nI p)), (2, .int (nI c)), (3, .int (nI q))] [] := by
    intro f_4
    induction f_4 with
    | zero => intro q c σ1 hq hc hSI hf_4; exact absurd hf_4 (Nat.not_lt_zero _)
    | succ f_4 ih_4 =>
      intro q c σ1 hq hc hSI hf_4
      refine nv_iload_n hP 3 d_M_spread_4 rfl rfl ?_
      refine nv_sipush hP (nI 128) d_M_spread_5 (by decide) ?_
      refine nv_cmpge hP (by omega) (by omega) 58 d_M_spread_8 (by decide) (fun c_8 => ?_) (fun c_8 => ?_)
      · refine nv_iload_n hP 2 d_M_spread_58 rfl rfl ?_
        exact nv_zret hG (by omega) d_M_spread_59 (⟨_, rfl, c, hc, rfl, by rw [show q = 128 by omega] at hSI; exact hSI⟩)
      · refine nv_aload_n hP 0 d_M_spread_11 rfl rfl ?_
        refine nv_getf hG ff_M_5 (by decide) d_M_spread_12 ?_
        refine nv_iload_n hP 3 d_M_spread_15 rfl rfl ?_
        refine nv_zald hG 128 (by decide) rfl rfl (by omega) d_M_spread_16 ?_
        have b5 := hSI.2.1 q (by omega)
        refine nv_ifne hP (by omega) 52 d_M_spread_17 (by decide) (fun c_17 => ?_) (fun c_17 => ?_)
        · refine nv_iinc hP d_M_spread_52 rfl (by decide) ?_
          refine nv_goto hP 4 d_M_spread_55 (by decide) ?_
          exact nv_lv hP (lsub_c rfl (lsub_c rfl (lsub_c rfl (lsub_c rfl lsub_n)))) (ih_4 (q + 1) c σ1 (by omega) hc (SI_skip hSI (fun _ => by omega)) (by omega))
        · refine nv_aload_n hP 0 d_M_spread_20 rfl rfl ?_
          refine nv_iload_n hP 1 d_M_spread_21 rfl rfl ?_
          refine nv_bipush hP (nI 16) d_M_spread_22 (by decide) ?_
          refine nv_idiv hP (by omega) (by omega) (by omega) d_M_spread_24 ?_
          refine nv_iload_n hP 1 d_M_spread_25 rfl rfl ?_
          refine nv_bipush hP (nI 16) d_M_spread_26 (by decide) ?_
          refine nv_irem hP (by omega) (by omega) (by omega) d_M_spread_28 ?_
          refine nv_iload_n hP 3 d_M_spread_29 rfl rfl ?_
          refine nv_bipush hP (nI 16) d_M_spread_30 (by decide) ?_
          refine nv_idiv hP (by omega) (by omega) (by omega) d_M_spread_32 ?_
          refine nv_iload_n hP 3 d_M_spread_33 rfl rfl ?_
          refine nv_bipush hP (nI 16) d_M_spread_34 (by decide) ?_
          refine nv_irem hP (by omega) (by omega) (by omega) d_M_spread_36 ?_
          refine nv_callVI hG (c_M_direct l h a σ1 (p / 16) (p % 16) (q / 16) (q % 16) (by omega) (by omega) (by omega) (by omega) (by rw [hSI.1 0 (by decide), hSI.1 1 (by decide), hSI.1 2 (by decide), hI.1, hI.2.1, hI.2.2.1]; exact hI.2.2.2.1)) k_M_direct rfl ⟨rfl, rfl⟩ ⟨Nat.le_of_ble_eq_true rfl, Nat.le_of_ble_eq_true rfl⟩ rfl (Nat.le_of_ble_eq_true rfl) d_M_spread_37 (fun r_37 σ_37 q_37 => ?_)
          obtain ⟨e_37, hd_37⟩ := q_37
          replace e_37 := e_37.symm
          subst e_37
          rw [hSI.1 0 (by decide), hSI.1 1 (by decide), hSI.1 2 (by decide), hI.1, hI.2.1, hI.2.2.1] at hd_37
          refine nv_ifeqR hP 52 d_M_spread_40 (by decide) (fun c_40 => ?_) (fun c_40 => ?_)
          · refine nv_iinc hP d_M_spread_52 rfl (by decide) ?_
            refine nv_goto hP 4 d_M_spread_55 (by decide) ?_
            exact nv_lv hP (lsub_c rfl (lsub_c rfl (lsub_c rfl (lsub_c rfl lsub_n)))) (ih_4 (q + 1) c σ1 (by omega) hc (SI_skip hSI (fun e => absurd (dr_nds.mpr e) (dr_f hd_37 c_40))) (by omega))
          · refine nv_aload_n hP 0 d_M_spread_43 rfl rfl ?_
            refine nv_getf hG ff_M_5 (by decide) d_M_spread_44 ?_
            refine nv_iload_n hP 3 d_M_spread_47 rfl rfl ?_
            refine nv_iconst hP (nI 1) d_M_spread_48 (by decide) ?_
            refine nv_zast hG 128 (by omega) (by decide) rfl rfl (by omega) d_M_spread_49 (fun σ_49 hσ_49 => ?_)
            refine nv_iconst hP (nI 1) d_M_spread_50 (by decide) ?_
            refine nv_istore_n hP 2 d_M_spread_51 rfl (by decide) ?_
            refine nv_iinc hP d_M_spread_52 rfl (by decide) ?_
            refine nv_goto hP 4 d_M_spread_55 (by decide) ?_
            exact nv_lv hP (lsub_c rfl (lsub_c rfl (lsub_c rfl (lsub_c rfl lsub_n)))) (ih_4 (q + 1) 1 σ_49 (by omega) (by omega) (by rw [hσ_49]; exact SI_add hSI (by omega) (dr_nds.mp (dr_t hd_37 c_40)) c_17) (by omega))
  exact nv_lv hP (lsub_c rfl (lsub_c rfl (lsub_c rfl (lsub_c rfl lsub_n)))) (loop_4 _ 0 0 σ (by omega) (by omega) ⟨fun _ _ => rfl, h5, fun _ k => k, fun _ _ k => Or.inl k, fun x hx => absurd hx (Nat.not_lt_zero _), Or.inr ⟨rfl, rfl⟩⟩ (Nat.lt_succ_self _))

set_option maxHeartbeats 4000000 in
/-- needs -/
theorem c_M_needs (l : Launch) (h : Nat) (a : Nat → Nat) (σ : SG) (K A B : Nat → Nat) (x y : Int32) (hI : InvM K A B σ) : MetN l y_M_needs b_M_needs 6 (some .int) (rm 2 48) 1 h a σ [.ref h, .int x, .int y] (pI (fun r σ' => InvM K A B σ' ∧ aNeeds K A B x y r)) := by
  refine nv_entry (by decide) (Nat.le_of_ble_eq_true rfl) (by intro v hv; simp only [List.mem_cons, List.not_mem_nil, or_false] at hv; rcases hv with rfl | rfl | rfl <;> rfl) (fun G hG => ?_)
  have hP := hG.pr
  have hw := hI.2.2.2.1
  refine nv_iload_n hP 1 d_M_needs_0 rfl rfl ?_
  refine nv_ifltR hP 20 d_M_needs_1 (by decide) (fun c_1 => ?_) (fun c_1 => ?_)
  · refine nv_iconst hP (-1) d_M_needs_20 (by decide) ?_
    exact nv_iret hG d_M_needs_21 (⟨_, rfl, hI, aNeeds_1 (ix_neg c_1)⟩)
  · refine nv_iload_n hP 1 d_M_needs_4 rfl rfl ?_
    refine nv_bipush hP (nI 127) d_M_needs_5 (by decide) ?_
    refine nv_cmpgtR hP 20 d_M_needs_7 (by decide) (fun c_7 => ?_) (fun c_7 => ?_)
    · refine nv_iconst hP (-1) d_M_needs_20 (by decide) ?_
      exact nv_iret hG d_M_needs_21 (⟨_, rfl, hI, aNeeds_1 (ix_ge (gt_ge (by decide) c_7))⟩)
    · refine nv_iload_n hP 2 d_M_needs_10 rfl rfl ?_
      refine nv_ifltR hP 20 d_M_needs_11 (by decide) (fun c_11 => ?_) (fun c_11 => ?_)
      · refine nv_iconst hP (-1) d_M_needs_20 (by decide) ?_
        exact nv_iret hG d_M_needs_21 (⟨_, rfl, hI, aNeeds_2 (ix_neg c_11)⟩)
      · refine nv_iload_n hP 2 d_M_needs_14 rfl rfl ?_
        refine nv_bipush hP (nI 127) d_M_needs_15 (by decide) ?_
        refine nv_cmpleR hP 22 d_M_needs_17 (by decide) (fun c_17 => ?_) (fun c_17 => ?_)
        · obtain ⟨p, hp, rfl⟩ := in_le (by decide) c_1 (not_lt_le c_7)
          obtain ⟨q, hq, rfl⟩ := in_le (by decide) c_11 c_17
          refine nv_iconst hP (nI 0) d_M_needs_22 (by decide) ?_
          refine nv_istore_n hP 3 d_M_needs_23 rfl (by decide) ?_
          have loop_24 : ∀ (f_24 : Nat) (i : Nat) (σ1 : SG) (_ : i ≤ 128) (_ : ∀ k, k ≠ 5 → σ1 k = σ k) (_ : ∀ j, j < i → σ1 5 j = 0), 128 - i < f_24 → G σ1 24 [(0, .ref h), (1, .int (nI p)), (2, .int (nI q)), (3, .int (nI i))] [] := by
            intro f_24
            induction f_24 with
            | zero => intro i σ1 g1 g2 g3 hf_24; exact absurd hf_24 (Nat.not_lt_zero _)
            | succ f_24 ih_24 =>
              intro i σ1 g1 g2 g3 hf_24
              refine nv_iload_n hP 3 d_M_needs_24 rfl rfl ?_
              refine nv_sipush hP (nI 128) d_M_needs_25 (by decide) ?_
              refine nv_cmpge hP (by omega) (by omega) 44 d_M_needs_28 (by decide) (fun c_28 => ?_) (fun c_28 => ?_)
              · refine nv_aload_n hP 0 d_M_needs_44 rfl rfl ?_
                refine nv_iload_n hP 1 d_M_needs_45 rfl rfl ?_
                refine nv_callVI hG (c_M_spread l h a σ1 K A B p (by exact ⟨by rw [g2 0 (by decide)]; exact hI.1, by rw [g2 1 (by decide)]; exact hI.2.1, by rw [g2 2 (by decide)]; exact hI.2.2.1, hw, by rw [g2 4 (by decide)]; exact hI.2.2.2.2⟩) hp (fun x hx => by rw [g3 x (by omega)]; omega)) k_M_spread rfl ⟨rfl, rfl⟩ ⟨Nat.le_of_ble_eq_true rfl, Nat.le_of_ble_eq_true rfl⟩ rfl (Nat.le_of_ble_eq_true rfl) d_M_needs_46 (fun r_46 σ_46 q_46 => ?_)
                obtain ⟨c0, hc0, rfl, hs0⟩ := q_46
                refine nv_istore_n hP 3 d_M_needs_49 rfl (by decide) ?_
                refine nv_iconst hP (nI 0) d_M_needs_50 (by decide) ?_
                refine nv_istore hP d_M_needs_51 (by decide) ?_
                have loop_53 : ∀ (f_53 : Nat) (c k : Nat) (σ2 : SG) (_ : c ≤ 1) (_ : k ≤ 128) (_ : QI K A B σ p σ2) (_ : (c = 1 ∧ k + 1 ≤ sF (σ2 5) 128) ∨ (c = 0 ∧ cls5 K A B σ2 128)), 128 - k < f_53 → G σ2 53 [(0, .ref h), (1, .int (nI p)), (2, .int (nI q)), (3, .int (nI c)), (4, .int (nI k))] [] := by
                  intro f_53
                  induction f_53 with
                  | zero => intro c k σ2 hc hk hQ hcl hf_53; exact absurd hf_53 (Nat.not_lt_zero _)
                  | succ f_53 ih_53 =>
                    intro c k σ2 hc hk hQ hcl hf_53
                    have hle : sF (σ2 5) 128 ≤ 1 * 128 := sF_le 128 hQ.2.1
                    refine nv_iload hP d_M_needs_53 rfl ?_
                    refine nv_sipush hP (nI 128) d_M_needs_55 (by decide) ?_
                    have join_111 : ∀ (_ : cls5 K A B σ2 128), G σ2 111 [(0, .ref h), (1, .int (nI p)), (2, .int (nI q))] [] := by
                      intro hcls
                      refine nv_aload_n hP 0 d_M_needs_111 rfl rfl ?_
                      refine nv_getf hG ff_M_5 (by decide) d_M_needs_112 ?_
                      refine nv_iload_n hP 2 d_M_needs_115 rfl rfl ?_
                      refine nv_zald hG 128 (by decide) rfl rfl (by omega) d_M_needs_116 ?_
                      have b6 := hQ.2.1 q (by omega)
                      refine nv_ifeq hP (by omega) 124 d_M_needs_117 (by decide) (fun c_117 => ?_) (fun c_117 => ?_)
                      · refine nv_iconst hP (nI 0) d_M_needs_124 (by decide) ?_
                        exact nv_iret hG d_M_needs_125 (⟨_, rfl, QI_inv hI hQ, aNeeds_ok hp hq (Or.inr ⟨QI_no hw hp hQ hcls hq c_117, rfl⟩)⟩)
                      · refine nv_iconst hP (nI 1) d_M_needs_120 (by decide) ?_
                        refine nv_goto hP 125 d_M_needs_121 (by decide) ?_
                        exact nv_iret hG d_M_needs_125 (⟨_, rfl, QI_inv hI hQ, aNeeds_ok hp hq (Or.inl ⟨hQ.2.2.1 q hq (by omega), rfl⟩)⟩)
                    refine nv_cmpge hP (by omega) (by omega) 111 d_M_needs_58 (by decide) (fun c_58 => ?_) (fun c_58 => ?_)
                    · exact nv_lv hP (lsub_c rfl (lsub_c rfl (lsub_c rfl lsub_n))) (join_111 (CL_of hcl (fun _ e => by omega)))
                    · refine nv_iload_n hP 3 d_M_needs_61 rfl rfl ?_
                      refine nv_ifeq hP (by omega) 111 d_M_needs_62 (by decide) (fun c_62 => ?_) (fun c_62 => ?_)
                      · exact nv_lv hP (lsub_c rfl (lsub_c rfl (lsub_c rfl lsub_n))) (join_111 (CL_of hcl (fun e => by omega)))
                      · refine nv_iconst hP (nI 0) d_M_needs_65 (by decide) ?_
                        refine nv_istore_n hP 3 d_M_needs_66 rfl (by decide) ?_
                        refine nv_iconst hP (nI 0) d_M_needs_67 (by decide) ?_
                        refine nv_istore hP d_M_needs_68 (by decide) ?_
                        have loop_70 : ∀ (f_70 : Nat) (j c3 : Nat) (σ3 : SG) (_ : j ≤ 128) (_ : c3 ≤ 1) (_ : QI K A B σ p σ3) (_ : RI K A B σ2 c3 j σ3), 128 - j < f_70 → G σ3 70 [(0, .ref h), (1, .int (nI p)), (2, .int (nI q)), (3, .int (nI c3)), (4, .int (nI k)), (5, .int (nI j))] [] := by
                          intro f_70
                          induction f_70 with
                          | zero => intro j c3 σ3 hj hc3 hQ3 hRI hf_70; exact absurd hf_70 (Nat.not_lt_zero _)
                          | succ f_70 ih_70 =>
                            intro j c3 σ3 hj hc3 hQ3 hRI hf_70
                            refine nv_iload hP d_M_needs_70 rfl ?_
                            refine nv_sipush hP (nI 128) d_M_needs_72 (by decide) ?_
                            refine nv_cmpge hP (by omega) (by omega) 105 d_M_needs_75 (by decide) (fun c_75 => ?_) (fun c_75 => ?_)
                            · refine nv_iinc hP d_M_needs_105 rfl (by decide) ?_
                              refine nv_goto hP 53 d_M_needs_108 (by decide) ?_
                              exact nv_lv hP (lsub_c rfl (lsub_c rfl (lsub_c rfl (lsub_c rfl (lsub_c rfl lsub_n))))) (ih_53 c3 (k + 1) σ3 hc3 (by omega) hQ3 (by
                                rw [show j = 128 by omega] at hRI
                                rcases hRI with ⟨k1, k2⟩ | ⟨k1, k2, k3⟩
                                · left; refine ⟨k1, ?_⟩; rcases hcl with ⟨-, k5⟩ | ⟨k5, -⟩ <;> omega
                                · right; rw [k2]; exact ⟨k1, k3⟩) (by omega))
                            · refine nv_aload_n hP 0 d_M_needs_78 rfl rfl ?_
                              refine nv_getf hG ff_M_5 (by decide) d_M_needs_79 ?_
                              refine nv_iload hP d_M_needs_82 rfl ?_
                              refine nv_zald hG 128 (by decide) rfl rfl (by omega) d_M_needs_84 ?_
                              have b5 := hQ3.2.1 j (by omega)
                              refine nv_ifeq hP (by omega) 99 d_M_needs_85 (by decide) (fun c_85 => ?_) (fun c_85 => ?_)
                              · refine nv_iinc hP d_M_needs_99 rfl (by decide) ?_
                                refine nv_goto hP 70 d_M_needs_102 (by decide) ?_
                                exact nv_lv hP (lsub_c rfl (lsub_c rfl (lsub_c rfl (lsub_c rfl (lsub_c rfl (lsub_c rfl lsub_n)))))) (ih_70 (j + 1) c3 σ3 (by omega) hc3 hQ3 (RI_skip hRI c_85) (by omega))
                              · refine nv_aload_n hP 0 d_M_needs_88 rfl rfl ?_
                                refine nv_iload hP d_M_needs_89 rfl ?_
                                refine nv_callVI hG (c_M_spread l h a σ3 K A B j (QI_inv hI hQ3) (by omega) hQ3.2.1) k_M_spread rfl ⟨rfl, rfl⟩ ⟨Nat.le_of_ble_eq_true rfl, Nat.le_of_ble_eq_true rfl⟩ rfl (Nat.le_of_ble_eq_true rfl) d_M_needs_91 (fun r_91 σ_91 q_91 => ?_)
                                refine nv_ifeqR hP 99 d_M_needs_94 (by decide) (fun c_94 => ?_) (fun c_94 => ?_)
                                · refine nv_iinc hP d_M_needs_99 rfl (by decide) ?_
                                  refine nv_goto hP 70 d_M_needs_102 (by decide) ?_
                                  exact nv_lv hP (lsub_c rfl (lsub_c rfl (lsub_c rfl (lsub_c rfl (lsub_c rfl (lsub_c rfl lsub_n)))))) (ih_70 (j + 1) c3 σ_91 (by omega) hc3 (QI_spread hQ3 (by omega) (by omega) (SP_z q_91 c_94)) (RI_0 hw hRI (by omega) (SP_z q_91 c_94)) (by omega))
                                · refine nv_iconst hP (nI 1) d_M_needs_97 (by decide) ?_
                                  refine nv_istore_n hP 3 d_M_needs_98 rfl (by decide) ?_
                                  refine nv_iinc hP d_M_needs_99 rfl (by decide) ?_
                                  refine nv_goto hP 70 d_M_needs_102 (by decide) ?_
                                  exact nv_lv hP (lsub_c rfl (lsub_c rfl (lsub_c rfl (lsub_c rfl (lsub_c rfl (lsub_c rfl lsub_n)))))) (ih_70 (j + 1) 1 σ_91 (by omega) (by omega) (QI_spread hQ3 (by omega) (by omega) (SP_r q_91 c_94)) (RI_1 hRI (SP_r q_91 c_94)) (by omega))
                        exact nv_lv hP (lsub_c rfl (lsub_c rfl (lsub_c rfl (lsub_c rfl (lsub_c rfl (lsub_c rfl lsub_n)))))) (loop_70 _ 0 0 σ2 (by omega) (by omega) hQ (Or.inr ⟨rfl, rfl, fun x hx => absurd hx (Nat.not_lt_zero _)⟩) (Nat.lt_succ_self _))
                exact nv_lv hP (lsub_c rfl (lsub_c rfl (lsub_c rfl (lsub_c rfl (lsub_c rfl lsub_n))))) (loop_53 _ c0 0 σ_46 hc0 (by omega) (QI_init hw hp g2 (fun x hx => g3 x (by omega)) hs0) (by
                  rcases hs0.2.2.2.2.2 with ⟨k1, k2⟩ | ⟨k1, k2⟩
                  · exact Or.inl ⟨k1, by omega⟩
                  · refine Or.inr ⟨k1, fun x hx k => ?_⟩
                    rw [k2, g3 x (by omega)] at k; omega) (Nat.lt_succ_self _))
              · refine nv_aload_n hP 0 d_M_needs_31 rfl rfl ?_
                refine nv_getf hG ff_M_5 (by decide) d_M_needs_32 ?_
                refine nv_iload_n hP 3 d_M_needs_35 rfl rfl ?_
                refine nv_iconst hP (nI 0) d_M_needs_36 (by decide) ?_
                refine nv_zast hG 128 (by omega) (by decide) rfl rfl (by omega) d_M_needs_37 (fun σ_37 hσ_37 => ?_)
                refine nv_iinc hP d_M_needs_38 rfl (by decide) ?_
                refine nv_goto hP 24 d_M_needs_41 (by decide) ?_
                exact nv_lv hP (lsub_c rfl (lsub_c rfl (lsub_c rfl (lsub_c rfl lsub_n)))) (ih_24 (i + 1) σ_37 (by omega) (fun k hk => by rw [hσ_37, st2_k hk]; exact g2 k hk) (fun j hj => by rw [hσ_37, st2_at]; split <;> first | rfl | exact g3 j (by omega)) (by omega))
          exact nv_lv hP (lsub_c rfl (lsub_c rfl (lsub_c rfl (lsub_c rfl lsub_n)))) (loop_24 _ 0 σ (by omega) (fun _ _ => rfl) (fun j hj => absurd hj (Nat.not_lt_zero _)) (Nat.lt_succ_self _))
        · refine nv_iconst hP (-1) d_M_needs_20 (by decide) ?_
          exact nv_iret hG d_M_needs_21 (⟨_, rfl, hI, aNeeds_2 (ix_ge (gt_ge (by decide) (not_le_lt c_17)))⟩)
end
section
/-! the constructors -/
def Rc (l : Launch) (cc : ByteArray) (nL : Nat) (own : String) (R : Room) (ci h : Nat) (a : Nat → Nat) (cells slots : Nat) (Q : State → State → List Frame → Array Value → Method → State → Prop) (G : SG → Nat → LV → List Value → Prop) : Prop :=
  ∃ (p : Program) (e : Env) (s : State) (m : MethodId) (args : Array Value) (below : List Frame) (meth : Method) (c : Code) (w0 : Cond) (D : va_G) (z : Bool → ClassId), CallFix p m c cc nL s args (w0 :: wA) own ∧ va_K D classes (tz z) s ∧ apart ci h a ∧ G = fun σ pc lv st => ∀ (H : Heap) (locs : List Loc) (ls : Array Slot), (va_P D classes (wO z ci h a σ) H ∧ va_S (AO ci h a s.heap.size) s.heap H locs) → lvh ls nL lv → W p l e R s m args below meth c H locs cells slots (Q s s below args meth) (F0 m pc ls st)
section RcRows
variable {l : Launch} {cc : ByteArray} {nL : Nat} {own : String} {R : Room} {ci h : Nat} {a : Nat → Nat} {cells slots : Nat} {Q : State → State → List Frame → Array Value → Method → State → Prop} {G : SG → Nat → LV → List Value → Prop} {σ : SG} {pc : Nat} {lv : LV} {st : List Value}
theorem Rc.pr (hG : Rc l cc nL own R ci h a cells slots Q G) : PR cc nL G := by
  obtain ⟨p, e, s, m, args, below, meth, c, w0, D, z, ⟨hx, hb, hml, hown, hts⟩, hK, hap, hG⟩ := hG
  exact ⟨p, l, e, R, s, m, args, below, meth, c, cells, slots, _, _, hx, hb, hG⟩
theorem nvc_getf (hG : Rc l cc nL own R ci h a cells slots Q G) {idx k : Nat} (hf : FF ci own idx k) (hk : k < nO ci) (hd : decode cc pc = .ok (.getfield idx, 3)) (kk : G σ (pc + 3) lv (.ref (a k) :: st)) : G σ pc lv (.ref h :: st) := by
  obtain ⟨p, e, s, m, args, below, meth, c, w0, D, z, ⟨hx, hb, hml, hown, hts⟩, hK, hap, rfl⟩ := hG
  intro H locs ls hw hl
  obtain ⟨C, T, N, h1, h2, h3, h4⟩ := hf
  exact va_get (ref := (T k).1) (v := .ref (a k)) hx hb hts (fun w hw => List.mem_cons_of_mem _ (h2 w hw)) hown hK hw.1 0 rfl h1 k h3 (hts _ (List.mem_cons_of_mem _ h4)) (fun _ h9 => h9) (by rw [List.getElem?_map, List.getElem?_range hk]; rfl) hd (kk H locs ls hw hl)
theorem nvc_iald (hG : Rc l cc nL own R ci h a cells slots Q G) {k j : Nat} (n : Nat) (hk : k < nO ci) (hz : bzO ci k = false) (hn : lnO ci k = n) (hj : j < n) (hd : decode cc pc = .ok (.iaload, 1)) (kk : G σ (pc + 1) lv (.int (nI (σ k j)) :: st)) : G σ pc lv (.int (nI j) :: .ref (a k) :: st) := by
  obtain ⟨p, e, s, m, args, below, meth, c, w0, D, z, ⟨hx, hb, hml, hown, hts⟩, hK, hap, rfl⟩ := hG
  intro H locs ls hw hl
  have hlt := lnO_lt ci k
  have hg := wO_get z h a σ hk
  rw [hz, hn] at hg
  rw [hn] at hlt
  refine va_iald hx hb hK hw.1 (k + 1) 0 hg rfl (vp_in_nI hj hlt) hd ?_
  rw [nI_clamp (by omega)]
  exact kk H locs ls hw hl
theorem nvc_iast (hG : Rc l cc nL own R ci h a cells slots Q G) {k j x : Nat} (n : Nat) (hk : k < nO ci) (hz : bzO ci k = false) (hn : lnO ci k = n) (hj : j < n) (hd : decode cc pc = .ok (.iastore, 1)) (kk : ∀ σ' : SG, σ' = st2 σ k j x → G σ' (pc + 1) lv st) : G σ pc lv (.int (nI x) :: .int (nI j) :: .ref (a k) :: st) := by
  obtain ⟨p, e, s, m, args, below, meth, c, w0, D, z, ⟨hx, hb, hml, hown, hts⟩, hK, hap, rfl⟩ := hG
  intro H locs ls hw hl
  have hlt := lnO_lt ci k
  rw [hn] at hlt
  have hg := wO_get z h a σ hk
  have hset := wO_set z ci h a σ k j x
  rw [hz] at hg hset
  refine va_iast hx hb hK hw.1 (wO_D hap) hw.2 (k + 1) 0 hg rfl (vp_in_nI (by rw [hn]; exact hj) (lnO_lt ci k)) hd (fun H1 locs1 hP hD hS => ?_)
  rw [nI_clamp (by omega), hset] at hP
  exact kk _ rfl H1 locs1 ls ⟨hP, hS⟩ hl
end RcRows
theorem apart_of_D {A : Nat → Prop} {z : Bool → ClassId} {ci h : Nat} {a : Nat → Nat} {σ : SG} (hD : va_D A (wO z ci h a σ)) : apart ci h a ∧ ∀ k, k < nO ci → A (a k) := by
  refine ⟨⟨fun k hk e => ?_, fun k j hk hj e => ?_⟩, fun k hk => hD.2 (k + 1) _ (wO_get z h a σ hk)⟩
  · have := hD.1 (k + 1) 0 _ _ (wO_get z h a σ hk) rfl e
    omega
  · have := hD.1 (k + 1) (j + 1) _ _ (wO_get z h a σ hk) (wO_get z h a σ hj) e
    omega
def K0 : Nat → Nat := fun _ => 0
def S0 : SG := fun _ _ => 0
theorem Wf_0 : Wf K0 K0 K0 := fun s _ => ⟨(show 0 ≤ 9 by decide), (show 0 < 8 by decide), (show 0 < 97 by decide), fun _ => (show 0 < 8 by decide)⟩
theorem InvM_0 : InvM K0 K0 K0 S0 := ⟨rfl, rfl, rfl, Wf_0, fun _ => (show 0 < 97 by decide)⟩
theorem ivT_small : ivT 0 = 0 ∧ ivT 1 = 1 := by decide +kernel
theorem InvL_0 {σ : SG} (h0 : ∀ k, k ≠ 8 → σ k = K0) (h8 : ∀ y, y < 97 → σ 8 y = ivT y) : InvL K0 K0 K0 σ := ⟨h0 0 (by decide), h0 1 (by decide), h0 2 (by decide), Wf_0, fun q => by rw [h0 4 (by decide)]; exact (show 0 < 97 by decide), h8, fun p _ => Or.inl (by rw [h0 3 (by decide)]; rfl)⟩

set_option maxHeartbeats 4000000 in
/-- LazySeries(): the table of inverses, behind the new arrays -/
theorem L_init_tail {l : Launch} {R : Room} {h : Nat} {a : Nat → Nat} {cells slots : Nat} {Q : State → State → List Frame → Array Value → Method → State → Prop} {G : SG → Nat → LV → List Value → Prop} (hG : Rc l b_L_init 2 "LazySeries" R 0 h a cells slots Q G) (hret : ∀ (σ : SG) (lv : LV), InvL K0 K0 K0 σ → G σ 127 lv []) : G S0 80 [(0, .ref h)] [] := by
  have hP := hG.pr
  refine nv_aload_n hP 0 d_L_init_80 rfl rfl ?_
  refine nvc_getf hG ff_L_8 (by decide) d_L_init_81 ?_
  refine nv_iconst hP (nI 1) d_L_init_84 (by decide) ?_
  refine nv_iconst hP (nI 1) d_L_init_85 (by decide) ?_
  refine nvc_iast hG 97 (by decide) rfl rfl (by omega) d_L_init_86 (fun σ_86 hσ_86 => ?_)
  refine nv_iconst hP (nI 2) d_L_init_87 (by decide) ?_
  refine nv_istore_n hP 1 d_L_init_88 rfl (by decide) ?_
  have loop_89 : ∀ (f_89 : Nat) (y : Nat) (σ1 : SG) (_ : 2 ≤ y) (_ : y ≤ 97) (_ : ∀ k, k ≠ 8 → σ1 k = K0) (_ : ∀ j, j < y → σ1 8 j = ivT j), 97 - y < f_89 → G σ1 89 [(0, .ref h), (1, .int (nI y))] [] := by
    intro f_89
    induction f_89 with
    | zero => intro y σ1 g0 g1 g2 g3 hf_89; exact absurd hf_89 (Nat.not_lt_zero _)
    | succ f_89 ih_89 =>
      intro y σ1 g0 g1 g2 g3 hf_89
      have b0 := Nat.mod_lt 97 (show 0 < y by omega)
      have b2 : 97 / y ≤ 97 := Nat.div_le_self 97 y
      refine nv_iload_n hP 1 d_L_init_89 rfl rfl ?_
      refine nv_bipush hP (nI 97) d_L_init_90 (by decide) ?_
      refine nv_cmpge hP (by omega) (by omega) 127 d_L_init_92 (by decide) (fun c_92 => ?_) (fun c_92 => ?_)
      · exact hret σ1 _ (InvL_0 g2 (fun j hj => g3 j (by omega)))
      · refine nv_aload_n hP 0 d_L_init_95 rfl rfl ?_
        refine nvc_getf hG ff_L_8 (by decide) d_L_init_96 ?_
        refine nv_iload_n hP 1 d_L_init_99 rfl rfl ?_
        refine nv_bipush hP (nI 97) d_L_init_100 (by decide) ?_
        refine nv_bipush hP (nI 97) d_L_init_102 (by decide) ?_
        refine nv_iload_n hP 1 d_L_init_104 rfl rfl ?_
        refine nv_idiv hP (by omega) (by omega) (by omega) d_L_init_105 ?_
        refine nv_isub hP (by omega) d_L_init_106 ?_
        refine nv_aload_n hP 0 d_L_init_107 rfl rfl ?_
        refine nvc_getf hG ff_L_8 (by decide) d_L_init_108 ?_
        refine nv_bipush hP (nI 97) d_L_init_111 (by decide) ?_
        refine nv_iload_n hP 1 d_L_init_113 rfl rfl ?_
        refine nv_irem hP (by omega) (by omega) (by omega) d_L_init_114 ?_
        refine nvc_iald hG 97 (by decide) rfl rfl (by omega) d_L_init_115 ?_
        rw [g3 _ b0]
        refine nv_imul hP d_L_init_116 ?_
        refine nv_bipush hP (nI 97) d_L_init_117 (by decide) ?_
        have b3 := Nat.mul_le_mul (Nat.sub_le 97 (97 / y)) (Nat.le_of_lt (ivT_lt (97 % y)))
        refine nv_irem hP (by omega) (by omega) (by omega) d_L_init_119 ?_
        refine nvc_iast hG 97 (by decide) rfl rfl (by omega) d_L_init_120 (fun σ_120 hσ_120 => ?_)
        refine nv_iinc hP d_L_init_121 rfl (by decide) ?_
        refine nv_goto hP 89 d_L_init_124 (by decide) ?_
        exact nv_lv hP (lsub_c rfl (lsub_c rfl lsub_n)) (ih_89 (y + 1) σ_120 (by omega) (by omega) (fun k hk => by rw [hσ_120, st2_k hk]; exact g2 k hk) (fun j hj => by
          rw [hσ_120, st2_at]
          split
          · rename_i e; rw [e]; exact ivT_rec y (by omega) g0
          · exact g3 j (by omega)) (by omega))
  exact nv_lv hP (lsub_c rfl (lsub_c rfl lsub_n)) (loop_89 _ 2 σ_86 (by omega) (by omega) (fun k hk => by rw [hσ_86, st2_k hk]; rfl) (fun j hj => by
    rw [hσ_86, st2_at]
    split
    · rename_i e; rw [e]; exact ivT_small.2.symm
    · rw [show j = 0 by omega]; exact ivT_small.1.symm) (Nat.lt_succ_self _))
theorem ff_L_0_l : Cond.fieldLink "LazySeries" 7 (F_L 0).1 (F_L 0).2.1 (F_L 0).2.2.1 ∈ wA := inA (List.mem_of_getElem? (i := 33) (by decide +kernel)) rfl
theorem ff_L_1_l : Cond.fieldLink "LazySeries" 13 (F_L 1).1 (F_L 1).2.1 (F_L 1).2.2.1 ∈ wA := inA (List.mem_of_getElem? (i := 34) (by decide +kernel)) rfl
theorem ff_L_2_l : Cond.fieldLink "LazySeries" 16 (F_L 2).1 (F_L 2).2.1 (F_L 2).2.2.1 ∈ wA := inA (List.mem_of_getElem? (i := 35) (by decide +kernel)) rfl
theorem ff_L_3_l : Cond.fieldLink "LazySeries" 19 (F_L 3).1 (F_L 3).2.1 (F_L 3).2.2.1 ∈ wA := inA (List.mem_of_getElem? (i := 36) (by decide +kernel)) rfl
theorem ff_L_4_l : Cond.fieldLink "LazySeries" 22 (F_L 4).1 (F_L 4).2.1 (F_L 4).2.2.1 ∈ wA := inA (List.mem_of_getElem? (i := 37) (by decide +kernel)) rfl
theorem ff_L_5_l : Cond.fieldLink "LazySeries" 25 (F_L 5).1 (F_L 5).2.1 (F_L 5).2.2.1 ∈ wA := inA (List.mem_of_getElem? (i := 38) (by decide +kernel)) rfl
theorem ff_L_6_l : Cond.fieldLink "LazySeries" 28 (F_L 6).1 (F_L 6).2.1 (F_L 6).2.2.1 ∈ wA := inA (List.mem_of_getElem? (i := 39) (by decide +kernel)) rfl
theorem ff_L_7_l : Cond.fieldLink "LazySeries" 31 (F_L 7).1 (F_L 7).2.1 (F_L 7).2.2.1 ∈ wA := inA (List.mem_of_getElem? (i := 40) (by decide +kernel)) rfl
theorem ff_L_8_l : Cond.fieldLink "LazySeries" 34 (F_L 8).1 (F_L 8).2.1 (F_L 8).2.2.1 ∈ wA := inA (List.mem_of_getElem? (i := 41) (by decide +kernel)) rfl
theorem ff_M_0_l : Cond.fieldLink "LazySeriesModel" 7 (F_M 0).1 (F_M 0).2.1 (F_M 0).2.2.1 ∈ wA := inA (List.mem_of_getElem? (i := 146) (by decide +kernel)) rfl
theorem ff_M_1_l : Cond.fieldLink "LazySeriesModel" 13 (F_M 1).1 (F_M 1).2.1 (F_M 1).2.2.1 ∈ wA := inA (List.mem_of_getElem? (i := 147) (by decide +kernel)) rfl
theorem ff_M_2_l : Cond.fieldLink "LazySeriesModel" 16 (F_M 2).1 (F_M 2).2.1 (F_M 2).2.2.1 ∈ wA := inA (List.mem_of_getElem? (i := 148) (by decide +kernel)) rfl
theorem ff_M_3_l : Cond.fieldLink "LazySeriesModel" 19 (F_M 3).1 (F_M 3).2.1 (F_M 3).2.2.1 ∈ wA := inA (List.mem_of_getElem? (i := 149) (by decide +kernel)) rfl
theorem ff_M_4_l : Cond.fieldLink "LazySeriesModel" 23 (F_M 4).1 (F_M 4).2.1 (F_M 4).2.2.1 ∈ wA := inA (List.mem_of_getElem? (i := 150) (by decide +kernel)) rfl
theorem ff_M_5_l : Cond.fieldLink "LazySeriesModel" 26 (F_M 5).1 (F_M 5).2.1 (F_M 5).2.2.1 ∈ wA := inA (List.mem_of_getElem? (i := 151) (by decide +kernel)) rfl
theorem ff_M_6_l : Cond.fieldLink "LazySeriesModel" 29 (F_M 6).1 (F_M 6).2.1 (F_M 6).2.2.1 ∈ wA := inA (List.mem_of_getElem? (i := 152) (by decide +kernel)) rfl
theorem ff_M_7_l : Cond.fieldLink "LazySeriesModel" 32 (F_M 7).1 (F_M 7).2.1 (F_M 7).2.2.1 ∈ wA := inA (List.mem_of_getElem? (i := 153) (by decide +kernel)) rfl
set_option maxHeartbeats 4000000 in
set_option maxRecDepth 100000 in
/-- LazySeries(): 9 new arrays of 649 places -/
theorem c_L_init (l : Launch) (D : va_G) (z : Bool → ClassId) (h0 sz : Nat) : Met l y_L_init (.code y_L_init b_L_init 2 none :: wA) ({ frames := 1, cells := 9, slots := 649, locals := 12 }) (va_Pc [.ref h0] (fun U => U.heap.size = sz ∧ va_P D classes [(h0, .inr (0, [.null, .null, .null, .null, .null, .null, .null, .null, .null]))] U.heap ∧ va_K D classes (tz z) U)) (va_Qv (fun u : (Nat → Nat) × SG => apart 0 h0 u.1 ∧ (∀ k, k < 9 → sz ≤ u.1 k) ∧ InvL K0 K0 K0 u.2) (fun u t => va_P D classes (wO z 0 h0 u.1 u.2) t.heap) (fun q => q = h0 ∨ sz ≤ q)) 9 649 (fun q => q = h0 ∨ sz ≤ q) := by
  refine Met.ofW (cc := b_L_init) (maxL := 2) (ret := none) (by decide) rfl ?_
  intro p e s m args below meth c s₁ B hml hv
  obtain ⟨rfl, hsz, hP, hK⟩ := hv
  have hx := B.exec
  have hb := B.bytes
  have hr := B.returns
  have hts := atoms_spec (ws := .code y_L_init b_L_init 2 none :: wA) B.pre
  have hown : s.vm.findClass "LazySeries" = some m.cls := findClass_of_methodNamed B.named
  have hlocks := B.notSynchronized
  have hin : meth.name = "<init>" := (name_of_methodNamed B.named B.method).1
  subst hsz
  have hA : ∀ q : Nat, s.heap.size ≤ q → (fun q => q = h0 ∨ s.heap.size ≤ q) q := fun q h => Or.inr h
  have hS : va_S (fun q => q = h0 ∨ s.heap.size ≤ q) s.heap s.heap [] := va_S.rf
  have hD : va_D (fun q => q = h0 ∨ s.heap.size ≤ q) [(h0, .inr (0, [.null, .null, .null, .null, .null, .null, .null, .null, .null]))] := ⟨fun i j p q hi hj _ => by
    have := (List.getElem?_eq_some_iff.mp hi).1
    have := (List.getElem?_eq_some_iff.mp hj).1
    simp only [List.length_cons, List.length_nil] at *
    omega, fun k q hk => by
    have h1 := (List.getElem?_eq_some_iff.mp hk).1
    have h2 : k = 0 := by simp only [List.length_cons, List.length_nil] at h1; omega
    subst h2
    cases hk
    exact Or.inl rfl⟩
  have hl := lv_entry ([.ref h0]) (n := 2) (Nat.le_of_ble_eq_true rfl)
  rw [lg_entry_eq]
  generalize (lg_sl ([.ref h0]) ++ List.replicate (2 - (lg_sl ([.ref h0])).length) Slot.unset).toArray = ls at hl ⊢
  have hl : lv_has ls 2 [(0, .ref h0)] := hl
  refine lv_aload_n hx hb d_L_init_0 rfl (lv_at hl 0 rfl) ?_
  refine W.objInit hx hb hown (idx := 1) (hts (.methodLink "LazySeries" 1 objectInit) (List.mem_cons_of_mem _ (inA (List.mem_of_getElem? (i := 30) (by decide +kernel)) rfl))) (hts (.instanceMethod objectInit) (List.mem_cons_of_mem _ (inA (List.mem_of_getElem? (i := 31) (by decide +kernel)) rfl))) (hts (.code objectInit ⟨#[0xb1]⟩ 1 none) (List.mem_cons_of_mem _ (inA (List.mem_of_getElem? (i := 32) rfl) rfl))) rfl (by rw [hml]; exact hl.1) rfl d_L_init_1 (Nat.le_of_ble_eq_true rfl) (Nat.le_of_ble_eq_true rfl) ?_
  refine W.eq (g2 := F0 m 4 ls []) rfl ?_
  refine lv_aload_n hx hb d_L_init_4 rfl (lv_at hl 0 rfl) ?_
  refine lv_bipush (v := nI 8) hx hb d_L_init_5 (by decide) ?_
  refine va_newa (atype := .int) (ty := .int) (a0 := (8, .inl (fun _ => nI 0))) hx hb (hts (.arrayClass .int) (List.mem_cons_of_mem _ (inA (List.mem_of_getElem? (i := 61) (by decide +kernel)) rfl))) rfl hK hP hD hS hA (fun _ => rfl) (by decide) (N' := 8) (by decide) (by decide) (Nat.le_of_ble_eq_true rfl) (Nat.le_of_ble_eq_true rfl) d_L_init_7 (fun q0 cA0 H hK1 hP hD hS => ?_)
  have ec : cA0 = z false := Option.some.inj ((hK1.2 2 _ rfl).2.symm.trans (hK.2 0 _ rfl).2)
  subst ec
  have hP : va_P D classes [(h0, .inr (0, [.null, .null, .null, .null, .null, .null, .null, .null, .null])), (q0, .inl (z false, 8, .inl (fun _ => nI 0)))] H := hP
  have hD : va_D (fun q => q = h0 ∨ s.heap.size ≤ q) [(h0, .inr (0, [.null, .null, .null, .null, .null, .null, .null, .null, .null])), (q0, .inl (z false, 8, .inl (fun _ => nI 0)))] := hD
  refine W.widen (k := 1) (n := 8) (by omega) (by omega) ?_
  refine va_putF (D := D) (ci := 0) (v := .ref q0) (ty := .array .int) (C := R_L) (T := F_L) (N := 9) hx hb hts (fun w hw => List.mem_cons_of_mem _ (i_L w hw)) t_L t_L_ok n_L hown hK hP hD hS 0 rfl rfl 0 (by decide) (hts _ (List.mem_cons_of_mem _ (ff_L_0_l))) (fun _ h9 => h9) rfl hin rfl (by decide +kernel) rfl rfl (Nat.le_of_ble_eq_true rfl) d_L_init_9 (fun H locs hP hD hS => ?_)
  have hP : va_P D classes [(h0, .inr (0, [.ref q0, .null, .null, .null, .null, .null, .null, .null, .null])), (q0, .inl (z false, 8, .inl (fun _ => nI 0)))] H := hP
  have hD : va_D (fun q => q = h0 ∨ s.heap.size ≤ q) [(h0, .inr (0, [.ref q0, .null, .null, .null, .null, .null, .null, .null, .null])), (q0, .inl (z false, 8, .inl (fun _ => nI 0)))] := hD
  refine lv_aload_n hx hb d_L_init_12 rfl (lv_at hl 0 rfl) ?_
  refine lv_bipush (v := nI 8) hx hb d_L_init_13 (by decide) ?_
  refine va_newa (atype := .int) (ty := .int) (a0 := (8, .inl (fun _ => nI 0))) hx hb (hts (.arrayClass .int) (List.mem_cons_of_mem _ (inA (List.mem_of_getElem? (i := 61) (by decide +kernel)) rfl))) rfl hK hP hD hS hA (fun _ => rfl) (by decide) (N' := 8) (by decide) (by decide) (Nat.le_of_ble_eq_true rfl) (Nat.le_of_ble_eq_true rfl) d_L_init_15 (fun q1 cA1 H hK1 hP hD hS => ?_)
  have ec : cA1 = z false := Option.some.inj ((hK1.2 2 _ rfl).2.symm.trans (hK.2 0 _ rfl).2)
  subst ec
  have hP : va_P D classes [(h0, .inr (0, [.ref q0, .null, .null, .null, .null, .null, .null, .null, .null])), (q0, .inl (z false, 8, .inl (fun _ => nI 0))), (q1, .inl (z false, 8, .inl (fun _ => nI 0)))] H := hP
  have hD : va_D (fun q => q = h0 ∨ s.heap.size ≤ q) [(h0, .inr (0, [.ref q0, .null, .null, .null, .null, .null, .null, .null, .null])), (q0, .inl (z false, 8, .inl (fun _ => nI 0))), (q1, .inl (z false, 8, .inl (fun _ => nI 0)))] := hD
  refine W.widen (k := 2) (n := 16) (by omega) (by omega) ?_
  refine va_putF (D := D) (ci := 0) (v := .ref q1) (ty := .array .int) (C := R_L) (T := F_L) (N := 9) hx hb hts (fun w hw => List.mem_cons_of_mem _ (i_L w hw)) t_L t_L_ok n_L hown hK hP hD hS 0 rfl rfl 1 (by decide) (hts _ (List.mem_cons_of_mem _ (ff_L_1_l))) (fun _ h9 => h9) rfl hin rfl (by decide +kernel) rfl rfl (Nat.le_of_ble_eq_true rfl) d_L_init_17 (fun H locs hP hD hS => ?_)
  have hP : va_P D classes [(h0, .inr (0, [.ref q0, .ref q1, .null, .null, .null, .null, .null, .null, .null])), (q0, .inl (z false, 8, .inl (fun _ => nI 0))), (q1, .inl (z false, 8, .inl (fun _ => nI 0)))] H := hP
  have hD : va_D (fun q => q = h0 ∨ s.heap.size ≤ q) [(h0, .inr (0, [.ref q0, .ref q1, .null, .null, .null, .null, .null, .null, .null])), (q0, .inl (z false, 8, .inl (fun _ => nI 0))), (q1, .inl (z false, 8, .inl (fun _ => nI 0)))] := hD
  refine lv_aload_n hx hb d_L_init_20 rfl (lv_at hl 0 rfl) ?_
  refine lv_bipush (v := nI 8) hx hb d_L_init_21 (by decide) ?_
  refine va_newa (atype := .int) (ty := .int) (a0 := (8, .inl (fun _ => nI 0))) hx hb (hts (.arrayClass .int) (List.mem_cons_of_mem _ (inA (List.mem_of_getElem? (i := 61) (by decide +kernel)) rfl))) rfl hK hP hD hS hA (fun _ => rfl) (by decide) (N' := 8) (by decide) (by decide) (Nat.le_of_ble_eq_true rfl) (Nat.le_of_ble_eq_true rfl) d_L_init_23 (fun q2 cA2 H hK1 hP hD hS => ?_)
  have ec : cA2 = z false := Option.some.inj ((hK1.2 2 _ rfl).2.symm.trans (hK.2 0 _ rfl).2)
  subst ec
  have hP : va_P D classes [(h0, .inr (0, [.ref q0, .ref q1, .null, .null, .null, .null, .null, .null, .null])), (q0, .inl (z false, 8, .inl (fun _ => nI 0))), (q1, .inl (z false, 8, .inl (fun _ => nI 0))), (q2, .inl (z false, 8, .inl (fun _ => nI 0)))] H := hP
  have hD : va_D (fun q => q = h0 ∨ s.heap.size ≤ q) [(h0, .inr (0, [.ref q0, .ref q1, .null, .null, .null, .null, .null, .null, .null])), (q0, .inl (z false, 8, .inl (fun _ => nI 0))), (q1, .inl (z false, 8, .inl (fun _ => nI 0))), (q2, .inl (z false, 8, .inl (fun _ => nI 0)))] := hD
  refine W.widen (k := 3) (n := 24) (by omega) (by omega) ?_
  refine va_putF (D := D) (ci := 0) (v := .ref q2) (ty := .array .int) (C := R_L) (T := F_L) (N := 9) hx hb hts (fun w hw => List.mem_cons_of_mem _ (i_L w hw)) t_L t_L_ok n_L hown hK hP hD hS 0 rfl rfl 2 (by decide) (hts _ (List.mem_cons_of_mem _ (ff_L_2_l))) (fun _ h9 => h9) rfl hin rfl (by decide +kernel) rfl rfl (Nat.le_of_ble_eq_true rfl) d_L_init_25 (fun H locs hP hD hS => ?_)
  have hP : va_P D classes [(h0, .inr (0, [.ref q0, .ref q1, .ref q2, .null, .null, .null, .null, .null, .null])), (q0, .inl (z false, 8, .inl (fun _ => nI 0))), (q1, .inl (z false, 8, .inl (fun _ => nI 0))), (q2, .inl (z false, 8, .inl (fun _ => nI 0)))] H := hP
  have hD : va_D (fun q => q = h0 ∨ s.heap.size ≤ q) [(h0, .inr (0, [.ref q0, .ref q1, .ref q2, .null, .null, .null, .null, .null, .null])), (q0, .inl (z false, 8, .inl (fun _ => nI 0))), (q1, .inl (z false, 8, .inl (fun _ => nI 0))), (q2, .inl (z false, 8, .inl (fun _ => nI 0)))] := hD
  refine lv_aload_n hx hb d_L_init_28 rfl (lv_at hl 0 rfl) ?_
  refine lv_sipush (v := nI 128) hx hb d_L_init_29 (by decide) ?_
  refine va_newa (atype := .int) (ty := .int) (a0 := (128, .inl (fun _ => nI 0))) hx hb (hts (.arrayClass .int) (List.mem_cons_of_mem _ (inA (List.mem_of_getElem? (i := 61) (by decide +kernel)) rfl))) rfl hK hP hD hS hA (fun _ => rfl) (by decide) (N' := 128) (by decide) (by decide) (Nat.le_of_ble_eq_true rfl) (Nat.le_of_ble_eq_true rfl) d_L_init_32 (fun q3 cA3 H hK1 hP hD hS => ?_)
  have ec : cA3 = z false := Option.some.inj ((hK1.2 2 _ rfl).2.symm.trans (hK.2 0 _ rfl).2)
  subst ec
  have hP : va_P D classes [(h0, .inr (0, [.ref q0, .ref q1, .ref q2, .null, .null, .null, .null, .null, .null])), (q0, .inl (z false, 8, .inl (fun _ => nI 0))), (q1, .inl (z false, 8, .inl (fun _ => nI 0))), (q2, .inl (z false, 8, .inl (fun _ => nI 0))), (q3, .inl (z false, 128, .inl (fun _ => nI 0)))] H := hP
  have hD : va_D (fun q => q = h0 ∨ s.heap.size ≤ q) [(h0, .inr (0, [.ref q0, .ref q1, .ref q2, .null, .null, .null, .null, .null, .null])), (q0, .inl (z false, 8, .inl (fun _ => nI 0))), (q1, .inl (z false, 8, .inl (fun _ => nI 0))), (q2, .inl (z false, 8, .inl (fun _ => nI 0))), (q3, .inl (z false, 128, .inl (fun _ => nI 0)))] := hD
  refine W.widen (k := 4) (n := 152) (by omega) (by omega) ?_
  refine va_putF (D := D) (ci := 0) (v := .ref q3) (ty := .array .int) (C := R_L) (T := F_L) (N := 9) hx hb hts (fun w hw => List.mem_cons_of_mem _ (i_L w hw)) t_L t_L_ok n_L hown hK hP hD hS 0 rfl rfl 3 (by decide) (hts _ (List.mem_cons_of_mem _ (ff_L_3_l))) (fun _ h9 => h9) rfl hin rfl (by decide +kernel) rfl rfl (Nat.le_of_ble_eq_true rfl) d_L_init_34 (fun H locs hP hD hS => ?_)
  have hP : va_P D classes [(h0, .inr (0, [.ref q0, .ref q1, .ref q2, .ref q3, .null, .null, .null, .null, .null])), (q0, .inl (z false, 8, .inl (fun _ => nI 0))), (q1, .inl (z false, 8, .inl (fun _ => nI 0))), (q2, .inl (z false, 8, .inl (fun _ => nI 0))), (q3, .inl (z false, 128, .inl (fun _ => nI 0)))] H := hP
  have hD : va_D (fun q => q = h0 ∨ s.heap.size ≤ q) [(h0, .inr (0, [.ref q0, .ref q1, .ref q2, .ref q3, .null, .null, .null, .null, .null])), (q0, .inl (z false, 8, .inl (fun _ => nI 0))), (q1, .inl (z false, 8, .inl (fun _ => nI 0))), (q2, .inl (z false, 8, .inl (fun _ => nI 0))), (q3, .inl (z false, 128, .inl (fun _ => nI 0)))] := hD
  refine lv_aload_n hx hb d_L_init_37 rfl (lv_at hl 0 rfl) ?_
  refine lv_sipush (v := nI 128) hx hb d_L_init_38 (by decide) ?_
  refine va_newa (atype := .int) (ty := .int) (a0 := (128, .inl (fun _ => nI 0))) hx hb (hts (.arrayClass .int) (List.mem_cons_of_mem _ (inA (List.mem_of_getElem? (i := 61) (by decide +kernel)) rfl))) rfl hK hP hD hS hA (fun _ => rfl) (by decide) (N' := 128) (by decide) (by decide) (Nat.le_of_ble_eq_true rfl) (Nat.le_of_ble_eq_true rfl) d_L_init_41 (fun q4 cA4 H hK1 hP hD hS => ?_)
  have ec : cA4 = z false := Option.some.inj ((hK1.2 2 _ rfl).2.symm.trans (hK.2 0 _ rfl).2)
  subst ec
  have hP : va_P D classes [(h0, .inr (0, [.ref q0, .ref q1, .ref q2, .ref q3, .null, .null, .null, .null, .null])), (q0, .inl (z false, 8, .inl (fun _ => nI 0))), (q1, .inl (z false, 8, .inl (fun _ => nI 0))), (q2, .inl (z false, 8, .inl (fun _ => nI 0))), (q3, .inl (z false, 128, .inl (fun _ => nI 0))), (q4, .inl (z false, 128, .inl (fun _ => nI 0)))] H := hP
  have hD : va_D (fun q => q = h0 ∨ s.heap.size ≤ q) [(h0, .inr (0, [.ref q0, .ref q1, .ref q2, .ref q3, .null, .null, .null, .null, .null])), (q0, .inl (z false, 8, .inl (fun _ => nI 0))), (q1, .inl (z false, 8, .inl (fun _ => nI 0))), (q2, .inl (z false, 8, .inl (fun _ => nI 0))), (q3, .inl (z false, 128, .inl (fun _ => nI 0))), (q4, .inl (z false, 128, .inl (fun _ => nI 0)))] := hD
  refine W.widen (k := 5) (n := 280) (by omega) (by omega) ?_
  refine va_putF (D := D) (ci := 0) (v := .ref q4) (ty := .array .int) (C := R_L) (T := F_L) (N := 9) hx hb hts (fun w hw => List.mem_cons_of_mem _ (i_L w hw)) t_L t_L_ok n_L hown hK hP hD hS 0 rfl rfl 4 (by decide) (hts _ (List.mem_cons_of_mem _ (ff_L_4_l))) (fun _ h9 => h9) rfl hin rfl (by decide +kernel) rfl rfl (Nat.le_of_ble_eq_true rfl) d_L_init_43 (fun H locs hP hD hS => ?_)
  have hP : va_P D classes [(h0, .inr (0, [.ref q0, .ref q1, .ref q2, .ref q3, .ref q4, .null, .null, .null, .null])), (q0, .inl (z false, 8, .inl (fun _ => nI 0))), (q1, .inl (z false, 8, .inl (fun _ => nI 0))), (q2, .inl (z false, 8, .inl (fun _ => nI 0))), (q3, .inl (z false, 128, .inl (fun _ => nI 0))), (q4, .inl (z false, 128, .inl (fun _ => nI 0)))] H := hP
  have hD : va_D (fun q => q = h0 ∨ s.heap.size ≤ q) [(h0, .inr (0, [.ref q0, .ref q1, .ref q2, .ref q3, .ref q4, .null, .null, .null, .null])), (q0, .inl (z false, 8, .inl (fun _ => nI 0))), (q1, .inl (z false, 8, .inl (fun _ => nI 0))), (q2, .inl (z false, 8, .inl (fun _ => nI 0))), (q3, .inl (z false, 128, .inl (fun _ => nI 0))), (q4, .inl (z false, 128, .inl (fun _ => nI 0)))] := hD
  refine lv_aload_n hx hb d_L_init_46 rfl (lv_at hl 0 rfl) ?_
  refine lv_sipush (v := nI 128) hx hb d_L_init_47 (by decide) ?_
  refine va_newa (atype := .int) (ty := .int) (a0 := (128, .inl (fun _ => nI 0))) hx hb (hts (.arrayClass .int) (List.mem_cons_of_mem _ (inA (List.mem_of_getElem? (i := 61) (by decide +kernel)) rfl))) rfl hK hP hD hS hA (fun _ => rfl) (by decide) (N' := 128) (by decide) (by decide) (Nat.le_of_ble_eq_true rfl) (Nat.le_of_ble_eq_true rfl) d_L_init_50 (fun q5 cA5 H hK1 hP hD hS => ?_)
  have ec : cA5 = z false := Option.some.inj ((hK1.2 2 _ rfl).2.symm.trans (hK.2 0 _ rfl).2)
  subst ec
  have hP : va_P D classes [(h0, .inr (0, [.ref q0, .ref q1, .ref q2, .ref q3, .ref q4, .null, .null, .null, .null])), (q0, .inl (z false, 8, .inl (fun _ => nI 0))), (q1, .inl (z false, 8, .inl (fun _ => nI 0))), (q2, .inl (z false, 8, .inl (fun _ => nI 0))), (q3, .inl (z false, 128, .inl (fun _ => nI 0))), (q4, .inl (z false, 128, .inl (fun _ => nI 0))), (q5, .inl (z false, 128, .inl (fun _ => nI 0)))] H := hP
  have hD : va_D (fun q => q = h0 ∨ s.heap.size ≤ q) [(h0, .inr (0, [.ref q0, .ref q1, .ref q2, .ref q3, .ref q4, .null, .null, .null, .null])), (q0, .inl (z false, 8, .inl (fun _ => nI 0))), (q1, .inl (z false, 8, .inl (fun _ => nI 0))), (q2, .inl (z false, 8, .inl (fun _ => nI 0))), (q3, .inl (z false, 128, .inl (fun _ => nI 0))), (q4, .inl (z false, 128, .inl (fun _ => nI 0))), (q5, .inl (z false, 128, .inl (fun _ => nI 0)))] := hD
  refine W.widen (k := 6) (n := 408) (by omega) (by omega) ?_
  refine va_putF (D := D) (ci := 0) (v := .ref q5) (ty := .array .int) (C := R_L) (T := F_L) (N := 9) hx hb hts (fun w hw => List.mem_cons_of_mem _ (i_L w hw)) t_L t_L_ok n_L hown hK hP hD hS 0 rfl rfl 5 (by decide) (hts _ (List.mem_cons_of_mem _ (ff_L_5_l))) (fun _ h9 => h9) rfl hin rfl (by decide +kernel) rfl rfl (Nat.le_of_ble_eq_true rfl) d_L_init_52 (fun H locs hP hD hS => ?_)
  have hP : va_P D classes [(h0, .inr (0, [.ref q0, .ref q1, .ref q2, .ref q3, .ref q4, .ref q5, .null, .null, .null])), (q0, .inl (z false, 8, .inl (fun _ => nI 0))), (q1, .inl (z false, 8, .inl (fun _ => nI 0))), (q2, .inl (z false, 8, .inl (fun _ => nI 0))), (q3, .inl (z false, 128, .inl (fun _ => nI 0))), (q4, .inl (z false, 128, .inl (fun _ => nI 0))), (q5, .inl (z false, 128, .inl (fun _ => nI 0)))] H := hP
  have hD : va_D (fun q => q = h0 ∨ s.heap.size ≤ q) [(h0, .inr (0, [.ref q0, .ref q1, .ref q2, .ref q3, .ref q4, .ref q5, .null, .null, .null])), (q0, .inl (z false, 8, .inl (fun _ => nI 0))), (q1, .inl (z false, 8, .inl (fun _ => nI 0))), (q2, .inl (z false, 8, .inl (fun _ => nI 0))), (q3, .inl (z false, 128, .inl (fun _ => nI 0))), (q4, .inl (z false, 128, .inl (fun _ => nI 0))), (q5, .inl (z false, 128, .inl (fun _ => nI 0)))] := hD
  refine lv_aload_n hx hb d_L_init_55 rfl (lv_at hl 0 rfl) ?_
  refine lv_sipush (v := nI 128) hx hb d_L_init_56 (by decide) ?_
  refine va_newa (atype := .int) (ty := .int) (a0 := (128, .inl (fun _ => nI 0))) hx hb (hts (.arrayClass .int) (List.mem_cons_of_mem _ (inA (List.mem_of_getElem? (i := 61) (by decide +kernel)) rfl))) rfl hK hP hD hS hA (fun _ => rfl) (by decide) (N' := 128) (by decide) (by decide) (Nat.le_of_ble_eq_true rfl) (Nat.le_of_ble_eq_true rfl) d_L_init_59 (fun q6 cA6 H hK1 hP hD hS => ?_)
  have ec : cA6 = z false := Option.some.inj ((hK1.2 2 _ rfl).2.symm.trans (hK.2 0 _ rfl).2)
  subst ec
  have hP : va_P D classes [(h0, .inr (0, [.ref q0, .ref q1, .ref q2, .ref q3, .ref q4, .ref q5, .null, .null, .null])), (q0, .inl (z false, 8, .inl (fun _ => nI 0))), (q1, .inl (z false, 8, .inl (fun _ => nI 0))), (q2, .inl (z false, 8, .inl (fun _ => nI 0))), (q3, .inl (z false, 128, .inl (fun _ => nI 0))), (q4, .inl (z false, 128, .inl (fun _ => nI 0))), (q5, .inl (z false, 128, .inl (fun _ => nI 0))), (q6, .inl (z false, 128, .inl (fun _ => nI 0)))] H := hP
  have hD : va_D (fun q => q = h0 ∨ s.heap.size ≤ q) [(h0, .inr (0, [.ref q0, .ref q1, .ref q2, .ref q3, .ref q4, .ref q5, .null, .null, .null])), (q0, .inl (z false, 8, .inl (fun _ => nI 0))), (q1, .inl (z false, 8, .inl (fun _ => nI 0))), (q2, .inl (z false, 8, .inl (fun _ => nI 0))), (q3, .inl (z false, 128, .inl (fun _ => nI 0))), (q4, .inl (z false, 128, .inl (fun _ => nI 0))), (q5, .inl (z false, 128, .inl (fun _ => nI 0))), (q6, .inl (z false, 128, .inl (fun _ => nI 0)))] := hD
  refine W.widen (k := 7) (n := 536) (by omega) (by omega) ?_
  refine va_putF (D := D) (ci := 0) (v := .ref q6) (ty := .array .int) (C := R_L) (T := F_L) (N := 9) hx hb hts (fun w hw => List.mem_cons_of_mem _ (i_L w hw)) t_L t_L_ok n_L hown hK hP hD hS 0 rfl rfl 6 (by decide) (hts _ (List.mem_cons_of_mem _ (ff_L_6_l))) (fun _ h9 => h9) rfl hin rfl (by decide +kernel) rfl rfl (Nat.le_of_ble_eq_true rfl) d_L_init_61 (fun H locs hP hD hS => ?_)
  have hP : va_P D classes [(h0, .inr (0, [.ref q0, .ref q1, .ref q2, .ref q3, .ref q4, .ref q5, .ref q6, .null, .null])), (q0, .inl (z false, 8, .inl (fun _ => nI 0))), (q1, .inl (z false, 8, .inl (fun _ => nI 0))), (q2, .inl (z false, 8, .inl (fun _ => nI 0))), (q3, .inl (z false, 128, .inl (fun _ => nI 0))), (q4, .inl (z false, 128, .inl (fun _ => nI 0))), (q5, .inl (z false, 128, .inl (fun _ => nI 0))), (q6, .inl (z false, 128, .inl (fun _ => nI 0)))] H := hP
  have hD : va_D (fun q => q = h0 ∨ s.heap.size ≤ q) [(h0, .inr (0, [.ref q0, .ref q1, .ref q2, .ref q3, .ref q4, .ref q5, .ref q6, .null, .null])), (q0, .inl (z false, 8, .inl (fun _ => nI 0))), (q1, .inl (z false, 8, .inl (fun _ => nI 0))), (q2, .inl (z false, 8, .inl (fun _ => nI 0))), (q3, .inl (z false, 128, .inl (fun _ => nI 0))), (q4, .inl (z false, 128, .inl (fun _ => nI 0))), (q5, .inl (z false, 128, .inl (fun _ => nI 0))), (q6, .inl (z false, 128, .inl (fun _ => nI 0)))] := hD
  refine lv_aload_n hx hb d_L_init_64 rfl (lv_at hl 0 rfl) ?_
  refine lv_bipush (v := nI 16) hx hb d_L_init_65 (by decide) ?_
  refine va_newa (atype := .int) (ty := .int) (a0 := (16, .inl (fun _ => nI 0))) hx hb (hts (.arrayClass .int) (List.mem_cons_of_mem _ (inA (List.mem_of_getElem? (i := 61) (by decide +kernel)) rfl))) rfl hK hP hD hS hA (fun _ => rfl) (by decide) (N' := 16) (by decide) (by decide) (Nat.le_of_ble_eq_true rfl) (Nat.le_of_ble_eq_true rfl) d_L_init_67 (fun q7 cA7 H hK1 hP hD hS => ?_)
  have ec : cA7 = z false := Option.some.inj ((hK1.2 2 _ rfl).2.symm.trans (hK.2 0 _ rfl).2)
  subst ec
  have hP : va_P D classes [(h0, .inr (0, [.ref q0, .ref q1, .ref q2, .ref q3, .ref q4, .ref q5, .ref q6, .null, .null])), (q0, .inl (z false, 8, .inl (fun _ => nI 0))), (q1, .inl (z false, 8, .inl (fun _ => nI 0))), (q2, .inl (z false, 8, .inl (fun _ => nI 0))), (q3, .inl (z false, 128, .inl (fun _ => nI 0))), (q4, .inl (z false, 128, .inl (fun _ => nI 0))), (q5, .inl (z false, 128, .inl (fun _ => nI 0))), (q6, .inl (z false, 128, .inl (fun _ => nI 0))), (q7, .inl (z false, 16, .inl (fun _ => nI 0)))] H := hP
  have hD : va_D (fun q => q = h0 ∨ s.heap.size ≤ q) [(h0, .inr (0, [.ref q0, .ref q1, .ref q2, .ref q3, .ref q4, .ref q5, .ref q6, .null, .null])), (q0, .inl (z false, 8, .inl (fun _ => nI 0))), (q1, .inl (z false, 8, .inl (fun _ => nI 0))), (q2, .inl (z false, 8, .inl (fun _ => nI 0))), (q3, .inl (z false, 128, .inl (fun _ => nI 0))), (q4, .inl (z false, 128, .inl (fun _ => nI 0))), (q5, .inl (z false, 128, .inl (fun _ => nI 0))), (q6, .inl (z false, 128, .inl (fun _ => nI 0))), (q7, .inl (z false, 16, .inl (fun _ => nI 0)))] := hD
  refine W.widen (k := 8) (n := 552) (by omega) (by omega) ?_
  refine va_putF (D := D) (ci := 0) (v := .ref q7) (ty := .array .int) (C := R_L) (T := F_L) (N := 9) hx hb hts (fun w hw => List.mem_cons_of_mem _ (i_L w hw)) t_L t_L_ok n_L hown hK hP hD hS 0 rfl rfl 7 (by decide) (hts _ (List.mem_cons_of_mem _ (ff_L_7_l))) (fun _ h9 => h9) rfl hin rfl (by decide +kernel) rfl rfl (Nat.le_of_ble_eq_true rfl) d_L_init_69 (fun H locs hP hD hS => ?_)
  have hP : va_P D classes [(h0, .inr (0, [.ref q0, .ref q1, .ref q2, .ref q3, .ref q4, .ref q5, .ref q6, .ref q7, .null])), (q0, .inl (z false, 8, .inl (fun _ => nI 0))), (q1, .inl (z false, 8, .inl (fun _ => nI 0))), (q2, .inl (z false, 8, .inl (fun _ => nI 0))), (q3, .inl (z false, 128, .inl (fun _ => nI 0))), (q4, .inl (z false, 128, .inl (fun _ => nI 0))), (q5, .inl (z false, 128, .inl (fun _ => nI 0))), (q6, .inl (z false, 128, .inl (fun _ => nI 0))), (q7, .inl (z false, 16, .inl (fun _ => nI 0)))] H := hP
  have hD : va_D (fun q => q = h0 ∨ s.heap.size ≤ q) [(h0, .inr (0, [.ref q0, .ref q1, .ref q2, .ref q3, .ref q4, .ref q5, .ref q6, .ref q7, .null])), (q0, .inl (z false, 8, .inl (fun _ => nI 0))), (q1, .inl (z false, 8, .inl (fun _ => nI 0))), (q2, .inl (z false, 8, .inl (fun _ => nI 0))), (q3, .inl (z false, 128, .inl (fun _ => nI 0))), (q4, .inl (z false, 128, .inl (fun _ => nI 0))), (q5, .inl (z false, 128, .inl (fun _ => nI 0))), (q6, .inl (z false, 128, .inl (fun _ => nI 0))), (q7, .inl (z false, 16, .inl (fun _ => nI 0)))] := hD
  refine lv_aload_n hx hb d_L_init_72 rfl (lv_at hl 0 rfl) ?_
  refine lv_bipush (v := nI 97) hx hb d_L_init_73 (by decide) ?_
  refine va_newa (atype := .int) (ty := .int) (a0 := (97, .inl (fun _ => nI 0))) hx hb (hts (.arrayClass .int) (List.mem_cons_of_mem _ (inA (List.mem_of_getElem? (i := 61) (by decide +kernel)) rfl))) rfl hK hP hD hS hA (fun _ => rfl) (by decide) (N' := 97) (by decide) (by decide) (Nat.le_of_ble_eq_true rfl) (Nat.le_of_ble_eq_true rfl) d_L_init_75 (fun q8 cA8 H hK1 hP hD hS => ?_)
  have ec : cA8 = z false := Option.some.inj ((hK1.2 2 _ rfl).2.symm.trans (hK.2 0 _ rfl).2)
  subst ec
  have hP : va_P D classes [(h0, .inr (0, [.ref q0, .ref q1, .ref q2, .ref q3, .ref q4, .ref q5, .ref q6, .ref q7, .null])), (q0, .inl (z false, 8, .inl (fun _ => nI 0))), (q1, .inl (z false, 8, .inl (fun _ => nI 0))), (q2, .inl (z false, 8, .inl (fun _ => nI 0))), (q3, .inl (z false, 128, .inl (fun _ => nI 0))), (q4, .inl (z false, 128, .inl (fun _ => nI 0))), (q5, .inl (z false, 128, .inl (fun _ => nI 0))), (q6, .inl (z false, 128, .inl (fun _ => nI 0))), (q7, .inl (z false, 16, .inl (fun _ => nI 0))), (q8, .inl (z false, 97, .inl (fun _ => nI 0)))] H := hP
  have hD : va_D (fun q => q = h0 ∨ s.heap.size ≤ q) [(h0, .inr (0, [.ref q0, .ref q1, .ref q2, .ref q3, .ref q4, .ref q5, .ref q6, .ref q7, .null])), (q0, .inl (z false, 8, .inl (fun _ => nI 0))), (q1, .inl (z false, 8, .inl (fun _ => nI 0))), (q2, .inl (z false, 8, .inl (fun _ => nI 0))), (q3, .inl (z false, 128, .inl (fun _ => nI 0))), (q4, .inl (z false, 128, .inl (fun _ => nI 0))), (q5, .inl (z false, 128, .inl (fun _ => nI 0))), (q6, .inl (z false, 128, .inl (fun _ => nI 0))), (q7, .inl (z false, 16, .inl (fun _ => nI 0))), (q8, .inl (z false, 97, .inl (fun _ => nI 0)))] := hD
  refine W.widen (k := 9) (n := 649) (by omega) (by omega) ?_
  refine va_putF (D := D) (ci := 0) (v := .ref q8) (ty := .array .int) (C := R_L) (T := F_L) (N := 9) hx hb hts (fun w hw => List.mem_cons_of_mem _ (i_L w hw)) t_L t_L_ok n_L hown hK hP hD hS 0 rfl rfl 8 (by decide) (hts _ (List.mem_cons_of_mem _ (ff_L_8_l))) (fun _ h9 => h9) rfl hin rfl (by decide +kernel) rfl rfl (Nat.le_of_ble_eq_true rfl) d_L_init_77 (fun H locs hP hD hS => ?_)
  have hP : va_P D classes [(h0, .inr (0, [.ref q0, .ref q1, .ref q2, .ref q3, .ref q4, .ref q5, .ref q6, .ref q7, .ref q8])), (q0, .inl (z false, 8, .inl (fun _ => nI 0))), (q1, .inl (z false, 8, .inl (fun _ => nI 0))), (q2, .inl (z false, 8, .inl (fun _ => nI 0))), (q3, .inl (z false, 128, .inl (fun _ => nI 0))), (q4, .inl (z false, 128, .inl (fun _ => nI 0))), (q5, .inl (z false, 128, .inl (fun _ => nI 0))), (q6, .inl (z false, 128, .inl (fun _ => nI 0))), (q7, .inl (z false, 16, .inl (fun _ => nI 0))), (q8, .inl (z false, 97, .inl (fun _ => nI 0)))] H := hP
  have hD : va_D (fun q => q = h0 ∨ s.heap.size ≤ q) [(h0, .inr (0, [.ref q0, .ref q1, .ref q2, .ref q3, .ref q4, .ref q5, .ref q6, .ref q7, .ref q8])), (q0, .inl (z false, 8, .inl (fun _ => nI 0))), (q1, .inl (z false, 8, .inl (fun _ => nI 0))), (q2, .inl (z false, 8, .inl (fun _ => nI 0))), (q3, .inl (z false, 128, .inl (fun _ => nI 0))), (q4, .inl (z false, 128, .inl (fun _ => nI 0))), (q5, .inl (z false, 128, .inl (fun _ => nI 0))), (q6, .inl (z false, 128, .inl (fun _ => nI 0))), (q7, .inl (z false, 16, .inl (fun _ => nI 0))), (q8, .inl (z false, 97, .inl (fun _ => nI 0)))] := hD
  have hP : va_P D classes (wO z 0 h0 (fun k => ([q0, q1, q2, q3, q4, q5, q6, q7, q8] : List Nat).getD k 0) S0) H := hP
  have hD : va_D (fun q => q = h0 ∨ s.heap.size ≤ q) (wO z 0 h0 (fun k => ([q0, q1, q2, q3, q4, q5, q6, q7, q8] : List Nat).getD k 0) S0) := hD
  generalize (fun k => ([q0, q1, q2, q3, q4, q5, q6, q7, q8] : List Nat).getD k 0) = aa at hP hD
  obtain ⟨hap, hq⟩ := apart_of_D hD
  have hge : ∀ k, k < 9 → s.heap.size ≤ aa k := fun k hk => by
    rcases hq k hk with e | e
    · exact absurd e (hap.1 k hk)
    · exact e
  have hAO : ∀ q, AO 0 h0 aa s.heap.size q → q = h0 ∨ s.heap.size ≤ q := fun q hq => by
    rcases hq with e | ⟨k, hk, e⟩ | e
    · exact Or.inl e
    · exact Or.inr (by rw [e]; exact hge k hk)
    · exact Or.inr e
  have hOA : ∀ q, (q = h0 ∨ s.heap.size ≤ q) → AO 0 h0 aa s.heap.size q := fun q hq => by
    rcases hq with e | e
    · exact Or.inl e
    · exact Or.inr (Or.inr e)
  have hS2 : va_S (AO 0 h0 aa s.heap.size) s.heap H locs := ⟨hS.1, fun q h1 h2 => hS.2.1 q h1 (fun e => h2 (hOA q e)), fun q hq => hOA _ (hS.2.2 q hq)⟩
  refine L_init_tail (l := l) (R := { frames := 1, cells := 9, slots := 649, locals := 12 }) (h := h0) (a := aa) (cells := 9) (slots := 649) (Q := fun s1 s2 bl ar me => MQ bl (va_Qv (fun u : (Nat → Nat) × SG => apart 0 h0 u.1 ∧ (∀ k, k < 9 → s.heap.size ≤ u.1 k) ∧ InvL K0 K0 K0 u.2) (fun u t => va_P D classes (wO z 0 h0 u.1 u.2) t.heap) (fun q => q = h0 ∨ s.heap.size ≤ q)) ar s1 9 649 (fun q => q = h0 ∨ s.heap.size ≤ q)) ⟨p, e, s, m, _, below, meth, c, _, D, z, ⟨hx, hb, hml, hown, hts⟩, hK, hap, rfl⟩ ?_ H locs ls ⟨hP, hS2⟩ ⟨hl.1, hl.2.1, ?_⟩
  · intro σ lv hI H1 locs1 ls1 hw hl1
    have hS3 : va_S (fun q => q = h0 ∨ s.heap.size ≤ q) s.heap H1 locs1 := ⟨hw.2.1, fun q h1 h2 => hw.2.2.1 q h1 (fun e => h2 (hAO q e)), fun q hq => hAO _ (hw.2.2.2 q hq)⟩
    exact W.vret hx hb hr (fun t ht hW => ⟨⟨(aa, σ), rfl, ⟨hap, hge, hI⟩, by show va_P D classes (wO z 0 h0 aa σ) t.heap; rw [ht]; exact hw.1⟩, hS3.F ht⟩) hS3.2.2 d_L_init_127
  · intro i v hi
    have h1 := lk_mem hi
    simp only [List.mem_singleton] at h1
    cases h1
    exact ⟨lv_at hl 0 rfl, rfl⟩
set_option maxHeartbeats 4000000 in
set_option maxRecDepth 100000 in
/-- LazySeriesModel(): 8 new arrays of 440 places -/
theorem c_M_init (l : Launch) (D : va_G) (z : Bool → ClassId) (h0 sz : Nat) : Met l y_M_init (.code y_M_init b_M_init 1 none :: wA) ({ frames := 1, cells := 8, slots := 440, locals := 12 }) (va_Pc [.ref h0] (fun U => U.heap.size = sz ∧ va_P D classes [(h0, .inr (1, [.null, .null, .null, .null, .null, .null, .null, .null]))] U.heap ∧ va_K D classes (tz z) U)) (va_Qv (fun u : (Nat → Nat) × SG => apart 1 h0 u.1 ∧ (∀ k, k < 8 → sz ≤ u.1 k) ∧ InvM K0 K0 K0 u.2) (fun u t => va_P D classes (wO z 1 h0 u.1 u.2) t.heap) (fun q => q = h0 ∨ sz ≤ q)) 8 440 (fun q => q = h0 ∨ sz ≤ q) := by
  refine Met.ofW (cc := b_M_init) (maxL := 1) (ret := none) (by decide) rfl ?_
  intro p e s m args below meth c s₁ B hml hv
  obtain ⟨rfl, hsz, hP, hK⟩ := hv
  have hx := B.exec
  have hb := B.bytes
  have hr := B.returns
  have hts := atoms_spec (ws := .code y_M_init b_M_init 1 none :: wA) B.pre
  have hown : s.vm.findClass "LazySeriesModel" = some m.cls := findClass_of_methodNamed B.named
  have hlocks := B.notSynchronized
  have hin : meth.name = "<init>" := (name_of_methodNamed B.named B.method).1
  subst hsz
  have hA : ∀ q : Nat, s.heap.size ≤ q → (fun q => q = h0 ∨ s.heap.size ≤ q) q := fun q h => Or.inr h
  have hS : va_S (fun q => q = h0 ∨ s.heap.size ≤ q) s.heap s.heap [] := va_S.rf
  have hD : va_D (fun q => q = h0 ∨ s.heap.size ≤ q) [(h0, .inr (1, [.null, .null, .null, .null, .null, .null, .null, .null]))] := ⟨fun i j p q hi hj _ => by
    have := (List.getElem?_eq_some_iff.mp hi).1
    have := (List.getElem?_eq_some_iff.mp hj).1
    simp only [List.length_cons, List.length_nil] at *
    omega, fun k q hk => by
    have h1 := (List.getElem?_eq_some_iff.mp hk).1
    have h2 : k = 0 := by simp only [List.length_cons, List.length_nil] at h1; omega
    subst h2
    cases hk
    exact Or.inl rfl⟩
  have hl := lv_entry ([.ref h0]) (n := 1) (Nat.le_of_ble_eq_true rfl)
  rw [lg_entry_eq]
  generalize (lg_sl ([.ref h0]) ++ List.replicate (1 - (lg_sl ([.ref h0])).length) Slot.unset).toArray = ls at hl ⊢
  have hl : lv_has ls 1 [(0, .ref h0)] := hl
  refine lv_aload_n hx hb d_M_init_0 rfl (lv_at hl 0 rfl) ?_
  refine W.objInit hx hb hown (idx := 1) (hts (.methodLink "LazySeriesModel" 1 objectInit) (List.mem_cons_of_mem _ (inA (List.mem_of_getElem? (i := 145) (by decide +kernel)) rfl))) (hts (.instanceMethod objectInit) (List.mem_cons_of_mem _ (inA (List.mem_of_getElem? (i := 31) (by decide +kernel)) rfl))) (hts (.code objectInit ⟨#[0xb1]⟩ 1 none) (List.mem_cons_of_mem _ (inA (List.mem_of_getElem? (i := 32) rfl) rfl))) rfl (by rw [hml]; exact hl.1) rfl d_M_init_1 (Nat.le_of_ble_eq_true rfl) (Nat.le_of_ble_eq_true rfl) ?_
  refine W.eq (g2 := F0 m 4 ls []) rfl ?_
  refine lv_aload_n hx hb d_M_init_4 rfl (lv_at hl 0 rfl) ?_
  refine lv_bipush (v := nI 8) hx hb d_M_init_5 (by decide) ?_
  refine va_newa (atype := .int) (ty := .int) (a0 := (8, .inl (fun _ => nI 0))) hx hb (hts (.arrayClass .int) (List.mem_cons_of_mem _ (inA (List.mem_of_getElem? (i := 61) (by decide +kernel)) rfl))) rfl hK hP hD hS hA (fun _ => rfl) (by decide) (N' := 8) (by decide) (by decide) (Nat.le_of_ble_eq_true rfl) (Nat.le_of_ble_eq_true rfl) d_M_init_7 (fun q0 cA0 H hK1 hP hD hS => ?_)
  have ec : cA0 = z false := Option.some.inj ((hK1.2 2 _ rfl).2.symm.trans (hK.2 0 _ rfl).2)
  subst ec
  have hP : va_P D classes [(h0, .inr (1, [.null, .null, .null, .null, .null, .null, .null, .null])), (q0, .inl (z false, 8, .inl (fun _ => nI 0)))] H := hP
  have hD : va_D (fun q => q = h0 ∨ s.heap.size ≤ q) [(h0, .inr (1, [.null, .null, .null, .null, .null, .null, .null, .null])), (q0, .inl (z false, 8, .inl (fun _ => nI 0)))] := hD
  refine W.widen (k := 1) (n := 8) (by omega) (by omega) ?_
  refine va_put (D := D) (ci := 1) (v := .ref q0) (ty := .array .int) (C := R_M) (T := F_M) (N := 8) hx hb hts (fun w hw => List.mem_cons_of_mem _ (i_M w hw)) t_M t_M_ok n_M hown hK hP hD hS 0 rfl rfl 0 (by decide) (hts _ (List.mem_cons_of_mem _ (ff_M_0_l))) (fun _ h9 => h9) rfl (by decide +kernel) rfl rfl (Nat.le_of_ble_eq_true rfl) d_M_init_9 (fun H locs hP hD hS => ?_)
  have hP : va_P D classes [(h0, .inr (1, [.ref q0, .null, .null, .null, .null, .null, .null, .null])), (q0, .inl (z false, 8, .inl (fun _ => nI 0)))] H := hP
  have hD : va_D (fun q => q = h0 ∨ s.heap.size ≤ q) [(h0, .inr (1, [.ref q0, .null, .null, .null, .null, .null, .null, .null])), (q0, .inl (z false, 8, .inl (fun _ => nI 0)))] := hD
  refine lv_aload_n hx hb d_M_init_12 rfl (lv_at hl 0 rfl) ?_
  refine lv_bipush (v := nI 8) hx hb d_M_init_13 (by decide) ?_
  refine va_newa (atype := .int) (ty := .int) (a0 := (8, .inl (fun _ => nI 0))) hx hb (hts (.arrayClass .int) (List.mem_cons_of_mem _ (inA (List.mem_of_getElem? (i := 61) (by decide +kernel)) rfl))) rfl hK hP hD hS hA (fun _ => rfl) (by decide) (N' := 8) (by decide) (by decide) (Nat.le_of_ble_eq_true rfl) (Nat.le_of_ble_eq_true rfl) d_M_init_15 (fun q1 cA1 H hK1 hP hD hS => ?_)
  have ec : cA1 = z false := Option.some.inj ((hK1.2 2 _ rfl).2.symm.trans (hK.2 0 _ rfl).2)
  subst ec
  have hP : va_P D classes [(h0, .inr (1, [.ref q0, .null, .null, .null, .null, .null, .null, .null])), (q0, .inl (z false, 8, .inl (fun _ => nI 0))), (q1, .inl (z false, 8, .inl (fun _ => nI 0)))] H := hP
  have hD : va_D (fun q => q = h0 ∨ s.heap.size ≤ q) [(h0, .inr (1, [.ref q0, .null, .null, .null, .null, .null, .null, .null])), (q0, .inl (z false, 8, .inl (fun _ => nI 0))), (q1, .inl (z false, 8, .inl (fun _ => nI 0)))] := hD
  refine W.widen (k := 2) (n := 16) (by omega) (by omega) ?_
  refine va_put (D := D) (ci := 1) (v := .ref q1) (ty := .array .int) (C := R_M) (T := F_M) (N := 8) hx hb hts (fun w hw => List.mem_cons_of_mem _ (i_M w hw)) t_M t_M_ok n_M hown hK hP hD hS 0 rfl rfl 1 (by decide) (hts _ (List.mem_cons_of_mem _ (ff_M_1_l))) (fun _ h9 => h9) rfl (by decide +kernel) rfl rfl (Nat.le_of_ble_eq_true rfl) d_M_init_17 (fun H locs hP hD hS => ?_)
  have hP : va_P D classes [(h0, .inr (1, [.ref q0, .ref q1, .null, .null, .null, .null, .null, .null])), (q0, .inl (z false, 8, .inl (fun _ => nI 0))), (q1, .inl (z false, 8, .inl (fun _ => nI 0)))] H := hP
  have hD : va_D (fun q => q = h0 ∨ s.heap.size ≤ q) [(h0, .inr (1, [.ref q0, .ref q1, .null, .null, .null, .null, .null, .null])), (q0, .inl (z false, 8, .inl (fun _ => nI 0))), (q1, .inl (z false, 8, .inl (fun _ => nI 0)))] := hD
  refine lv_aload_n hx hb d_M_init_20 rfl (lv_at hl 0 rfl) ?_
  refine lv_bipush (v := nI 8) hx hb d_M_init_21 (by decide) ?_
  refine va_newa (atype := .int) (ty := .int) (a0 := (8, .inl (fun _ => nI 0))) hx hb (hts (.arrayClass .int) (List.mem_cons_of_mem _ (inA (List.mem_of_getElem? (i := 61) (by decide +kernel)) rfl))) rfl hK hP hD hS hA (fun _ => rfl) (by decide) (N' := 8) (by decide) (by decide) (Nat.le_of_ble_eq_true rfl) (Nat.le_of_ble_eq_true rfl) d_M_init_23 (fun q2 cA2 H hK1 hP hD hS => ?_)
  have ec : cA2 = z false := Option.some.inj ((hK1.2 2 _ rfl).2.symm.trans (hK.2 0 _ rfl).2)
  subst ec
  have hP : va_P D classes [(h0, .inr (1, [.ref q0, .ref q1, .null, .null, .null, .null, .null, .null])), (q0, .inl (z false, 8, .inl (fun _ => nI 0))), (q1, .inl (z false, 8, .inl (fun _ => nI 0))), (q2, .inl (z false, 8, .inl (fun _ => nI 0)))] H := hP
  have hD : va_D (fun q => q = h0 ∨ s.heap.size ≤ q) [(h0, .inr (1, [.ref q0, .ref q1, .null, .null, .null, .null, .null, .null])), (q0, .inl (z false, 8, .inl (fun _ => nI 0))), (q1, .inl (z false, 8, .inl (fun _ => nI 0))), (q2, .inl (z false, 8, .inl (fun _ => nI 0)))] := hD
  refine W.widen (k := 3) (n := 24) (by omega) (by omega) ?_
  refine va_put (D := D) (ci := 1) (v := .ref q2) (ty := .array .int) (C := R_M) (T := F_M) (N := 8) hx hb hts (fun w hw => List.mem_cons_of_mem _ (i_M w hw)) t_M t_M_ok n_M hown hK hP hD hS 0 rfl rfl 2 (by decide) (hts _ (List.mem_cons_of_mem _ (ff_M_2_l))) (fun _ h9 => h9) rfl (by decide +kernel) rfl rfl (Nat.le_of_ble_eq_true rfl) d_M_init_25 (fun H locs hP hD hS => ?_)
  have hP : va_P D classes [(h0, .inr (1, [.ref q0, .ref q1, .ref q2, .null, .null, .null, .null, .null])), (q0, .inl (z false, 8, .inl (fun _ => nI 0))), (q1, .inl (z false, 8, .inl (fun _ => nI 0))), (q2, .inl (z false, 8, .inl (fun _ => nI 0)))] H := hP
  have hD : va_D (fun q => q = h0 ∨ s.heap.size ≤ q) [(h0, .inr (1, [.ref q0, .ref q1, .ref q2, .null, .null, .null, .null, .null])), (q0, .inl (z false, 8, .inl (fun _ => nI 0))), (q1, .inl (z false, 8, .inl (fun _ => nI 0))), (q2, .inl (z false, 8, .inl (fun _ => nI 0)))] := hD
  refine lv_aload_n hx hb d_M_init_28 rfl (lv_at hl 0 rfl) ?_
  refine lv_sipush (v := nI 128) hx hb d_M_init_29 (by decide) ?_
  refine va_newa (atype := .boolean) (ty := .boolean) (a0 := (128, .inl (fun _ => nI 0))) hx hb (hts (.arrayClass .boolean) (List.mem_cons_of_mem _ (inA (List.mem_of_getElem? (i := 171) (by decide +kernel)) rfl))) rfl hK hP hD hS hA (fun _ => rfl) (by decide) (N' := 128) (by decide) (by decide) (Nat.le_of_ble_eq_true rfl) (Nat.le_of_ble_eq_true rfl) d_M_init_32 (fun q3 cA3 H hK1 hP hD hS => ?_)
  have ec : cA3 = z true := Option.some.inj ((hK1.2 2 _ rfl).2.symm.trans (hK.2 1 _ rfl).2)
  subst ec
  have hP : va_P D classes [(h0, .inr (1, [.ref q0, .ref q1, .ref q2, .null, .null, .null, .null, .null])), (q0, .inl (z false, 8, .inl (fun _ => nI 0))), (q1, .inl (z false, 8, .inl (fun _ => nI 0))), (q2, .inl (z false, 8, .inl (fun _ => nI 0))), (q3, .inl (z true, 128, .inl (fun _ => nI 0)))] H := hP
  have hD : va_D (fun q => q = h0 ∨ s.heap.size ≤ q) [(h0, .inr (1, [.ref q0, .ref q1, .ref q2, .null, .null, .null, .null, .null])), (q0, .inl (z false, 8, .inl (fun _ => nI 0))), (q1, .inl (z false, 8, .inl (fun _ => nI 0))), (q2, .inl (z false, 8, .inl (fun _ => nI 0))), (q3, .inl (z true, 128, .inl (fun _ => nI 0)))] := hD
  refine W.widen (k := 4) (n := 152) (by omega) (by omega) ?_
  refine va_put (D := D) (ci := 1) (v := .ref q3) (ty := .array .boolean) (C := R_M) (T := F_M) (N := 8) hx hb hts (fun w hw => List.mem_cons_of_mem _ (i_M w hw)) t_M t_M_ok n_M hown hK hP hD hS 0 rfl rfl 3 (by decide) (hts _ (List.mem_cons_of_mem _ (ff_M_3_l))) (fun _ h9 => h9) rfl (by decide +kernel) rfl rfl (Nat.le_of_ble_eq_true rfl) d_M_init_34 (fun H locs hP hD hS => ?_)
  have hP : va_P D classes [(h0, .inr (1, [.ref q0, .ref q1, .ref q2, .ref q3, .null, .null, .null, .null])), (q0, .inl (z false, 8, .inl (fun _ => nI 0))), (q1, .inl (z false, 8, .inl (fun _ => nI 0))), (q2, .inl (z false, 8, .inl (fun _ => nI 0))), (q3, .inl (z true, 128, .inl (fun _ => nI 0)))] H := hP
  have hD : va_D (fun q => q = h0 ∨ s.heap.size ≤ q) [(h0, .inr (1, [.ref q0, .ref q1, .ref q2, .ref q3, .null, .null, .null, .null])), (q0, .inl (z false, 8, .inl (fun _ => nI 0))), (q1, .inl (z false, 8, .inl (fun _ => nI 0))), (q2, .inl (z false, 8, .inl (fun _ => nI 0))), (q3, .inl (z true, 128, .inl (fun _ => nI 0)))] := hD
  refine lv_aload_n hx hb d_M_init_37 rfl (lv_at hl 0 rfl) ?_
  refine lv_sipush (v := nI 128) hx hb d_M_init_38 (by decide) ?_
  refine va_newa (atype := .int) (ty := .int) (a0 := (128, .inl (fun _ => nI 0))) hx hb (hts (.arrayClass .int) (List.mem_cons_of_mem _ (inA (List.mem_of_getElem? (i := 61) (by decide +kernel)) rfl))) rfl hK hP hD hS hA (fun _ => rfl) (by decide) (N' := 128) (by decide) (by decide) (Nat.le_of_ble_eq_true rfl) (Nat.le_of_ble_eq_true rfl) d_M_init_41 (fun q4 cA4 H hK1 hP hD hS => ?_)
  have ec : cA4 = z false := Option.some.inj ((hK1.2 2 _ rfl).2.symm.trans (hK.2 0 _ rfl).2)
  subst ec
  have hP : va_P D classes [(h0, .inr (1, [.ref q0, .ref q1, .ref q2, .ref q3, .null, .null, .null, .null])), (q0, .inl (z false, 8, .inl (fun _ => nI 0))), (q1, .inl (z false, 8, .inl (fun _ => nI 0))), (q2, .inl (z false, 8, .inl (fun _ => nI 0))), (q3, .inl (z true, 128, .inl (fun _ => nI 0))), (q4, .inl (z false, 128, .inl (fun _ => nI 0)))] H := hP
  have hD : va_D (fun q => q = h0 ∨ s.heap.size ≤ q) [(h0, .inr (1, [.ref q0, .ref q1, .ref q2, .ref q3, .null, .null, .null, .null])), (q0, .inl (z false, 8, .inl (fun _ => nI 0))), (q1, .inl (z false, 8, .inl (fun _ => nI 0))), (q2, .inl (z false, 8, .inl (fun _ => nI 0))), (q3, .inl (z true, 128, .inl (fun _ => nI 0))), (q4, .inl (z false, 128, .inl (fun _ => nI 0)))] := hD
  refine W.widen (k := 5) (n := 280) (by omega) (by omega) ?_
  refine va_put (D := D) (ci := 1) (v := .ref q4) (ty := .array .int) (C := R_M) (T := F_M) (N := 8) hx hb hts (fun w hw => List.mem_cons_of_mem _ (i_M w hw)) t_M t_M_ok n_M hown hK hP hD hS 0 rfl rfl 4 (by decide) (hts _ (List.mem_cons_of_mem _ (ff_M_4_l))) (fun _ h9 => h9) rfl (by decide +kernel) rfl rfl (Nat.le_of_ble_eq_true rfl) d_M_init_43 (fun H locs hP hD hS => ?_)
  have hP : va_P D classes [(h0, .inr (1, [.ref q0, .ref q1, .ref q2, .ref q3, .ref q4, .null, .null, .null])), (q0, .inl (z false, 8, .inl (fun _ => nI 0))), (q1, .inl (z false, 8, .inl (fun _ => nI 0))), (q2, .inl (z false, 8, .inl (fun _ => nI 0))), (q3, .inl (z true, 128, .inl (fun _ => nI 0))), (q4, .inl (z false, 128, .inl (fun _ => nI 0)))] H := hP
  have hD : va_D (fun q => q = h0 ∨ s.heap.size ≤ q) [(h0, .inr (1, [.ref q0, .ref q1, .ref q2, .ref q3, .ref q4, .null, .null, .null])), (q0, .inl (z false, 8, .inl (fun _ => nI 0))), (q1, .inl (z false, 8, .inl (fun _ => nI 0))), (q2, .inl (z false, 8, .inl (fun _ => nI 0))), (q3, .inl (z true, 128, .inl (fun _ => nI 0))), (q4, .inl (z false, 128, .inl (fun _ => nI 0)))] := hD
  refine lv_aload_n hx hb d_M_init_46 rfl (lv_at hl 0 rfl) ?_
  refine lv_sipush (v := nI 128) hx hb d_M_init_47 (by decide) ?_
  refine va_newa (atype := .boolean) (ty := .boolean) (a0 := (128, .inl (fun _ => nI 0))) hx hb (hts (.arrayClass .boolean) (List.mem_cons_of_mem _ (inA (List.mem_of_getElem? (i := 171) (by decide +kernel)) rfl))) rfl hK hP hD hS hA (fun _ => rfl) (by decide) (N' := 128) (by decide) (by decide) (Nat.le_of_ble_eq_true rfl) (Nat.le_of_ble_eq_true rfl) d_M_init_50 (fun q5 cA5 H hK1 hP hD hS => ?_)
  have ec : cA5 = z true := Option.some.inj ((hK1.2 2 _ rfl).2.symm.trans (hK.2 1 _ rfl).2)
  subst ec
  have hP : va_P D classes [(h0, .inr (1, [.ref q0, .ref q1, .ref q2, .ref q3, .ref q4, .null, .null, .null])), (q0, .inl (z false, 8, .inl (fun _ => nI 0))), (q1, .inl (z false, 8, .inl (fun _ => nI 0))), (q2, .inl (z false, 8, .inl (fun _ => nI 0))), (q3, .inl (z true, 128, .inl (fun _ => nI 0))), (q4, .inl (z false, 128, .inl (fun _ => nI 0))), (q5, .inl (z true, 128, .inl (fun _ => nI 0)))] H := hP
  have hD : va_D (fun q => q = h0 ∨ s.heap.size ≤ q) [(h0, .inr (1, [.ref q0, .ref q1, .ref q2, .ref q3, .ref q4, .null, .null, .null])), (q0, .inl (z false, 8, .inl (fun _ => nI 0))), (q1, .inl (z false, 8, .inl (fun _ => nI 0))), (q2, .inl (z false, 8, .inl (fun _ => nI 0))), (q3, .inl (z true, 128, .inl (fun _ => nI 0))), (q4, .inl (z false, 128, .inl (fun _ => nI 0))), (q5, .inl (z true, 128, .inl (fun _ => nI 0)))] := hD
  refine W.widen (k := 6) (n := 408) (by omega) (by omega) ?_
  refine va_put (D := D) (ci := 1) (v := .ref q5) (ty := .array .boolean) (C := R_M) (T := F_M) (N := 8) hx hb hts (fun w hw => List.mem_cons_of_mem _ (i_M w hw)) t_M t_M_ok n_M hown hK hP hD hS 0 rfl rfl 5 (by decide) (hts _ (List.mem_cons_of_mem _ (ff_M_5_l))) (fun _ h9 => h9) rfl (by decide +kernel) rfl rfl (Nat.le_of_ble_eq_true rfl) d_M_init_52 (fun H locs hP hD hS => ?_)
  have hP : va_P D classes [(h0, .inr (1, [.ref q0, .ref q1, .ref q2, .ref q3, .ref q4, .ref q5, .null, .null])), (q0, .inl (z false, 8, .inl (fun _ => nI 0))), (q1, .inl (z false, 8, .inl (fun _ => nI 0))), (q2, .inl (z false, 8, .inl (fun _ => nI 0))), (q3, .inl (z true, 128, .inl (fun _ => nI 0))), (q4, .inl (z false, 128, .inl (fun _ => nI 0))), (q5, .inl (z true, 128, .inl (fun _ => nI 0)))] H := hP
  have hD : va_D (fun q => q = h0 ∨ s.heap.size ≤ q) [(h0, .inr (1, [.ref q0, .ref q1, .ref q2, .ref q3, .ref q4, .ref q5, .null, .null])), (q0, .inl (z false, 8, .inl (fun _ => nI 0))), (q1, .inl (z false, 8, .inl (fun _ => nI 0))), (q2, .inl (z false, 8, .inl (fun _ => nI 0))), (q3, .inl (z true, 128, .inl (fun _ => nI 0))), (q4, .inl (z false, 128, .inl (fun _ => nI 0))), (q5, .inl (z true, 128, .inl (fun _ => nI 0)))] := hD
  refine lv_aload_n hx hb d_M_init_55 rfl (lv_at hl 0 rfl) ?_
  refine lv_bipush (v := nI 16) hx hb d_M_init_56 (by decide) ?_
  refine va_newa (atype := .int) (ty := .int) (a0 := (16, .inl (fun _ => nI 0))) hx hb (hts (.arrayClass .int) (List.mem_cons_of_mem _ (inA (List.mem_of_getElem? (i := 61) (by decide +kernel)) rfl))) rfl hK hP hD hS hA (fun _ => rfl) (by decide) (N' := 16) (by decide) (by decide) (Nat.le_of_ble_eq_true rfl) (Nat.le_of_ble_eq_true rfl) d_M_init_58 (fun q6 cA6 H hK1 hP hD hS => ?_)
  have ec : cA6 = z false := Option.some.inj ((hK1.2 2 _ rfl).2.symm.trans (hK.2 0 _ rfl).2)
  subst ec
  have hP : va_P D classes [(h0, .inr (1, [.ref q0, .ref q1, .ref q2, .ref q3, .ref q4, .ref q5, .null, .null])), (q0, .inl (z false, 8, .inl (fun _ => nI 0))), (q1, .inl (z false, 8, .inl (fun _ => nI 0))), (q2, .inl (z false, 8, .inl (fun _ => nI 0))), (q3, .inl (z true, 128, .inl (fun _ => nI 0))), (q4, .inl (z false, 128, .inl (fun _ => nI 0))), (q5, .inl (z true, 128, .inl (fun _ => nI 0))), (q6, .inl (z false, 16, .inl (fun _ => nI 0)))] H := hP
  have hD : va_D (fun q => q = h0 ∨ s.heap.size ≤ q) [(h0, .inr (1, [.ref q0, .ref q1, .ref q2, .ref q3, .ref q4, .ref q5, .null, .null])), (q0, .inl (z false, 8, .inl (fun _ => nI 0))), (q1, .inl (z false, 8, .inl (fun _ => nI 0))), (q2, .inl (z false, 8, .inl (fun _ => nI 0))), (q3, .inl (z true, 128, .inl (fun _ => nI 0))), (q4, .inl (z false, 128, .inl (fun _ => nI 0))), (q5, .inl (z true, 128, .inl (fun _ => nI 0))), (q6, .inl (z false, 16, .inl (fun _ => nI 0)))] := hD
  refine W.widen (k := 7) (n := 424) (by omega) (by omega) ?_
  refine va_put (D := D) (ci := 1) (v := .ref q6) (ty := .array .int) (C := R_M) (T := F_M) (N := 8) hx hb hts (fun w hw => List.mem_cons_of_mem _ (i_M w hw)) t_M t_M_ok n_M hown hK hP hD hS 0 rfl rfl 6 (by decide) (hts _ (List.mem_cons_of_mem _ (ff_M_6_l))) (fun _ h9 => h9) rfl (by decide +kernel) rfl rfl (Nat.le_of_ble_eq_true rfl) d_M_init_60 (fun H locs hP hD hS => ?_)
  have hP : va_P D classes [(h0, .inr (1, [.ref q0, .ref q1, .ref q2, .ref q3, .ref q4, .ref q5, .ref q6, .null])), (q0, .inl (z false, 8, .inl (fun _ => nI 0))), (q1, .inl (z false, 8, .inl (fun _ => nI 0))), (q2, .inl (z false, 8, .inl (fun _ => nI 0))), (q3, .inl (z true, 128, .inl (fun _ => nI 0))), (q4, .inl (z false, 128, .inl (fun _ => nI 0))), (q5, .inl (z true, 128, .inl (fun _ => nI 0))), (q6, .inl (z false, 16, .inl (fun _ => nI 0)))] H := hP
  have hD : va_D (fun q => q = h0 ∨ s.heap.size ≤ q) [(h0, .inr (1, [.ref q0, .ref q1, .ref q2, .ref q3, .ref q4, .ref q5, .ref q6, .null])), (q0, .inl (z false, 8, .inl (fun _ => nI 0))), (q1, .inl (z false, 8, .inl (fun _ => nI 0))), (q2, .inl (z false, 8, .inl (fun _ => nI 0))), (q3, .inl (z true, 128, .inl (fun _ => nI 0))), (q4, .inl (z false, 128, .inl (fun _ => nI 0))), (q5, .inl (z true, 128, .inl (fun _ => nI 0))), (q6, .inl (z false, 16, .inl (fun _ => nI 0)))] := hD
  refine lv_aload_n hx hb d_M_init_63 rfl (lv_at hl 0 rfl) ?_
  refine lv_bipush (v := nI 16) hx hb d_M_init_64 (by decide) ?_
  refine va_newa (atype := .int) (ty := .int) (a0 := (16, .inl (fun _ => nI 0))) hx hb (hts (.arrayClass .int) (List.mem_cons_of_mem _ (inA (List.mem_of_getElem? (i := 61) (by decide +kernel)) rfl))) rfl hK hP hD hS hA (fun _ => rfl) (by decide) (N' := 16) (by decide) (by decide) (Nat.le_of_ble_eq_true rfl) (Nat.le_of_ble_eq_true rfl) d_M_init_66 (fun q7 cA7 H hK1 hP hD hS => ?_)
  have ec : cA7 = z false := Option.some.inj ((hK1.2 2 _ rfl).2.symm.trans (hK.2 0 _ rfl).2)
  subst ec
  have hP : va_P D classes [(h0, .inr (1, [.ref q0, .ref q1, .ref q2, .ref q3, .ref q4, .ref q5, .ref q6, .null])), (q0, .inl (z false, 8, .inl (fun _ => nI 0))), (q1, .inl (z false, 8, .inl (fun _ => nI 0))), (q2, .inl (z false, 8, .inl (fun _ => nI 0))), (q3, .inl (z true, 128, .inl (fun _ => nI 0))), (q4, .inl (z false, 128, .inl (fun _ => nI 0))), (q5, .inl (z true, 128, .inl (fun _ => nI 0))), (q6, .inl (z false, 16, .inl (fun _ => nI 0))), (q7, .inl (z false, 16, .inl (fun _ => nI 0)))] H := hP
  have hD : va_D (fun q => q = h0 ∨ s.heap.size ≤ q) [(h0, .inr (1, [.ref q0, .ref q1, .ref q2, .ref q3, .ref q4, .ref q5, .ref q6, .null])), (q0, .inl (z false, 8, .inl (fun _ => nI 0))), (q1, .inl (z false, 8, .inl (fun _ => nI 0))), (q2, .inl (z false, 8, .inl (fun _ => nI 0))), (q3, .inl (z true, 128, .inl (fun _ => nI 0))), (q4, .inl (z false, 128, .inl (fun _ => nI 0))), (q5, .inl (z true, 128, .inl (fun _ => nI 0))), (q6, .inl (z false, 16, .inl (fun _ => nI 0))), (q7, .inl (z false, 16, .inl (fun _ => nI 0)))] := hD
  refine W.widen (k := 8) (n := 440) (by omega) (by omega) ?_
  refine va_put (D := D) (ci := 1) (v := .ref q7) (ty := .array .int) (C := R_M) (T := F_M) (N := 8) hx hb hts (fun w hw => List.mem_cons_of_mem _ (i_M w hw)) t_M t_M_ok n_M hown hK hP hD hS 0 rfl rfl 7 (by decide) (hts _ (List.mem_cons_of_mem _ (ff_M_7_l))) (fun _ h9 => h9) rfl (by decide +kernel) rfl rfl (Nat.le_of_ble_eq_true rfl) d_M_init_68 (fun H locs hP hD hS => ?_)
  have hP : va_P D classes [(h0, .inr (1, [.ref q0, .ref q1, .ref q2, .ref q3, .ref q4, .ref q5, .ref q6, .ref q7])), (q0, .inl (z false, 8, .inl (fun _ => nI 0))), (q1, .inl (z false, 8, .inl (fun _ => nI 0))), (q2, .inl (z false, 8, .inl (fun _ => nI 0))), (q3, .inl (z true, 128, .inl (fun _ => nI 0))), (q4, .inl (z false, 128, .inl (fun _ => nI 0))), (q5, .inl (z true, 128, .inl (fun _ => nI 0))), (q6, .inl (z false, 16, .inl (fun _ => nI 0))), (q7, .inl (z false, 16, .inl (fun _ => nI 0)))] H := hP
  have hD : va_D (fun q => q = h0 ∨ s.heap.size ≤ q) [(h0, .inr (1, [.ref q0, .ref q1, .ref q2, .ref q3, .ref q4, .ref q5, .ref q6, .ref q7])), (q0, .inl (z false, 8, .inl (fun _ => nI 0))), (q1, .inl (z false, 8, .inl (fun _ => nI 0))), (q2, .inl (z false, 8, .inl (fun _ => nI 0))), (q3, .inl (z true, 128, .inl (fun _ => nI 0))), (q4, .inl (z false, 128, .inl (fun _ => nI 0))), (q5, .inl (z true, 128, .inl (fun _ => nI 0))), (q6, .inl (z false, 16, .inl (fun _ => nI 0))), (q7, .inl (z false, 16, .inl (fun _ => nI 0)))] := hD
  have hP : va_P D classes (wO z 1 h0 (fun k => ([q0, q1, q2, q3, q4, q5, q6, q7] : List Nat).getD k 0) S0) H := hP
  have hD : va_D (fun q => q = h0 ∨ s.heap.size ≤ q) (wO z 1 h0 (fun k => ([q0, q1, q2, q3, q4, q5, q6, q7] : List Nat).getD k 0) S0) := hD
  generalize (fun k => ([q0, q1, q2, q3, q4, q5, q6, q7] : List Nat).getD k 0) = aa at hP hD
  obtain ⟨hap, hq⟩ := apart_of_D hD
  have hge : ∀ k, k < 8 → s.heap.size ≤ aa k := fun k hk => by
    rcases hq k hk with e | e
    · exact absurd e (hap.1 k hk)
    · exact e
  exact W.vret hx hb hr (fun t ht hW => ⟨⟨(aa, S0), rfl, ⟨hap, hge, InvM_0⟩, by show va_P D classes (wO z 1 h0 aa S0) t.heap; rw [ht]; exact hP⟩, hS.F ht⟩) hS.2.2 d_M_init_71
end
section
/-! THE CLAIM OUT OF ONE WALK OF THE LAW'S BODY. Your part is whole_start (and what it stands on); all else here is the same for every law, but numbers. -/
def R_law : String := "LazySeriesLaw"
def lw_P (b : Addr) (xs : List Int32) (args : Array Value) (s : State) : Prop := args = #[.ref b] ∧ s.IntsAt b xs ∧ xs.length ≤ 2560 ∧ (Jvm.Cond.and given_1 narrow_1).before args s = true
def lw_Q (_ : Array Value) (s : State) (o : Outcome) (t : State) : Prop := o = .returned (some (.int 1)) ∧ Framed s o t [] 19 1106
def lw_Z (below : List Frame) (a : Array Value) (s : State) : State → Prop := fun t => ∃ o, t.status = .running ∧ Ended t below o ∧ lw_Q a s o t
/-- the law's own end, with 1 on the stack, nothing written that was there before, its room as the claim has it -/
theorem lw_ret {p : Program} {l : Launch} {e : Env} {s : State} {m : MethodId} {below : List Frame} {meth : Method} {c : Code} {b : Nat} (hx : p.tables.exec = Jvm.exec) (hb : c.code = code) (hr : meth.sig.returnType = ret) (hlocks : meth.locks = false) {pc : Nat} {H : Heap} {ls : Array Slot} (hdg : decode code pc = .ok (.ireturn, 1)) : W p l e room_1 s m #[Value.ref b] below meth c H [] 19 1106 (lw_Z below #[Value.ref b] s) (F0 m pc ls [.int 1]) := by
  intro T hT X
  obtain ⟨fs, hret, hrun, hended, hW, hframe⟩ := X.leave (v := some (.int 1)) (hlocks := hlocks) (fun h => by rw [hr] at h; cases h)
  have hmeth' : T.vm.method? m = some meth := X.method'
  refine ⟨T.setFrames fs, ?_, .returned (some (.int 1)), hrun, hended, rfl, ⟨_, rfl⟩, hW, hframe⟩
  jvm_step X.here [X.here.top, hx, hb, hdg, hmeth', hr, ret, narrow_b1]
  (try refine ⟨rfl, ?_⟩); (try refine ⟨rfl, ?_⟩)
  first | (intro acts; rw [hret _ acts rfl rfl rfl]) | rw [hret _ _ rfl rfl rfl]
  exact Steps.refl _
/-- what holds at the law's entry: the machine, the code, the tables' words (any of lw_tbl by 'hts w (by decide +kernel)'), the script of L ints xs at the cell b, what the Statement gives of the start (any of its parts by flat_of_before) -/
def lw_At (p : Program) (s : State) (m : MethodId) (meth : Method) (c : Code) (b L : Nat) (xs : Nat → Int32) : Prop :=
  p.tables.exec = Jvm.exec ∧ c.code = code ∧ meth.sig.returnType = ret ∧ c.maxLocals = 4 ∧ s.vm.findClass R_law = some m.cls ∧ (∀ w ∈ lw_tbl, w.before #[Value.ref b] s = true) ∧ va_X b L xs s s.heap ∧ b < s.heap.size ∧ meth.locks = false ∧ (Jvm.Cond.and given_1 narrow_1).before #[Value.ref b] s = true

theorem d_law_0 : decode code 0 = .ok (.new 7, 3) := by decide +kernel
theorem d_law_3 : decode code 3 = .ok (.dup, 1) := by decide +kernel
theorem d_law_4 : decode code 4 = .ok (.invokespecial 9, 3) := by decide +kernel
theorem d_law_7 : decode code 7 = .ok (.astore_n 1, 1) := by decide +kernel
theorem d_law_8 : decode code 8 = .ok (.new 10, 3) := by decide +kernel
theorem d_law_11 : decode code 11 = .ok (.dup, 1) := by decide +kernel
theorem d_law_12 : decode code 12 = .ok (.invokespecial 12, 3) := by decide +kernel
theorem d_law_15 : decode code 15 = .ok (.astore_n 2, 1) := by decide +kernel
theorem d_law_16 : decode code 16 = .ok (.iconst 0, 1) := by decide +kernel
theorem d_law_17 : decode code 17 = .ok (.istore_n 3, 1) := by decide +kernel
theorem d_law_18 : decode code 18 = .ok (.iload_n 3, 1) := by decide +kernel
theorem d_law_19 : decode code 19 = .ok (.aload_n 0, 1) := by decide +kernel
theorem d_law_20 : decode code 20 = .ok (.arraylength, 1) := by decide +kernel
theorem d_law_21 : decode code 21 = .ok (.iconst 5, 1) := by decide +kernel
theorem d_law_22 : decode code 22 = .ok (.isub, 1) := by decide +kernel
theorem d_law_23 : decode code 23 = .ok (.if_icmp .gt 401, 3) := by decide +kernel
theorem d_law_26 : decode code 26 = .ok (.aload_n 0, 1) := by decide +kernel
theorem d_law_27 : decode code 27 = .ok (.iload_n 3, 1) := by decide +kernel
theorem d_law_28 : decode code 28 = .ok (.iaload, 1) := by decide +kernel
theorem d_law_29 : decode code 29 = .ok (.bipush 15, 2) := by decide +kernel
theorem d_law_31 : decode code 31 = .ok (.iand, 1) := by decide +kernel
theorem d_law_32 : decode code 32 = .ok (.tableswitch 386 0 9 #[56, 109, 132, 165, 188, 211, 234, 267, 310, 353], 56) := by decide +kernel
theorem d_law_88 : decode code 88 = .ok (.aload_n 1, 1) := by decide +kernel
theorem d_law_89 : decode code 89 = .ok (.aload_n 0, 1) := by decide +kernel
theorem d_law_90 : decode code 90 = .ok (.iload_n 3, 1) := by decide +kernel
theorem d_law_91 : decode code 91 = .ok (.iconst 1, 1) := by decide +kernel
theorem d_law_92 : decode code 92 = .ok (.iadd, 1) := by decide +kernel
theorem d_law_93 : decode code 93 = .ok (.iaload, 1) := by decide +kernel
theorem d_law_94 : decode code 94 = .ok (.aload_n 0, 1) := by decide +kernel
theorem d_law_95 : decode code 95 = .ok (.iload_n 3, 1) := by decide +kernel
theorem d_law_96 : decode code 96 = .ok (.iconst 2, 1) := by decide +kernel
theorem d_law_97 : decode code 97 = .ok (.iadd, 1) := by decide +kernel
theorem d_law_98 : decode code 98 = .ok (.iaload, 1) := by decide +kernel
theorem d_law_99 : decode code 99 = .ok (.aload_n 0, 1) := by decide +kernel
theorem d_law_100 : decode code 100 = .ok (.iload_n 3, 1) := by decide +kernel
theorem d_law_101 : decode code 101 = .ok (.iconst 3, 1) := by decide +kernel
theorem d_law_102 : decode code 102 = .ok (.iadd, 1) := by decide +kernel
theorem d_law_103 : decode code 103 = .ok (.iaload, 1) := by decide +kernel
theorem d_law_104 : decode code 104 = .ok (.aload_n 0, 1) := by decide +kernel
theorem d_law_105 : decode code 105 = .ok (.iload_n 3, 1) := by decide +kernel
theorem d_law_106 : decode code 106 = .ok (.iconst 4, 1) := by decide +kernel
theorem d_law_107 : decode code 107 = .ok (.iadd, 1) := by decide +kernel
theorem d_law_108 : decode code 108 = .ok (.iaload, 1) := by decide +kernel
theorem d_law_109 : decode code 109 = .ok (.invokevirtual 13, 3) := by decide +kernel
theorem d_law_112 : decode code 112 = .ok (.aload_n 2, 1) := by decide +kernel
theorem d_law_113 : decode code 113 = .ok (.aload_n 0, 1) := by decide +kernel
theorem d_law_114 : decode code 114 = .ok (.iload_n 3, 1) := by decide +kernel
theorem d_law_115 : decode code 115 = .ok (.iconst 1, 1) := by decide +kernel
theorem d_law_116 : decode code 116 = .ok (.iadd, 1) := by decide +kernel
theorem d_law_117 : decode code 117 = .ok (.iaload, 1) := by decide +kernel
theorem d_law_118 : decode code 118 = .ok (.aload_n 0, 1) := by decide +kernel
theorem d_law_119 : decode code 119 = .ok (.iload_n 3, 1) := by decide +kernel
theorem d_law_120 : decode code 120 = .ok (.iconst 2, 1) := by decide +kernel
theorem d_law_121 : decode code 121 = .ok (.iadd, 1) := by decide +kernel
theorem d_law_122 : decode code 122 = .ok (.iaload, 1) := by decide +kernel
theorem d_law_123 : decode code 123 = .ok (.aload_n 0, 1) := by decide +kernel
theorem d_law_124 : decode code 124 = .ok (.iload_n 3, 1) := by decide +kernel
theorem d_law_125 : decode code 125 = .ok (.iconst 3, 1) := by decide +kernel
theorem d_law_126 : decode code 126 = .ok (.iadd, 1) := by decide +kernel
theorem d_law_127 : decode code 127 = .ok (.iaload, 1) := by decide +kernel
theorem d_law_128 : decode code 128 = .ok (.aload_n 0, 1) := by decide +kernel
theorem d_law_129 : decode code 129 = .ok (.iload_n 3, 1) := by decide +kernel
theorem d_law_130 : decode code 130 = .ok (.iconst 4, 1) := by decide +kernel
theorem d_law_131 : decode code 131 = .ok (.iadd, 1) := by decide +kernel
theorem d_law_132 : decode code 132 = .ok (.iaload, 1) := by decide +kernel
theorem d_law_133 : decode code 133 = .ok (.invokevirtual 17, 3) := by decide +kernel
theorem d_law_136 : decode code 136 = .ok (.if_icmp .eq 282, 3) := by decide +kernel
theorem d_law_139 : decode code 139 = .ok (.iconst 0, 1) := by decide +kernel
theorem d_law_140 : decode code 140 = .ok (.ireturn, 1) := by decide +kernel
theorem d_law_141 : decode code 141 = .ok (.aload_n 1, 1) := by decide +kernel
theorem d_law_142 : decode code 142 = .ok (.aload_n 0, 1) := by decide +kernel
theorem d_law_143 : decode code 143 = .ok (.iload_n 3, 1) := by decide +kernel
theorem d_law_144 : decode code 144 = .ok (.iconst 1, 1) := by decide +kernel
theorem d_law_145 : decode code 145 = .ok (.iadd, 1) := by decide +kernel
theorem d_law_146 : decode code 146 = .ok (.iaload, 1) := by decide +kernel
theorem d_law_147 : decode code 147 = .ok (.invokevirtual 18, 3) := by decide +kernel
theorem d_law_150 : decode code 150 = .ok (.aload_n 2, 1) := by decide +kernel
theorem d_law_151 : decode code 151 = .ok (.aload_n 0, 1) := by decide +kernel
theorem d_law_152 : decode code 152 = .ok (.iload_n 3, 1) := by decide +kernel
theorem d_law_153 : decode code 153 = .ok (.iconst 1, 1) := by decide +kernel
theorem d_law_154 : decode code 154 = .ok (.iadd, 1) := by decide +kernel
theorem d_law_155 : decode code 155 = .ok (.iaload, 1) := by decide +kernel
theorem d_law_156 : decode code 156 = .ok (.invokevirtual 22, 3) := by decide +kernel
theorem d_law_159 : decode code 159 = .ok (.if_icmp .eq 259, 3) := by decide +kernel
theorem d_law_162 : decode code 162 = .ok (.iconst 0, 1) := by decide +kernel
theorem d_law_163 : decode code 163 = .ok (.ireturn, 1) := by decide +kernel
theorem d_law_164 : decode code 164 = .ok (.aload_n 1, 1) := by decide +kernel
theorem d_law_165 : decode code 165 = .ok (.aload_n 0, 1) := by decide +kernel
theorem d_law_166 : decode code 166 = .ok (.iload_n 3, 1) := by decide +kernel
theorem d_law_167 : decode code 167 = .ok (.iconst 1, 1) := by decide +kernel
theorem d_law_168 : decode code 168 = .ok (.iadd, 1) := by decide +kernel
theorem d_law_169 : decode code 169 = .ok (.iaload, 1) := by decide +kernel
theorem d_law_170 : decode code 170 = .ok (.aload_n 0, 1) := by decide +kernel
theorem d_law_171 : decode code 171 = .ok (.iload_n 3, 1) := by decide +kernel
theorem d_law_172 : decode code 172 = .ok (.iconst 2, 1) := by decide +kernel
theorem d_law_173 : decode code 173 = .ok (.iadd, 1) := by decide +kernel
theorem d_law_174 : decode code 174 = .ok (.iaload, 1) := by decide +kernel
theorem d_law_175 : decode code 175 = .ok (.invokevirtual 23, 3) := by decide +kernel
theorem d_law_178 : decode code 178 = .ok (.aload_n 2, 1) := by decide +kernel
theorem d_law_179 : decode code 179 = .ok (.aload_n 0, 1) := by decide +kernel
theorem d_law_180 : decode code 180 = .ok (.iload_n 3, 1) := by decide +kernel
theorem d_law_181 : decode code 181 = .ok (.iconst 1, 1) := by decide +kernel
theorem d_law_182 : decode code 182 = .ok (.iadd, 1) := by decide +kernel
theorem d_law_183 : decode code 183 = .ok (.iaload, 1) := by decide +kernel
theorem d_law_184 : decode code 184 = .ok (.aload_n 0, 1) := by decide +kernel
theorem d_law_185 : decode code 185 = .ok (.iload_n 3, 1) := by decide +kernel
theorem d_law_186 : decode code 186 = .ok (.iconst 2, 1) := by decide +kernel
theorem d_law_187 : decode code 187 = .ok (.iadd, 1) := by decide +kernel
theorem d_law_188 : decode code 188 = .ok (.iaload, 1) := by decide +kernel
theorem d_law_189 : decode code 189 = .ok (.invokevirtual 27, 3) := by decide +kernel
theorem d_law_192 : decode code 192 = .ok (.if_icmp .eq 226, 3) := by decide +kernel
theorem d_law_195 : decode code 195 = .ok (.iconst 0, 1) := by decide +kernel
theorem d_law_196 : decode code 196 = .ok (.ireturn, 1) := by decide +kernel
theorem d_law_197 : decode code 197 = .ok (.aload_n 1, 1) := by decide +kernel
theorem d_law_198 : decode code 198 = .ok (.aload_n 0, 1) := by decide +kernel
theorem d_law_199 : decode code 199 = .ok (.iload_n 3, 1) := by decide +kernel
theorem d_law_200 : decode code 200 = .ok (.iconst 1, 1) := by decide +kernel
theorem d_law_201 : decode code 201 = .ok (.iadd, 1) := by decide +kernel
theorem d_law_202 : decode code 202 = .ok (.iaload, 1) := by decide +kernel
theorem d_law_203 : decode code 203 = .ok (.invokevirtual 28, 3) := by decide +kernel
theorem d_law_206 : decode code 206 = .ok (.aload_n 2, 1) := by decide +kernel
theorem d_law_207 : decode code 207 = .ok (.aload_n 0, 1) := by decide +kernel
theorem d_law_208 : decode code 208 = .ok (.iload_n 3, 1) := by decide +kernel
theorem d_law_209 : decode code 209 = .ok (.iconst 1, 1) := by decide +kernel
theorem d_law_210 : decode code 210 = .ok (.iadd, 1) := by decide +kernel
theorem d_law_211 : decode code 211 = .ok (.iaload, 1) := by decide +kernel
theorem d_law_212 : decode code 212 = .ok (.invokevirtual 31, 3) := by decide +kernel
theorem d_law_215 : decode code 215 = .ok (.if_icmp .eq 203, 3) := by decide +kernel
theorem d_law_218 : decode code 218 = .ok (.iconst 0, 1) := by decide +kernel
theorem d_law_219 : decode code 219 = .ok (.ireturn, 1) := by decide +kernel
theorem d_law_220 : decode code 220 = .ok (.aload_n 1, 1) := by decide +kernel
theorem d_law_221 : decode code 221 = .ok (.aload_n 0, 1) := by decide +kernel
theorem d_law_222 : decode code 222 = .ok (.iload_n 3, 1) := by decide +kernel
theorem d_law_223 : decode code 223 = .ok (.iconst 1, 1) := by decide +kernel
theorem d_law_224 : decode code 224 = .ok (.iadd, 1) := by decide +kernel
theorem d_law_225 : decode code 225 = .ok (.iaload, 1) := by decide +kernel
theorem d_law_226 : decode code 226 = .ok (.invokevirtual 32, 3) := by decide +kernel
theorem d_law_229 : decode code 229 = .ok (.aload_n 2, 1) := by decide +kernel
theorem d_law_230 : decode code 230 = .ok (.aload_n 0, 1) := by decide +kernel
theorem d_law_231 : decode code 231 = .ok (.iload_n 3, 1) := by decide +kernel
theorem d_law_232 : decode code 232 = .ok (.iconst 1, 1) := by decide +kernel
theorem d_law_233 : decode code 233 = .ok (.iadd, 1) := by decide +kernel
theorem d_law_234 : decode code 234 = .ok (.iaload, 1) := by decide +kernel
theorem d_law_235 : decode code 235 = .ok (.invokevirtual 35, 3) := by decide +kernel
theorem d_law_238 : decode code 238 = .ok (.if_icmp .eq 180, 3) := by decide +kernel
theorem d_law_241 : decode code 241 = .ok (.iconst 0, 1) := by decide +kernel
theorem d_law_242 : decode code 242 = .ok (.ireturn, 1) := by decide +kernel
theorem d_law_243 : decode code 243 = .ok (.aload_n 1, 1) := by decide +kernel
theorem d_law_244 : decode code 244 = .ok (.aload_n 0, 1) := by decide +kernel
theorem d_law_245 : decode code 245 = .ok (.iload_n 3, 1) := by decide +kernel
theorem d_law_246 : decode code 246 = .ok (.iconst 1, 1) := by decide +kernel
theorem d_law_247 : decode code 247 = .ok (.iadd, 1) := by decide +kernel
theorem d_law_248 : decode code 248 = .ok (.iaload, 1) := by decide +kernel
theorem d_law_249 : decode code 249 = .ok (.invokevirtual 36, 3) := by decide +kernel
theorem d_law_252 : decode code 252 = .ok (.aload_n 2, 1) := by decide +kernel
theorem d_law_253 : decode code 253 = .ok (.aload_n 0, 1) := by decide +kernel
theorem d_law_254 : decode code 254 = .ok (.iload_n 3, 1) := by decide +kernel
theorem d_law_255 : decode code 255 = .ok (.iconst 1, 1) := by decide +kernel
theorem d_law_256 : decode code 256 = .ok (.iadd, 1) := by decide +kernel
theorem d_law_257 : decode code 257 = .ok (.iaload, 1) := by decide +kernel
theorem d_law_258 : decode code 258 = .ok (.invokevirtual 39, 3) := by decide +kernel
theorem d_law_261 : decode code 261 = .ok (.if_icmp .eq 157, 3) := by decide +kernel
theorem d_law_264 : decode code 264 = .ok (.iconst 0, 1) := by decide +kernel
theorem d_law_265 : decode code 265 = .ok (.ireturn, 1) := by decide +kernel
theorem d_law_266 : decode code 266 = .ok (.aload_n 1, 1) := by decide +kernel
theorem d_law_267 : decode code 267 = .ok (.aload_n 0, 1) := by decide +kernel
theorem d_law_268 : decode code 268 = .ok (.iload_n 3, 1) := by decide +kernel
theorem d_law_269 : decode code 269 = .ok (.iconst 1, 1) := by decide +kernel
theorem d_law_270 : decode code 270 = .ok (.iadd, 1) := by decide +kernel
theorem d_law_271 : decode code 271 = .ok (.iaload, 1) := by decide +kernel
theorem d_law_272 : decode code 272 = .ok (.aload_n 0, 1) := by decide +kernel
theorem d_law_273 : decode code 273 = .ok (.iload_n 3, 1) := by decide +kernel
theorem d_law_274 : decode code 274 = .ok (.iconst 2, 1) := by decide +kernel
theorem d_law_275 : decode code 275 = .ok (.iadd, 1) := by decide +kernel
theorem d_law_276 : decode code 276 = .ok (.iaload, 1) := by decide +kernel
theorem d_law_277 : decode code 277 = .ok (.invokevirtual 40, 3) := by decide +kernel
theorem d_law_280 : decode code 280 = .ok (.aload_n 2, 1) := by decide +kernel
theorem d_law_281 : decode code 281 = .ok (.aload_n 0, 1) := by decide +kernel
theorem d_law_282 : decode code 282 = .ok (.iload_n 3, 1) := by decide +kernel
theorem d_law_283 : decode code 283 = .ok (.iconst 1, 1) := by decide +kernel
theorem d_law_284 : decode code 284 = .ok (.iadd, 1) := by decide +kernel
theorem d_law_285 : decode code 285 = .ok (.iaload, 1) := by decide +kernel
theorem d_law_286 : decode code 286 = .ok (.aload_n 0, 1) := by decide +kernel
theorem d_law_287 : decode code 287 = .ok (.iload_n 3, 1) := by decide +kernel
theorem d_law_288 : decode code 288 = .ok (.iconst 2, 1) := by decide +kernel
theorem d_law_289 : decode code 289 = .ok (.iadd, 1) := by decide +kernel
theorem d_law_290 : decode code 290 = .ok (.iaload, 1) := by decide +kernel
theorem d_law_291 : decode code 291 = .ok (.invokevirtual 43, 3) := by decide +kernel
theorem d_law_294 : decode code 294 = .ok (.if_icmp .eq 124, 3) := by decide +kernel
theorem d_law_297 : decode code 297 = .ok (.iconst 0, 1) := by decide +kernel
theorem d_law_298 : decode code 298 = .ok (.ireturn, 1) := by decide +kernel
theorem d_law_299 : decode code 299 = .ok (.aload_n 1, 1) := by decide +kernel
theorem d_law_300 : decode code 300 = .ok (.aload_n 0, 1) := by decide +kernel
theorem d_law_301 : decode code 301 = .ok (.iload_n 3, 1) := by decide +kernel
theorem d_law_302 : decode code 302 = .ok (.iconst 1, 1) := by decide +kernel
theorem d_law_303 : decode code 303 = .ok (.iadd, 1) := by decide +kernel
theorem d_law_304 : decode code 304 = .ok (.iaload, 1) := by decide +kernel
theorem d_law_305 : decode code 305 = .ok (.aload_n 0, 1) := by decide +kernel
theorem d_law_306 : decode code 306 = .ok (.iload_n 3, 1) := by decide +kernel
theorem d_law_307 : decode code 307 = .ok (.iconst 2, 1) := by decide +kernel
theorem d_law_308 : decode code 308 = .ok (.iadd, 1) := by decide +kernel
theorem d_law_309 : decode code 309 = .ok (.iaload, 1) := by decide +kernel
theorem d_law_310 : decode code 310 = .ok (.aload_n 0, 1) := by decide +kernel
theorem d_law_311 : decode code 311 = .ok (.iload_n 3, 1) := by decide +kernel
theorem d_law_312 : decode code 312 = .ok (.iconst 3, 1) := by decide +kernel
theorem d_law_313 : decode code 313 = .ok (.iadd, 1) := by decide +kernel
theorem d_law_314 : decode code 314 = .ok (.iaload, 1) := by decide +kernel
theorem d_law_315 : decode code 315 = .ok (.invokevirtual 44, 3) := by decide +kernel
theorem d_law_318 : decode code 318 = .ok (.aload_n 2, 1) := by decide +kernel
theorem d_law_319 : decode code 319 = .ok (.aload_n 0, 1) := by decide +kernel
theorem d_law_320 : decode code 320 = .ok (.iload_n 3, 1) := by decide +kernel
theorem d_law_321 : decode code 321 = .ok (.iconst 1, 1) := by decide +kernel
theorem d_law_322 : decode code 322 = .ok (.iadd, 1) := by decide +kernel
theorem d_law_323 : decode code 323 = .ok (.iaload, 1) := by decide +kernel
theorem d_law_324 : decode code 324 = .ok (.aload_n 0, 1) := by decide +kernel
theorem d_law_325 : decode code 325 = .ok (.iload_n 3, 1) := by decide +kernel
theorem d_law_326 : decode code 326 = .ok (.iconst 2, 1) := by decide +kernel
theorem d_law_327 : decode code 327 = .ok (.iadd, 1) := by decide +kernel
theorem d_law_328 : decode code 328 = .ok (.iaload, 1) := by decide +kernel
theorem d_law_329 : decode code 329 = .ok (.aload_n 0, 1) := by decide +kernel
theorem d_law_330 : decode code 330 = .ok (.iload_n 3, 1) := by decide +kernel
theorem d_law_331 : decode code 331 = .ok (.iconst 3, 1) := by decide +kernel
theorem d_law_332 : decode code 332 = .ok (.iadd, 1) := by decide +kernel
theorem d_law_333 : decode code 333 = .ok (.iaload, 1) := by decide +kernel
theorem d_law_334 : decode code 334 = .ok (.invokevirtual 48, 3) := by decide +kernel
theorem d_law_337 : decode code 337 = .ok (.if_icmp .eq 81, 3) := by decide +kernel
theorem d_law_340 : decode code 340 = .ok (.iconst 0, 1) := by decide +kernel
theorem d_law_341 : decode code 341 = .ok (.ireturn, 1) := by decide +kernel
theorem d_law_342 : decode code 342 = .ok (.aload_n 1, 1) := by decide +kernel
theorem d_law_343 : decode code 343 = .ok (.aload_n 0, 1) := by decide +kernel
theorem d_law_344 : decode code 344 = .ok (.iload_n 3, 1) := by decide +kernel
theorem d_law_345 : decode code 345 = .ok (.iconst 1, 1) := by decide +kernel
theorem d_law_346 : decode code 346 = .ok (.iadd, 1) := by decide +kernel
theorem d_law_347 : decode code 347 = .ok (.iaload, 1) := by decide +kernel
theorem d_law_348 : decode code 348 = .ok (.aload_n 0, 1) := by decide +kernel
theorem d_law_349 : decode code 349 = .ok (.iload_n 3, 1) := by decide +kernel
theorem d_law_350 : decode code 350 = .ok (.iconst 2, 1) := by decide +kernel
theorem d_law_351 : decode code 351 = .ok (.iadd, 1) := by decide +kernel
theorem d_law_352 : decode code 352 = .ok (.iaload, 1) := by decide +kernel
theorem d_law_353 : decode code 353 = .ok (.aload_n 0, 1) := by decide +kernel
theorem d_law_354 : decode code 354 = .ok (.iload_n 3, 1) := by decide +kernel
theorem d_law_355 : decode code 355 = .ok (.iconst 3, 1) := by decide +kernel
theorem d_law_356 : decode code 356 = .ok (.iadd, 1) := by decide +kernel
theorem d_law_357 : decode code 357 = .ok (.iaload, 1) := by decide +kernel
theorem d_law_358 : decode code 358 = .ok (.invokevirtual 49, 3) := by decide +kernel
theorem d_law_361 : decode code 361 = .ok (.aload_n 2, 1) := by decide +kernel
theorem d_law_362 : decode code 362 = .ok (.aload_n 0, 1) := by decide +kernel
theorem d_law_363 : decode code 363 = .ok (.iload_n 3, 1) := by decide +kernel
theorem d_law_364 : decode code 364 = .ok (.iconst 1, 1) := by decide +kernel
theorem d_law_365 : decode code 365 = .ok (.iadd, 1) := by decide +kernel
theorem d_law_366 : decode code 366 = .ok (.iaload, 1) := by decide +kernel
theorem d_law_367 : decode code 367 = .ok (.aload_n 0, 1) := by decide +kernel
theorem d_law_368 : decode code 368 = .ok (.iload_n 3, 1) := by decide +kernel
theorem d_law_369 : decode code 369 = .ok (.iconst 2, 1) := by decide +kernel
theorem d_law_370 : decode code 370 = .ok (.iadd, 1) := by decide +kernel
theorem d_law_371 : decode code 371 = .ok (.iaload, 1) := by decide +kernel
theorem d_law_372 : decode code 372 = .ok (.aload_n 0, 1) := by decide +kernel
theorem d_law_373 : decode code 373 = .ok (.iload_n 3, 1) := by decide +kernel
theorem d_law_374 : decode code 374 = .ok (.iconst 3, 1) := by decide +kernel
theorem d_law_375 : decode code 375 = .ok (.iadd, 1) := by decide +kernel
theorem d_law_376 : decode code 376 = .ok (.iaload, 1) := by decide +kernel
theorem d_law_377 : decode code 377 = .ok (.invokevirtual 52, 3) := by decide +kernel
theorem d_law_380 : decode code 380 = .ok (.if_icmp .eq 38, 3) := by decide +kernel
theorem d_law_383 : decode code 383 = .ok (.iconst 0, 1) := by decide +kernel
theorem d_law_384 : decode code 384 = .ok (.ireturn, 1) := by decide +kernel
theorem d_law_385 : decode code 385 = .ok (.aload_n 1, 1) := by decide +kernel
theorem d_law_386 : decode code 386 = .ok (.aload_n 0, 1) := by decide +kernel
theorem d_law_387 : decode code 387 = .ok (.iload_n 3, 1) := by decide +kernel
theorem d_law_388 : decode code 388 = .ok (.iconst 1, 1) := by decide +kernel
theorem d_law_389 : decode code 389 = .ok (.iadd, 1) := by decide +kernel
theorem d_law_390 : decode code 390 = .ok (.iaload, 1) := by decide +kernel
theorem d_law_391 : decode code 391 = .ok (.aload_n 0, 1) := by decide +kernel
theorem d_law_392 : decode code 392 = .ok (.iload_n 3, 1) := by decide +kernel
theorem d_law_393 : decode code 393 = .ok (.iconst 2, 1) := by decide +kernel
theorem d_law_394 : decode code 394 = .ok (.iadd, 1) := by decide +kernel
theorem d_law_395 : decode code 395 = .ok (.iaload, 1) := by decide +kernel
theorem d_law_396 : decode code 396 = .ok (.invokevirtual 53, 3) := by decide +kernel
theorem d_law_399 : decode code 399 = .ok (.aload_n 2, 1) := by decide +kernel
theorem d_law_400 : decode code 400 = .ok (.aload_n 0, 1) := by decide +kernel
theorem d_law_401 : decode code 401 = .ok (.iload_n 3, 1) := by decide +kernel
theorem d_law_402 : decode code 402 = .ok (.iconst 1, 1) := by decide +kernel
theorem d_law_403 : decode code 403 = .ok (.iadd, 1) := by decide +kernel
theorem d_law_404 : decode code 404 = .ok (.iaload, 1) := by decide +kernel
theorem d_law_405 : decode code 405 = .ok (.aload_n 0, 1) := by decide +kernel
theorem d_law_406 : decode code 406 = .ok (.iload_n 3, 1) := by decide +kernel
theorem d_law_407 : decode code 407 = .ok (.iconst 2, 1) := by decide +kernel
theorem d_law_408 : decode code 408 = .ok (.iadd, 1) := by decide +kernel
theorem d_law_409 : decode code 409 = .ok (.iaload, 1) := by decide +kernel
theorem d_law_410 : decode code 410 = .ok (.invokevirtual 56, 3) := by decide +kernel
theorem d_law_413 : decode code 413 = .ok (.if_icmp .eq 5, 3) := by decide +kernel
theorem d_law_416 : decode code 416 = .ok (.iconst 0, 1) := by decide +kernel
theorem d_law_417 : decode code 417 = .ok (.ireturn, 1) := by decide +kernel
theorem d_law_418 : decode code 418 = .ok (.iinc 3 5, 3) := by decide +kernel
theorem d_law_421 : decode code 421 = .ok (.goto (-403), 3) := by decide +kernel
theorem d_law_424 : decode code 424 = .ok (.iconst 1, 1) := by decide +kernel
theorem d_law_425 : decode code 425 = .ok (.ireturn, 1) := by decide +kernel
/-! the law's own judgement: both objects stand beside each other -/
def inO (ci h : Nat) (a : Nat → Nat) (q : Nat) : Prop := q = h ∨ ∃ k, k < nO ci ∧ q = a k
theorem wO_in {z : Bool → ClassId} {ci h : Nat} {a : Nat → Nat} {σ : SG} {i : Nat} {p : Nat × va_E} (hi : (wO z ci h a σ)[i]? = some p) : inO ci h a p.1 := by
  rcases wO_at hi with ⟨-, e⟩ | ⟨k, hk, -, e⟩
  · exact Or.inl e
  · exact Or.inr ⟨k, hk, e⟩
theorem AO_in {ci h sz q : Nat} {a : Nat → Nat} (hq : AO ci h a sz q) : inO ci h a q ∨ sz ≤ q := by
  rcases hq with e | e | e
  · exact Or.inl (Or.inl e)
  · exact Or.inl (Or.inr e)
  · exact Or.inr e
theorem fr_P {D : va_G} {z : Bool → ClassId} {ci2 h2 : Nat} {a2 : Nat → Nat} {τ : SG} {H : Heap} {A : Nat → Prop} {st₀ t T2 : State} (hP2 : va_P D classes (wO z ci2 h2 a2 τ) H) (hA : ∀ q, inO ci2 h2 a2 q → q < H.size → ¬ A q) (h0 : st₀.heap = H) (e1 : T2.heap = t.heap) (hF : va_F A st₀ t) : va_P D classes (wO z ci2 h2 a2 τ) T2.heap := by
  refine hP2.kept (fun k q hk => ?_)
  have hl := (hP2 k q hk).lt
  rw [e1, hF.2 q.1 (by rw [h0]; exact hl) (hA q.1 (wO_in hk) hl), h0]
theorem fr_S {A : Nat → Prop} {s st₀ t T2 : State} {H : Heap} {locs L : List Loc} (hS : va_S (fun q => s.heap.size ≤ q) s.heap H locs) (hA : ∀ q, A q → s.heap.size ≤ q) (h0 : st₀.heap = H) (e1 : T2.heap = t.heap) (hF : va_F A st₀ t) (hL : ∀ q ∈ L, A q.base) : va_S (fun q => s.heap.size ≤ q) s.heap T2.heap (locs ++ L) := by
  obtain ⟨hz, hk⟩ := hF
  rw [h0] at hz hk
  refine ⟨Nat.le_trans hS.1 (by rw [e1]; exact hz), fun q h1 h2 => ?_, fun q hq => ?_⟩
  · rw [e1, hk q (Nat.lt_of_lt_of_le h1 hS.1) (fun z => h2 (hA q z))]
    exact hS.2.1 q h1 h2
  · rcases List.mem_append.mp hq with h3 | h3
    · exact hS.2.2 q h3
    · exact hA _ (hL q h3)
theorem tbl_in {w : Cond} (h : w ∈ wA) : w ∈ lw_tbl := (List.mem_filter.mp h).1
def RL (l : Launch) (b L : Nat) (xs : Nat → Int32) (h : Nat) (a : Nat → Nat) (h' : Nat) (a' : Nat → Nat) (G : SG × SG → Nat → LV → List Value → Prop) : Prop :=
  ∃ (p : Program) (e : Env) (s : State) (m : MethodId) (below : List Frame) (meth : Method) (c : Code) (D : va_G) (z : Bool → ClassId), lw_At p s m meth c b L xs ∧ va_K D classes (tz z) s ∧ (apart 0 h a ∧ apart 1 h' a' ∧ (∀ q, inO 0 h a q → ¬ inO 1 h' a' q) ∧ (∀ q, inO 0 h a q → s.heap.size ≤ q) ∧ ∀ q, inO 1 h' a' q → s.heap.size ≤ q) ∧ G = fun w pc lv st => ∀ (H : Heap) (locs : List Loc) (ls : Array Slot), (va_P D classes (wO z 0 h a w.1) H ∧ va_P D classes (wO z 1 h' a' w.2) H ∧ va_S (fun q => s.heap.size ≤ q) s.heap H locs) → lvh ls 4 lv → W p l e room_1 s m #[Value.ref b] below meth c H locs 19 1106 (lw_Z below #[Value.ref b] s) (F0 m pc ls st)
section RLrows
variable {l : Launch} {b L : Nat} {xs : Nat → Int32} {h : Nat} {a : Nat → Nat} {h' : Nat} {a' : Nat → Nat} {G : SG × SG → Nat → LV → List Value → Prop} {σ τ : SG} {w : SG × SG} {pc : Nat} {lv : LV} {st : List Value}
theorem RL.pr (hG : RL l b L xs h a h' a' G) : PR code 4 G := by
  obtain ⟨p, e, s, m, below, meth, c, D, z, ⟨hx, hb, hr, hml, hown, hts, hX, hbl, hlocks, hgv⟩, hK, hap, hG⟩ := hG
  exact ⟨p, l, e, room_1, s, m, _, below, meth, c, 19, 1106, _, _, hx, hb, hG⟩
theorem nl_len (hG : RL l b L xs h a h' a' G) (hd : decode code pc = .ok (.arraylength, 1)) (k : G w (pc + 1) lv (.int (nI L) :: st)) : G w pc lv (.ref b :: st) := by
  obtain ⟨p, e, s, m, below, meth, c, D, z, ⟨hx, hb, hr, hml, hown, hts, hX, hbl, hlocks, hgv⟩, hK, hap, rfl⟩ := hG
  intro H locs ls hw hl
  exact va_slen (A := fun q => s.heap.size ≤ q) hx hb hX hbl (Nat.not_le.mpr hbl) hw.2.2 hd (k H locs ls hw hl)
theorem nl_ld (hG : RL l b L xs h a h' a' G) {j : Nat} (hL : L ≤ 2560) (hj : j < L) (hd : decode code pc = .ok (.iaload, 1)) (k : G w (pc + 1) lv (.int (xs j) :: st)) : G w pc lv (.int (nI j) :: .ref b :: st) := by
  obtain ⟨p, e, s, m, below, meth, c, D, z, ⟨hx, hb, hr, hml, hown, hts, hX, hbl, hlocks, hgv⟩, hK, hap, rfl⟩ := hG
  intro H locs ls hw hl
  refine va_sld (A := fun q => s.heap.size ≤ q) hx hb hX hbl (Nat.not_le.mpr hbl) hw.2.2 (vp_in_nI hj (by omega)) hd ?_
  rw [nI_clamp (by omega)]
  exact k H locs ls hw hl
theorem nl_ret (hG : RL l b L xs h a h' a' G) (hd : decode code pc = .ok (.ireturn, 1)) : G w pc lv [.int (nI 1)] := by
  obtain ⟨p, e, s, m, below, meth, c, D, z, ⟨hx, hb, hr, hml, hown, hts, hX, hbl, hlocks, hgv⟩, hK, hap, rfl⟩ := hG
  intro H locs ls hw hl
  refine va_forget (fun q hq => hw.2.2.2.2 q hq) ?_
  exact lw_ret hx hb hr hlocks hd
theorem nl_in (hP : PR code 4 G) {dflt lo hi : Int} {offs : Array Int} {len : Nat} {x : Int32} (off : Int) (tgt : Nat) (hd : decode code pc = .ok (.tableswitch dflt lo hi offs, len)) (h1 : ¬ x.toInt < lo) (h2 : ¬ hi < x.toInt) (ho : offs[(x.toInt - lo).toNat]? = some off) (ht : (pc : Int) + off = (tgt : Int)) (k : G w tgt lv st) : G w pc lv (.int x :: st) := by
  obtain ⟨p, l, e, R, s, m, args, below, meth, c, cells, slots, Q, Pw, hx, hb, rfl⟩ := hP
  intro H locs ls hw hl
  exact lv_tableIn hx hb hd h1 h2 ho ht (k H locs ls hw hl)
theorem nl_out (hP : PR code 4 G) {dflt lo hi : Int} {offs : Array Int} {len : Nat} {x : Int32} (tgt : Nat) (hd : decode code pc = .ok (.tableswitch dflt lo hi offs, len)) (h1 : x.toInt < lo ∨ hi < x.toInt) (ht : (pc : Int) + dflt = (tgt : Int)) (k : G w tgt lv st) : G w pc lv (.int x :: st) := by
  obtain ⟨p, l, e, R, s, m, args, below, meth, c, cells, slots, Q, Pw, hx, hb, rfl⟩ := hP
  intro H locs ls hw hl
  exact lv_tableOut hx hb hd h1 ht (k H locs ls hw hl)
theorem good_law {own : String} {idx ci : Nat} {y : MethodName} {bb : ByteArray} {n : Nat} {rt : Option FieldType} {k : Nat} (hk : KV own idx ci y bb n rt k) : GoodIn lw_tbl (wsV own idx y.cls y (.code y bb n rt :: wA)) := by
  obtain ⟨k1, k2, k3, k4, k5, -, -⟩ := hk
  intro w hw
  have h1 : w ∈ wA := by
    simp only [wsV, List.cons_append, List.nil_append, List.mem_cons] at hw
    rcases hw with rfl | rfl | rfl | rfl | rfl | hw <;> assumption
  exact ⟨tbl_in h1, tbl_good w h1⟩

theorem nl_callL (hG : RL l b L xs h a h' a' G) {y : MethodName} {bb : ByteArray} {n : Nat} {rt : Option FieldType} {rm' : Room} {k : Nat} {vs : List Value} {q : Int32 → SG → Prop} {idx : Nat} {rest : List Value} (hM : MetN l y bb n rt rm' 0 h a σ (.ref h :: vs) (pI q)) (hk : KV "LazySeriesLaw" idx 0 y bb n rt k) (hv : vs.length = k) (hr0 : rm'.cells = 0 ∧ rm'.slots = 0) (hR : rm'.frames + 1 ≤ 8 ∧ 8 + (n + 11) + rm'.locals ≤ 308) (hs : st = vs.reverse ++ .ref h :: rest) (hrest : (rest.map fun v => v.category).sum ≤ 8) (hd : decode code pc = .ok (.invokevirtual idx, 3)) (kk : ∀ (r : Int32) (σ' : SG), q r σ' → G (σ', τ) (pc + 3) lv (.int r :: rest)) : G (σ, τ) pc lv st := by
  obtain ⟨p, e, s, m, below, meth, c, D, z, ⟨hx, hb, hr, hml, hown, hts, hX, hbl, hlocks, hgv⟩, hK, ⟨hap, hap', hds, hge, hge'⟩, rfl⟩ := hG
  intro H locs ls hw hl
  have hgood := good_law hk
  obtain ⟨k1, k2, k3, k4, k5, ⟨T, N, k6⟩, k7⟩ := hk
  have hrun := va_runV (l := l) (e := e) (below := below) (meth := meth) (R := room_1) (As := vs) (rest := rest) (g := F0 m pc ls st) (locs := locs) (cells := 19) (slots := 1106) ⟨hx, hb, hml, hown, hts⟩ (hM D z H.size hap) (cwV k hts hgood rfl hr0.1 hr0.2 ⟨rfl, k7⟩ hR) ⟨va_Pc_blind, va_recv hK hw.1 k6 (q0 := 0) rfl, fun U hU hW => ⟨rfl, by rw [hU], by rw [hU]; exact hw.1, va_K.moved hW.alike hK⟩⟩ rfl hv hl.1 hs (lv_room hrest) hd ⟨Nat.le_of_ble_eq_true rfl, Nat.le_of_ble_eq_true rfl⟩
  intro T' hT X
  obtain ⟨v, st₀, t, T2, Lc, h0, X', hL, e1, e2, ⟨⟨r, σ', hv', ⟨x, hx1, hp⟩, hb1⟩, hF⟩, stp⟩ := hrun T' hT X
  subst hx1
  have hv2 : v = some (Value.int x) := by injection hv'
  subst hv2
  have hA1 : ∀ q, AO 0 h a H.size q → s.heap.size ≤ q := fun q hq => by
    rcases AO_in hq with e | e
    · exact hge q e
    · exact Nat.le_trans hw.2.2.1 e
  have hA2 : ∀ q, inO 1 h' a' q → q < H.size → ¬ AO 0 h a H.size q := fun q h1 h2 h3 => by
    rcases AO_in h3 with e | e
    · exact hds q e h1
    · omega
  obtain ⟨t2, a1, b1⟩ := kk x σ' hp T2.heap (locs ++ Lc) ls ⟨by rw [e1]; exact hb1, fr_P hw.2.1 hA2 h0 e1 hF, fr_S hw.2.2 hA1 h0 e1 hF hL⟩ hl T2 rfl X'
  exact ⟨t2, stp t2 a1, b1⟩

theorem nl_callM (hG : RL l b L xs h a h' a' G) {y : MethodName} {bb : ByteArray} {n : Nat} {rt : Option FieldType} {rm' : Room} {k : Nat} {vs : List Value} {q : Int32 → SG → Prop} {idx : Nat} {rest : List Value} (hM : MetN l y bb n rt rm' 1 h' a' τ (.ref h' :: vs) (pI q)) (hk : KV "LazySeriesLaw" idx 1 y bb n rt k) (hv : vs.length = k) (hr0 : rm'.cells = 0 ∧ rm'.slots = 0) (hR : rm'.frames + 1 ≤ 8 ∧ 8 + (n + 11) + rm'.locals ≤ 308) (hs : st = vs.reverse ++ .ref h' :: rest) (hrest : (rest.map fun v => v.category).sum ≤ 8) (hd : decode code pc = .ok (.invokevirtual idx, 3)) (kk : ∀ (r : Int32) (σ' : SG), q r σ' → G (σ, σ') (pc + 3) lv (.int r :: rest)) : G (σ, τ) pc lv st := by
  obtain ⟨p, e, s, m, below, meth, c, D, z, ⟨hx, hb, hr, hml, hown, hts, hX, hbl, hlocks, hgv⟩, hK, ⟨hap, hap', hds, hge, hge'⟩, rfl⟩ := hG
  intro H locs ls hw hl
  have hgood := good_law hk
  obtain ⟨k1, k2, k3, k4, k5, ⟨T, N, k6⟩, k7⟩ := hk
  have hrun := va_runV (l := l) (e := e) (below := below) (meth := meth) (R := room_1) (As := vs) (rest := rest) (g := F0 m pc ls st) (locs := locs) (cells := 19) (slots := 1106) ⟨hx, hb, hml, hown, hts⟩ (hM D z H.size hap') (cwV k hts hgood rfl hr0.1 hr0.2 ⟨rfl, k7⟩ hR) ⟨va_Pc_blind, va_recv hK hw.2.1 k6 (q0 := 0) rfl, fun U hU hW => ⟨rfl, by rw [hU], by rw [hU]; exact hw.2.1, va_K.moved hW.alike hK⟩⟩ rfl hv hl.1 hs (lv_room hrest) hd ⟨Nat.le_of_ble_eq_true rfl, Nat.le_of_ble_eq_true rfl⟩
  intro T' hT X
  obtain ⟨v, st₀, t, T2, Lc, h0, X', hL, e1, e2, ⟨⟨r, σ', hv', ⟨x, hx1, hp⟩, hb1⟩, hF⟩, stp⟩ := hrun T' hT X
  subst hx1
  have hv2 : v = some (Value.int x) := by injection hv'
  subst hv2
  have hA1 : ∀ q, AO 1 h' a' H.size q → s.heap.size ≤ q := fun q hq => by
    rcases AO_in hq with e | e
    · exact hge' q e
    · exact Nat.le_trans hw.2.2.1 e
  have hA2 : ∀ q, inO 0 h a q → q < H.size → ¬ AO 1 h' a' H.size q := fun q h1 h2 h3 => by
    rcases AO_in h3 with e | e
    · exact hds q h1 e
    · omega
  obtain ⟨t2, a1, b1⟩ := kk x σ' hp T2.heap (locs ++ Lc) ls ⟨fr_P hw.1 hA2 h0 e1 hF, by rw [e1]; exact hb1, fr_S hw.2.2 hA1 h0 e1 hF hL⟩ hl T2 rfl X'
  exact ⟨t2, stp t2 a1, b1⟩

end RLrows
end
section
theorem law_in {i L : Nat} (hL : L ≤ 2560) (hi : i ≤ L) (h : ¬ nI L - nI 5 < nI i) : i + 5 ≤ L := by
  rw [Int32.lt_iff_toInt_lt, pk_sub_toInt (by omega) (by omega), nI_toInt (by omega)] at h
  omega
def LI (w : SG × SG) : Prop := ∃ K A B, InvL K A B w.1 ∧ InvM K A B w.2
set_option maxHeartbeats 4000000 in
/-- THE LAW'S LOOP: at its head both objects stand for the same definitions -/
theorem law_loop {l : Launch} {b L : Nat} {xs : Nat → Int32} {h : Nat} {a : Nat → Nat} {h' : Nat} {a' : Nat → Nat} {G : SG × SG → Nat → LV → List Value → Prop} (hL : L ≤ 2560) (hG : RL l b L xs h a h' a' G) : ∀ (f i : Nat) (σ τ : SG), i ≤ L → LI (σ, τ) → L - i < f → G (σ, τ) 18 [(0, .ref b), (1, .ref h), (2, .ref h'), (3, .int (nI i))] [] := by
  have hP := hG.pr
  intro f
  induction f with
  | zero => intro i σ τ _ _ hf; exact absurd hf (Nat.not_lt_zero _)
  | succ f ih =>
    intro i σ τ hi hLI hf
    obtain ⟨K, A, B, hI, hM⟩ := hLI
    refine nv_iload_n hP 3 d_law_18 rfl rfl ?_
    refine nv_aload_n hP 0 d_law_19 rfl rfl ?_
    refine nl_len hG d_law_20 ?_
    refine nv_iconst hP (nI 5) d_law_21 (by decide) ?_
    refine nv_isubR hP d_law_22 ?_
    refine nv_cmpgtR hP 424 d_law_23 (by decide) (fun c_23 => ?_) (fun c_23 => ?_)
    · refine nv_iconst hP (nI 1) d_law_424 (by decide) ?_
      exact nl_ret hG d_law_425
    have hin := law_in hL hi c_23
    have next : ∀ (w : SG × SG), LI w → G w 418 [(0, .ref b), (1, .ref h), (2, .ref h'), (3, .int (nI i))] [] := by
      intro w hw
      refine nv_iinc5 hP d_law_418 rfl (by decide) ?_
      refine nv_goto hP 18 d_law_421 (by decide) ?_
      exact nv_lv hP (lsub_c rfl (lsub_c rfl (lsub_c rfl (lsub_c rfl lsub_n)))) (ih (i + 5) w.1 w.2 (by omega) hw (by omega))
    refine nv_aload_n hP 0 d_law_26 rfl rfl ?_
    refine nv_iload_n hP 3 d_law_27 rfl rfl ?_
    refine nl_ld hG hL (by omega) d_law_28 ?_
    refine nv_bipush hP (nI 15) d_law_29 (by decide) ?_
    refine nv_iandR hP d_law_31 ?_
    obtain ⟨j, hj, ej⟩ := pk_andE (xs i) (m := nI 15) 4 (by decide)
    rw [ej]
    by_cases hj10 : 10 ≤ j
    · refine nl_out hP 418 d_law_32 (Or.inr ?_) (by decide) (next _ ⟨K, A, B, hI, hM⟩)
      rw [nI_toInt (by omega)]
      omega
    rcases (show j = 0 ∨ j = 1 ∨ j = 2 ∨ j = 3 ∨ j = 4 ∨ j = 5 ∨ j = 6 ∨ j = 7 ∨ j = 8 ∨ j = 9 by omega) with rfl | rfl | rfl | rfl | rfl | rfl | rfl | rfl | rfl | rfl
    · refine nl_in hP 56 88 d_law_32 (by decide) (by decide) (by decide) (by decide) ?_
      refine nv_aload_n hP 1 d_law_88 rfl rfl ?_
      refine nv_aload_n hP 0 d_law_89 rfl rfl ?_
      refine nv_iload_n hP 3 d_law_90 rfl rfl ?_
      refine nv_iconst hP (nI 1) d_law_91 (by decide) ?_
      refine nv_iadd hP d_law_92 ?_
      refine nl_ld hG hL (by omega) d_law_93 ?_
      refine nv_aload_n hP 0 d_law_94 rfl rfl ?_
      refine nv_iload_n hP 3 d_law_95 rfl rfl ?_
      refine nv_iconst hP (nI 2) d_law_96 (by decide) ?_
      refine nv_iadd hP d_law_97 ?_
      refine nl_ld hG hL (by omega) d_law_98 ?_
      refine nv_aload_n hP 0 d_law_99 rfl rfl ?_
      refine nv_iload_n hP 3 d_law_100 rfl rfl ?_
      refine nv_iconst hP (nI 3) d_law_101 (by decide) ?_
      refine nv_iadd hP d_law_102 ?_
      refine nl_ld hG hL (by omega) d_law_103 ?_
      refine nv_aload_n hP 0 d_law_104 rfl rfl ?_
      refine nv_iload_n hP 3 d_law_105 rfl rfl ?_
      refine nv_iconst hP (nI 4) d_law_106 (by decide) ?_
      refine nv_iadd hP d_law_107 ?_
      refine nl_ld hG hL (by omega) d_law_108 ?_
      refine nl_callL hG (c_L_define l h a σ K A B (xs (i + 1)) (xs (i + 2)) (xs (i + 3)) (xs (i + 4)) hI) kl_L_define rfl ⟨rfl, rfl⟩ ⟨Nat.le_of_ble_eq_true rfl, Nat.le_of_ble_eq_true rfl⟩ rfl (Nat.le_of_ble_eq_true rfl) d_law_109 (fun rL σL qL => ?_)
      refine nv_aload_n hP 2 d_law_112 rfl rfl ?_
      refine nv_aload_n hP 0 d_law_113 rfl rfl ?_
      refine nv_iload_n hP 3 d_law_114 rfl rfl ?_
      refine nv_iconst hP (nI 1) d_law_115 (by decide) ?_
      refine nv_iadd hP d_law_116 ?_
      refine nl_ld hG hL (by omega) d_law_117 ?_
      refine nv_aload_n hP 0 d_law_118 rfl rfl ?_
      refine nv_iload_n hP 3 d_law_119 rfl rfl ?_
      refine nv_iconst hP (nI 2) d_law_120 (by decide) ?_
      refine nv_iadd hP d_law_121 ?_
      refine nl_ld hG hL (by omega) d_law_122 ?_
      refine nv_aload_n hP 0 d_law_123 rfl rfl ?_
      refine nv_iload_n hP 3 d_law_124 rfl rfl ?_
      refine nv_iconst hP (nI 3) d_law_125 (by decide) ?_
      refine nv_iadd hP d_law_126 ?_
      refine nl_ld hG hL (by omega) d_law_127 ?_
      refine nv_aload_n hP 0 d_law_128 rfl rfl ?_
      refine nv_iload_n hP 3 d_law_129 rfl rfl ?_
      refine nv_iconst hP (nI 4) d_law_130 (by decide) ?_
      refine nv_iadd hP d_law_131 ?_
      refine nl_ld hG hL (by omega) d_law_132 ?_
      refine nl_callM hG (c_M_define l h' a' τ K A B (xs (i + 1)) (xs (i + 2)) (xs (i + 3)) (xs (i + 4)) hM) kl_M_define rfl ⟨rfl, rfl⟩ ⟨Nat.le_of_ble_eq_true rfl, Nat.le_of_ble_eq_true rfl⟩ rfl (Nat.le_of_ble_eq_true rfl) d_law_133 (fun rM σM qM => ?_)
      exact nv_cmpeqR hP 418 d_law_136 (by decide) (fun _ => next _ ⟨_, _, _, qL.1, qM.1⟩) (fun c_9 => absurd (qL.2.trans qM.2.symm) c_9)
    · refine nl_in hP 109 141 d_law_32 (by decide) (by decide) (by decide) (by decide) ?_
      refine nv_aload_n hP 1 d_law_141 rfl rfl ?_
      refine nv_aload_n hP 0 d_law_142 rfl rfl ?_
      refine nv_iload_n hP 3 d_law_143 rfl rfl ?_
      refine nv_iconst hP (nI 1) d_law_144 (by decide) ?_
      refine nv_iadd hP d_law_145 ?_
      refine nl_ld hG hL (by omega) d_law_146 ?_
      refine nl_callL hG (c_L_kindOf l h a σ K A B (xs (i + 1)) hI) kl_L_kindOf rfl ⟨rfl, rfl⟩ ⟨Nat.le_of_ble_eq_true rfl, Nat.le_of_ble_eq_true rfl⟩ rfl (Nat.le_of_ble_eq_true rfl) d_law_147 (fun rL σL qL => ?_)
      refine nv_aload_n hP 2 d_law_150 rfl rfl ?_
      refine nv_aload_n hP 0 d_law_151 rfl rfl ?_
      refine nv_iload_n hP 3 d_law_152 rfl rfl ?_
      refine nv_iconst hP (nI 1) d_law_153 (by decide) ?_
      refine nv_iadd hP d_law_154 ?_
      refine nl_ld hG hL (by omega) d_law_155 ?_
      refine nl_callM hG (c_M_kindOf l h' a' τ K A B (xs (i + 1)) hM) kl_M_kindOf rfl ⟨rfl, rfl⟩ ⟨Nat.le_of_ble_eq_true rfl, Nat.le_of_ble_eq_true rfl⟩ rfl (Nat.le_of_ble_eq_true rfl) d_law_156 (fun rM σM qM => ?_)
      exact nv_cmpeqR hP 418 d_law_159 (by decide) (fun _ => next _ ⟨K, A, B, by rw [qL.1]; exact hI, by rw [qM.1]; exact hM⟩) (fun c_9 => absurd (qL.2.trans qM.2.symm) c_9)
    · refine nl_in hP 132 164 d_law_32 (by decide) (by decide) (by decide) (by decide) ?_
      refine nv_aload_n hP 1 d_law_164 rfl rfl ?_
      refine nv_aload_n hP 0 d_law_165 rfl rfl ?_
      refine nv_iload_n hP 3 d_law_166 rfl rfl ?_
      refine nv_iconst hP (nI 1) d_law_167 (by decide) ?_
      refine nv_iadd hP d_law_168 ?_
      refine nl_ld hG hL (by omega) d_law_169 ?_
      refine nv_aload_n hP 0 d_law_170 rfl rfl ?_
      refine nv_iload_n hP 3 d_law_171 rfl rfl ?_
      refine nv_iconst hP (nI 2) d_law_172 (by decide) ?_
      refine nv_iadd hP d_law_173 ?_
      refine nl_ld hG hL (by omega) d_law_174 ?_
      refine nl_callL hG (c_L_coefficient l h a σ K A B (xs (i + 1)) (xs (i + 2)) hI) kl_L_coefficient rfl ⟨rfl, rfl⟩ ⟨Nat.le_of_ble_eq_true rfl, Nat.le_of_ble_eq_true rfl⟩ rfl (Nat.le_of_ble_eq_true rfl) d_law_175 (fun rL σL qL => ?_)
      refine nv_aload_n hP 2 d_law_178 rfl rfl ?_
      refine nv_aload_n hP 0 d_law_179 rfl rfl ?_
      refine nv_iload_n hP 3 d_law_180 rfl rfl ?_
      refine nv_iconst hP (nI 1) d_law_181 (by decide) ?_
      refine nv_iadd hP d_law_182 ?_
      refine nl_ld hG hL (by omega) d_law_183 ?_
      refine nv_aload_n hP 0 d_law_184 rfl rfl ?_
      refine nv_iload_n hP 3 d_law_185 rfl rfl ?_
      refine nv_iconst hP (nI 2) d_law_186 (by decide) ?_
      refine nv_iadd hP d_law_187 ?_
      refine nl_ld hG hL (by omega) d_law_188 ?_
      refine nl_callM hG (c_M_coefficient l h' a' τ K A B (xs (i + 1)) (xs (i + 2)) hM) kl_M_coefficient rfl ⟨rfl, rfl⟩ ⟨Nat.le_of_ble_eq_true rfl, Nat.le_of_ble_eq_true rfl⟩ rfl (Nat.le_of_ble_eq_true rfl) d_law_189 (fun rM σM qM => ?_)
      obtain ⟨hM1, has, v, hS, eM⟩ := qM
      exact nv_cmpeqR hP 418 d_law_192 (by decide) (fun _ => next _ ⟨K, A, B, qL.1, hM1⟩) (fun c_9 => absurd ((qL.2 has v hS).trans eM.symm) c_9)
    · refine nl_in hP 165 197 d_law_32 (by decide) (by decide) (by decide) (by decide) ?_
      refine nv_aload_n hP 1 d_law_197 rfl rfl ?_
      refine nv_aload_n hP 0 d_law_198 rfl rfl ?_
      refine nv_iload_n hP 3 d_law_199 rfl rfl ?_
      refine nv_iconst hP (nI 1) d_law_200 (by decide) ?_
      refine nv_iadd hP d_law_201 ?_
      refine nl_ld hG hL (by omega) d_law_202 ?_
      refine nl_callL hG (c_L_known l h a σ K A B (xs (i + 1)) hI) kl_L_known rfl ⟨rfl, rfl⟩ ⟨Nat.le_of_ble_eq_true rfl, Nat.le_of_ble_eq_true rfl⟩ rfl (Nat.le_of_ble_eq_true rfl) d_law_203 (fun rL σL qL => ?_)
      refine nv_aload_n hP 2 d_law_206 rfl rfl ?_
      refine nv_aload_n hP 0 d_law_207 rfl rfl ?_
      refine nv_iload_n hP 3 d_law_208 rfl rfl ?_
      refine nv_iconst hP (nI 1) d_law_209 (by decide) ?_
      refine nv_iadd hP d_law_210 ?_
      refine nl_ld hG hL (by omega) d_law_211 ?_
      refine nl_callM hG (c_M_known l h' a' τ K A B (xs (i + 1)) hM) kl_M_known rfl ⟨rfl, rfl⟩ ⟨Nat.le_of_ble_eq_true rfl, Nat.le_of_ble_eq_true rfl⟩ rfl (Nat.le_of_ble_eq_true rfl) d_law_212 (fun rM σM qM => ?_)
      obtain ⟨hM1, has, v, hS, eM⟩ := qM
      exact nv_cmpeqR hP 418 d_law_215 (by decide) (fun _ => next _ ⟨K, A, B, qL.1, hM1⟩) (fun c_9 => absurd ((qL.2 has v hS).trans eM.symm) c_9)
    · refine nl_in hP 188 220 d_law_32 (by decide) (by decide) (by decide) (by decide) ?_
      refine nv_aload_n hP 1 d_law_220 rfl rfl ?_
      refine nv_aload_n hP 0 d_law_221 rfl rfl ?_
      refine nv_iload_n hP 3 d_law_222 rfl rfl ?_
      refine nv_iconst hP (nI 1) d_law_223 (by decide) ?_
      refine nv_iadd hP d_law_224 ?_
      refine nl_ld hG hL (by omega) d_law_225 ?_
      refine nl_callL hG (c_L_valued l h a σ K A B (xs (i + 1)) hI) kl_L_valued rfl ⟨rfl, rfl⟩ ⟨Nat.le_of_ble_eq_true rfl, Nat.le_of_ble_eq_true rfl⟩ rfl (Nat.le_of_ble_eq_true rfl) d_law_226 (fun rL σL qL => ?_)
      refine nv_aload_n hP 2 d_law_229 rfl rfl ?_
      refine nv_aload_n hP 0 d_law_230 rfl rfl ?_
      refine nv_iload_n hP 3 d_law_231 rfl rfl ?_
      refine nv_iconst hP (nI 1) d_law_232 (by decide) ?_
      refine nv_iadd hP d_law_233 ?_
      refine nl_ld hG hL (by omega) d_law_234 ?_
      refine nl_callM hG (c_M_valued l h' a' τ K A B (xs (i + 1)) hM) kl_M_valued rfl ⟨rfl, rfl⟩ ⟨Nat.le_of_ble_eq_true rfl, Nat.le_of_ble_eq_true rfl⟩ rfl (Nat.le_of_ble_eq_true rfl) d_law_235 (fun rM σM qM => ?_)
      obtain ⟨hM1, has, v, hS, eM⟩ := qM
      exact nv_cmpeqR hP 418 d_law_238 (by decide) (fun _ => next _ ⟨K, A, B, qL.1, hM1⟩) (fun c_9 => absurd ((qL.2 has v hS).trans eM.symm) c_9)
    · refine nl_in hP 211 243 d_law_32 (by decide) (by decide) (by decide) (by decide) ?_
      refine nv_aload_n hP 1 d_law_243 rfl rfl ?_
      refine nv_aload_n hP 0 d_law_244 rfl rfl ?_
      refine nv_iload_n hP 3 d_law_245 rfl rfl ?_
      refine nv_iconst hP (nI 1) d_law_246 (by decide) ?_
      refine nv_iadd hP d_law_247 ?_
      refine nl_ld hG hL (by omega) d_law_248 ?_
      refine nl_callL hG (c_L_order l h a σ K A B (xs (i + 1)) hI) kl_L_order rfl ⟨rfl, rfl⟩ ⟨Nat.le_of_ble_eq_true rfl, Nat.le_of_ble_eq_true rfl⟩ rfl (Nat.le_of_ble_eq_true rfl) d_law_249 (fun rL σL qL => ?_)
      refine nv_aload_n hP 2 d_law_252 rfl rfl ?_
      refine nv_aload_n hP 0 d_law_253 rfl rfl ?_
      refine nv_iload_n hP 3 d_law_254 rfl rfl ?_
      refine nv_iconst hP (nI 1) d_law_255 (by decide) ?_
      refine nv_iadd hP d_law_256 ?_
      refine nl_ld hG hL (by omega) d_law_257 ?_
      refine nl_callM hG (c_M_order l h' a' τ K A B (xs (i + 1)) hM) kl_M_order rfl ⟨rfl, rfl⟩ ⟨Nat.le_of_ble_eq_true rfl, Nat.le_of_ble_eq_true rfl⟩ rfl (Nat.le_of_ble_eq_true rfl) d_law_258 (fun rM σM qM => ?_)
      obtain ⟨hM1, has, v, hS, eM⟩ := qM
      exact nv_cmpeqR hP 418 d_law_261 (by decide) (fun _ => next _ ⟨K, A, B, qL.1, hM1⟩) (fun c_9 => absurd ((qL.2 has v hS).trans eM.symm) c_9)
    · refine nl_in hP 234 266 d_law_32 (by decide) (by decide) (by decide) (by decide) ?_
      refine nv_aload_n hP 1 d_law_266 rfl rfl ?_
      refine nv_aload_n hP 0 d_law_267 rfl rfl ?_
      refine nv_iload_n hP 3 d_law_268 rfl rfl ?_
      refine nv_iconst hP (nI 1) d_law_269 (by decide) ?_
      refine nv_iadd hP d_law_270 ?_
      refine nl_ld hG hL (by omega) d_law_271 ?_
      refine nv_aload_n hP 0 d_law_272 rfl rfl ?_
      refine nv_iload_n hP 3 d_law_273 rfl rfl ?_
      refine nv_iconst hP (nI 2) d_law_274 (by decide) ?_
      refine nv_iadd hP d_law_275 ?_
      refine nl_ld hG hL (by omega) d_law_276 ?_
      refine nl_callL hG (c_L_agreeing l h a σ K A B (xs (i + 1)) (xs (i + 2)) hI) kl_L_agreeing rfl ⟨rfl, rfl⟩ ⟨Nat.le_of_ble_eq_true rfl, Nat.le_of_ble_eq_true rfl⟩ rfl (Nat.le_of_ble_eq_true rfl) d_law_277 (fun rL σL qL => ?_)
      refine nv_aload_n hP 2 d_law_280 rfl rfl ?_
      refine nv_aload_n hP 0 d_law_281 rfl rfl ?_
      refine nv_iload_n hP 3 d_law_282 rfl rfl ?_
      refine nv_iconst hP (nI 1) d_law_283 (by decide) ?_
      refine nv_iadd hP d_law_284 ?_
      refine nl_ld hG hL (by omega) d_law_285 ?_
      refine nv_aload_n hP 0 d_law_286 rfl rfl ?_
      refine nv_iload_n hP 3 d_law_287 rfl rfl ?_
      refine nv_iconst hP (nI 2) d_law_288 (by decide) ?_
      refine nv_iadd hP d_law_289 ?_
      refine nl_ld hG hL (by omega) d_law_290 ?_
      refine nl_callM hG (c_M_agreeing l h' a' τ K A B (xs (i + 1)) (xs (i + 2)) hM) kl_M_agreeing rfl ⟨rfl, rfl⟩ ⟨Nat.le_of_ble_eq_true rfl, Nat.le_of_ble_eq_true rfl⟩ rfl (Nat.le_of_ble_eq_true rfl) d_law_291 (fun rM σM qM => ?_)
      obtain ⟨hM1, has, v, hS, eM⟩ := qM
      exact nv_cmpeqR hP 418 d_law_294 (by decide) (fun _ => next _ ⟨K, A, B, qL.1, hM1⟩) (fun c_9 => absurd ((qL.2 has v hS).trans eM.symm) c_9)
    · refine nl_in hP 267 299 d_law_32 (by decide) (by decide) (by decide) (by decide) ?_
      refine nv_aload_n hP 1 d_law_299 rfl rfl ?_
      refine nv_aload_n hP 0 d_law_300 rfl rfl ?_
      refine nv_iload_n hP 3 d_law_301 rfl rfl ?_
      refine nv_iconst hP (nI 1) d_law_302 (by decide) ?_
      refine nv_iadd hP d_law_303 ?_
      refine nl_ld hG hL (by omega) d_law_304 ?_
      refine nv_aload_n hP 0 d_law_305 rfl rfl ?_
      refine nv_iload_n hP 3 d_law_306 rfl rfl ?_
      refine nv_iconst hP (nI 2) d_law_307 (by decide) ?_
      refine nv_iadd hP d_law_308 ?_
      refine nl_ld hG hL (by omega) d_law_309 ?_
      refine nv_aload_n hP 0 d_law_310 rfl rfl ?_
      refine nv_iload_n hP 3 d_law_311 rfl rfl ?_
      refine nv_iconst hP (nI 3) d_law_312 (by decide) ?_
      refine nv_iadd hP d_law_313 ?_
      refine nl_ld hG hL (by omega) d_law_314 ?_
      refine nl_callL hG (c_L_evaluate l h a σ K A B (xs (i + 1)) (xs (i + 2)) (xs (i + 3)) hI) kl_L_evaluate rfl ⟨rfl, rfl⟩ ⟨Nat.le_of_ble_eq_true rfl, Nat.le_of_ble_eq_true rfl⟩ rfl (Nat.le_of_ble_eq_true rfl) d_law_315 (fun rL σL qL => ?_)
      refine nv_aload_n hP 2 d_law_318 rfl rfl ?_
      refine nv_aload_n hP 0 d_law_319 rfl rfl ?_
      refine nv_iload_n hP 3 d_law_320 rfl rfl ?_
      refine nv_iconst hP (nI 1) d_law_321 (by decide) ?_
      refine nv_iadd hP d_law_322 ?_
      refine nl_ld hG hL (by omega) d_law_323 ?_
      refine nv_aload_n hP 0 d_law_324 rfl rfl ?_
      refine nv_iload_n hP 3 d_law_325 rfl rfl ?_
      refine nv_iconst hP (nI 2) d_law_326 (by decide) ?_
      refine nv_iadd hP d_law_327 ?_
      refine nl_ld hG hL (by omega) d_law_328 ?_
      refine nv_aload_n hP 0 d_law_329 rfl rfl ?_
      refine nv_iload_n hP 3 d_law_330 rfl rfl ?_
      refine nv_iconst hP (nI 3) d_law_331 (by decide) ?_
      refine nv_iadd hP d_law_332 ?_
      refine nl_ld hG hL (by omega) d_law_333 ?_
      refine nl_callM hG (c_M_evaluate l h' a' τ K A B (xs (i + 1)) (xs (i + 2)) (xs (i + 3)) hM) kl_M_evaluate rfl ⟨rfl, rfl⟩ ⟨Nat.le_of_ble_eq_true rfl, Nat.le_of_ble_eq_true rfl⟩ rfl (Nat.le_of_ble_eq_true rfl) d_law_334 (fun rM σM qM => ?_)
      obtain ⟨hM1, has, v, hS, eM⟩ := qM
      exact nv_cmpeqR hP 418 d_law_337 (by decide) (fun _ => next _ ⟨K, A, B, qL.1, hM1⟩) (fun c_9 => absurd ((qL.2 has v hS).trans eM.symm) c_9)
    · refine nl_in hP 310 342 d_law_32 (by decide) (by decide) (by decide) (by decide) ?_
      refine nv_aload_n hP 1 d_law_342 rfl rfl ?_
      refine nv_aload_n hP 0 d_law_343 rfl rfl ?_
      refine nv_iload_n hP 3 d_law_344 rfl rfl ?_
      refine nv_iconst hP (nI 1) d_law_345 (by decide) ?_
      refine nv_iadd hP d_law_346 ?_
      refine nl_ld hG hL (by omega) d_law_347 ?_
      refine nv_aload_n hP 0 d_law_348 rfl rfl ?_
      refine nv_iload_n hP 3 d_law_349 rfl rfl ?_
      refine nv_iconst hP (nI 2) d_law_350 (by decide) ?_
      refine nv_iadd hP d_law_351 ?_
      refine nl_ld hG hL (by omega) d_law_352 ?_
      refine nv_aload_n hP 0 d_law_353 rfl rfl ?_
      refine nv_iload_n hP 3 d_law_354 rfl rfl ?_
      refine nv_iconst hP (nI 3) d_law_355 (by decide) ?_
      refine nv_iadd hP d_law_356 ?_
      refine nl_ld hG hL (by omega) d_law_357 ?_
      refine nl_callL hG (c_L_sum l h a σ K A B (xs (i + 1)) (xs (i + 2)) (xs (i + 3)) hI) kl_L_sum rfl ⟨rfl, rfl⟩ ⟨Nat.le_of_ble_eq_true rfl, Nat.le_of_ble_eq_true rfl⟩ rfl (Nat.le_of_ble_eq_true rfl) d_law_358 (fun rL σL qL => ?_)
      refine nv_aload_n hP 2 d_law_361 rfl rfl ?_
      refine nv_aload_n hP 0 d_law_362 rfl rfl ?_
      refine nv_iload_n hP 3 d_law_363 rfl rfl ?_
      refine nv_iconst hP (nI 1) d_law_364 (by decide) ?_
      refine nv_iadd hP d_law_365 ?_
      refine nl_ld hG hL (by omega) d_law_366 ?_
      refine nv_aload_n hP 0 d_law_367 rfl rfl ?_
      refine nv_iload_n hP 3 d_law_368 rfl rfl ?_
      refine nv_iconst hP (nI 2) d_law_369 (by decide) ?_
      refine nv_iadd hP d_law_370 ?_
      refine nl_ld hG hL (by omega) d_law_371 ?_
      refine nv_aload_n hP 0 d_law_372 rfl rfl ?_
      refine nv_iload_n hP 3 d_law_373 rfl rfl ?_
      refine nv_iconst hP (nI 3) d_law_374 (by decide) ?_
      refine nv_iadd hP d_law_375 ?_
      refine nl_ld hG hL (by omega) d_law_376 ?_
      refine nl_callM hG (c_M_sum l h' a' τ K A B (xs (i + 1)) (xs (i + 2)) (xs (i + 3)) hM) kl_M_sum rfl ⟨rfl, rfl⟩ ⟨Nat.le_of_ble_eq_true rfl, Nat.le_of_ble_eq_true rfl⟩ rfl (Nat.le_of_ble_eq_true rfl) d_law_377 (fun rM σM qM => ?_)
      obtain ⟨hM1, has, v, hS, eM⟩ := qM
      exact nv_cmpeqR hP 418 d_law_380 (by decide) (fun _ => next _ ⟨K, A, B, qL.1, hM1⟩) (fun c_9 => absurd ((qL.2 has v hS).trans eM.symm) c_9)
    · refine nl_in hP 353 385 d_law_32 (by decide) (by decide) (by decide) (by decide) ?_
      refine nv_aload_n hP 1 d_law_385 rfl rfl ?_
      refine nv_aload_n hP 0 d_law_386 rfl rfl ?_
      refine nv_iload_n hP 3 d_law_387 rfl rfl ?_
      refine nv_iconst hP (nI 1) d_law_388 (by decide) ?_
      refine nv_iadd hP d_law_389 ?_
      refine nl_ld hG hL (by omega) d_law_390 ?_
      refine nv_aload_n hP 0 d_law_391 rfl rfl ?_
      refine nv_iload_n hP 3 d_law_392 rfl rfl ?_
      refine nv_iconst hP (nI 2) d_law_393 (by decide) ?_
      refine nv_iadd hP d_law_394 ?_
      refine nl_ld hG hL (by omega) d_law_395 ?_
      refine nl_callL hG (c_L_needs l h a σ K A B (xs (i + 1)) (xs (i + 2)) hI) kl_L_needs rfl ⟨rfl, rfl⟩ ⟨Nat.le_of_ble_eq_true rfl, Nat.le_of_ble_eq_true rfl⟩ rfl (Nat.le_of_ble_eq_true rfl) d_law_396 (fun rL σL qL => ?_)
      refine nv_aload_n hP 2 d_law_399 rfl rfl ?_
      refine nv_aload_n hP 0 d_law_400 rfl rfl ?_
      refine nv_iload_n hP 3 d_law_401 rfl rfl ?_
      refine nv_iconst hP (nI 1) d_law_402 (by decide) ?_
      refine nv_iadd hP d_law_403 ?_
      refine nl_ld hG hL (by omega) d_law_404 ?_
      refine nv_aload_n hP 0 d_law_405 rfl rfl ?_
      refine nv_iload_n hP 3 d_law_406 rfl rfl ?_
      refine nv_iconst hP (nI 2) d_law_407 (by decide) ?_
      refine nv_iadd hP d_law_408 ?_
      refine nl_ld hG hL (by omega) d_law_409 ?_
      refine nl_callM hG (c_M_needs l h' a' τ K A B (xs (i + 1)) (xs (i + 2)) hM) kl_M_needs rfl ⟨rfl, rfl⟩ ⟨Nat.le_of_ble_eq_true rfl, Nat.le_of_ble_eq_true rfl⟩ rfl (Nat.le_of_ble_eq_true rfl) d_law_410 (fun rM σM qM => ?_)
      exact nv_cmpeqR hP 418 d_law_413 (by decide) (fun _ => next _ ⟨K, A, B, qL.1, qM.1⟩) (fun c_9 => absurd (aNeeds_eq qL.2 qM.2) c_9)
end
section
theorem va_P_l {D : va_G} {cl : List vw_C} {w1 w2 : va_W} {H : Heap} (h : va_P D cl (w1 ++ w2) H) : va_P D cl w1 H := fun k q hk => h k q (by
  rw [List.getElem?_append_left (List.getElem?_eq_some_iff.mp hk).1]
  exact hk)
theorem va_P_r {D : va_G} {cl : List vw_C} {w1 w2 : va_W} {H : Heap} (h : va_P D cl (w1 ++ w2) H) : va_P D cl w2 H := fun k q hk => h (w1.length + k) q (by
  rw [List.getElem?_append_right (Nat.le_add_right _ _), Nat.add_sub_cancel_left]
  exact hk)
theorem wO_D2 {A : Nat → Prop} {z : Bool → ClassId} {ci h : Nat} {a : Nat → Nat} {σ : SG} (hap : apart ci h a) (hA : ∀ q, inO ci h a q → A q) : va_D A (wO z ci h a σ) := ⟨(wO_D (sz := 0) (z := z) (σ := σ) hap).1, fun k q hk => hA _ (wO_in hk)⟩
theorem good_init {y : MethodName} {bb : ByteArray} {n : Nat} {rt : Option FieldType} (hk : Cond.code y bb n rt ∈ lw_tbl) : GoodIn lw_tbl (.code y bb n rt :: wA) := by
  intro w hw
  have h1 : w ∈ wA := by
    rcases List.mem_cons.mp hw with rfl | hw
    · exact inA hk rfl
    · exact hw
  exact ⟨tbl_in h1, tbl_good w h1⟩
theorem blind_1 {h0 ci sz : Nat} {D : va_G} {z : Bool → ClassId} {fs : List Value} : FrameBlind (va_Pc [.ref h0] (fun U => U.heap.size = sz ∧ va_P D classes [(h0, .inr (ci, fs))] U.heap ∧ va_K D classes (tz z) U)) :=
  fun a U g mk q => by
    obtain ⟨q0, q1, qP, qK⟩ := q
    exact ⟨q0, q1, qP, va_K.moved (u := U) (U := U.calling g mk a) (Vm.Alike.refl U.vm) qK⟩
set_option maxHeartbeats 4000000 in
set_option maxRecDepth 100000 in
/-- THE LAW, from its entry -/
theorem whole_start {p : Program} {e : Env} {s : State} {m : MethodId} {below : List Frame} {meth : Method} {c : Code} (l : Launch) {b L : Nat} {xs : Nat → Int32} (hL : L ≤ 2560) (C0 : lw_At p s m meth c b L xs) : W p l e room_1 s m #[Value.ref b] below meth c s.heap [] 0 0 (lw_Z below #[Value.ref b] s) (entryFrame m ([Value.ref b] : List Value).toArray 4) := by
  obtain ⟨hx, hb, hr, hml, hown, hts, hX, hbl, hlocks, hgv⟩ := id C0
  have hA : ∀ q : Nat, s.heap.size ≤ q → (fun q : Nat => s.heap.size ≤ q) q := fun _ h => h
  obtain ⟨c0, iS0, hKn0⟩ := u_known (C := R_L) (T := F_L) (N := 9) (n := 9) hts (fun w hw => tbl_in (i_L w hw)) (hts (.instantiable R_L 9) (List.mem_of_getElem? (i := 26) (by decide +kernel)))
  obtain ⟨c1, iS1, hKn1⟩ := u_known (C := R_M) (T := F_M) (N := 8) (n := 8) hts (fun w hw => tbl_in (i_M w hw)) (hts (.instantiable R_M 8) (List.mem_of_getElem? (i := 141) (by decide +kernel)))
  obtain ⟨dC, dI, hKc⟩ : ∃ (dC : Nat → ClassId) (dI : Nat → Nat → Nat), ∀ (k : Nat) (q : vw_C), classes[k]? = some q → u_Kn s q.1 q.2.1 q.2.2 (dC k) (dI k) := by
    refine ⟨fun k => if k = 0 then c0 else c1, fun k => if k = 0 then iS0 else iS1, ?_⟩
    intro k q hq
    match k, hq with
    | 0, hq => cases hq; exact hKn0
    | 1, hq => cases hq; exact hKn1
    | k + 2, hq => simp [classes] at hq
  obtain ⟨cI, kI, mI, i1, i2, i3⟩ := Cond.arrayClass_spec (hts (.arrayClass .int) (List.mem_of_getElem? (i := 61) (by decide +kernel)))
  obtain ⟨cZ, kZ, mZ, z1, z2, z3⟩ := Cond.arrayClass_spec (hts (.arrayClass .boolean) (List.mem_of_getElem? (i := 171) (by decide +kernel)))
  obtain ⟨z, rfl, rfl⟩ : ∃ z : Bool → ClassId, z false = cI ∧ z true = cZ := ⟨fun q => bif q then cZ else cI, rfl, rfl⟩
  have hK : va_K (dC, dI) classes (tz z) s := by
    refine ⟨hKc, fun k q hq => ?_⟩
    match k, hq with
    | 0, hq => cases hq; exact ⟨fun n y => ⟨fun k h => (by cases h), kI, i2, mI, i3⟩, i1⟩
    | 1, hq => cases hq; exact ⟨fun n y => ⟨fun k h => (by cases h), kZ, z2, mZ, z3⟩, z1⟩
    | k + 2, hq => simp [tz] at hq
  generalize hDe : (dC, dI) = D at hK
  have hS : va_S (fun q : Nat => s.heap.size ≤ q) s.heap s.heap [] := va_S.rf
  have hP : va_P D classes [] s.heap := fun k q h => by simp at h
  have hD : va_D (fun q : Nat => s.heap.size ≤ q) [] := ⟨fun i j p q h => by simp at h, fun k q h => by simp at h⟩
  have hl := lv_entry ([.ref b]) (n := 4) (Nat.le_of_ble_eq_true rfl)
  rw [lg_entry_eq]
  generalize (lg_sl ([.ref b]) ++ List.replicate (4 - (lg_sl ([.ref b])).length) Slot.unset).toArray = ls at hl ⊢
  have hl : lv_has ls 4 [(0, .ref b)] := hl
  refine va_new (D := D) (ci := 0) (fs := [.null, .null, .null, .null, .null, .null, .null, .null, .null]) (C := R_L) (T := F_L) (N := 9) hx hb hts (fun w hw => tbl_in (i_L w hw)) t_L t_L_ok hown (hts (.classLink "LazySeriesLaw" 7 "LazySeries") (List.mem_of_getElem? (i := 25) (by decide +kernel))) (hts (.instantiable "LazySeries" 9) (List.mem_of_getElem? (i := 26) (by decide +kernel))) (hts (.initialized "LazySeries") (List.mem_of_getElem? (i := 23) (by decide +kernel))) hK hP hD hS hA rfl (fun j hj => by rcases (show j = 0 ∨ j = 1 ∨ j = 2 ∨ j = 3 ∨ j = 4 ∨ j = 5 ∨ j = 6 ∨ j = 7 ∨ j = 8 by omega) with rfl | rfl | rfl | rfl | rfl | rfl | rfl | rfl | rfl <;> rfl) (Nat.le_of_ble_eq_true rfl) (Nat.le_of_ble_eq_true rfl) d_law_0 (fun h H hP hD hS => ?_)
  have hP : va_P D classes [(h, .inr (0, [.null, .null, .null, .null, .null, .null, .null, .null, .null]))] H := hP
  have hD : va_D (fun q : Nat => s.heap.size ≤ q) [(h, .inr (0, [.null, .null, .null, .null, .null, .null, .null, .null, .null]))] := hD
  have hhs : s.heap.size ≤ h := hD.2 0 _ rfl
  have hhl : h < H.size := (hP 0 _ rfl).lt
  refine W.widen (k := 1) (n := 9) (by omega) (by omega) ?_
  refine lv_dup hx hb d_law_3 rfl ?_
  refine va_callv (va_runI (As := []) (rest := [.ref h]) ⟨hx, hb, hml, hown, hts⟩ (c_L_init l D z h H.size) (cwI 0 hts (good_init (y := y_L_init) (bb := b_L_init) (n := 2) (rt := none) (List.mem_of_getElem? (i := 29) rfl)) rfl rfl rfl (hts (.initialized "LazySeries") (List.mem_of_getElem? (i := 23) (by decide +kernel))) (hts (.methodLink "LazySeriesLaw" 9 y_L_init) (List.mem_of_getElem? (i := 27) (by decide +kernel))) (hts (.instanceMethod y_L_init) (List.mem_of_getElem? (i := 28) (by decide +kernel))) rfl (by decide +kernel) ⟨Nat.le_of_ble_eq_true rfl, Nat.le_of_ble_eq_true rfl⟩) ⟨blind_1, fun U hU hW => ⟨rfl, by rw [hU], by rw [hU]; exact hP, va_K.moved hW.alike hK⟩⟩ rfl rfl hl.1 rfl (lv_room (Nat.le_of_ble_eq_true rfl)) d_law_4 ⟨Nat.le_of_ble_eq_true rfl, Nat.le_of_ble_eq_true rfl⟩) hS (fun q _ k => ?_) (fun q k => ?_) (fun u t H1 locs ht hvm hw hB hz1 hk1 hS => ?_)
  · rcases k with e1 | e1
    · rw [e1]; exact hhs
    · exact Nat.le_trans hS.1 e1
  · rcases k with e1 | e1
    · rw [e1]; exact hhs
    · exact Nat.le_trans hS.1 e1
  obtain ⟨a, σ⟩ := u
  obtain ⟨hap, hage, hI⟩ := hw
  have hB : va_P D classes (wO z 0 h a σ) t.heap := hB
  rw [ht] at hB
  have hHs : s.heap.size ≤ H.size := by
    rcases Nat.lt_or_ge H.size s.heap.size with q | q
    · omega
    · exact q
  have hge : ∀ q, inO 0 h a q → s.heap.size ≤ q := fun q hq => by
    rcases hq with e1 | ⟨k, hk, e1⟩
    · rw [e1]; exact hhs
    · rw [e1]; exact Nat.le_trans hHs (hage k hk)
  clear hP hD hz1 hk1 ht hvm
  generalize H1 = H at hB hS ⊢
  refine W.widen (k := 10) (n := 658) (by omega) (by omega) ?_
  refine lv_astore_n (lv' := [(1, .ref h), (0, .ref b)]) hx hb d_law_7 rfl hl (by decide) rfl (fun ls hl => ?_)
  have hP : va_P D classes (wO z 0 h a σ) H := hB
  have hD : va_D (fun q : Nat => s.heap.size ≤ q) (wO z 0 h a σ) := wO_D2 hap hge
  refine va_new (D := D) (ci := 1) (fs := [.null, .null, .null, .null, .null, .null, .null, .null]) (C := R_M) (T := F_M) (N := 8) hx hb hts (fun w hw => tbl_in (i_M w hw)) t_M t_M_ok hown (hts (.classLink "LazySeriesLaw" 10 "LazySeriesModel") (List.mem_of_getElem? (i := 140) (by decide +kernel))) (hts (.instantiable "LazySeriesModel" 8) (List.mem_of_getElem? (i := 141) (by decide +kernel))) (hts (.initialized "LazySeriesModel") (List.mem_of_getElem? (i := 24) (by decide +kernel))) hK hP hD hS hA rfl (fun j hj => by rcases (show j = 0 ∨ j = 1 ∨ j = 2 ∨ j = 3 ∨ j = 4 ∨ j = 5 ∨ j = 6 ∨ j = 7 by omega) with rfl | rfl | rfl | rfl | rfl | rfl | rfl | rfl <;> rfl) (Nat.le_of_ble_eq_true rfl) (Nat.le_of_ble_eq_true rfl) d_law_8 (fun h' H hP hD hS => ?_)
  have hPL : va_P D classes (wO z 0 h a σ) H := va_P_l hP
  have hPM : va_P D classes [(h', .inr (1, [.null, .null, .null, .null, .null, .null, .null, .null]))] H := va_P_r hP
  have hn' : ∀ q, inO 0 h a q → q ≠ h' := fun q hq e1 => by
    have hlast : (wO z 0 h a σ ++ [(h', .inr (1, [.null, .null, .null, .null, .null, .null, .null, .null]))])[(wO z 0 h a σ).length]? = some (h', .inr (1, [.null, .null, .null, .null, .null, .null, .null, .null])) := by
      rw [List.getElem?_append_right (Nat.le_refl _), Nat.sub_self]; rfl
    rcases hq with e2 | ⟨k, hk, e2⟩
    · have hg : (wO z 0 h a σ ++ [(h', .inr (1, [.null, .null, .null, .null, .null, .null, .null, .null]))])[0]? = some (h, .inr (0, (List.range (nO 0)).map (fun k => Value.ref (a k)))) := rfl
      have := hD.1 0 _ _ _ hg hlast (e2.symm.trans e1)
      simp [wO] at this
    · have hg := wO_get z h a σ hk
      have hlt := (List.getElem?_eq_some_iff.mp hg).1
      have := hD.1 (k + 1) _ _ _ (by rw [List.getElem?_append_left hlt]; exact hg) hlast (e2.symm.trans e1)
      omega
  have hhs' : s.heap.size ≤ h' := hD.2 (wO z 0 h a σ).length (h', .inr (1, [.null, .null, .null, .null, .null, .null, .null, .null])) (by rw [List.getElem?_append_right (Nat.le_refl _), Nat.sub_self]; rfl)
  have hlL : ∀ q, inO 0 h a q → q < H.size := fun q hq => by
    rcases hq with e2 | ⟨k, hk, e2⟩
    · rw [e2]; exact (hPL 0 _ rfl).lt
    · rw [e2]; exact (hPL (k + 1) _ (wO_get z h a σ hk)).lt
  refine W.widen (k := 11) (n := 666) (by omega) (by omega) ?_
  refine lv_dup hx hb d_law_11 rfl ?_
  refine va_callv (va_runI (As := []) (rest := [.ref h']) ⟨hx, hb, hml, hown, hts⟩ (c_M_init l D z h' H.size) (cwI 0 hts (good_init (y := y_M_init) (bb := b_M_init) (n := 1) (rt := none) (List.mem_of_getElem? (i := 144) rfl)) rfl rfl rfl (hts (.initialized "LazySeriesModel") (List.mem_of_getElem? (i := 24) (by decide +kernel))) (hts (.methodLink "LazySeriesLaw" 12 y_M_init) (List.mem_of_getElem? (i := 142) (by decide +kernel))) (hts (.instanceMethod y_M_init) (List.mem_of_getElem? (i := 143) (by decide +kernel))) rfl (by decide +kernel) ⟨Nat.le_of_ble_eq_true rfl, Nat.le_of_ble_eq_true rfl⟩) ⟨blind_1, fun U hU hW => ⟨rfl, by rw [hU], by rw [hU]; exact hPM, va_K.moved hW.alike hK⟩⟩ rfl rfl hl.1 rfl (lv_room (Nat.le_of_ble_eq_true rfl)) d_law_12 ⟨Nat.le_of_ble_eq_true rfl, Nat.le_of_ble_eq_true rfl⟩) hS (fun q _ k => ?_) (fun q k => ?_) (fun u t H1 locs ht hvm hw hB hz1 hk1 hS => ?_)
  · rcases k with e1 | e1
    · rw [e1]; exact hhs'
    · exact Nat.le_trans hS.1 e1
  · rcases k with e1 | e1
    · rw [e1]; exact hhs'
    · exact Nat.le_trans hS.1 e1
  obtain ⟨a', τ⟩ := u
  obtain ⟨hap', hage', hM⟩ := hw
  have hB : va_P D classes (wO z 1 h' a' τ) t.heap := hB
  rw [ht] at hB
  have hPL1 : va_P D classes (wO z 0 h a σ) H1 := hPL.kept (fun k q hk => hk1 q.1 (hPL k q hk).lt (fun e1 => by
    rcases e1 with e1 | e1
    · exact hn' q.1 (wO_in hk) e1
    · exact absurd (hPL k q hk).lt (Nat.not_lt.mpr e1)))
  have hds : ∀ q, inO 0 h a q → ¬ inO 1 h' a' q := fun q hq hq' => by
    rcases hq' with e1 | ⟨k, hk, e1⟩
    · exact hn' q hq e1
    · have := hlL q hq
      have h8 : H.size ≤ a' k := hage' k hk
      omega
  have hge' : ∀ q, inO 1 h' a' q → s.heap.size ≤ q := fun q hq => by
    rcases hq with e1 | ⟨k, hk, e1⟩
    · rw [e1]; exact hhs'
    · have h9 : s.heap.size ≤ H.size := Nat.le_trans hhs (Nat.le_of_lt (hlL h (Or.inl rfl)))
      rw [e1]; exact Nat.le_trans h9 (hage' k hk)
  refine W.widen (k := 19) (n := 1106) (by omega) (by omega) ?_
  refine lv_astore_n (lv' := [(2, .ref h'), (1, .ref h), (0, .ref b)]) hx hb d_law_15 rfl hl (by decide) rfl (fun ls hl => ?_)
  refine lv_iconst (v := nI 0) hx hb d_law_16 (by decide) ?_
  refine lv_istore_n (lv' := [(3, .int (nI 0)), (2, .ref h'), (1, .ref h), (0, .ref b)]) hx hb d_law_17 rfl hl (by decide) rfl (fun ls hl => ?_)
  refine law_loop (l := l) (xs := xs) (h := h) (a := a) (h' := h') (a' := a') hL ⟨p, e, s, m, below, meth, c, D, z, C0, hK, ⟨hap, hap', hds, hge, hge'⟩, rfl⟩ (L + 1) 0 σ τ (Nat.zero_le _) ⟨K0, K0, K0, hI, hM⟩ (by omega) H1 locs ls ⟨hPL1, hB, hS⟩ ⟨hl.1, hl.2.1, ?_⟩
  intro i v hi
  have h1 := lk_mem hi
  simp only [List.mem_cons, List.not_mem_nil, or_false] at h1
  rcases h1 with h1 | h1 | h1 | h1 <;> cases h1
  · exact ⟨lv_at hl 3 rfl, rfl⟩
  · exact ⟨lv_at hl 2 rfl, rfl⟩
  · exact ⟨lv_at hl 1 rfl, rfl⟩
  · exact ⟨lv_at hl 0 rfl, rfl⟩
end
section
set_option maxHeartbeats 4000000 in
theorem lw_walk (l : Launch) (b : Addr) (xs : List Int32) : MetFree l x (headSpec (Jvm.Cond.code x code maxLocals ret :: tables_1) room_1) (lw_P b xs) (fun _ _ _ _ _ => True) lw_Q := by
  refine MetFree.of_bodyS (code := code) (maxLocals := maxLocals) (ret := ret) (by decide) ?_ ?_
  · intro args s m h hn
    obtain ⟨meth, c, h1, h2, h3, h4, h5, h6, -, -⟩ := Cond.code_spec hn (atoms_spec (ws := Jvm.Cond.code x code maxLocals ret :: tables_1) h _ List.mem_cons_self)
    exact ⟨meth, c, h1, h2, h3, h4, h5, h6⟩
  · intro p e s m args below meth c s₁ B hml0 hP _
    obtain ⟨rfl, hx, hbd, hgv⟩ := hP
    obtain ⟨scr, harrAt, hlist, hof, hsmall⟩ := hx
    obtain ⟨hcb, hkn, -, -⟩ := State.arrayAt?_spec harrAt
    have hown : s.vm.findClass R_law = some m.cls := findClass_of_methodNamed B.named
    have hts0 : ∀ c ∈ (Jvm.Cond.code x code maxLocals ret :: tables_1), c.before #[Value.ref b] s = true := atoms_spec (ws := Jvm.Cond.code x code maxLocals ret :: tables_1) B.pre
    have hts : ∀ w ∈ lw_tbl, w.before #[Value.ref b] s = true := k2_hts_sels lw_privs (fun w hw => hts0 w (List.mem_cons_of_mem _ hw)) lw_privs_ok
    have hml : c.maxLocals = 4 := B.maxLocals_eq (hts0 _ List.mem_cons_self)
    have X₀ : Stand p l e room_1 s m #[Value.ref b] below meth c s₁ [] 0 0 := Stand.of_body B
    have hh0 : s₁.heap = s.heap := by rw [B.state]; rfl
    have hsz : scr.slots.size = xs.length := by rw [← Array.length_toList, hlist, List.length_map]
    have hval : ∀ j : Nat, j < xs.length → scr.slots[j]? = some (.int (xs.getD j 0)) := fun j hj => by
      rw [← Array.getElem?_toList, hlist]
      simp [hj]
    have hbl : b < s.heap.size := (Array.getElem?_eq_some_iff.mp hcb).1
    have hX : va_X b xs.length (fun j => xs.getD j 0) s s.heap := ⟨scr, hcb, hof, hkn, hsz, hval⟩
    have K : W p l e room_1 s m #[Value.ref b] below meth c s₁.heap [] 0 0 (lw_Z below #[Value.ref b] s) (entryFrame m ([Value.ref b] : List Value).toArray 4) := by
      rw [hh0]
      exact whole_start l hbd ⟨B.exec, B.bytes, B.returns, hml, hown, hts, hX, hbl, B.notSynchronized, hgv⟩
    obtain ⟨t, a1, o, b1, b2, b3⟩ := K s₁ rfl X₀
    exact ⟨t, o, a1, b1, b2, b3⟩
theorem lw_pre_spec {args : Array Value} {s : State} (h : (Jvm.Cond.and given_1 narrow_1).before args s = true) (hr : rest_1_c.before args s = true) : ∃ (b : Addr) (xs : List Int32), lw_P b xs args s := by
  have hs := flat_of_before _ h
  have hq := flat_of_before _ hr
  have hc : (Cond.count 1).before args s = true := hs _ (by decide +kernel)
  have harr : (Cond.arrayOf (.arg 0) .int).before args s = true := hs _ (by decide +kernel)
  have hle : (Cond.le (.length (.arg 0)) (.int 2560)).before args s = true := hs _ (by decide +kernel)
  have hlen : (Cond.isInt (.length (.arg 0))).before args s = true := hq _ (by decide +kernel)
  have hall : (Cond.all (.arg 0) (.isInt (.elem (.arg 0) (.index 0)))).before args s = true := hq _ (by decide +kernel)
  obtain ⟨b, xs, hb, hx⟩ := State.ints_of_pre rfl harr hlen hall
  have hsm : xs.length < 2 ^ 31 := hx.choose_spec.2.2.2
  have hev : (Term.length (.arg 0)).eval args s none [] s = some (.int xs.length.toInt32) := hx.length_eval hb
  have hv := Cond.le_ints hev (show (Term.int 2560).eval args s none [] s = some (.int 2560) from rfl)
  have hd : xs.length.toInt32 ≤ 2560 := by
    simpa [Cond.before, Cond.holds, hv] using hle
  have hN : xs.length ≤ 2560 := (Int32.ofNat_le_ofNat hsm (by decide)).mp (show Int32.ofNat xs.length ≤ Int32.ofNat 2560 from hd)
  exact ⟨b, xs, Cond.one_arg hc (show args[0]? = some (.ref b) from hb), hx, hN, h⟩
theorem lw_comes (l : Launch) : Comes l x (Jvm.Cond.code x code maxLocals ret :: tables_1) room_1 (fun tb e args s => Calls_1 tb e args s ∧ rest_1 tb e args s ∧ Pre_1 tb e args s)
    (fun _ _ args s o t => lw_Q args s o t) := by
  intro p e ha hc hk s m args below hf hfit hheap happ hpre
  obtain ⟨b, xs, hP⟩ := lw_pre_spec hpre.2.2 hpre.2.1
  obtain ⟨k, o, h1, h2, h3, hQ⟩ := lw_walk l b xs p e ha hc hk s m args below hf ((Spec.applies_iff_loose hf).mp happ).1 hP trivial
  exact ⟨k, o, h1, h2, h3, hQ⟩
theorem lw_frame {s t : State} {o : Outcome} {args : Array Value} (h : Framed s o t [] 19 1106) :
    Framed s o t (fieldLocs frame_1_writes args s ++ arrayLocs frame_1_arrays args s ++ staticLocs frame_1_statics s) 19 1106 := h
theorem lw_limb (L : Cond) (hL : ∀ (args : Array Value) (s t : State), L.after args s (.returned (some (.int 1))) t = true) :
    ArmFor flags0 classFile x code maxLocals ret World_1 tables_1 room_1 Calls_1 rest_1 Pre_1
      (fun tb e a s o t => postC L tb e a s o t ∧ Framed s o t (fieldLocs frame_1_writes a s ++ arrayLocs frame_1_arrays a s ++ staticLocs frame_1_statics s) 19 1106) := by
  intro l _ _ _ p e ha hc hk s m args below hf hfit hheap happ hpre
  obtain ⟨k, o, h1, h2, h3, rfl, hF⟩ := lw_comes l p e ha hc hk s m args below hf hfit hheap happ hpre
  exact ⟨k, _, h1, h2, h3, hL args s _, lw_frame hF⟩
theorem i_vc : Claimed_1_1 ∧ Claimed_1_2 := ⟨lw_limb limb_1_1 (fun args s t => by simp [limb_1_1, Cond.after, Cond.holds, Cond.value]), lw_limb limb_1_2 (fun args s t => Cond.after_iff.mpr (by
  first | (rw [show limb_1_2 = Cond.eq .result (.int 1) from rfl, Cond.eq_ints (x := 1) (y := 1) rfl rfl]; simp; done) | (simp [limb_1_2, Cond.value, Term.eval]; done)))⟩
end
