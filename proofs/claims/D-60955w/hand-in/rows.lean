section
-- D-60955w: the whole chain, from one build
-- ===== PART A: goes FIRST, ahead of the names: the tables' words, and 'selects' of the private methods out of them =====
/-- a private method of a class that the tables say can be made, by its rows of tables_1 -/
def lw_okq (q : MethodName × Nat) : Prop := (q.1.cls ≠ "java/lang/invoke/MethodHandle" ∧ q.1.cls ≠ "java/lang/invoke/VarHandle") ∧ Cond.instantiable q.1.cls q.2 ∈ tables_1 ∧ Cond.privateMethod q.1 ∈ tables_1 ∧ Cond.instanceMethod q.1 ∈ tables_1
theorem lw_p0 : lw_okq (⟨"CallFrames", "empty", "()V"⟩, 10) := ⟨⟨by decide +kernel, by decide +kernel⟩, List.mem_of_getElem? (i := 12) (by decide +kernel), List.mem_of_getElem? (i := 52) (by decide +kernel), List.mem_of_getElem? (i := 53) (by decide +kernel)⟩
theorem lw_p1 : lw_okq (⟨"CallFrames", "area", "()I"⟩, 10) := ⟨⟨by decide +kernel, by decide +kernel⟩, List.mem_of_getElem? (i := 12) (by decide +kernel), List.mem_of_getElem? (i := 92) (by decide +kernel), List.mem_of_getElem? (i := 93) (by decide +kernel)⟩
theorem lw_p2 : lw_okq (⟨"CallFrames", "end", "()I"⟩, 10) := ⟨⟨by decide +kernel, by decide +kernel⟩, List.mem_of_getElem? (i := 12) (by decide +kernel), List.mem_of_getElem? (i := 96) (by decide +kernel), List.mem_of_getElem? (i := 97) (by decide +kernel)⟩
theorem lw_p3 : lw_okq (⟨"java/lang/Throwable", "fillInStackTrace", "(I)Ljava/lang/Throwable;"⟩, 6) := ⟨⟨by decide +kernel, by decide +kernel⟩, List.mem_of_getElem? (i := 168) (by decide +kernel), List.mem_of_getElem? (i := 166) (by decide +kernel), List.mem_of_getElem? (i := 167) (by decide +kernel)⟩
theorem lw_p4 : lw_okq (⟨"CallFrames", "isReal", "(I)Z"⟩, 10) := ⟨⟨by decide +kernel, by decide +kernel⟩, List.mem_of_getElem? (i := 12) (by decide +kernel), List.mem_of_getElem? (i := 217) (by decide +kernel), List.mem_of_getElem? (i := 218) (by decide +kernel)⟩
theorem lw_p5 : lw_okq (⟨"CallFrames", "of", "(I)LCallFrames$Argument;"⟩, 10) := ⟨⟨by decide +kernel, by decide +kernel⟩, List.mem_of_getElem? (i := 12) (by decide +kernel), List.mem_of_getElem? (i := 229) (by decide +kernel), List.mem_of_getElem? (i := 230) (by decide +kernel)⟩
theorem lw_p6 : lw_okq (⟨"CallFramesModel", "fail", "(I)I"⟩, 13) := ⟨⟨by decide +kernel, by decide +kernel⟩, List.mem_of_getElem? (i := 284) (by decide +kernel), List.mem_of_getElem? (i := 346) (by decide +kernel), List.mem_of_getElem? (i := 347) (by decide +kernel)⟩
theorem lw_p7 : lw_okq (⟨"CallFramesModel", "home", "(I)I"⟩, 13) := ⟨⟨by decide +kernel, by decide +kernel⟩, List.mem_of_getElem? (i := 284) (by decide +kernel), List.mem_of_getElem? (i := 350) (by decide +kernel), List.mem_of_getElem? (i := 351) (by decide +kernel)⟩
theorem lw_p8 : lw_okq (⟨"CallFramesModel", "isWide", "(I)Z"⟩, 13) := ⟨⟨by decide +kernel, by decide +kernel⟩, List.mem_of_getElem? (i := 284) (by decide +kernel), List.mem_of_getElem? (i := 354) (by decide +kernel), List.mem_of_getElem? (i := 355) (by decide +kernel)⟩
theorem lw_p9 : lw_okq (⟨"CallFramesModel", "bytes", "(I)I"⟩, 13) := ⟨⟨by decide +kernel, by decide +kernel⟩, List.mem_of_getElem? (i := 284) (by decide +kernel), List.mem_of_getElem? (i := 361) (by decide +kernel), List.mem_of_getElem? (i := 362) (by decide +kernel)⟩
theorem lw_p10 : lw_okq (⟨"CallFramesModel", "isThere", "(I)Z"⟩, 13) := ⟨⟨by decide +kernel, by decide +kernel⟩, List.mem_of_getElem? (i := 284) (by decide +kernel), List.mem_of_getElem? (i := 370) (by decide +kernel), List.mem_of_getElem? (i := 371) (by decide +kernel)⟩
theorem lw_p11 : lw_okq (⟨"CallFramesModel", "words", "(I)I"⟩, 13) := ⟨⟨by decide +kernel, by decide +kernel⟩, List.mem_of_getElem? (i := 284) (by decide +kernel), List.mem_of_getElem? (i := 374) (by decide +kernel), List.mem_of_getElem? (i := 375) (by decide +kernel)⟩
theorem lw_p12 : lw_okq (⟨"CallFramesModel", "isFraction", "(I)Z"⟩, 13) := ⟨⟨by decide +kernel, by decide +kernel⟩, List.mem_of_getElem? (i := 284) (by decide +kernel), List.mem_of_getElem? (i := 378) (by decide +kernel), List.mem_of_getElem? (i := 379) (by decide +kernel)⟩
theorem lw_p13 : lw_okq (⟨"CallFramesModel", "area", "()I"⟩, 13) := ⟨⟨by decide +kernel, by decide +kernel⟩, List.mem_of_getElem? (i := 284) (by decide +kernel), List.mem_of_getElem? (i := 390) (by decide +kernel), List.mem_of_getElem? (i := 391) (by decide +kernel)⟩
theorem lw_p14 : lw_okq (⟨"CallFramesModel", "generalAt", "()I"⟩, 13) := ⟨⟨by decide +kernel, by decide +kernel⟩, List.mem_of_getElem? (i := 284) (by decide +kernel), List.mem_of_getElem? (i := 405) (by decide +kernel), List.mem_of_getElem? (i := 406) (by decide +kernel)⟩
theorem lw_p15 : lw_okq (⟨"CallFramesModel", "fractionsAt", "()I"⟩, 13) := ⟨⟨by decide +kernel, by decide +kernel⟩, List.mem_of_getElem? (i := 284) (by decide +kernel), List.mem_of_getElem? (i := 409) (by decide +kernel), List.mem_of_getElem? (i := 410) (by decide +kernel)⟩
def lw_privs_1 : List (MethodName × Nat) := [(⟨"CallFrames", "empty", "()V"⟩, 10), (⟨"CallFrames", "area", "()I"⟩, 10), (⟨"CallFrames", "end", "()I"⟩, 10), (⟨"java/lang/Throwable", "fillInStackTrace", "(I)Ljava/lang/Throwable;"⟩, 6), (⟨"CallFrames", "isReal", "(I)Z"⟩, 10), (⟨"CallFrames", "of", "(I)LCallFrames$Argument;"⟩, 10), (⟨"CallFramesModel", "fail", "(I)I"⟩, 13), (⟨"CallFramesModel", "home", "(I)I"⟩, 13), (⟨"CallFramesModel", "isWide", "(I)Z"⟩, 13), (⟨"CallFramesModel", "bytes", "(I)I"⟩, 13), (⟨"CallFramesModel", "isThere", "(I)Z"⟩, 13), (⟨"CallFramesModel", "words", "(I)I"⟩, 13), (⟨"CallFramesModel", "isFraction", "(I)Z"⟩, 13), (⟨"CallFramesModel", "area", "()I"⟩, 13), (⟨"CallFramesModel", "generalAt", "()I"⟩, 13), (⟨"CallFramesModel", "fractionsAt", "()I"⟩, 13)]
theorem lw_r1 : ∀ q ∈ lw_privs_1, lw_okq q := List.forall_mem_cons.mpr ⟨lw_p0, List.forall_mem_cons.mpr ⟨lw_p1, List.forall_mem_cons.mpr ⟨lw_p2, List.forall_mem_cons.mpr ⟨lw_p3, List.forall_mem_cons.mpr ⟨lw_p4, List.forall_mem_cons.mpr ⟨lw_p5, List.forall_mem_cons.mpr ⟨lw_p6, List.forall_mem_cons.mpr ⟨lw_p7, List.forall_mem_cons.mpr ⟨lw_p8, List.forall_mem_cons.mpr ⟨lw_p9, List.forall_mem_cons.mpr ⟨lw_p10, List.forall_mem_cons.mpr ⟨lw_p11, List.forall_mem_cons.mpr ⟨lw_p12, List.forall_mem_cons.mpr ⟨lw_p13, List.forall_mem_cons.mpr ⟨lw_p14, List.forall_mem_cons.mpr ⟨lw_p15, fun _ h => absurd h List.not_mem_nil⟩⟩⟩⟩⟩⟩⟩⟩⟩⟩⟩⟩⟩⟩⟩⟩
def lw_privs : List (MethodName × Nat) := lw_privs_1
def lw_tbl : List Cond := k2_sels lw_privs ++ tables_1
theorem lw_privs_ok : ∀ q ∈ lw_privs, lw_okq q := lw_r1
-- ===== end of PART A; then your names; then what follows =====
/-! THE CLAIM OUT OF ONE WALK OF THE LAW'S BODY. Your part is whole_start (and what it stands on); all else here is the same for every law, but numbers. -/
def R_law : String := "CallFramesLaw"
def lw_P (b : Addr) (xs : List Int32) (args : Array Value) (s : State) : Prop := args = #[.ref b] ∧ s.IntsAt b xs ∧ xs.length ≤ 2560 ∧ (Jvm.Cond.and given_1 narrow_1).before args s = true
def lw_Q (_ : Array Value) (s : State) (o : Outcome) (t : State) : Prop := o = .returned (some (.int 1)) ∧ Framed s o t [] 839890 6576433
def lw_Z (below : List Frame) (a : Array Value) (s : State) : State → Prop := fun t => ∃ o, t.status = .running ∧ Ended t below o ∧ lw_Q a s o t
/-- the law's own end, with 1 on the stack, nothing written that was there before, its room as the claim has it -/
theorem lw_ret {p : Program} {l : Launch} {e : Env} {s : State} {m : MethodId} {below : List Frame} {meth : Method} {c : Code} {b : Nat} (hx : p.tables.exec = Jvm.exec) (hb : c.code = code) (hr : meth.sig.returnType = ret) (hlocks : meth.locks = false) {pc : Nat} {H : Heap} {ls : Array Slot} (hdg : decode code pc = .ok (.ireturn, 1)) : W p l e room_1 s m #[Value.ref b] below meth c H [] 839890 6576433 (lw_Z below #[Value.ref b] s) (F0 m pc ls [.int 1]) := by
  intro T hT X
  obtain ⟨fs, hret, hrun, hended, hW, hframe⟩ := X.leave (v := some (.int 1)) (hlocks := hlocks) (fun h => by rw [hr] at h; cases h)
  have hmeth' : T.vm.method? m = some meth := X.method'
  refine ⟨T.setFrames fs, ?_, .returned (some (.int 1)), hrun, hended, rfl, ⟨_, rfl⟩, hW, hframe⟩
  jvm_step X.here [X.here.top, hx, hb, hdg, hmeth', hr, ret, narrow_b1]
  (try refine ⟨rfl, ?_⟩); (try refine ⟨rfl, ?_⟩)
  first | (intro acts; rw [hret _ acts rfl rfl rfl]) | rw [hret _ _ rfl rfl rfl]
  exact Steps.refl _
/-- what holds at the law's entry: the machine, the code, the tables' words (any of lw_tbl by 'hts w (by decide +kernel)'), the script of L ints xs at the cell b, what the Statement gives of the start (any of its parts by flat_of_before) -/
def lw_At (p : Program) (s : State) (m : MethodId) (meth : Method) (c : Code) (b L : Nat) (xs : Nat → Int32) : Prop :=
  p.tables.exec = Jvm.exec ∧ c.code = code ∧ meth.sig.returnType = ret ∧ c.maxLocals = 7 ∧ s.vm.findClass R_law = some m.cls ∧ (∀ w ∈ lw_tbl, w.before #[Value.ref b] s = true) ∧ va_X b L xs s s.heap ∧ b < s.heap.size ∧ meth.locks = false ∧ (Jvm.Cond.and given_1 narrow_1).before #[Value.ref b] s = true
end
section
/-! NAMES: the three classes, their fields in an order of ours, their types -/
def R_Arg : String := "CallFrames$Argument"
def F_Arg : u_T := fun k => match k with
  | 0 => ("CallFrames$Argument", "kind", "I", false)
  | 1 => ("CallFrames$Argument", "home", "I", false)
  | 2 => ("CallFrames$Argument", "bytes", "I", false)
  | 3 => ("CallFrames$Argument", "register", "I", false)
  | _ => ("CallFrames$Argument", "isFraction", "Z", false)
def t_Arg : Nat → FieldType := fun k => match k with
  | 0 => .int
  | 1 => .int
  | 2 => .int
  | 3 => .int
  | _ => .boolean
def R_Cf : String := "CallFrames"
def F_Cf : u_T := fun k => match k with
  | 0 => ("CallFrames", "address", "LCallFrames$Argument;", true)
  | 1 => ("CallFrames", "arguments", "[LCallFrames$Argument;", true)
  | 2 => ("CallFrames", "many", "I", false)
  | 3 => ("CallFrames", "result", "I", false)
  | 4 => ("CallFrames", "isOpen", "Z", false)
  | 5 => ("CallFrames", "greatest", "I", false)
  | 6 => ("CallFrames", "calls", "I", false)
  | 7 => ("CallFrames", "general", "[I", true)
  | 8 => ("CallFrames", "fractions", "[I", true)
  | _ => ("CallFrames", "locals", "I", false)
def t_Cf : Nat → FieldType := fun k => match k with
  | 0 => .object "CallFrames$Argument"
  | 1 => .array (.object "CallFrames$Argument")
  | 2 => .int
  | 3 => .int
  | 4 => .boolean
  | 5 => .int
  | 6 => .int
  | 7 => .array .int
  | 8 => .array .int
  | _ => .int
def R_Mo : String := "CallFramesModel"
def F_Mo : u_T := fun k => match k with
  | 0 => ("CallFramesModel", "thrown", "I", false)
  | 1 => ("CallFramesModel", "result", "I", false)
  | 2 => ("CallFramesModel", "arguments", "I", false)
  | 3 => ("CallFramesModel", "calls", "I", false)
  | 4 => ("CallFramesModel", "greatest", "I", false)
  | 5 => ("CallFramesModel", "laidGeneral", "I", false)
  | 6 => ("CallFramesModel", "laidFractions", "I", false)
  | 7 => ("CallFramesModel", "laidLocals", "I", false)
  | 8 => ("CallFramesModel", "laidArea", "I", false)
  | 9 => ("CallFramesModel", "open", "Z", false)
  | 10 => ("CallFramesModel", "kinds", "[I", true)
  | 11 => ("CallFramesModel", "sizes", "[I", true)
  | _ => ("CallFramesModel", "alignments", "[I", true)
def t_Mo : Nat → FieldType := fun k => match k with
  | 0 => .int
  | 1 => .int
  | 2 => .int
  | 3 => .int
  | 4 => .int
  | 5 => .int
  | 6 => .int
  | 7 => .int
  | 8 => .int
  | 9 => .boolean
  | 10 => .array .int
  | 11 => .array .int
  | _ => .array .int
abbrev cf_cl : List vw_C := [(R_Arg, F_Arg, 5), (R_Cf, F_Cf, 10), (R_Mo, F_Mo, 13)]
theorem n_Arg : ∀ a, a < 5 → ∀ b, b < 5 → a ≠ b → (F_Arg a).2.1 ≠ (F_Arg b).2.1 := by decide +kernel
theorem t_Arg_ok : ∀ k, k < 5 → parseFieldDescriptor (F_Arg k).2.2.1 = some (t_Arg k) := by decide +kernel
theorem n_Cf : ∀ a, a < 10 → ∀ b, b < 10 → a ≠ b → (F_Cf a).2.1 ≠ (F_Cf b).2.1 := by decide +kernel
theorem t_Cf_ok : ∀ k, k < 10 → parseFieldDescriptor (F_Cf k).2.2.1 = some (t_Cf k) := by decide +kernel
theorem n_Mo : ∀ a, a < 13 → ∀ b, b < 13 → a ≠ b → (F_Mo a).2.1 ≠ (F_Mo b).2.1 := by decide +kernel
theorem t_Mo_ok : ∀ k, k < 13 → parseFieldDescriptor (F_Mo k).2.2.1 = some (t_Mo k) := by decide +kernel
theorem i_Arg : ∀ w ∈ u_ws R_Arg F_Arg 5, w ∈ lw_tbl := by decide +kernel
theorem i_Cf : ∀ w ∈ u_ws R_Cf F_Cf 10, w ∈ lw_tbl := by decide +kernel
theorem i_Mo : ∀ w ∈ u_ws R_Mo F_Mo 13, w ∈ lw_tbl := by decide +kernel
/-! THE TABLES' WORDS, carried from call to call: those that any arguments and warmer tables keep -/
def cf_gw : Cond → Bool
  | .fieldLinkNest .. => true
  | .methodLinkNest .. => true
  | .declares _ => true
  | .castable .. => true
  | .arrayOver (.object _) => true
  | w => goodWord w
def cf_KK (U : State) : Prop := ∀ w ∈ lw_tbl, cf_gw w = true → w.before #[] U = true
theorem cf_any {w : Cond} (h : cf_gw w = true) {A A' : Array Value} {U : State} (hw : w.before A U = true) : w.before A' U = true := by
  cases w <;> first | exact hw | (simp [cf_gw, goodWord, Cond.onTables] at h)
theorem cf_warm {w : Cond} (h : cf_gw w = true) {s U : State} (hW : s.WarmedH U.vm) (hw : w.before #[] s = true) : w.before #[] U = true := by
  by_cases hg : goodWord w = true
  · exact word_at hW (good_of_word hg) hw
  · cases w with
    | fieldLinkNest a i b n d z => exact va_Nw.warmF hW hw
    | methodLinkNest a i x z => exact va_Nw.warmM hW hw
    | declares x => exact va_Nw.warmD hW hw
    | castable C T => exact va_Nw.warmC hW hw
    | arrayOver ty =>
      cases ty with
      | object C => exact va_AO.moved hW.alike hw
      | _ => exact absurd h hg
    | _ => exact absurd h hg
theorem cf_KK.warm {s U : State} (hW : s.WarmedH U.vm) (h : cf_KK s) : cf_KK U := fun w hw hg => cf_warm hg hW (h w hw hg)
theorem cf_KK.same {s U : State} (hv : U.vm = s.vm) (h : cf_KK s) : cf_KK U := cf_KK.warm (by rw [hv]; exact State.WarmedH.refl s) h
theorem cf_KK.use {w : Cond} {U : State} {A : Array Value} (h : cf_KK U) (hm : w ∈ lw_tbl) (hg : cf_gw w = true) : w.before A U = true := cf_any hg (h w hm hg)
theorem cf_KK.of {s : State} {A : Array Value} (h : ∀ w ∈ lw_tbl, w.before A s = true) : cf_KK s := fun w hw hg => cf_any hg (h w hw)
theorem g_Arg : (u_ws R_Arg F_Arg 5).all cf_gw = true := by decide +kernel
theorem g_Cf : (u_ws R_Cf F_Cf 10).all cf_gw = true := by decide +kernel
theorem g_Mo : (u_ws R_Mo F_Mo 13).all cf_gw = true := by decide +kernel
theorem h_Arg {s : State} {A : Array Value} (h : cf_KK s) : ∀ w ∈ u_ws R_Arg F_Arg 5, w.before A s = true := fun w hw => h.use (i_Arg w hw) (List.all_eq_true.mp g_Arg w hw)
theorem h_Cf {s : State} {A : Array Value} (h : cf_KK s) : ∀ w ∈ u_ws R_Cf F_Cf 10, w.before A s = true := fun w hw => h.use (i_Cf w hw) (List.all_eq_true.mp g_Cf w hw)
theorem h_Mo {s : State} {A : Array Value} (h : cf_KK s) : ∀ w ∈ u_ws R_Mo F_Mo 13, w.before A s = true := fun w hw => h.use (i_Mo w hw) (List.all_eq_true.mp g_Mo w hw)
/-! CONTRACTS OF OURS. A world: cells by the list ws, array classes by tys -/
abbrev cf_in (D : va_G) (ws : va_W) (tys : List (ClassId × FieldType)) (U : State) : Prop := va_P D cf_cl ws U.heap ∧ va_K D cf_cl tys U
/-- a method that changes nothing: from a heap that holds ws it returns r, and the heap is as it was -/
abbrev cf_PQ (r : Value) : Array Value → State → Outcome → State → Prop := fun _ st o t => o = .returned (some r) ∧ t.heap = st.heap
def cf_PM (l : Launch) (y : MethodName) (b : ByteArray) (n : Nat) (ret : Option FieldType) (rm : Room) (av : List Value) (D : va_G) (ws : va_W) (tys : List (ClassId × FieldType)) (r : Value) : Prop :=
  Met l y [.code y b n ret] rm (va_Pc av (fun U => cf_KK U ∧ cf_in D ws tys U)) (cf_PQ r) 0 0 (fun _ => False)
/-- a method that writes: from a heap of sz cells that holds ws it returns r, the heap holds ws', and no old cell outside ws has changed -/
abbrev cf_IQ (D : va_G) (ws : va_W) (r : Option Value) (ws' : va_W) (sz : Nat) : Array Value → State → Outcome → State → Prop := fun _ st o t => o = .returned r ∧ va_P D cf_cl ws' t.heap ∧ va_F (va_A ws sz) st t
def cf_IM (l : Launch) (y : MethodName) (b : ByteArray) (n : Nat) (ret : Option FieldType) (rm : Room) (av : List Value) (D : va_G) (ws : va_W) (tys : List (ClassId × FieldType)) (r : Option Value) (ws' : va_W) : Prop :=
  ∀ sz, Met l y [.code y b n ret] rm (va_Pc av (fun U => cf_KK U ∧ U.heap.size = sz ∧ cf_in D ws tys U)) (cf_IQ D ws r ws' sz) rm.cells rm.slots (va_A ws sz)
theorem cf_fbP {av : List Value} {D : va_G} {ws : va_W} {tys : List (ClassId × FieldType)} : FrameBlind (va_Pc av (fun U => cf_KK U ∧ cf_in D ws tys U)) := by
  intro a U g mk q
  obtain ⟨q0, q1, qP, qK⟩ := q
  exact ⟨q0, cf_KK.same (s := U) (U := U.calling g mk a) rfl q1, qP, va_K.moved (u := U) (U := U.calling g mk a) (Vm.Alike.refl U.vm) qK⟩
theorem cf_fbI {av : List Value} {D : va_G} {ws : va_W} {tys : List (ClassId × FieldType)} {sz : Nat} : FrameBlind (va_Pc av (fun U => cf_KK U ∧ U.heap.size = sz ∧ cf_in D ws tys U)) := by
  intro a U g mk q
  obtain ⟨q0, q1, qz, qP, qK⟩ := q
  exact ⟨q0, cf_KK.same (s := U) (U := U.calling g mk a) rfl q1, qz, qP, va_K.moved (u := U) (U := U.calling g mk a) (Vm.Alike.refl U.vm) qK⟩
/-- a contract that changes nothing out of a walk -/
theorem cf_PM_of {l : Launch} {y : MethodName} {b : ByteArray} {n : Nat} {ret : Option FieldType} {rm : Room} {av : List Value} {D : va_G} {ws : va_W} {tys : List (ClassId × FieldType)} {r : Value} (hy : plainName y.cls = true) (hn : (lg_sl av).length ≤ n)
    (body : ∀ (p : Program) (e : Env) (s : State) (m : MethodId) (args : Array Value) (below : List Frame) (meth : Method) (c : Code), p.tables.exec = Jvm.exec → c.code = b → meth.sig.returnType = ret → cf_KK s → s.vm.findClass y.cls = some m.cls → meth.locks = false → c.maxLocals = n → va_P D cf_cl ws s.heap → va_K D cf_cl tys s → ∀ ls : Array Slot, lv_has ls n (lv_args 0 av) →
      W p l e rm s m args below meth c s.heap [] 0 0 (MQ below (cf_PQ r) args s 0 0 (fun _ => False)) (F0 m 0 ls [])) : cf_PM l y b n ret rm av D ws tys r := by
  refine Met.ofW (cc := b) (maxL := n) (ret := ret) hy rfl ?_
  intro p e s m args below meth c s₁ B hml hv
  obtain ⟨rfl, hkk, hP, hK⟩ := hv
  have hl := lv_entry av (n := n) hn
  rw [lg_entry_eq]
  exact body p e s m _ below meth c B.exec B.bytes B.returns hkk (findClass_of_methodNamed B.named) B.notSynchronized hml hP hK _ hl
/-- a contract that writes out of a walk: A is the method's own cells and what is new -/
theorem cf_IM_of {l : Launch} {y : MethodName} {b : ByteArray} {n : Nat} {ret : Option FieldType} {rm : Room} {av : List Value} {D : va_G} {ws ws' : va_W} {tys : List (ClassId × FieldType)} {r : Option Value} (hy : plainName y.cls = true) (hn : (lg_sl av).length ≤ n) (hD0 : va_D (fun _ => True) ws)
    (body : ∀ (p : Program) (e : Env) (s : State) (m : MethodId) (args : Array Value) (below : List Frame) (meth : Method) (c : Code) (A : Nat → Prop), p.tables.exec = Jvm.exec → c.code = b → meth.sig.returnType = ret → cf_KK s → s.vm.findClass y.cls = some m.cls → meth.locks = false → c.maxLocals = n → meth.name = y.name → va_P D cf_cl ws s.heap → va_K D cf_cl tys s → va_D A ws → va_S A s.heap s.heap [] → (∀ q : Nat, s.heap.size ≤ q → A q) → A = va_A ws s.heap.size → ∀ ls : Array Slot, lv_has ls n (lv_args 0 av) →
      W p l e rm s m args below meth c s.heap [] 0 0 (MQ below (fun _ st o t => o = .returned r ∧ va_P D cf_cl ws' t.heap ∧ va_F A st t) args s rm.cells rm.slots A) (F0 m 0 ls [])) : cf_IM l y b n ret rm av D ws tys r ws' := by
  intro sz
  refine Met.ofW (cc := b) (maxL := n) (ret := ret) hy rfl ?_
  intro p e s m args below meth c s₁ B hml hv
  obtain ⟨rfl, hkk, rfl, hP, hK⟩ := hv
  have hl := lv_entry av (n := n) hn
  rw [lg_entry_eq]
  exact body p e s m _ below meth c (va_A ws s.heap.size) B.exec B.bytes B.returns hkk (findClass_of_methodNamed B.named) B.notSynchronized hml (name_of_methodNamed B.named B.method).1 hP hK hD0.self va_S.rf (fun q h => Or.inr h) rfl _ hl
section CFW
variable {p : Program} {l : Launch} {e : Env} {R : Room} {s : State} {m : MethodId} {args : Array Value} {below : List Frame} {meth : Method} {c : Code} {H : Heap} {locs : List Loc} {cells slots : Nat} {Q : State → Prop}
variable {cc : ByteArray} {pc : Nat} {ls : Array Slot} {rest : List Value}
/-! ENDS -/
theorem cf_iret {r : Value} {v : Int32} (hexec : p.tables.exec = Jvm.exec) (hb : c.code = cc) (hr : meth.sig.returnType = some .int) (hlocks : meth.locks = false) (hv : Value.int v = r) (hdg : decode cc pc = .ok (.ireturn, 1)) :
    W p l e R s m args below meth c s.heap [] 0 0 (MQ below (cf_PQ r) args s 0 0 (fun _ => False)) (F0 m pc ls [.int v]) :=
  W.iret hexec hb hr (fun t ht _ => ⟨by rw [hv], ht⟩) (fun q h => by cases h) hdg hlocks
theorem cf_zret {r : Value} {v : Int32} (hexec : p.tables.exec = Jvm.exec) (hb : c.code = cc) (hr : meth.sig.returnType = some .boolean) (hlocks : meth.locks = false) (hn : narrow .boolean (.int v) = .int v) (hv : Value.int v = r) (hdg : decode cc pc = .ok (.ireturn, 1)) :
    W p l e R s m args below meth c s.heap [] 0 0 (MQ below (cf_PQ r) args s 0 0 (fun _ => False)) (F0 m pc ls [.int v]) :=
  W.zret hexec hb hr hn (fun t ht _ => ⟨by rw [hv], ht⟩) (fun q h => by cases h) hdg hlocks
theorem cf_iretI {D : va_G} {ws : va_W} {A : Nat → Prop} {r : Value} {v : Int32} {mc ms : Nat} (hexec : p.tables.exec = Jvm.exec) (hb : c.code = cc) (hr : meth.sig.returnType = some .int) (hlocks : meth.locks = false) (hP : va_P D cf_cl ws H) (hS : va_S A s.heap H locs) (h1 : cells ≤ mc) (h2 : slots ≤ ms) (hv : Value.int v = r) (hdg : decode cc pc = .ok (.ireturn, 1)) :
    W p l e R s m args below meth c H locs cells slots (MQ below (fun _ st o t => o = .returned (some r) ∧ va_P D cf_cl ws t.heap ∧ va_F A st t) args s mc ms A) (F0 m pc ls [.int v]) := by
  refine W.widen h1 h2 ?_
  exact W.iret hexec hb hr (fun t ht _ => ⟨by rw [hv], by rw [ht]; exact hP, hS.F ht⟩) hS.2.2 hdg hlocks
theorem cf_vretI {D : va_G} {ws : va_W} {A : Nat → Prop} {mc ms : Nat} (hexec : p.tables.exec = Jvm.exec) (hb : c.code = cc) (hr : meth.sig.returnType = none) (hlocks : meth.locks = false) (hP : va_P D cf_cl ws H) (hS : va_S A s.heap H locs) (h1 : cells ≤ mc) (h2 : slots ≤ ms) (hdg : decode cc pc = .ok (.return_, 1)) :
    W p l e R s m args below meth c H locs cells slots (MQ below (fun _ st o t => o = .returned none ∧ va_P D cf_cl ws t.heap ∧ va_F A st t) args s mc ms A) (F0 m pc ls []) := by
  refine W.widen h1 h2 ?_
  exact W.vret hexec hb hr (fun t ht _ => ⟨rfl, by rw [ht]; exact hP, hS.F ht⟩) hS.2.2 hdg hlocks
/-! CALLS -/
/-- what is said of a callee once: its code, its class's start, its parameters -/
abbrev cf_ce (y : MethodName) (b : ByteArray) (n : Nat) (ret : Option FieldType) (np : Nat) : Prop := Cond.code y b n ret ∈ lw_tbl ∧ Cond.initialized y.cls ∈ lw_tbl ∧ (y.cls ≠ "java/lang/invoke/MethodHandle" ∧ y.cls ≠ "java/lang/invoke/VarHandle" ∧ (parseMethodDescriptor y.desc).map (fun d => d.parameters.length) = some np)
abbrev cf_cv (y : MethodName) : Prop := Cond.instanceMethod y ∈ lw_tbl ∧ Cond.selects y.cls y y ∈ lw_tbl
theorem cf_good (y : MethodName) (b : ByteArray) (n : Nat) (ret : Option FieldType) : GoodIn [.code y b n ret] [.code y b n ret] := by
  intro w hw
  rw [List.mem_singleton] at hw
  subst hw
  exact ⟨List.mem_singleton.mpr rfl, Or.inl rfl⟩
theorem cf_one {y : MethodName} {b : ByteArray} {n : Nat} {ret : Option FieldType} (hkk : cf_KK s) (h : Cond.code y b n ret ∈ lw_tbl) : ∀ w ∈ [Cond.code y b n ret], w.before args s = true := by
  intro w hw
  rw [List.mem_singleton] at hw
  subst hw
  exact hkk.use h rfl
theorem cf_cb {own : String} {index np : Nat} {y : MethodName} {b : ByteArray} {n : Nat} {ret : Option FieldType} {rm : Room} (hkk : cf_KK s) (he : cf_ce y b n ret np) (hl : Cond.methodLink own index y ∈ lw_tbl) (hR : rm.frames + 1 ≤ R.frames ∧ 8 + (n + 11) + rm.locals ≤ R.locals) :
    CallB R s args own index y b n ret [.code y b n ret] rm rm.cells rm.slots np :=
  callB_of np (cf_one hkk he.1) (cf_good y b n ret) rfl rfl rfl (hkk.use he.2.1 rfl) (hkk.use hl rfl) he.2.2 hR
/-- out of a call's run: nothing has changed -/
theorem cf_back {r : Value} {a : Array Value} {st0 : List Value} (hr : va_Run p l e R s m args below meth c H locs cells slots 0 0 (F0 m pc ls st0) rest (cf_PQ r a) (fun _ => False))
    (kk : W p l e R s m args below meth c H locs cells slots Q (F0 m (pc + 3) ls (r :: rest))) : W p l e R s m args below meth c H locs cells slots Q (F0 m pc ls st0) := by
  intro T hT X
  obtain ⟨v, st₀, t, T', L, h0, X', hL, e1, e2, ⟨hv, hh⟩, st⟩ := hr T hT X
  cases hv
  have hL0 : L = [] := by
    cases L with
    | nil => rfl
    | cons q L => exact (hL q List.mem_cons_self).elim
  subst hL0
  rw [List.append_nil] at X'
  obtain ⟨t2, a1, b1⟩ := kk T' (by rw [e1, hh, h0]) X'
  exact ⟨t2, st t2 a1, b1⟩
theorem cf_pre {D : va_G} {ws : va_W} {tys : List (ClassId × FieldType)} {av : List Value} (hkk : cf_KK s) (hK : va_K D cf_cl tys s) (hP : va_P D cf_cl ws H) : ∀ U : State, U.heap = H → s.WarmedH U.vm → va_Pc av (fun U => cf_KK U ∧ cf_in D ws tys U) av.toArray U :=
  fun U hU hW => ⟨rfl, hkk.warm hW, by rw [hU]; exact hP, va_K.moved hW.alike hK⟩
theorem cf_preI {D : va_G} {ws : va_W} {tys : List (ClassId × FieldType)} {av : List Value} (hkk : cf_KK s) (hK : va_K D cf_cl tys s) (hP : va_P D cf_cl ws H) : ∀ U : State, U.heap = H → s.WarmedH U.vm → va_Pc av (fun U => cf_KK U ∧ U.heap.size = H.size ∧ cf_in D ws tys U) av.toArray U :=
  fun U hU hW => ⟨rfl, hkk.warm hW, by rw [hU], by rw [hU]; exact hP, va_K.moved hW.alike hK⟩
/-- a call of an instance method that changes nothing -/
theorem cf_pcV {own : String} {index np nL ci q0 o : Nat} {y : MethodName} {b : ByteArray} {n : Nat} {ret : Option FieldType} {rm : Room} {As : List Value} {D : va_G} {ws : va_W} {tys : List (ClassId × FieldType)} {r : Value} {rc : vw_C} {fs : List Value} {st0 : List Value}
    (hx : p.tables.exec = Jvm.exec) (hb : c.code = cc) (hml : c.maxLocals = nL) (hown : s.vm.findClass own = some m.cls) (hkk : cf_KK s)
    (hM : cf_PM l y b n ret rm (.ref o :: As) D ws tys r) (he : cf_ce y b n ret np) (hv : cf_cv y) (hl : Cond.methodLink own index y ∈ lw_tbl)
    (hK : va_K D cf_cl tys s) (hP : va_P D cf_cl ws H) (hq : ws[q0]? = some (o, .inr (ci, fs))) (hc : cf_cl[ci]? = some rc) (hcy : rc.1 = y.cls)
    (hrm : rm.cells = 0 ∧ rm.slots = 0) (hR : rm.frames + 1 ≤ R.frames ∧ 8 + (n + 11) + rm.locals ≤ R.locals) (hn : As.length = np) (hsz : ls.size = nL) (hst : st0 = As.reverse ++ .ref o :: rest) (hw : (rest.map fun v => v.category).sum ≤ 8) (hdg : decode cc pc = .ok (.invokevirtual index, 3)) (hf : cells ≤ R.cells ∧ slots ≤ R.slots)
    (kk : W p l e R s m args below meth c H locs cells slots Q (F0 m (pc + 3) ls (r :: rest))) : W p l e R s m args below meth c H locs cells slots Q (F0 m pc ls st0) := by
  have cb : CallB R s args own index y b n ret [.code y b n ret] rm 0 0 np := by
    have := cf_cb (args := args) (R := R) hkk he hl hR
    rw [hrm.1, hrm.2] at this
    exact this
  refine cf_back (va_runV (C := y.cls) (Ts := []) (n := np) (nL := nL) ⟨hx, hb, hml, hown, fun w hw => by cases hw⟩ hM ⟨cb, hkk.use hv.1 rfl, hkk.use hv.2 rfl⟩ ⟨cf_fbP, ?_, cf_pre hkk hK hP⟩ rfl hn hsz hst (lv_room hw) hdg hf) kk
  rw [← hcy]
  exact va_recv hK hP hc hq
/-- a call of a static method that changes nothing -/
theorem cf_pcS {own : String} {index np nL : Nat} {y : MethodName} {b : ByteArray} {n : Nat} {ret : Option FieldType} {rm : Room} {As : List Value} {D : va_G} {ws : va_W} {tys : List (ClassId × FieldType)} {r : Value} {st0 : List Value}
    (hx : p.tables.exec = Jvm.exec) (hb : c.code = cc) (hml : c.maxLocals = nL) (hown : s.vm.findClass own = some m.cls) (hkk : cf_KK s)
    (hM : cf_PM l y b n ret rm As D ws tys r) (he : cf_ce y b n ret np) (hv : Cond.static y ∈ lw_tbl) (hl : Cond.methodLink own index y ∈ lw_tbl)
    (hK : va_K D cf_cl tys s) (hP : va_P D cf_cl ws H)
    (hrm : rm.cells = 0 ∧ rm.slots = 0) (hR : rm.frames + 1 ≤ R.frames ∧ 8 + (n + 11) + rm.locals ≤ R.locals) (hn : As.length = np) (hsz : ls.size = nL) (hst : st0 = As.reverse ++ rest) (hw : (rest.map fun v => v.category).sum ≤ 8) (hdg : decode cc pc = .ok (.invokestatic index, 3)) (hf : cells ≤ R.cells ∧ slots ≤ R.slots)
    (kk : W p l e R s m args below meth c H locs cells slots Q (F0 m (pc + 3) ls (r :: rest))) : W p l e R s m args below meth c H locs cells slots Q (F0 m pc ls st0) := by
  have cb : CallB R s args own index y b n ret [.code y b n ret] rm 0 0 np := by
    have := cf_cb (args := args) (R := R) hkk he hl hR
    rw [hrm.1, hrm.2] at this
    exact this
  exact cf_back (va_runS (Ts := []) (n := np) (nL := nL) ⟨hx, hb, hml, hown, fun w hw => by cases hw⟩ hM ⟨cb, hkk.use hv rfl⟩ ⟨cf_fbP, cf_pre hkk hK hP⟩ rfl hn hsz hst (lv_room hw) hdg hf) kk
/-- out of a call's run: the callee's cells have changed -/
theorem cf_backI {r : Option Value} {a : Array Value} {st0 : List Value} {D : va_G} {ws ws' : va_W} {mc ms : Nat} {A : Nat → Prop} {H0 : Heap} (hr : va_Run p l e R s m args below meth c H locs cells slots mc ms (F0 m pc ls st0) rest (cf_IQ D ws r ws' H.size a) (va_A ws H.size))
    (hS : va_S A H0 H locs) (hA : ∀ q, va_A ws H.size q → A q)
    (kk : ∀ (H1 : Heap) (locs1 : List Loc), va_P D cf_cl ws' H1 → H.size ≤ H1.size → (∀ q : Nat, q < H.size → ¬ va_A ws H.size q → H1[q]? = H[q]?) → va_S A H0 H1 locs1 → W p l e R s m args below meth c H1 locs1 (cells + mc) (slots + ms) Q (F0 m (pc + 3) ls (r.toList ++ rest))) : W p l e R s m args below meth c H locs cells slots Q (F0 m pc ls st0) := by
  intro T hT X
  obtain ⟨v, st₀, t, T', L, h0, X', hL, e1, e2, ⟨hv, hh, hz, hk⟩, st⟩ := hr T hT X
  cases hv
  rw [h0] at hz hk
  obtain ⟨t2, a1, b1⟩ := kk t.heap (locs ++ L) hh hz hk ⟨Nat.le_trans hS.1 hz, fun q h1 h2 => (hk q (Nat.lt_of_lt_of_le h1 hS.1) (fun h3 => h2 (hA q h3))).trans (hS.2.1 q h1 h2), fun q hq => by
    rcases List.mem_append.mp hq with h | h
    · exact hS.2.2 q h
    · exact hA _ (hL q h)⟩ T' e1 X'
  exact ⟨t2, st t2 a1, b1⟩
/-- a call of an instance method that writes -/
theorem cf_icV {own : String} {index np nL ci q0 o : Nat} {y : MethodName} {b : ByteArray} {n : Nat} {ret : Option FieldType} {rm : Room} {As : List Value} {D : va_G} {ws ws' : va_W} {tys : List (ClassId × FieldType)} {r : Option Value} {rc : vw_C} {fs : List Value} {st0 : List Value} {A : Nat → Prop} {H0 : Heap}
    (hx : p.tables.exec = Jvm.exec) (hb : c.code = cc) (hml : c.maxLocals = nL) (hown : s.vm.findClass own = some m.cls) (hkk : cf_KK s)
    (hM : cf_IM l y b n ret rm (.ref o :: As) D ws tys r ws') (he : cf_ce y b n ret np) (hv : cf_cv y) (hl : Cond.methodLink own index y ∈ lw_tbl)
    (hK : va_K D cf_cl tys s) (hP : va_P D cf_cl ws H) (hq : ws[q0]? = some (o, .inr (ci, fs))) (hc : cf_cl[ci]? = some rc) (hcy : rc.1 = y.cls) (hS : va_S A H0 H locs) (hA : ∀ q, va_A ws H.size q → A q)
    (hR : rm.frames + 1 ≤ R.frames ∧ 8 + (n + 11) + rm.locals ≤ R.locals) (hn : As.length = np) (hsz : ls.size = nL) (hst : st0 = As.reverse ++ .ref o :: rest) (hw : (rest.map fun v => v.category).sum ≤ 8) (hdg : decode cc pc = .ok (.invokevirtual index, 3)) (hf : cells + rm.cells ≤ R.cells ∧ slots + rm.slots ≤ R.slots)
    (kk : ∀ (H1 : Heap) (locs1 : List Loc), va_P D cf_cl ws' H1 → H.size ≤ H1.size → (∀ q : Nat, q < H.size → ¬ va_A ws H.size q → H1[q]? = H[q]?) → va_S A H0 H1 locs1 → W p l e R s m args below meth c H1 locs1 (cells + rm.cells) (slots + rm.slots) Q (F0 m (pc + 3) ls (r.toList ++ rest))) : W p l e R s m args below meth c H locs cells slots Q (F0 m pc ls st0) := by
  refine cf_backI (va_runV (C := y.cls) (Ts := []) (n := np) (nL := nL) ⟨hx, hb, hml, hown, fun w hw => by cases hw⟩ (hM H.size) ⟨cf_cb hkk he hl hR, hkk.use hv.1 rfl, hkk.use hv.2 rfl⟩ ⟨cf_fbI, ?_, cf_preI hkk hK hP⟩ rfl hn hsz hst (lv_room hw) hdg hf) hS hA kk
  rw [← hcy]
  exact va_recv hK hP hc hq
end CFW
end
section
/-! THROWING: a method that makes an exception of its own and throws it ahead of any write; a caller that passes it on; a caller that catches it -/
/-- what the making of a Throwable reads of the heap: its class's statics -/
def cf_st1 (U : State) (f d : String) : Prop := (Cond.laysStatic Bundle.tN f d).before #[] U = true ∧ (Cond.isRef (.static Bundle.tN f d)).before #[] U = true
theorem cf_st1.moved {s U : State} {f d : String} (hv : s.vm.Alike U.vm) (hh : ∀ (q : Nat) (cell : Cell), s.heap[q]? = some cell → U.heap[q]? = some cell) (h : cf_st1 s f d) : cf_st1 U f d := by
  obtain ⟨h1, h2⟩ := h
  obtain ⟨c, k, i, fd, a, cell, hc, hi, hst, ha, hcell, hs, hcls, hlt, hty⟩ := Cond.laysStatic_spec h1
  obtain ⟨u, hu⟩ := Cond.staticRefV hi hst ha hcell hs h2
  obtain ⟨k', hi', hek⟩ := State.fieldFound?_setVm (s := s) hv hi
  have hi2 : U.fieldFound? Bundle.tN f d = some (c, k', i, fd) := by simpa only [State.fieldFound?, State.vm_setVm] using hi'
  have ha2 : k'.statics = some a := by rw [hek]; exact ha
  have hc2 := hh _ _ hcell
  refine ⟨Cond.laysStatic_of (s := U) (by rw [hv.findClass]; exact hc) hi2 hst ha2 hc2 hs hcls hlt (by rw [hek]; exact hty), ?_⟩
  obtain ⟨v, hvr⟩ := u
  have he : (Term.static Bundle.tN f d).eval #[] U none [] U = some v := by
    simp [Term.eval, State.fieldNamed?, hi2, hst, ha2, hc2, hs]
    exact hu
  cases v <;> simp [Value.isRef] at hvr <;> simp [Cond.before, Cond.holds, Cond.value, he]
def cf_ST (U : State) : Prop := cf_st1 U "UNASSIGNED_STACK" Bundle.steD ∧ cf_st1 U "SUPPRESSED_SENTINEL" Bundle.listD
theorem cf_ST.moved {s U : State} (hv : s.vm.Alike U.vm) (hh : ∀ (q : Nat) (cell : Cell), s.heap[q]? = some cell → U.heap[q]? = some cell) (h : cf_ST s) : cf_ST U := ⟨h.1.moved hv hh, h.2.moved hv hh⟩
abbrev cf_nm : List String := ["java/lang/RuntimeException", "java/lang/Exception"]
abbrev cf_sp : List Cond := [.laysStatic Bundle.tN "UNASSIGNED_STACK" Bundle.steD, .laysStatic Bundle.tN "SUPPRESSED_SENTINEL" Bundle.listD, .isRef (.static Bundle.tN "UNASSIGNED_STACK" Bundle.steD), .isRef (.static Bundle.tN "SUPPRESSED_SENTINEL" Bundle.listD)]
abbrev cf_okA (ic : Nat) (X : String) : Prop := ∀ w ∈ Bundle.ownAtoms0 "CallFrames" ic X cf_nm, (w ∈ lw_tbl ∧ cf_gw w = true) ∨ w ∈ cf_sp
abbrev cf_IAE : String := "java/lang/IllegalArgumentException"
abbrev cf_ISE : String := "java/lang/IllegalStateException"
abbrev cf_IOB : String := "java/lang/IndexOutOfBoundsException"
theorem cf_okIAE : cf_okA 48 cf_IAE := by decide +kernel
theorem cf_okISE : cf_okA 71 cf_ISE := by decide +kernel
theorem cf_okIOB : cf_okA 84 cf_IOB := by decide +kernel
theorem cf_atoms {ic : Nat} {X : String} {s : State} {args : Array Value} (hA : cf_okA ic X) (hkk : cf_KK s) (hst : cf_ST s) : ∀ w ∈ Bundle.ownAtoms0 "CallFrames" ic X cf_nm, w.before args s = true := by
  intro w hw
  rcases hA w hw with ⟨h1, h2⟩ | h
  · exact hkk.use h1 h2
  · simp only [cf_sp, List.mem_cons, List.not_mem_nil, or_false] at h
    rcases h with rfl | rfl | rfl | rfl
    · exact hst.1.1
    · exact hst.2.1
    · exact hst.1.2
    · exact hst.2.2
/-- the end of a throwing walk: the exception, of the class X, is new; no old cell has changed -/
def cf_TQ (below : List Frame) (X : String) (s : State) : State → Prop := fun t => ∃ (x : Addr) (ce : Cell), t.status = .running ∧ Ended t below (.threw x) ∧ s.WarmedH t.vm ∧ s.sameButNew ({ t with vm := s.vm } : State) [] 1 6 ∧ t.heap[x]? = some ce ∧ ce.vm = .none ∧ s.vm.findClass X = some ce.cls
def cf_TM (l : Launch) (y : MethodName) (b : ByteArray) (n : Nat) (ret : Option FieldType) (rm : Room) (av : List Value) (D : va_G) (ws : va_W) (tys : List (ClassId × FieldType)) (X : String) : Prop :=
  MetFree l y (headSpec [.code y b n ret] rm) (va_Pc av (fun U => cf_KK U ∧ cf_ST U ∧ cf_in D ws tys U)) (fun _ _ _ _ _ => True)
    (fun _ st o t => ∃ (x : Addr) (ce : Cell), o = .threw x ∧ st.WarmedH t.vm ∧ st.sameButNew ({ t with vm := st.vm } : State) [] 1 6 ∧ t.heap[x]? = some ce ∧ ce.vm = .none ∧ st.vm.findClass X = some ce.cls)
theorem cf_TM_of {l : Launch} {y : MethodName} {b : ByteArray} {n : Nat} {ret : Option FieldType} {rm : Room} {av : List Value} {D : va_G} {ws : va_W} {tys : List (ClassId × FieldType)} {X : String} (hy : plainName y.cls = true) (hn : (lg_sl av).length ≤ n)
    (body : ∀ (p : Program) (e : Env) (s : State) (m : MethodId) (args : Array Value) (below : List Frame) (meth : Method) (c : Code), p.tables.exec = Jvm.exec → c.code = b → cf_KK s → cf_ST s → s.vm.findClass y.cls = some m.cls → meth.locks = false → c.maxLocals = n → c.exceptionTable.isEmpty = true → l.admits e → va_P D cf_cl ws s.heap → va_K D cf_cl tys s → ∀ ls : Array Slot, lv_has ls n (lv_args 0 av) →
      W p l e rm s m args below meth c s.heap [] 0 0 (cf_TQ below X s) (F0 m 0 ls [])) : cf_TM l y b n ret rm av D ws tys X := by
  refine MetFree.of_bodyS (code := b) (maxLocals := n) (ret := ret) hy ?_ ?_
  · intro args s m h hn
    obtain ⟨meth, c, h1, h2, h3, h4, h5, h6, -, -⟩ := Cond.code_spec hn (atoms_spec (ws := [.code y b n ret]) h _ List.mem_cons_self)
    exact ⟨meth, c, h1, h2, h3, h4, h5, h6⟩
  · intro p e s m args below meth c s₁ B hml hP _
    obtain ⟨rfl, hkk, hst, hPw, hK⟩ := hP
    have hh0 : s₁.heap = s.heap := by rw [B.state]; rfl
    have X0 := Stand.of_body B
    have hl := lv_entry av (n := n) hn
    have hnoh := B.noHandlers (atoms_spec (ws := [.code y b n ret]) B.pre _ List.mem_cons_self)
    have hw : W p l e rm s m av.toArray below meth c s.heap [] 0 0 (cf_TQ below X s) (entryFrame m av.toArray n) := by
      rw [lg_entry_eq]
      exact body p e s m _ below meth c B.exec B.bytes hkk hst (findClass_of_methodNamed B.named) B.notSynchronized hml hnoh X0.admits hPw hK _ hl
    obtain ⟨t, a1, x, ce, b1, b2, b3, b4, b5, b6, b7⟩ := hw s₁ hh0 X0
    exact ⟨t, .threw x, a1, b1, b2, x, ce, rfl, b3, b4, b5, b6, b7⟩
section CFT
variable {p : Program} {l : Launch} {e : Env} {R : Room} {s : State} {m : MethodId} {args : Array Value} {below : List Frame} {meth : Method} {c : Code} {H : Heap} {locs : List Loc} {cells slots : Nat} {Q : State → Prop}
variable {cc : ByteArray} {pc : Nat} {ls : Array Slot} {rest : List Value}
/-- new X; dup; X.<init>(); athrow, nothing written so far -/
theorem cf_throw {X : String} {icl ic : Nat} (hexec : p.tables.exec = Jvm.exec) (hb : c.code = cc) (hml : c.maxLocals = ls.size) (htr : e.platform.stackTraces = false) (hlocks : meth.locks = false) (hkk : cf_KK s) (hst : cf_ST s) (hown : s.vm.findClass "CallFrames" = some m.cls) (hX : Bundle.fit X = true) (hA : cf_okA ic X) (hcl : Cond.classLink "CallFrames" icl X ∈ lw_tbl) (hini : Cond.initialized X ∈ lw_tbl) (hnoh : c.exceptionTable.isEmpty = true)
    (d0 : decode cc pc = .ok (.new icl, 3)) (d3 : decode cc (pc + 3) = .ok (.dup, 1)) (d4 : decode cc (pc + 4) = .ok (.invokespecial ic, 3)) (d7 : decode cc (pc + 7) = .ok (.athrow, 1)) (hR : 6 ≤ R.frames ∧ 81 ≤ R.locals ∧ 1 ≤ R.cells ∧ 6 ≤ R.slots) :
    W p l e R s m args below meth c s.heap [] 0 0 (cf_TQ below X s) (F0 m pc ls []) := by
  obtain ⟨hR1, hR2, hR3, hR4⟩ := hR
  have hat : ∀ w ∈ Bundle.ownAtoms0 "CallFrames" ic X cf_nm, w.before args s = true := cf_atoms hA hkk hst
  refine W.newc hexec hb hown (hkk.use hcl rfl) (hat (.instantiable X 6) (by simp [Bundle.ownAtoms0])) (hkk.use hini rfl) rfl d0 (by omega) (by omega) (fun cC kC h1 h2 h3 h4 => ?_)
  refine W.eq (g2 := F0 m (pc + 3) ls [.ref s.heap.size]) rfl ?_
  refine lv_dup hexec hb d3 rfl ?_
  intro T hT X0
  subst hb
  have hout : ∀ x ∈ c.exceptionTable.toList, covers x (pc + 4 + 3) = false := by
    have h0 : c.exceptionTable.toList = [] := by
      have : c.exceptionTable.size = 0 := by simpa [Array.isEmpty] using hnoh
      exact List.eq_nil_of_length_eq_zero (by simpa using this)
    intro x hx
    rw [h0] at hx
    cases hx
  obtain ⟨U, st, hrun, hend, hW, hsame, ce, hce, hOwn⟩ := X0.ctorThrow0 hexec htr (own := "CallFrames") (cls := X) (names := cf_nm) (ic := ic) hown hX (by decide) hat (fun x hx => by cases hx) (a := s.heap.size) h1 h2 (by rw [hT]; exact Array.getElem?_push_size) (Nat.le_refl _)
    (g := F0 m (pc + 3 + 1) ls [.ref s.heap.size, .ref s.heap.size]) rfl hml.symm rfl rfl (rest := []) rfl d4 d7 hout (by show 2 + 3 < _; omega) (by show 2 * 0 + _ + _ ≤ _; simpa [Value.category] using hR2) hlocks
  exact ⟨U, st, s.heap.size, ce, hrun, hend, hW, hsame, hce, hOwn.vm, hOwn.cls⟩
/-- an instance method is called that throws -/
theorem cf_tcall {T : State} (X0 : Stand p l e R s m args below meth c T locs cells slots) (hT : T.heap = H) {own : String} {index np ci q0 o : Nat} {y : MethodName} {b : ByteArray} {n : Nat} {ret : Option FieldType} {rm : Room} {As : List Value} {D : va_G} {ws : va_W} {tys : List (ClassId × FieldType)} {X : String} {rc : vw_C} {fs : List Value}
    (hx : p.tables.exec = Jvm.exec) (hown : s.vm.findClass own = some m.cls) (hkk : cf_KK s) (hst : ∀ U : State, U.heap = H → s.WarmedH U.vm → cf_ST U)
    (hM : cf_TM l y b n ret rm (.ref o :: As) D ws tys X) (he : cf_ce y b n ret np) (hv : cf_cv y) (hl : Cond.methodLink own index y ∈ lw_tbl)
    (hK : va_K D cf_cl tys s) (hP : va_P D cf_cl ws H) (hq : ws[q0]? = some (o, .inr (ci, fs))) (hc : cf_cl[ci]? = some rc) (hcy : rc.1 = y.cls)
    (hR : rm.frames + 1 ≤ R.frames ∧ 8 + (n + 11) + rm.locals ≤ R.locals) (hn : As.length = np) {g : JFrame} (hg : g.method = m) (hsize : g.locals.size = c.maxLocals) (hstack : g.stack = As.reverse ++ .ref o :: rest) (hw : 2 * g.monitorRoom + (rest.map fun v => v.category).sum ≤ 8) (hdg : decode c.code g.pc = .ok (.invokevirtual index, 3)) (hf : cells + rm.cells ≤ R.cells ∧ slots + rm.slots ≤ R.slots) :
    ∃ (x : Addr) (ce : Cell) (T1 : State), Stand p l e R s m args below meth c T1 locs (cells + 1) (slots + 6) ∧ (∀ (q : Nat) (cell : Cell), H[q]? = some cell → T1.heap[q]? = some cell) ∧ H.size ≤ T1.heap.size ∧ T1.heap[x]? = some ce ∧ ce.vm = .none ∧ s.vm.findClass X = some ce.cls ∧
      Steps p.tables e below (T.setTop g) ((T1.setTop { g with stack := rest }).pushFrame (.throwing x)) := by
  subst hg
  obtain ⟨cellB, hcB, hoB, hclB⟩ := va_recv hK hP hc hq
  rw [hcy] at hclB
  have hcode : (Cond.code y b n ret).before args s = true := hkk.use he.1 rfl
  obtain ⟨mk, methM, hnamed, hmethM, hstM, habM⟩ := Cond.instanceMethod_spec (hkk.use (A := args) hv.1 rfl)
  obtain ⟨methM', cM, hmethM', hcM, -, hlM, -, -, -, hsigM⟩ := Cond.code_spec hnamed hcode
  cases hmethM.symm.trans hmethM'
  obtain ⟨c2, r2, m2, q1, q2, q3, q4, kP, hkP, hkPi⟩ := Cond.selects_spec (hkk.use (A := args) hv.2 rfl)
  have hy : y.cls ≠ "java/lang/invoke/MethodHandle" ∧ y.cls ≠ "java/lang/invoke/VarHandle" := ⟨he.2.2.1, he.2.2.2.1⟩
  cases hclB.symm.trans q1
  cases (State.methodFound?_of_named hnamed hy).symm.trans q2
  cases hnamed.symm.trans q3
  have hselP : selectMethod e.platform s.vm cellB.cls mk = .method mk := by rw [Launch.admits_selectMethod X0.admits]; exact q4
  have hlen : As.length = methM.sig.parameters.length := by
    have h2 := he.2.2.2.2
    rw [hsigM] at h2
    exact hn.trans (Option.some.inj h2).symm
  obtain ⟨vm₁, X₁, hstep₁⟩ := X0.invokevirtual hx hown (hkk.use hl rfl) hnamed hmethM hstM hkP hkPi hy (a := o) (cell := cellB) (by rw [hT]; exact hcB)
    (fun z h => by rw [h] at hoB; cases hoB) hselP hmethM habM hkP hkPi (g := g) rfl (argsL := As) (rest := rest) hlen hstack hdg
  have hnamed₁ := X₁.named hnamed
  obtain ⟨kY, hkY, -⟩ := className_of_methodNamed hnamed₁
  have hkk₁ : cf_KK (T.setVm vm₁) := hkk.warm X₁.warmed
  have hinitY : kY.init = .initialized := Cond.initialized_spec (findClass_of_methodNamed hnamed₁) hkY (hkk₁.use (A := args) he.2.1 rfl)
  obtain ⟨methY, cY, hmY, hcY, -, hlY, -, -, -, -⟩ := Cond.code_spec hnamed₁ (hkk₁.use (A := args) he.1 rfl)
  have h : At (T.setVm vm₁) g.method c below := X₁.here
  have happ : (headSpec [.code y b n ret] rm).appliesLoose y e.platform ((T.setVm vm₁).calling { g with stack := rest } mk (Value.ref o :: As).toArray) = true :=
    Spec.appliesLoose_calling (g := { g with stack := rest }) h hdg hnamed₁ hkY hinitY
      (X₁.room_calling (g := { g with stack := rest }) (R' := rm) hsize hmY hcY hR.1 (by have := hR.2; rw [hlY]; show 2 * g.monitorRoom + (rest.map fun v => v.category).sum + _ + _ ≤ _; omega) hf.1 hf.2) (atoms_intro (fun w hw => cf_one hkk₁ he.1 w hw))
  obtain ⟨mid, hmid⟩ := h.above
  have hfr : ((T.setVm vm₁).setTop { g with stack := rest }).frames = (.java { g with stack := rest } :: mid) ++ below := by rw [State.frames_setTop' _ h.top, hmid]; rfl
  have hPc : va_Pc (.ref o :: As) (fun U => cf_KK U ∧ cf_ST U ∧ cf_in D ws tys U) (Value.ref o :: As).toArray ((T.setVm vm₁).calling { g with stack := rest } mk (Value.ref o :: As).toArray) := by
    refine ⟨rfl, cf_KK.same (s := T.setVm vm₁) rfl hkk₁, (hst (T.setVm vm₁) hT X₁.warmed).moved (Vm.Alike.refl _) (fun _ _ h => h), ?_, va_K.moved (u := T.setVm vm₁) (Vm.Alike.refl _) (va_K.moved X₁.warmed.alike hK)⟩
    show va_P D cf_cl ws T.heap
    rw [hT]; exact hP
  obtain ⟨oc, s₂, hsteps, -, hend, x, ce, rfl, hW2, hsame, hx1, hx2, hx3⟩ := Steps.callFree hM p X₁.admits X₁.cas X₁.clock (acts := []) hfr happ hPc trivial
  rw [State.frames_setTop' _ h.top, X₁.tail] at hend
  obtain ⟨T1, X1, hW1, hs1, ht⟩ := X₁.outOfThrown (g := { g with stack := rest }) rfl hend hW2 hsame
  have hheap : s₂.heap = T1.heap := by rw [ht, Stand.throwing_heap]
  rw [List.append_nil] at X1
  refine ⟨x, ce, T1, X1, fun q cell hq => ?_, ?_, by rw [← hheap]; exact hx1, hx2, ?_, hstep₁ _ (fun acts => by rw [doInvoke_state]; rw [← ht]; exact hsteps)⟩
  · have h1 : (T.setVm vm₁).heap[q]? = some cell := by show T.heap[q]? = _; rw [hT]; exact hq
    exact State.sameButNew.old_cell hs1 h1
  · have := hs1.2.1
    rw [← hT]
    exact this
  · rw [← X₁.warmed.alike.findClass]
    exact hx3
/-- the exception of a callee is passed on: the walk ends, thrown -/
theorem cf_tpass {own : String} {index np nL ci q0 o : Nat} {y : MethodName} {b : ByteArray} {n : Nat} {ret : Option FieldType} {rm : Room} {As : List Value} {D : va_G} {ws : va_W} {tys : List (ClassId × FieldType)} {X : String} {rc : vw_C} {fs : List Value} {st0 : List Value}
    (hx : p.tables.exec = Jvm.exec) (hb : c.code = cc) (hml : c.maxLocals = nL) (hown : s.vm.findClass own = some m.cls) (hkk : cf_KK s) (hst : cf_ST s) (hlocks : meth.locks = false) (hnoh : c.exceptionTable.isEmpty = true)
    (hM : cf_TM l y b n ret rm (.ref o :: As) D ws tys X) (he : cf_ce y b n ret np) (hv : cf_cv y) (hl : Cond.methodLink own index y ∈ lw_tbl)
    (hK : va_K D cf_cl tys s) (hP : va_P D cf_cl ws s.heap) (hq : ws[q0]? = some (o, .inr (ci, fs))) (hc : cf_cl[ci]? = some rc) (hcy : rc.1 = y.cls)
    (hR : rm.frames + 1 ≤ R.frames ∧ 8 + (n + 11) + rm.locals ≤ R.locals) (hn : As.length = np) (hsz : ls.size = nL) (hst0 : st0 = As.reverse ++ .ref o :: rest) (hw : (rest.map fun v => v.category).sum ≤ 8) (hdg : decode cc pc = .ok (.invokevirtual index, 3)) (hf : rm.cells ≤ R.cells ∧ rm.slots ≤ R.slots) :
    W p l e R s m args below meth c s.heap [] 0 0 (cf_TQ below X s) (F0 m pc ls st0) := by
  intro T hT X0
  subst hb
  obtain ⟨x, ce, T1, X1, hk, hz, h1, h2, h3, st⟩ := cf_tcall X0 hT hx hown hkk (fun U hU hW => hst.moved hW.alike (fun q cell h => by rw [hU]; exact h)) hM he hv hl hK hP hq hc hcy hR hn (g := F0 m pc ls st0) rfl (hsz.trans hml.symm) hst0 (lv_room hw) hdg (by omega)
  have hout : ∀ x ∈ c.exceptionTable.toList, covers x pc = false := by
    have h0 : c.exceptionTable.toList = [] := by
      have : c.exceptionTable.size = 0 := by simpa [Array.isEmpty] using hnoh
      exact List.eq_nil_of_length_eq_zero (by simpa using this)
    intro x hx
    rw [h0] at hx
    cases hx
  obtain ⟨st2, hrun, hend, hW, hsame⟩ := X1.leaveThrown x (g := F0 m pc ls rest) rfl rfl rfl hout hlocks
  refine ⟨_, st.trans st2, x, ce, hrun, hend, hW, hsame, h1, h2, h3⟩
/-! catching -/
theorem cf_go_cold {Q : Handler → Pre} {E : CtlPost} {d : Bool} {acts : List Action} {f : JFrame} {a : Addr} {x : ExceptionTableEntry} {t : List ExceptionTableEntry} {cX : ClassId} {vm' : Vm} {cell : Cell} (hx : covers x f.pc = true) (h0 : x.catchType ≠ 0)
    (hg : (resolveClass f.method.cls x.catchType).Gives e.toSetting s.vm (.ok cX) vm') (hsz : vm'.classes.size ≤ s.vm.classes.size) (hcell : s.heap[a]? = some cell) (hobj : ∀ k, cell.vm ≠ .statics k) (hk : ∃ k, vm'.classes[cell.cls]? = some k) (hc : ∃ k, vm'.classes[cX]? = some k) :
    wp (findHandler.go f a (x :: t)) Q E e d acts s ↔ if vm'.assignable cell.cls cX = true then Q (.found x.handlerPc) d acts (s.setVm vm') else wp (findHandler.go f a t) Q E e d acts (s.setVm vm') := by
  simp only [covers] at hx
  obtain ⟨ha, ht⟩ := hg.op (op := VmOp.resolveClass f.method.cls x.catchType) rfl
  cases hfit : vm'.assignable cell.cls cX <;>
    simp [findHandler.go, hx, h0, W.vmOp_same, ha, ht, hsz, hcell, hobj, hk, hc, hfit, VmOp.dirties, VmOp.acts]
def cf_Finds (e : Env) (s : State) (f : JFrame) (a : Addr) (h : Handler) (s' : State) : Prop :=
  ∀ (Q : Handler → Pre) (E : CtlPost) (d : Bool) (acts : List Action), wp (findHandler f a) Q E e d acts s ↔ Q h d acts s'
theorem cf_stepCatch {e : Env} {s s' : State} {a : Addr} {f : JFrame} {r : List Frame} {pc : Nat} (hfind : cf_Finds e s f a (.found pc) s') :
    (stepThrowing e s a (.java f :: r)).Is (s'.setFrames (.java { f with pc := pc, stack := [.ref a] } :: r)) [] := by
  simp only [stepThrowing, searchFrame, vmDo]
  generalize hr : Sem.go _ e false [] s = res
  obtain ⟨as, rfl, ha⟩ := Sem.eq_ok_of hr (a := Handler.found pc) (s' := s') (acts' := []) (by simp [hfind _ _ _ _])
  exact ⟨rfl, ha⟩
theorem cf_caught {tb : Tables} {T target : State} {g : JFrame} {a : Addr} {pc : Nat} {vm' : Vm} (h : At T g.method c below) (hfind : cf_Finds e ((T.setTop g).pushFrame (.throwing a)) g a (.found pc) (((T.setVm vm').setTop g).pushFrame (.throwing a)))
    (hrest : Steps tb e below ((T.setVm vm').setTop { g with pc := pc, stack := [.ref a] }) target) : Steps tb e below ((T.setTop g).pushFrame (.throwing a)) target := by
  obtain ⟨hgo, hw⟩ := h.throwing a
  refine Steps.head hgo hw ?_
  rw [stepThread_throwing (frames_entered h.top _), (cf_stepCatch (s := (T.setTop g).pushFrame (.throwing a)) hfind).1]
  obtain ⟨g₀, hg⟩ := Option.isSome_iff_exists.mp h.top
  obtain ⟨r, hr⟩ := State.topJava?_eq_some.mp hg
  have hr' : (T.setVm vm').frames = .java g₀ :: r := hr
  rw [State.pushFrame, State.setFrames_setFrames, State.setTop_of_frames _ hr', State.setFrames_setFrames]
  rw [State.setTop_of_frames _ hr'] at hrest
  rw [hr]
  exact hrest
/-- one row of the table: the exception is of its class -/
theorem cf_catch1 {T : State} (X0 : Stand p l e R s m args below meth c T locs cells slots) {own X : String} {x : ExceptionTableEntry} {tl : List ExceptionTableEntry} (hown : s.vm.findClass own = some m.cls) (hl : (Cond.classLink own x.catchType X).before args s = true) (htab : c.exceptionTable.toList = x :: tl) {g : JFrame} (hg : g.method = m) (hx : covers x g.pc = true) (h0 : x.catchType ≠ 0) {a : Addr} {ce : Cell} (ha : T.heap[a]? = some ce) (hvm : ce.vm = .none) (hX : s.vm.findClass X = some ce.cls) :
    ∃ vm', Stand p l e R s m args below meth c (T.setVm vm') locs cells slots ∧ ∀ target, Steps p.tables e below ((T.setVm vm').setTop { g with pc := x.handlerPc, stack := [.ref a] }) target → Steps p.tables e below ((T.setTop g).pushFrame (.throwing a)) target := by
  subst hg
  have hpl : e.platform.magicAccessors = ({} : Platform).magicAccessors := by rw [X0.admits.platform]
  obtain ⟨cX, hfX, hcl⟩ := Cond.classLink_spec hown hl e.platform hpl
  cases hX.symm.trans hfX
  obtain ⟨hg₁, hwarm₁, -⟩ := State.classEntry (e := e) X0.warmed hcl
  generalize T.vm.noted g.method.cls x.catchType (.cls ce.cls) = vm₁ at hg₁ hwarm₁
  have hal : T.vm.Alike vm₁ := X0.warmed.alike.symm.trans hwarm₁.alike
  obtain ⟨kX, hkX⟩ := Vm.classAt_of_findClass hX
  obtain ⟨k₁, hk₁, -⟩ := hwarm₁.alike.2.2 _ _ hkX
  refine ⟨vm₁, X0.noted hwarm₁, fun target hrest => ?_⟩
  refine cf_caught (vm' := vm₁) X0.here (fun Q E d acts => ?_) hrest
  rw [W.findHandler_eq (s := (T.setTop g).pushFrame (.throwing a)) (meth := meth) (code := c) (by rw [Stand.throwing_vm]; exact X0.method') X0.code, htab]
  rw [cf_go_cold (s := (T.setTop g).pushFrame (.throwing a)) (vm' := vm₁) (cX := ce.cls) (cell := ce) hx h0 (by rw [Stand.throwing_vm]; exact hg₁) (by rw [Stand.throwing_vm]; exact hal.size_le) (by rw [Stand.throwing_heap]; exact ha) (fun k => by rw [hvm]; intro h; cases h) ⟨k₁, hk₁⟩ ⟨k₁, hk₁⟩, if_pos (Vm.assignable_self _ _)]
  exact Iff.rfl
/-- two rows: the exception isn't of the first's class, but of the second's -/
theorem cf_catch2 {T : State} (X0 : Stand p l e R s m args below meth c T locs cells slots) {own X Y : String} {x x2 : ExceptionTableEntry} {tl : List ExceptionTableEntry} (hown : s.vm.findClass own = some m.cls) (hlY : (Cond.classLink own x.catchType Y).before args s = true) (hl : (Cond.classLink own x2.catchType X).before args s = true) (htab : c.exceptionTable.toList = x :: x2 :: tl) {g : JFrame} (hg : g.method = m) (hx : covers x g.pc = true) (h0 : x.catchType ≠ 0) (hx2 : covers x2 g.pc = true) (h02 : x2.catchType ≠ 0) {a : Addr} {ce : Cell} (ha : T.heap[a]? = some ce) (hvm : ce.vm = .none) (hX : s.vm.findClass X = some ce.cls) (hno : ∀ cY, s.vm.findClass Y = some cY → s.vm.assignable ce.cls cY = false) :
    ∃ vm', Stand p l e R s m args below meth c (T.setVm vm') locs cells slots ∧ ∀ target, Steps p.tables e below ((T.setVm vm').setTop { g with pc := x2.handlerPc, stack := [.ref a] }) target → Steps p.tables e below ((T.setTop g).pushFrame (.throwing a)) target := by
  subst hg
  have hpl : e.platform.magicAccessors = ({} : Platform).magicAccessors := by rw [X0.admits.platform]
  obtain ⟨cY, hfY, hclY⟩ := Cond.classLink_spec hown hlY e.platform hpl
  obtain ⟨cX, hfX, hcl⟩ := Cond.classLink_spec hown hl e.platform hpl
  cases hX.symm.trans hfX
  obtain ⟨hg₁, hwarm₁, -⟩ := State.classEntry (e := e) X0.warmed hclY
  generalize T.vm.noted g.method.cls x.catchType (.cls cY) = vm₁ at hg₁ hwarm₁
  obtain ⟨hg₂, hwarm₂, -⟩ := State.classEntry (e := e) hwarm₁ hcl
  generalize vm₁.noted g.method.cls x2.catchType (.cls ce.cls) = vm₂ at hg₂ hwarm₂
  have hal : T.vm.Alike vm₁ := X0.warmed.alike.symm.trans hwarm₁.alike
  have hal2 : vm₁.Alike vm₂ := hwarm₁.alike.symm.trans hwarm₂.alike
  obtain ⟨kX, hkX⟩ := Vm.classAt_of_findClass hX
  obtain ⟨kY, hkY⟩ := Vm.classAt_of_findClass hfY
  obtain ⟨k₁, hk₁, -⟩ := hwarm₁.alike.2.2 _ _ hkX
  obtain ⟨kY₁, hkY₁, -⟩ := hwarm₁.alike.2.2 _ _ hkY
  obtain ⟨k₂, hk₂, -⟩ := hwarm₂.alike.2.2 _ _ hkX
  have hno1 : ¬ vm₁.assignable ce.cls cY = true := by
    rw [hwarm₁.alike.assignable, hno cY hfY]
    decide
  refine ⟨vm₂, X0.noted hwarm₂, fun target hrest => ?_⟩
  refine cf_caught (vm' := vm₂) X0.here (fun Q E d acts => ?_) hrest
  rw [W.findHandler_eq (s := (T.setTop g).pushFrame (.throwing a)) (meth := meth) (code := c) (by rw [Stand.throwing_vm]; exact X0.method') X0.code, htab]
  rw [cf_go_cold (s := (T.setTop g).pushFrame (.throwing a)) (vm' := vm₁) (cX := cY) (cell := ce) hx h0 (by rw [Stand.throwing_vm]; exact hg₁) (by rw [Stand.throwing_vm]; exact hal.size_le) (by rw [Stand.throwing_heap]; exact ha) (fun k => by rw [hvm]; intro h; cases h) ⟨k₁, hk₁⟩ ⟨kY₁, hkY₁⟩, if_neg hno1]
  rw [cf_go_cold (s := ((T.setTop g).pushFrame (.throwing a)).setVm vm₁) (vm' := vm₂) (cX := ce.cls) (cell := ce) hx2 h02 hg₂ hal2.size_le (by show ((T.setTop g).pushFrame (.throwing a)).heap[a]? = _; rw [Stand.throwing_heap]; exact ha) (fun k => by rw [hvm]; intro h; cases h) ⟨k₂, hk₂⟩ ⟨k₂, hk₂⟩, if_pos (Vm.assignable_self _ _)]
  exact Iff.rfl
end CFT
end
section
/-! NAMES OF METHODS, and the words of the tables by their places (printed by gen/names.py) -/
abbrev y_Cf_init : MethodName := ⟨"CallFrames", "<init>", "()V"⟩
abbrev b_Cf_init : ByteArray := prog_1_method_1_code
abbrev y_Cf_empty : MethodName := ⟨"CallFrames", "empty", "()V"⟩
abbrev b_Cf_empty : ByteArray := prog_1_method_2_code
abbrev y_Cf_up : MethodName := ⟨"CallFrames", "up", "(II)I"⟩
abbrev b_Cf_up : ByteArray := prog_1_method_3_code
abbrev y_Cf_canBe : MethodName := ⟨"CallFrames", "canBe", "(II)Z"⟩
abbrev b_Cf_canBe : ByteArray := prog_1_method_4_code
abbrev y_Cf_begin : MethodName := ⟨"CallFrames", "begin", "(IIIZ)V"⟩
abbrev b_Cf_begin : ByteArray := prog_1_method_5_code
abbrev y_Cf_isReal : MethodName := ⟨"CallFrames", "isReal", "(I)Z"⟩
abbrev b_Cf_isReal : ByteArray := prog_1_method_6_code
abbrev y_Cf_end : MethodName := ⟨"CallFrames", "end", "()I"⟩
abbrev b_Cf_end : ByteArray := prog_1_method_7_code
abbrev y_Cf_add : MethodName := ⟨"CallFrames", "add", "(III)I"⟩
abbrev b_Cf_add : ByteArray := prog_1_method_8_code
abbrev y_Cf_of : MethodName := ⟨"CallFrames", "of", "(I)LCallFrames$Argument;"⟩
abbrev b_Cf_of : ByteArray := prog_1_method_9_code
abbrev y_Cf_where : MethodName := ⟨"CallFrames", "where", "(II)I"⟩
abbrev b_Cf_where : ByteArray := prog_1_method_10_code
abbrev y_Cf_about : MethodName := ⟨"CallFrames", "about", "(II)I"⟩
abbrev b_Cf_about : ByteArray := prog_1_method_11_code
abbrev y_Cf_area : MethodName := ⟨"CallFrames", "area", "()I"⟩
abbrev b_Cf_area : ByteArray := prog_1_method_12_code
abbrev y_Cf_signature : MethodName := ⟨"CallFrames", "signature", "(I)I"⟩
abbrev b_Cf_signature : ByteArray := prog_1_method_13_code
abbrev y_Cf_call : MethodName := ⟨"CallFrames", "call", "()I"⟩
abbrev b_Cf_call : ByteArray := prog_1_method_14_code
abbrev y_Cf_frame : MethodName := ⟨"CallFrames", "frame", "(III)I"⟩
abbrev b_Cf_frame : ByteArray := prog_1_method_15_code
abbrev y_Cf_place : MethodName := ⟨"CallFrames", "place", "(II)I"⟩
abbrev b_Cf_place : ByteArray := prog_1_method_16_code
abbrev y_Cf_clear : MethodName := ⟨"CallFrames", "clear", "()I"⟩
abbrev b_Cf_clear : ByteArray := prog_1_method_17_code
abbrev y_Mo_init : MethodName := ⟨"CallFramesModel", "<init>", "()V"⟩
abbrev b_Mo_init : ByteArray := prog_4_method_1_code
abbrev y_Mo_thrown : MethodName := ⟨"CallFramesModel", "thrown", "()I"⟩
abbrev b_Mo_thrown : ByteArray := prog_4_method_2_code
abbrev y_Mo_fail : MethodName := ⟨"CallFramesModel", "fail", "(I)I"⟩
abbrev b_Mo_fail : ByteArray := prog_4_method_3_code
abbrev y_Mo_isGood : MethodName := ⟨"CallFramesModel", "isGood", "(IIII)Z"⟩
abbrev b_Mo_isGood : ByteArray := prog_4_method_4_code
abbrev y_Mo_begin : MethodName := ⟨"CallFramesModel", "begin", "(IIIZ)V"⟩
abbrev b_Mo_begin : ByteArray := prog_4_method_5_code
abbrev y_Mo_filled : MethodName := ⟨"CallFramesModel", "filled", "(II)I"⟩
abbrev b_Mo_filled : ByteArray := prog_4_method_6_code
abbrev y_Mo_bytes : MethodName := ⟨"CallFramesModel", "bytes", "(I)I"⟩
abbrev b_Mo_bytes : ByteArray := prog_4_method_7_code
abbrev y_Mo_isWide : MethodName := ⟨"CallFramesModel", "isWide", "(I)Z"⟩
abbrev b_Mo_isWide : ByteArray := prog_4_method_8_code
abbrev y_Mo_home : MethodName := ⟨"CallFramesModel", "home", "(I)I"⟩
abbrev b_Mo_home : ByteArray := prog_4_method_9_code
abbrev y_Mo_add : MethodName := ⟨"CallFramesModel", "add", "(III)I"⟩
abbrev b_Mo_add : ByteArray := prog_4_method_10_code
abbrev y_Mo_isThere : MethodName := ⟨"CallFramesModel", "isThere", "(I)Z"⟩
abbrev b_Mo_isThere : ByteArray := prog_4_method_11_code
abbrev y_Mo_words : MethodName := ⟨"CallFramesModel", "words", "(I)I"⟩
abbrev b_Mo_words : ByteArray := prog_4_method_12_code
abbrev y_Mo_isFraction : MethodName := ⟨"CallFramesModel", "isFraction", "(I)Z"⟩
abbrev b_Mo_isFraction : ByteArray := prog_4_method_13_code
abbrev y_Mo_where : MethodName := ⟨"CallFramesModel", "where", "(II)I"⟩
abbrev b_Mo_where : ByteArray := prog_4_method_14_code
abbrev y_Mo_about : MethodName := ⟨"CallFramesModel", "about", "(II)I"⟩
abbrev b_Mo_about : ByteArray := prog_4_method_15_code
abbrev y_Mo_area : MethodName := ⟨"CallFramesModel", "area", "()I"⟩
abbrev b_Mo_area : ByteArray := prog_4_method_16_code
abbrev y_Mo_signature : MethodName := ⟨"CallFramesModel", "signature", "(I)I"⟩
abbrev b_Mo_signature : ByteArray := prog_4_method_17_code
abbrev y_Mo_call : MethodName := ⟨"CallFramesModel", "call", "()I"⟩
abbrev b_Mo_call : ByteArray := prog_4_method_18_code
abbrev y_Mo_saved : MethodName := ⟨"CallFramesModel", "saved", "(III)I"⟩
abbrev b_Mo_saved : ByteArray := prog_4_method_19_code
abbrev y_Mo_fractionsAt : MethodName := ⟨"CallFramesModel", "fractionsAt", "()I"⟩
abbrev b_Mo_fractionsAt : ByteArray := prog_4_method_20_code
abbrev y_Mo_generalAt : MethodName := ⟨"CallFramesModel", "generalAt", "()I"⟩
abbrev b_Mo_generalAt : ByteArray := prog_4_method_21_code
abbrev y_Mo_frame : MethodName := ⟨"CallFramesModel", "frame", "(III)I"⟩
abbrev b_Mo_frame : ByteArray := prog_4_method_22_code
abbrev y_Mo_place : MethodName := ⟨"CallFramesModel", "place", "(II)I"⟩
abbrev b_Mo_place : ByteArray := prog_4_method_23_code
abbrev y_Mo_clear : MethodName := ⟨"CallFramesModel", "clear", "()I"⟩
abbrev b_Mo_clear : ByteArray := prog_4_method_24_code
abbrev y_Ar_init : MethodName := ⟨"CallFrames$Argument", "<init>", "()V"⟩
abbrev b_Ar_init : ByteArray := prog_2_method_1_code
abbrev y_Ar_become : MethodName := ⟨"CallFrames$Argument", "become", "(III)V"⟩
abbrev b_Ar_become : ByteArray := prog_2_method_2_code
abbrev y_Ar_words : MethodName := ⟨"CallFrames$Argument", "words", "()I"⟩
abbrev b_Ar_words : ByteArray := prog_2_method_3_code
abbrev y_Ar_end : MethodName := ⟨"CallFrames$Argument", "end", "()I"⟩
abbrev b_Ar_end : ByteArray := prog_2_method_4_code
abbrev y_Ar_whereWord : MethodName := ⟨"CallFrames$Argument", "whereWord", "(I)I"⟩
abbrev b_Ar_whereWord : ByteArray := prog_2_method_5_code
abbrev y_La_begin : MethodName := ⟨"CallFramesLaw", "begin", "(LCallFrames;IIIZ)I"⟩
abbrev b_La_begin : ByteArray := method_3_code
abbrev y_La_add : MethodName := ⟨"CallFramesLaw", "add", "(LCallFrames;III[J)I"⟩
abbrev b_La_add : ByteArray := method_4_code
abbrev y_La_where : MethodName := ⟨"CallFramesLaw", "where", "(LCallFrames;II[J)I"⟩
abbrev b_La_where : ByteArray := method_5_code
abbrev y_La_about : MethodName := ⟨"CallFramesLaw", "about", "(LCallFrames;II[J)I"⟩
abbrev b_La_about : ByteArray := method_6_code
abbrev y_La_signature : MethodName := ⟨"CallFramesLaw", "signature", "(LCallFrames;I[J)I"⟩
abbrev b_La_signature : ByteArray := method_7_code
abbrev y_La_frame : MethodName := ⟨"CallFramesLaw", "frame", "(LCallFrames;III[J)I"⟩
abbrev b_La_frame : ByteArray := method_8_code
abbrev y_La_place : MethodName := ⟨"CallFramesLaw", "place", "(LCallFrames;II[J)I"⟩
abbrev b_La_place : ByteArray := method_9_code
theorem kw_0 : Cond.initialized "CallFramesLaw" ∈ lw_tbl := List.mem_of_getElem? (i := 16) (by decide +kernel)
theorem kw_1 : Cond.initialized "CallFrames" ∈ lw_tbl := List.mem_of_getElem? (i := 17) (by decide +kernel)
theorem kw_2 : Cond.initialized "CallFrames$Argument" ∈ lw_tbl := List.mem_of_getElem? (i := 18) (by decide +kernel)
theorem kw_3 : Cond.initialized "CallFramesModel" ∈ lw_tbl := List.mem_of_getElem? (i := 19) (by decide +kernel)
theorem kw_7 : Cond.initialized "java/lang/IllegalArgumentException" ∈ lw_tbl := List.mem_of_getElem? (i := 23) (by decide +kernel)
theorem kw_8 : Cond.initialized "java/lang/IllegalStateException" ∈ lw_tbl := List.mem_of_getElem? (i := 24) (by decide +kernel)
theorem kw_9 : Cond.initialized "java/lang/IndexOutOfBoundsException" ∈ lw_tbl := List.mem_of_getElem? (i := 25) (by decide +kernel)
theorem kw_10 : Cond.initialized "java/lang/Math" ∈ lw_tbl := List.mem_of_getElem? (i := 26) (by decide +kernel)
theorem kw_11 : Cond.classLink "CallFramesLaw" 8 "CallFrames" ∈ lw_tbl := List.mem_of_getElem? (i := 27) (by decide +kernel)
theorem kw_12 : Cond.instantiable "CallFrames" 10 ∈ lw_tbl := List.mem_of_getElem? (i := 28) (by decide +kernel)
theorem kw_13 : Cond.methodLink "CallFramesLaw" 40 ⟨"CallFrames", "<init>", "()V"⟩ ∈ lw_tbl := List.mem_of_getElem? (i := 29) (by decide +kernel)
theorem kw_14 : Cond.instanceMethod ⟨"CallFrames", "<init>", "()V"⟩ ∈ lw_tbl := List.mem_of_getElem? (i := 30) (by decide +kernel)
theorem kw_15 : Cond.code ⟨"CallFrames", "<init>", "()V"⟩ prog_1_method_1_code 2 none ∈ lw_tbl := List.mem_of_getElem? (i := 31) (by decide +kernel)
theorem kw_16 : Cond.methodLink "CallFrames" 1 ⟨"java/lang/Object", "<init>", "()V"⟩ ∈ lw_tbl := List.mem_of_getElem? (i := 32) (by decide +kernel)
theorem kw_17 : Cond.instanceMethod ⟨"java/lang/Object", "<init>", "()V"⟩ ∈ lw_tbl := List.mem_of_getElem? (i := 33) (by decide +kernel)
theorem kw_18 : Cond.code ⟨"java/lang/Object", "<init>", "()V"⟩ object_method_1_code 1 none ∈ lw_tbl := List.mem_of_getElem? (i := 34) (by decide +kernel)
theorem kw_19 : Cond.classLink "CallFrames" 7 "CallFrames$Argument" ∈ lw_tbl := List.mem_of_getElem? (i := 35) (by decide +kernel)
theorem kw_20 : Cond.instantiable "CallFrames$Argument" 5 ∈ lw_tbl := List.mem_of_getElem? (i := 36) (by decide +kernel)
theorem kw_21 : Cond.methodLinkNest "CallFrames" 9 ⟨"CallFrames$Argument", "<init>", "()V"⟩ "CallFrames" ∈ lw_tbl := List.mem_of_getElem? (i := 37) (by decide +kernel)
theorem kw_22 : Cond.instanceMethod ⟨"CallFrames$Argument", "<init>", "()V"⟩ ∈ lw_tbl := List.mem_of_getElem? (i := 38) (by decide +kernel)
theorem kw_23 : Cond.code ⟨"CallFrames$Argument", "<init>", "()V"⟩ prog_2_method_1_code 1 none ∈ lw_tbl := List.mem_of_getElem? (i := 39) (by decide +kernel)
theorem kw_24 : Cond.methodLink "CallFrames$Argument" 3 ⟨"java/lang/Object", "<init>", "()V"⟩ ∈ lw_tbl := List.mem_of_getElem? (i := 40) (by decide +kernel)
theorem kw_25 : Cond.fieldLink "CallFrames$Argument" 9 "CallFrames$Argument" "kind" "I" ∈ lw_tbl := List.mem_of_getElem? (i := 41) (by decide +kernel)
theorem kw_26 : Cond.fieldLinkNest "CallFrames" 56 "CallFrames$Argument" "kind" "I" "CallFrames" ∈ lw_tbl := List.mem_of_getElem? (i := 42) (by decide +kernel)
theorem kw_27 : Cond.fieldLink "CallFrames$Argument" 15 "CallFrames$Argument" "home" "I" ∈ lw_tbl := List.mem_of_getElem? (i := 43) (by decide +kernel)
theorem kw_28 : Cond.fieldLinkNest "CallFrames" 96 "CallFrames$Argument" "home" "I" "CallFrames" ∈ lw_tbl := List.mem_of_getElem? (i := 44) (by decide +kernel)
theorem kw_29 : Cond.fieldLink "CallFrames$Argument" 18 "CallFrames$Argument" "bytes" "I" ∈ lw_tbl := List.mem_of_getElem? (i := 45) (by decide +kernel)
theorem kw_30 : Cond.fieldLinkNest "CallFrames" 99 "CallFrames$Argument" "bytes" "I" "CallFrames" ∈ lw_tbl := List.mem_of_getElem? (i := 46) (by decide +kernel)
theorem kw_31 : Cond.fieldLink "CallFrames$Argument" 25 "CallFrames$Argument" "register" "I" ∈ lw_tbl := List.mem_of_getElem? (i := 47) (by decide +kernel)
theorem kw_32 : Cond.fieldLinkNest "CallFrames" 79 "CallFrames$Argument" "register" "I" "CallFrames" ∈ lw_tbl := List.mem_of_getElem? (i := 48) (by decide +kernel)
theorem kw_33 : Cond.fieldLink "CallFrames$Argument" 21 "CallFrames$Argument" "isFraction" "Z" ∈ lw_tbl := List.mem_of_getElem? (i := 49) (by decide +kernel)
theorem kw_34 : Cond.fieldLinkNest "CallFrames" 76 "CallFrames$Argument" "isFraction" "Z" "CallFrames" ∈ lw_tbl := List.mem_of_getElem? (i := 50) (by decide +kernel)
theorem kw_35 : Cond.lays "CallFrames$Argument" "CallFrames$Argument" "kind" "I" ∈ lw_tbl := List.mem_of_getElem? (i := 51) (by decide +kernel)
theorem kw_37 : Cond.lays "CallFrames$Argument" "CallFrames$Argument" "home" "I" ∈ lw_tbl := List.mem_of_getElem? (i := 53) (by decide +kernel)
theorem kw_39 : Cond.lays "CallFrames$Argument" "CallFrames$Argument" "bytes" "I" ∈ lw_tbl := List.mem_of_getElem? (i := 55) (by decide +kernel)
theorem kw_41 : Cond.lays "CallFrames$Argument" "CallFrames$Argument" "register" "I" ∈ lw_tbl := List.mem_of_getElem? (i := 57) (by decide +kernel)
theorem kw_43 : Cond.lays "CallFrames$Argument" "CallFrames$Argument" "isFraction" "Z" ∈ lw_tbl := List.mem_of_getElem? (i := 59) (by decide +kernel)
theorem kw_46 : Cond.arrayOver (FieldType.object "CallFrames$Argument") ∈ lw_tbl := List.mem_of_getElem? (i := 62) (by decide +kernel)
theorem kw_47 : Cond.methodLink "CallFrames" 31 ⟨"CallFrames$Argument", "become", "(III)V"⟩ ∈ lw_tbl := List.mem_of_getElem? (i := 63) (by decide +kernel)
theorem kw_48 : Cond.instanceMethod ⟨"CallFrames$Argument", "become", "(III)V"⟩ ∈ lw_tbl := List.mem_of_getElem? (i := 64) (by decide +kernel)
theorem kw_49 : Cond.selects "CallFrames$Argument" ⟨"CallFrames$Argument", "become", "(III)V"⟩ ⟨"CallFrames$Argument", "become", "(III)V"⟩ ∈ lw_tbl := List.mem_of_getElem? (i := 65) (by decide +kernel)
theorem kw_50 : Cond.code ⟨"CallFrames$Argument", "become", "(III)V"⟩ prog_2_method_2_code 4 none ∈ lw_tbl := List.mem_of_getElem? (i := 66) (by decide +kernel)
theorem kw_51 : Cond.methodLink "CallFrames" 35 ⟨"CallFrames", "empty", "()V"⟩ ∈ lw_tbl := List.mem_of_getElem? (i := 67) (by decide +kernel)
theorem kw_53 : Cond.instanceMethod ⟨"CallFrames", "empty", "()V"⟩ ∈ lw_tbl := List.mem_of_getElem? (i := 69) (by decide +kernel)
theorem kw_54 : Cond.code ⟨"CallFrames", "empty", "()V"⟩ prog_1_method_2_code 2 none ∈ lw_tbl := List.mem_of_getElem? (i := 70) (by decide +kernel)
theorem kw_55 : Cond.fieldLink "CallFrames" 10 "CallFrames" "address" "LCallFrames$Argument;" ∈ lw_tbl := List.mem_of_getElem? (i := 71) (by decide +kernel)
theorem kw_56 : Cond.fieldLink "CallFrames" 16 "CallFrames" "arguments" "[LCallFrames$Argument;" ∈ lw_tbl := List.mem_of_getElem? (i := 72) (by decide +kernel)
theorem kw_57 : Cond.fieldLink "CallFrames" 53 "CallFrames" "many" "I" ∈ lw_tbl := List.mem_of_getElem? (i := 73) (by decide +kernel)
theorem kw_58 : Cond.fieldLink "CallFrames" 20 "CallFrames" "result" "I" ∈ lw_tbl := List.mem_of_getElem? (i := 74) (by decide +kernel)
theorem kw_59 : Cond.fieldLink "CallFrames" 49 "CallFrames" "isOpen" "Z" ∈ lw_tbl := List.mem_of_getElem? (i := 75) (by decide +kernel)
theorem kw_60 : Cond.fieldLink "CallFrames" 113 "CallFrames" "greatest" "I" ∈ lw_tbl := List.mem_of_getElem? (i := 76) (by decide +kernel)
theorem kw_61 : Cond.fieldLink "CallFrames" 110 "CallFrames" "calls" "I" ∈ lw_tbl := List.mem_of_getElem? (i := 77) (by decide +kernel)
theorem kw_62 : Cond.fieldLink "CallFrames" 24 "CallFrames" "general" "[I" ∈ lw_tbl := List.mem_of_getElem? (i := 78) (by decide +kernel)
theorem kw_63 : Cond.fieldLink "CallFrames" 28 "CallFrames" "fractions" "[I" ∈ lw_tbl := List.mem_of_getElem? (i := 79) (by decide +kernel)
theorem kw_64 : Cond.fieldLink "CallFrames" 38 "CallFrames" "locals" "I" ∈ lw_tbl := List.mem_of_getElem? (i := 80) (by decide +kernel)
theorem kw_65 : Cond.laysFinal "CallFrames" "CallFrames" "address" "LCallFrames$Argument;" ∈ lw_tbl := List.mem_of_getElem? (i := 81) (by decide +kernel)
theorem kw_67 : Cond.laysFinal "CallFrames" "CallFrames" "arguments" "[LCallFrames$Argument;" ∈ lw_tbl := List.mem_of_getElem? (i := 83) (by decide +kernel)
theorem kw_69 : Cond.lays "CallFrames" "CallFrames" "many" "I" ∈ lw_tbl := List.mem_of_getElem? (i := 85) (by decide +kernel)
theorem kw_71 : Cond.lays "CallFrames" "CallFrames" "result" "I" ∈ lw_tbl := List.mem_of_getElem? (i := 87) (by decide +kernel)
theorem kw_73 : Cond.lays "CallFrames" "CallFrames" "isOpen" "Z" ∈ lw_tbl := List.mem_of_getElem? (i := 89) (by decide +kernel)
theorem kw_75 : Cond.lays "CallFrames" "CallFrames" "greatest" "I" ∈ lw_tbl := List.mem_of_getElem? (i := 91) (by decide +kernel)
theorem kw_77 : Cond.lays "CallFrames" "CallFrames" "calls" "I" ∈ lw_tbl := List.mem_of_getElem? (i := 93) (by decide +kernel)
theorem kw_79 : Cond.laysFinal "CallFrames" "CallFrames" "general" "[I" ∈ lw_tbl := List.mem_of_getElem? (i := 95) (by decide +kernel)
theorem kw_81 : Cond.laysFinal "CallFrames" "CallFrames" "fractions" "[I" ∈ lw_tbl := List.mem_of_getElem? (i := 97) (by decide +kernel)
theorem kw_83 : Cond.lays "CallFrames" "CallFrames" "locals" "I" ∈ lw_tbl := List.mem_of_getElem? (i := 99) (by decide +kernel)
theorem kw_86 : Cond.arrayClass FieldType.int ∈ lw_tbl := List.mem_of_getElem? (i := 102) (by decide +kernel)
theorem kw_87 : Cond.methodLink "CallFramesLaw" 69 ⟨"CallFrames", "call", "()I"⟩ ∈ lw_tbl := List.mem_of_getElem? (i := 103) (by decide +kernel)
theorem kw_88 : Cond.instanceMethod ⟨"CallFrames", "call", "()I"⟩ ∈ lw_tbl := List.mem_of_getElem? (i := 104) (by decide +kernel)
theorem kw_89 : Cond.selects "CallFrames" ⟨"CallFrames", "call", "()I"⟩ ⟨"CallFrames", "call", "()I"⟩ ∈ lw_tbl := List.mem_of_getElem? (i := 105) (by decide +kernel)
theorem kw_90 : Cond.code ⟨"CallFrames", "call", "()I"⟩ prog_1_method_14_code 1 (some FieldType.int) ∈ lw_tbl := List.mem_of_getElem? (i := 106) (by decide +kernel)
theorem kw_91 : Cond.methodLink "CallFrames" 107 ⟨"CallFrames", "area", "()I"⟩ ∈ lw_tbl := List.mem_of_getElem? (i := 107) (by decide +kernel)
theorem kw_93 : Cond.instanceMethod ⟨"CallFrames", "area", "()I"⟩ ∈ lw_tbl := List.mem_of_getElem? (i := 109) (by decide +kernel)
theorem kw_94 : Cond.code ⟨"CallFrames", "area", "()I"⟩ prog_1_method_12_code 1 (some FieldType.int) ∈ lw_tbl := List.mem_of_getElem? (i := 110) (by decide +kernel)
theorem kw_95 : Cond.methodLink "CallFrames" 63 ⟨"CallFrames", "end", "()I"⟩ ∈ lw_tbl := List.mem_of_getElem? (i := 111) (by decide +kernel)
theorem kw_97 : Cond.instanceMethod ⟨"CallFrames", "end", "()I"⟩ ∈ lw_tbl := List.mem_of_getElem? (i := 113) (by decide +kernel)
theorem kw_98 : Cond.code ⟨"CallFrames", "end", "()I"⟩ prog_1_method_7_code 1 (some FieldType.int) ∈ lw_tbl := List.mem_of_getElem? (i := 114) (by decide +kernel)
theorem kw_99 : Cond.methodLink "CallFrames" 59 ⟨"CallFrames$Argument", "end", "()I"⟩ ∈ lw_tbl := List.mem_of_getElem? (i := 115) (by decide +kernel)
theorem kw_100 : Cond.instanceMethod ⟨"CallFrames$Argument", "end", "()I"⟩ ∈ lw_tbl := List.mem_of_getElem? (i := 116) (by decide +kernel)
theorem kw_101 : Cond.selects "CallFrames$Argument" ⟨"CallFrames$Argument", "end", "()I"⟩ ⟨"CallFrames$Argument", "end", "()I"⟩ ∈ lw_tbl := List.mem_of_getElem? (i := 117) (by decide +kernel)
theorem kw_102 : Cond.code ⟨"CallFrames$Argument", "end", "()I"⟩ prog_2_method_4_code 1 (some FieldType.int) ∈ lw_tbl := List.mem_of_getElem? (i := 118) (by decide +kernel)
theorem kw_103 : Cond.methodLink "CallFrames$Argument" 28 ⟨"CallFrames$Argument", "words", "()I"⟩ ∈ lw_tbl := List.mem_of_getElem? (i := 119) (by decide +kernel)
theorem kw_104 : Cond.instanceMethod ⟨"CallFrames$Argument", "words", "()I"⟩ ∈ lw_tbl := List.mem_of_getElem? (i := 120) (by decide +kernel)
theorem kw_105 : Cond.selects "CallFrames$Argument" ⟨"CallFrames$Argument", "words", "()I"⟩ ⟨"CallFrames$Argument", "words", "()I"⟩ ∈ lw_tbl := List.mem_of_getElem? (i := 121) (by decide +kernel)
theorem kw_106 : Cond.code ⟨"CallFrames$Argument", "words", "()I"⟩ prog_2_method_3_code 1 (some FieldType.int) ∈ lw_tbl := List.mem_of_getElem? (i := 122) (by decide +kernel)
theorem kw_107 : Cond.methodLink "CallFrames" 64 ⟨"CallFrames", "up", "(II)I"⟩ ∈ lw_tbl := List.mem_of_getElem? (i := 123) (by decide +kernel)
theorem kw_108 : Cond.static ⟨"CallFrames", "up", "(II)I"⟩ ∈ lw_tbl := List.mem_of_getElem? (i := 124) (by decide +kernel)
theorem kw_109 : Cond.code ⟨"CallFrames", "up", "(II)I"⟩ prog_1_method_3_code 2 (some FieldType.int) ∈ lw_tbl := List.mem_of_getElem? (i := 125) (by decide +kernel)
theorem kw_110 : Cond.methodLink "CallFrames" 102 ⟨"java/lang/Math", "max", "(II)I"⟩ ∈ lw_tbl := List.mem_of_getElem? (i := 126) (by decide +kernel)
theorem kw_111 : Cond.static ⟨"java/lang/Math", "max", "(II)I"⟩ ∈ lw_tbl := List.mem_of_getElem? (i := 127) (by decide +kernel)
theorem kw_112 : Cond.code ⟨"java/lang/Math", "max", "(II)I"⟩ prog_9_method_65_code 2 (some FieldType.int) ∈ lw_tbl := List.mem_of_getElem? (i := 128) (by decide +kernel)
theorem kw_113 : Cond.methodLink "CallFramesLaw" 79 ⟨"CallFrames", "clear", "()I"⟩ ∈ lw_tbl := List.mem_of_getElem? (i := 129) (by decide +kernel)
theorem kw_114 : Cond.instanceMethod ⟨"CallFrames", "clear", "()I"⟩ ∈ lw_tbl := List.mem_of_getElem? (i := 130) (by decide +kernel)
theorem kw_115 : Cond.selects "CallFrames" ⟨"CallFrames", "clear", "()I"⟩ ⟨"CallFrames", "clear", "()I"⟩ ∈ lw_tbl := List.mem_of_getElem? (i := 131) (by decide +kernel)
theorem kw_116 : Cond.code ⟨"CallFrames", "clear", "()I"⟩ prog_1_method_17_code 2 (some FieldType.int) ∈ lw_tbl := List.mem_of_getElem? (i := 132) (by decide +kernel)
theorem kw_117 : Cond.methodLink "CallFramesLaw" 44 ⟨"CallFramesLaw", "begin", "(LCallFrames;IIIZ)I"⟩ ∈ lw_tbl := List.mem_of_getElem? (i := 133) (by decide +kernel)
theorem kw_118 : Cond.static ⟨"CallFramesLaw", "begin", "(LCallFrames;IIIZ)I"⟩ ∈ lw_tbl := List.mem_of_getElem? (i := 134) (by decide +kernel)
theorem kw_119 : Cond.codeWith ⟨"CallFramesLaw", "begin", "(LCallFrames;IIIZ)I"⟩ method_3_code 6 (some FieldType.int) [(0, 9, 12, 13)] ∈ lw_tbl := List.mem_of_getElem? (i := 135) (by decide +kernel)
theorem kw_120 : Cond.classLink "CallFramesLaw" 13 "java/lang/IllegalArgumentException" ∈ lw_tbl := List.mem_of_getElem? (i := 136) (by decide +kernel)
theorem kw_121 : Cond.methodLink "CallFramesLaw" 7 ⟨"CallFrames", "begin", "(IIIZ)V"⟩ ∈ lw_tbl := List.mem_of_getElem? (i := 137) (by decide +kernel)
theorem kw_122 : Cond.instanceMethod ⟨"CallFrames", "begin", "(IIIZ)V"⟩ ∈ lw_tbl := List.mem_of_getElem? (i := 138) (by decide +kernel)
theorem kw_123 : Cond.selects "CallFrames" ⟨"CallFrames", "begin", "(IIIZ)V"⟩ ⟨"CallFrames", "begin", "(IIIZ)V"⟩ ∈ lw_tbl := List.mem_of_getElem? (i := 139) (by decide +kernel)
theorem kw_124 : Cond.code ⟨"CallFrames", "begin", "(IIIZ)V"⟩ prog_1_method_5_code 5 none ∈ lw_tbl := List.mem_of_getElem? (i := 140) (by decide +kernel)
theorem kw_125 : Cond.methodLink "CallFrames" 42 ⟨"CallFrames", "canBe", "(II)Z"⟩ ∈ lw_tbl := List.mem_of_getElem? (i := 141) (by decide +kernel)
theorem kw_126 : Cond.static ⟨"CallFrames", "canBe", "(II)Z"⟩ ∈ lw_tbl := List.mem_of_getElem? (i := 142) (by decide +kernel)
theorem kw_127 : Cond.code ⟨"CallFrames", "canBe", "(II)Z"⟩ prog_1_method_4_code 2 (some FieldType.boolean) ∈ lw_tbl := List.mem_of_getElem? (i := 143) (by decide +kernel)
theorem kw_128 : Cond.constant "CallFrames" 41 65536 ∈ lw_tbl := List.mem_of_getElem? (i := 144) (by decide +kernel)
theorem kw_129 : Cond.classLink "CallFrames" 46 "java/lang/IllegalArgumentException" ∈ lw_tbl := List.mem_of_getElem? (i := 145) (by decide +kernel)
theorem kw_130 : Cond.instantiable "java/lang/IllegalArgumentException" 6 ∈ lw_tbl := List.mem_of_getElem? (i := 146) (by decide +kernel)
theorem kw_131 : Cond.castable "java/lang/IllegalArgumentException" "java/lang/IllegalArgumentException" ∈ lw_tbl := List.mem_of_getElem? (i := 147) (by decide +kernel)
theorem kw_170 : Cond.methodLink "CallFrames" 48 ⟨"java/lang/IllegalArgumentException", "<init>", "()V"⟩ ∈ lw_tbl := List.mem_of_getElem? (i := 186) (by decide +kernel)
theorem kw_171 : Cond.instanceMethod ⟨"java/lang/IllegalArgumentException", "<init>", "()V"⟩ ∈ lw_tbl := List.mem_of_getElem? (i := 187) (by decide +kernel)
theorem kw_172 : Cond.code ⟨"java/lang/IllegalArgumentException", "<init>", "()V"⟩ prog_6_method_1_code 1 none ∈ lw_tbl := List.mem_of_getElem? (i := 188) (by decide +kernel)
theorem kw_192 : Cond.methodLink "CallFramesLaw" 54 ⟨"CallFramesLaw", "add", "(LCallFrames;III[J)I"⟩ ∈ lw_tbl := List.mem_of_getElem? (i := 208) (by decide +kernel)
theorem kw_193 : Cond.static ⟨"CallFramesLaw", "add", "(LCallFrames;III[J)I"⟩ ∈ lw_tbl := List.mem_of_getElem? (i := 209) (by decide +kernel)
theorem kw_194 : Cond.codeWith ⟨"CallFramesLaw", "add", "(LCallFrames;III[J)I"⟩ method_4_code 6 (some FieldType.int) [(0, 12, 15, 13), (0, 12, 19, 19)] ∈ lw_tbl := List.mem_of_getElem? (i := 210) (by decide +kernel)
theorem kw_195 : Cond.classLink "CallFramesLaw" 19 "java/lang/IllegalStateException" ∈ lw_tbl := List.mem_of_getElem? (i := 211) (by decide +kernel)
theorem kw_196 : Cond.methodLink "CallFramesLaw" 15 ⟨"CallFrames", "add", "(III)I"⟩ ∈ lw_tbl := List.mem_of_getElem? (i := 212) (by decide +kernel)
theorem kw_197 : Cond.instanceMethod ⟨"CallFrames", "add", "(III)I"⟩ ∈ lw_tbl := List.mem_of_getElem? (i := 213) (by decide +kernel)
theorem kw_198 : Cond.selects "CallFrames" ⟨"CallFrames", "add", "(III)I"⟩ ⟨"CallFrames", "add", "(III)I"⟩ ∈ lw_tbl := List.mem_of_getElem? (i := 214) (by decide +kernel)
theorem kw_199 : Cond.code ⟨"CallFrames", "add", "(III)I"⟩ prog_1_method_8_code 7 (some FieldType.int) ∈ lw_tbl := List.mem_of_getElem? (i := 215) (by decide +kernel)
theorem kw_200 : Cond.constant "CallFrames" 68 1000000 ∈ lw_tbl := List.mem_of_getElem? (i := 216) (by decide +kernel)
theorem kw_201 : Cond.classLink "CallFrames" 69 "java/lang/IllegalStateException" ∈ lw_tbl := List.mem_of_getElem? (i := 217) (by decide +kernel)
theorem kw_202 : Cond.instantiable "java/lang/IllegalStateException" 6 ∈ lw_tbl := List.mem_of_getElem? (i := 218) (by decide +kernel)
theorem kw_203 : Cond.castable "java/lang/IllegalStateException" "java/lang/IllegalStateException" ∈ lw_tbl := List.mem_of_getElem? (i := 219) (by decide +kernel)
theorem kw_210 : Cond.methodLink "CallFrames" 71 ⟨"java/lang/IllegalStateException", "<init>", "()V"⟩ ∈ lw_tbl := List.mem_of_getElem? (i := 226) (by decide +kernel)
theorem kw_211 : Cond.instanceMethod ⟨"java/lang/IllegalStateException", "<init>", "()V"⟩ ∈ lw_tbl := List.mem_of_getElem? (i := 227) (by decide +kernel)
theorem kw_212 : Cond.code ⟨"java/lang/IllegalStateException", "<init>", "()V"⟩ prog_7_method_1_code 1 none ∈ lw_tbl := List.mem_of_getElem? (i := 228) (by decide +kernel)
theorem kw_216 : Cond.methodLink "CallFrames" 72 ⟨"CallFrames", "isReal", "(I)Z"⟩ ∈ lw_tbl := List.mem_of_getElem? (i := 232) (by decide +kernel)
theorem kw_218 : Cond.instanceMethod ⟨"CallFrames", "isReal", "(I)Z"⟩ ∈ lw_tbl := List.mem_of_getElem? (i := 234) (by decide +kernel)
theorem kw_219 : Cond.code ⟨"CallFrames", "isReal", "(I)Z"⟩ prog_1_method_6_code 2 (some FieldType.boolean) ∈ lw_tbl := List.mem_of_getElem? (i := 235) (by decide +kernel)
theorem kw_220 : Cond.methodLink "CallFramesLaw" 58 ⟨"CallFramesLaw", "where", "(LCallFrames;II[J)I"⟩ ∈ lw_tbl := List.mem_of_getElem? (i := 236) (by decide +kernel)
theorem kw_221 : Cond.static ⟨"CallFramesLaw", "where", "(LCallFrames;II[J)I"⟩ ∈ lw_tbl := List.mem_of_getElem? (i := 237) (by decide +kernel)
theorem kw_222 : Cond.codeWith ⟨"CallFramesLaw", "where", "(LCallFrames;II[J)I"⟩ method_5_code 5 (some FieldType.int) [(0, 10, 13, 25)] ∈ lw_tbl := List.mem_of_getElem? (i := 238) (by decide +kernel)
theorem kw_223 : Cond.classLink "CallFramesLaw" 25 "java/lang/IndexOutOfBoundsException" ∈ lw_tbl := List.mem_of_getElem? (i := 239) (by decide +kernel)
theorem kw_224 : Cond.methodLink "CallFramesLaw" 21 ⟨"CallFrames", "where", "(II)I"⟩ ∈ lw_tbl := List.mem_of_getElem? (i := 240) (by decide +kernel)
theorem kw_225 : Cond.instanceMethod ⟨"CallFrames", "where", "(II)I"⟩ ∈ lw_tbl := List.mem_of_getElem? (i := 241) (by decide +kernel)
theorem kw_226 : Cond.selects "CallFrames" ⟨"CallFrames", "where", "(II)I"⟩ ⟨"CallFrames", "where", "(II)I"⟩ ∈ lw_tbl := List.mem_of_getElem? (i := 242) (by decide +kernel)
theorem kw_227 : Cond.code ⟨"CallFrames", "where", "(II)I"⟩ prog_1_method_10_code 4 (some FieldType.int) ∈ lw_tbl := List.mem_of_getElem? (i := 243) (by decide +kernel)
theorem kw_228 : Cond.methodLink "CallFrames" 85 ⟨"CallFrames", "of", "(I)LCallFrames$Argument;"⟩ ∈ lw_tbl := List.mem_of_getElem? (i := 244) (by decide +kernel)
theorem kw_230 : Cond.instanceMethod ⟨"CallFrames", "of", "(I)LCallFrames$Argument;"⟩ ∈ lw_tbl := List.mem_of_getElem? (i := 246) (by decide +kernel)
theorem kw_231 : Cond.code ⟨"CallFrames", "of", "(I)LCallFrames$Argument;"⟩ prog_1_method_9_code 2 (Option.some (FieldType.object "CallFrames$Argument")) ∈ lw_tbl := List.mem_of_getElem? (i := 247) (by decide +kernel)
theorem kw_232 : Cond.classLink "CallFrames" 82 "java/lang/IndexOutOfBoundsException" ∈ lw_tbl := List.mem_of_getElem? (i := 248) (by decide +kernel)
theorem kw_233 : Cond.instantiable "java/lang/IndexOutOfBoundsException" 6 ∈ lw_tbl := List.mem_of_getElem? (i := 249) (by decide +kernel)
theorem kw_234 : Cond.castable "java/lang/IndexOutOfBoundsException" "java/lang/IndexOutOfBoundsException" ∈ lw_tbl := List.mem_of_getElem? (i := 250) (by decide +kernel)
theorem kw_241 : Cond.methodLink "CallFrames" 84 ⟨"java/lang/IndexOutOfBoundsException", "<init>", "()V"⟩ ∈ lw_tbl := List.mem_of_getElem? (i := 257) (by decide +kernel)
theorem kw_242 : Cond.instanceMethod ⟨"java/lang/IndexOutOfBoundsException", "<init>", "()V"⟩ ∈ lw_tbl := List.mem_of_getElem? (i := 258) (by decide +kernel)
theorem kw_243 : Cond.code ⟨"java/lang/IndexOutOfBoundsException", "<init>", "()V"⟩ prog_8_method_1_code 1 none ∈ lw_tbl := List.mem_of_getElem? (i := 259) (by decide +kernel)
theorem kw_247 : Cond.methodLink "CallFrames" 89 ⟨"CallFrames$Argument", "words", "()I"⟩ ∈ lw_tbl := List.mem_of_getElem? (i := 263) (by decide +kernel)
theorem kw_248 : Cond.methodLink "CallFrames" 92 ⟨"CallFrames$Argument", "whereWord", "(I)I"⟩ ∈ lw_tbl := List.mem_of_getElem? (i := 264) (by decide +kernel)
theorem kw_249 : Cond.instanceMethod ⟨"CallFrames$Argument", "whereWord", "(I)I"⟩ ∈ lw_tbl := List.mem_of_getElem? (i := 265) (by decide +kernel)
theorem kw_250 : Cond.selects "CallFrames$Argument" ⟨"CallFrames$Argument", "whereWord", "(I)I"⟩ ⟨"CallFrames$Argument", "whereWord", "(I)I"⟩ ∈ lw_tbl := List.mem_of_getElem? (i := 266) (by decide +kernel)
theorem kw_251 : Cond.code ⟨"CallFrames$Argument", "whereWord", "(I)I"⟩ prog_2_method_5_code 3 (some FieldType.int) ∈ lw_tbl := List.mem_of_getElem? (i := 267) (by decide +kernel)
theorem kw_252 : Cond.methodLink "CallFramesLaw" 62 ⟨"CallFramesLaw", "about", "(LCallFrames;II[J)I"⟩ ∈ lw_tbl := List.mem_of_getElem? (i := 268) (by decide +kernel)
theorem kw_253 : Cond.static ⟨"CallFramesLaw", "about", "(LCallFrames;II[J)I"⟩ ∈ lw_tbl := List.mem_of_getElem? (i := 269) (by decide +kernel)
theorem kw_254 : Cond.codeWith ⟨"CallFramesLaw", "about", "(LCallFrames;II[J)I"⟩ method_6_code 5 (some FieldType.int) [(0, 10, 13, 25)] ∈ lw_tbl := List.mem_of_getElem? (i := 270) (by decide +kernel)
theorem kw_255 : Cond.methodLink "CallFramesLaw" 27 ⟨"CallFrames", "about", "(II)I"⟩ ∈ lw_tbl := List.mem_of_getElem? (i := 271) (by decide +kernel)
theorem kw_256 : Cond.instanceMethod ⟨"CallFrames", "about", "(II)I"⟩ ∈ lw_tbl := List.mem_of_getElem? (i := 272) (by decide +kernel)
theorem kw_257 : Cond.selects "CallFrames" ⟨"CallFrames", "about", "(II)I"⟩ ⟨"CallFrames", "about", "(II)I"⟩ ∈ lw_tbl := List.mem_of_getElem? (i := 273) (by decide +kernel)
theorem kw_258 : Cond.code ⟨"CallFrames", "about", "(II)I"⟩ prog_1_method_11_code 4 (some FieldType.int) ∈ lw_tbl := List.mem_of_getElem? (i := 274) (by decide +kernel)
theorem kw_259 : Cond.methodLink "CallFramesLaw" 65 ⟨"CallFramesLaw", "signature", "(LCallFrames;I[J)I"⟩ ∈ lw_tbl := List.mem_of_getElem? (i := 275) (by decide +kernel)
theorem kw_260 : Cond.static ⟨"CallFramesLaw", "signature", "(LCallFrames;I[J)I"⟩ ∈ lw_tbl := List.mem_of_getElem? (i := 276) (by decide +kernel)
theorem kw_261 : Cond.codeWith ⟨"CallFramesLaw", "signature", "(LCallFrames;I[J)I"⟩ method_7_code 4 (some FieldType.int) [(0, 9, 12, 25)] ∈ lw_tbl := List.mem_of_getElem? (i := 277) (by decide +kernel)
theorem kw_262 : Cond.methodLink "CallFramesLaw" 30 ⟨"CallFrames", "signature", "(I)I"⟩ ∈ lw_tbl := List.mem_of_getElem? (i := 278) (by decide +kernel)
theorem kw_263 : Cond.instanceMethod ⟨"CallFrames", "signature", "(I)I"⟩ ∈ lw_tbl := List.mem_of_getElem? (i := 279) (by decide +kernel)
theorem kw_264 : Cond.selects "CallFrames" ⟨"CallFrames", "signature", "(I)I"⟩ ⟨"CallFrames", "signature", "(I)I"⟩ ∈ lw_tbl := List.mem_of_getElem? (i := 280) (by decide +kernel)
theorem kw_265 : Cond.code ⟨"CallFrames", "signature", "(I)I"⟩ prog_1_method_13_code 2 (some FieldType.int) ∈ lw_tbl := List.mem_of_getElem? (i := 281) (by decide +kernel)
theorem kw_266 : Cond.methodLink "CallFramesLaw" 73 ⟨"CallFramesLaw", "frame", "(LCallFrames;III[J)I"⟩ ∈ lw_tbl := List.mem_of_getElem? (i := 282) (by decide +kernel)
theorem kw_267 : Cond.static ⟨"CallFramesLaw", "frame", "(LCallFrames;III[J)I"⟩ ∈ lw_tbl := List.mem_of_getElem? (i := 283) (by decide +kernel)
theorem kw_268 : Cond.codeWith ⟨"CallFramesLaw", "frame", "(LCallFrames;III[J)I"⟩ method_8_code 6 (some FieldType.int) [(0, 12, 15, 13)] ∈ lw_tbl := List.mem_of_getElem? (i := 284) (by decide +kernel)
theorem kw_269 : Cond.methodLink "CallFramesLaw" 34 ⟨"CallFrames", "frame", "(III)I"⟩ ∈ lw_tbl := List.mem_of_getElem? (i := 285) (by decide +kernel)
theorem kw_270 : Cond.instanceMethod ⟨"CallFrames", "frame", "(III)I"⟩ ∈ lw_tbl := List.mem_of_getElem? (i := 286) (by decide +kernel)
theorem kw_271 : Cond.selects "CallFrames" ⟨"CallFrames", "frame", "(III)I"⟩ ⟨"CallFrames", "frame", "(III)I"⟩ ∈ lw_tbl := List.mem_of_getElem? (i := 287) (by decide +kernel)
theorem kw_272 : Cond.code ⟨"CallFrames", "frame", "(III)I"⟩ prog_1_method_15_code 8 (some FieldType.int) ∈ lw_tbl := List.mem_of_getElem? (i := 288) (by decide +kernel)
theorem kw_273 : Cond.constant "CallFrames" 116 1057030143 ∈ lw_tbl := List.mem_of_getElem? (i := 289) (by decide +kernel)
theorem kw_274 : Cond.constant "CallFrames" 117 (-1431306241) ∈ lw_tbl := List.mem_of_getElem? (i := 290) (by decide +kernel)
theorem kw_275 : Cond.constant "CallFrames" 118 (-2147483648) ∈ lw_tbl := List.mem_of_getElem? (i := 291) (by decide +kernel)
theorem kw_276 : Cond.methodLink "CallFramesLaw" 76 ⟨"CallFramesLaw", "place", "(LCallFrames;II[J)I"⟩ ∈ lw_tbl := List.mem_of_getElem? (i := 292) (by decide +kernel)
theorem kw_277 : Cond.static ⟨"CallFramesLaw", "place", "(LCallFrames;II[J)I"⟩ ∈ lw_tbl := List.mem_of_getElem? (i := 293) (by decide +kernel)
theorem kw_278 : Cond.codeWith ⟨"CallFramesLaw", "place", "(LCallFrames;II[J)I"⟩ method_9_code 5 (some FieldType.int) [(0, 10, 13, 25)] ∈ lw_tbl := List.mem_of_getElem? (i := 294) (by decide +kernel)
theorem kw_279 : Cond.methodLink "CallFramesLaw" 37 ⟨"CallFrames", "place", "(II)I"⟩ ∈ lw_tbl := List.mem_of_getElem? (i := 295) (by decide +kernel)
theorem kw_280 : Cond.instanceMethod ⟨"CallFrames", "place", "(II)I"⟩ ∈ lw_tbl := List.mem_of_getElem? (i := 296) (by decide +kernel)
theorem kw_281 : Cond.selects "CallFrames" ⟨"CallFrames", "place", "(II)I"⟩ ⟨"CallFrames", "place", "(II)I"⟩ ∈ lw_tbl := List.mem_of_getElem? (i := 297) (by decide +kernel)
theorem kw_282 : Cond.code ⟨"CallFrames", "place", "(II)I"⟩ prog_1_method_16_code 3 (some FieldType.int) ∈ lw_tbl := List.mem_of_getElem? (i := 298) (by decide +kernel)
theorem kw_283 : Cond.classLink "CallFramesLaw" 41 "CallFramesModel" ∈ lw_tbl := List.mem_of_getElem? (i := 299) (by decide +kernel)
theorem kw_284 : Cond.instantiable "CallFramesModel" 13 ∈ lw_tbl := List.mem_of_getElem? (i := 300) (by decide +kernel)
theorem kw_285 : Cond.methodLink "CallFramesLaw" 43 ⟨"CallFramesModel", "<init>", "()V"⟩ ∈ lw_tbl := List.mem_of_getElem? (i := 301) (by decide +kernel)
theorem kw_286 : Cond.instanceMethod ⟨"CallFramesModel", "<init>", "()V"⟩ ∈ lw_tbl := List.mem_of_getElem? (i := 302) (by decide +kernel)
theorem kw_287 : Cond.code ⟨"CallFramesModel", "<init>", "()V"⟩ prog_4_method_1_code 1 none ∈ lw_tbl := List.mem_of_getElem? (i := 303) (by decide +kernel)
theorem kw_288 : Cond.methodLink "CallFramesModel" 1 ⟨"java/lang/Object", "<init>", "()V"⟩ ∈ lw_tbl := List.mem_of_getElem? (i := 304) (by decide +kernel)
theorem kw_289 : Cond.fieldLink "CallFramesModel" 23 "CallFramesModel" "thrown" "I" ∈ lw_tbl := List.mem_of_getElem? (i := 305) (by decide +kernel)
theorem kw_290 : Cond.fieldLink "CallFramesModel" 9 "CallFramesModel" "result" "I" ∈ lw_tbl := List.mem_of_getElem? (i := 306) (by decide +kernel)
theorem kw_291 : Cond.fieldLink "CallFramesModel" 35 "CallFramesModel" "arguments" "I" ∈ lw_tbl := List.mem_of_getElem? (i := 307) (by decide +kernel)
theorem kw_292 : Cond.fieldLink "CallFramesModel" 70 "CallFramesModel" "calls" "I" ∈ lw_tbl := List.mem_of_getElem? (i := 308) (by decide +kernel)
theorem kw_293 : Cond.fieldLink "CallFramesModel" 73 "CallFramesModel" "greatest" "I" ∈ lw_tbl := List.mem_of_getElem? (i := 309) (by decide +kernel)
theorem kw_294 : Cond.fieldLink "CallFramesModel" 95 "CallFramesModel" "laidGeneral" "I" ∈ lw_tbl := List.mem_of_getElem? (i := 310) (by decide +kernel)
theorem kw_295 : Cond.fieldLink "CallFramesModel" 85 "CallFramesModel" "laidFractions" "I" ∈ lw_tbl := List.mem_of_getElem? (i := 311) (by decide +kernel)
theorem kw_296 : Cond.fieldLink "CallFramesModel" 79 "CallFramesModel" "laidLocals" "I" ∈ lw_tbl := List.mem_of_getElem? (i := 312) (by decide +kernel)
theorem kw_297 : Cond.fieldLink "CallFramesModel" 76 "CallFramesModel" "laidArea" "I" ∈ lw_tbl := List.mem_of_getElem? (i := 313) (by decide +kernel)
theorem kw_298 : Cond.fieldLink "CallFramesModel" 31 "CallFramesModel" "open" "Z" ∈ lw_tbl := List.mem_of_getElem? (i := 314) (by decide +kernel)
theorem kw_299 : Cond.fieldLink "CallFramesModel" 13 "CallFramesModel" "kinds" "[I" ∈ lw_tbl := List.mem_of_getElem? (i := 315) (by decide +kernel)
theorem kw_300 : Cond.fieldLink "CallFramesModel" 17 "CallFramesModel" "sizes" "[I" ∈ lw_tbl := List.mem_of_getElem? (i := 316) (by decide +kernel)
theorem kw_301 : Cond.fieldLink "CallFramesModel" 20 "CallFramesModel" "alignments" "[I" ∈ lw_tbl := List.mem_of_getElem? (i := 317) (by decide +kernel)
theorem kw_302 : Cond.lays "CallFramesModel" "CallFramesModel" "thrown" "I" ∈ lw_tbl := List.mem_of_getElem? (i := 318) (by decide +kernel)
theorem kw_304 : Cond.lays "CallFramesModel" "CallFramesModel" "result" "I" ∈ lw_tbl := List.mem_of_getElem? (i := 320) (by decide +kernel)
theorem kw_306 : Cond.lays "CallFramesModel" "CallFramesModel" "arguments" "I" ∈ lw_tbl := List.mem_of_getElem? (i := 322) (by decide +kernel)
theorem kw_308 : Cond.lays "CallFramesModel" "CallFramesModel" "calls" "I" ∈ lw_tbl := List.mem_of_getElem? (i := 324) (by decide +kernel)
theorem kw_310 : Cond.lays "CallFramesModel" "CallFramesModel" "greatest" "I" ∈ lw_tbl := List.mem_of_getElem? (i := 326) (by decide +kernel)
theorem kw_312 : Cond.lays "CallFramesModel" "CallFramesModel" "laidGeneral" "I" ∈ lw_tbl := List.mem_of_getElem? (i := 328) (by decide +kernel)
theorem kw_314 : Cond.lays "CallFramesModel" "CallFramesModel" "laidFractions" "I" ∈ lw_tbl := List.mem_of_getElem? (i := 330) (by decide +kernel)
theorem kw_316 : Cond.lays "CallFramesModel" "CallFramesModel" "laidLocals" "I" ∈ lw_tbl := List.mem_of_getElem? (i := 332) (by decide +kernel)
theorem kw_318 : Cond.lays "CallFramesModel" "CallFramesModel" "laidArea" "I" ∈ lw_tbl := List.mem_of_getElem? (i := 334) (by decide +kernel)
theorem kw_320 : Cond.lays "CallFramesModel" "CallFramesModel" "open" "Z" ∈ lw_tbl := List.mem_of_getElem? (i := 336) (by decide +kernel)
theorem kw_322 : Cond.laysFinal "CallFramesModel" "CallFramesModel" "kinds" "[I" ∈ lw_tbl := List.mem_of_getElem? (i := 338) (by decide +kernel)
theorem kw_324 : Cond.laysFinal "CallFramesModel" "CallFramesModel" "sizes" "[I" ∈ lw_tbl := List.mem_of_getElem? (i := 340) (by decide +kernel)
theorem kw_326 : Cond.laysFinal "CallFramesModel" "CallFramesModel" "alignments" "[I" ∈ lw_tbl := List.mem_of_getElem? (i := 342) (by decide +kernel)
theorem kw_329 : Cond.methodLink "CallFramesLaw" 50 ⟨"CallFramesModel", "thrown", "()I"⟩ ∈ lw_tbl := List.mem_of_getElem? (i := 345) (by decide +kernel)
theorem kw_330 : Cond.instanceMethod ⟨"CallFramesModel", "thrown", "()I"⟩ ∈ lw_tbl := List.mem_of_getElem? (i := 346) (by decide +kernel)
theorem kw_331 : Cond.selects "CallFramesModel" ⟨"CallFramesModel", "thrown", "()I"⟩ ⟨"CallFramesModel", "thrown", "()I"⟩ ∈ lw_tbl := List.mem_of_getElem? (i := 347) (by decide +kernel)
theorem kw_332 : Cond.code ⟨"CallFramesModel", "thrown", "()I"⟩ prog_4_method_2_code 1 (some FieldType.int) ∈ lw_tbl := List.mem_of_getElem? (i := 348) (by decide +kernel)
theorem kw_333 : Cond.methodLink "CallFramesLaw" 49 ⟨"CallFramesModel", "begin", "(IIIZ)V"⟩ ∈ lw_tbl := List.mem_of_getElem? (i := 349) (by decide +kernel)
theorem kw_334 : Cond.instanceMethod ⟨"CallFramesModel", "begin", "(IIIZ)V"⟩ ∈ lw_tbl := List.mem_of_getElem? (i := 350) (by decide +kernel)
theorem kw_335 : Cond.selects "CallFramesModel" ⟨"CallFramesModel", "begin", "(IIIZ)V"⟩ ⟨"CallFramesModel", "begin", "(IIIZ)V"⟩ ∈ lw_tbl := List.mem_of_getElem? (i := 351) (by decide +kernel)
theorem kw_336 : Cond.code ⟨"CallFramesModel", "begin", "(IIIZ)V"⟩ prog_4_method_5_code 5 none ∈ lw_tbl := List.mem_of_getElem? (i := 352) (by decide +kernel)
theorem kw_337 : Cond.methodLink "CallFramesModel" 27 ⟨"CallFramesModel", "isGood", "(IIII)Z"⟩ ∈ lw_tbl := List.mem_of_getElem? (i := 353) (by decide +kernel)
theorem kw_338 : Cond.static ⟨"CallFramesModel", "isGood", "(IIII)Z"⟩ ∈ lw_tbl := List.mem_of_getElem? (i := 354) (by decide +kernel)
theorem kw_339 : Cond.code ⟨"CallFramesModel", "isGood", "(IIII)Z"⟩ prog_4_method_4_code 5 (some FieldType.boolean) ∈ lw_tbl := List.mem_of_getElem? (i := 355) (by decide +kernel)
theorem kw_340 : Cond.constant "CallFramesModel" 26 65536 ∈ lw_tbl := List.mem_of_getElem? (i := 356) (by decide +kernel)
theorem kw_341 : Cond.methodLink "CallFramesLaw" 57 ⟨"CallFramesModel", "add", "(III)I"⟩ ∈ lw_tbl := List.mem_of_getElem? (i := 357) (by decide +kernel)
theorem kw_342 : Cond.instanceMethod ⟨"CallFramesModel", "add", "(III)I"⟩ ∈ lw_tbl := List.mem_of_getElem? (i := 358) (by decide +kernel)
theorem kw_343 : Cond.selects "CallFramesModel" ⟨"CallFramesModel", "add", "(III)I"⟩ ⟨"CallFramesModel", "add", "(III)I"⟩ ∈ lw_tbl := List.mem_of_getElem? (i := 359) (by decide +kernel)
theorem kw_344 : Cond.code ⟨"CallFramesModel", "add", "(III)I"⟩ prog_4_method_10_code 5 (some FieldType.int) ∈ lw_tbl := List.mem_of_getElem? (i := 360) (by decide +kernel)
theorem kw_345 : Cond.methodLink "CallFramesModel" 50 ⟨"CallFramesModel", "fail", "(I)I"⟩ ∈ lw_tbl := List.mem_of_getElem? (i := 361) (by decide +kernel)
theorem kw_347 : Cond.instanceMethod ⟨"CallFramesModel", "fail", "(I)I"⟩ ∈ lw_tbl := List.mem_of_getElem? (i := 363) (by decide +kernel)
theorem kw_348 : Cond.code ⟨"CallFramesModel", "fail", "(I)I"⟩ prog_4_method_3_code 2 (some FieldType.int) ∈ lw_tbl := List.mem_of_getElem? (i := 364) (by decide +kernel)
theorem kw_349 : Cond.methodLink "CallFramesModel" 53 ⟨"CallFramesModel", "home", "(I)I"⟩ ∈ lw_tbl := List.mem_of_getElem? (i := 365) (by decide +kernel)
theorem kw_351 : Cond.instanceMethod ⟨"CallFramesModel", "home", "(I)I"⟩ ∈ lw_tbl := List.mem_of_getElem? (i := 367) (by decide +kernel)
theorem kw_352 : Cond.code ⟨"CallFramesModel", "home", "(I)I"⟩ prog_4_method_9_code 4 (some FieldType.int) ∈ lw_tbl := List.mem_of_getElem? (i := 368) (by decide +kernel)
theorem kw_353 : Cond.methodLink "CallFramesModel" 38 ⟨"CallFramesModel", "isWide", "(I)Z"⟩ ∈ lw_tbl := List.mem_of_getElem? (i := 369) (by decide +kernel)
theorem kw_355 : Cond.instanceMethod ⟨"CallFramesModel", "isWide", "(I)Z"⟩ ∈ lw_tbl := List.mem_of_getElem? (i := 371) (by decide +kernel)
theorem kw_356 : Cond.code ⟨"CallFramesModel", "isWide", "(I)Z"⟩ prog_4_method_8_code 2 (some FieldType.boolean) ∈ lw_tbl := List.mem_of_getElem? (i := 372) (by decide +kernel)
theorem kw_357 : Cond.methodLink "CallFramesModel" 42 ⟨"CallFramesModel", "filled", "(II)I"⟩ ∈ lw_tbl := List.mem_of_getElem? (i := 373) (by decide +kernel)
theorem kw_358 : Cond.static ⟨"CallFramesModel", "filled", "(II)I"⟩ ∈ lw_tbl := List.mem_of_getElem? (i := 374) (by decide +kernel)
theorem kw_359 : Cond.code ⟨"CallFramesModel", "filled", "(II)I"⟩ prog_4_method_6_code 2 (some FieldType.int) ∈ lw_tbl := List.mem_of_getElem? (i := 375) (by decide +kernel)
theorem kw_360 : Cond.methodLink "CallFramesModel" 46 ⟨"CallFramesModel", "bytes", "(I)I"⟩ ∈ lw_tbl := List.mem_of_getElem? (i := 376) (by decide +kernel)
theorem kw_362 : Cond.instanceMethod ⟨"CallFramesModel", "bytes", "(I)I"⟩ ∈ lw_tbl := List.mem_of_getElem? (i := 378) (by decide +kernel)
theorem kw_363 : Cond.code ⟨"CallFramesModel", "bytes", "(I)I"⟩ prog_4_method_7_code 2 (some FieldType.int) ∈ lw_tbl := List.mem_of_getElem? (i := 379) (by decide +kernel)
theorem kw_364 : Cond.constant "CallFramesModel" 56 1000000 ∈ lw_tbl := List.mem_of_getElem? (i := 380) (by decide +kernel)
theorem kw_365 : Cond.methodLink "CallFramesLaw" 61 ⟨"CallFramesModel", "where", "(II)I"⟩ ∈ lw_tbl := List.mem_of_getElem? (i := 381) (by decide +kernel)
theorem kw_366 : Cond.instanceMethod ⟨"CallFramesModel", "where", "(II)I"⟩ ∈ lw_tbl := List.mem_of_getElem? (i := 382) (by decide +kernel)
theorem kw_367 : Cond.selects "CallFramesModel" ⟨"CallFramesModel", "where", "(II)I"⟩ ⟨"CallFramesModel", "where", "(II)I"⟩ ∈ lw_tbl := List.mem_of_getElem? (i := 383) (by decide +kernel)
theorem kw_368 : Cond.code ⟨"CallFramesModel", "where", "(II)I"⟩ prog_4_method_14_code 5 (some FieldType.int) ∈ lw_tbl := List.mem_of_getElem? (i := 384) (by decide +kernel)
theorem kw_369 : Cond.methodLink "CallFramesModel" 57 ⟨"CallFramesModel", "isThere", "(I)Z"⟩ ∈ lw_tbl := List.mem_of_getElem? (i := 385) (by decide +kernel)
theorem kw_371 : Cond.instanceMethod ⟨"CallFramesModel", "isThere", "(I)Z"⟩ ∈ lw_tbl := List.mem_of_getElem? (i := 387) (by decide +kernel)
theorem kw_372 : Cond.code ⟨"CallFramesModel", "isThere", "(I)Z"⟩ prog_4_method_11_code 2 (some FieldType.boolean) ∈ lw_tbl := List.mem_of_getElem? (i := 388) (by decide +kernel)
theorem kw_373 : Cond.methodLink "CallFramesModel" 60 ⟨"CallFramesModel", "words", "(I)I"⟩ ∈ lw_tbl := List.mem_of_getElem? (i := 389) (by decide +kernel)
theorem kw_375 : Cond.instanceMethod ⟨"CallFramesModel", "words", "(I)I"⟩ ∈ lw_tbl := List.mem_of_getElem? (i := 391) (by decide +kernel)
theorem kw_376 : Cond.code ⟨"CallFramesModel", "words", "(I)I"⟩ prog_4_method_12_code 2 (some FieldType.int) ∈ lw_tbl := List.mem_of_getElem? (i := 392) (by decide +kernel)
theorem kw_377 : Cond.methodLink "CallFramesModel" 63 ⟨"CallFramesModel", "isFraction", "(I)Z"⟩ ∈ lw_tbl := List.mem_of_getElem? (i := 393) (by decide +kernel)
theorem kw_379 : Cond.instanceMethod ⟨"CallFramesModel", "isFraction", "(I)Z"⟩ ∈ lw_tbl := List.mem_of_getElem? (i := 395) (by decide +kernel)
theorem kw_380 : Cond.code ⟨"CallFramesModel", "isFraction", "(I)Z"⟩ prog_4_method_13_code 2 (some FieldType.boolean) ∈ lw_tbl := List.mem_of_getElem? (i := 396) (by decide +kernel)
theorem kw_381 : Cond.methodLink "CallFramesLaw" 64 ⟨"CallFramesModel", "about", "(II)I"⟩ ∈ lw_tbl := List.mem_of_getElem? (i := 397) (by decide +kernel)
theorem kw_382 : Cond.instanceMethod ⟨"CallFramesModel", "about", "(II)I"⟩ ∈ lw_tbl := List.mem_of_getElem? (i := 398) (by decide +kernel)
theorem kw_383 : Cond.selects "CallFramesModel" ⟨"CallFramesModel", "about", "(II)I"⟩ ⟨"CallFramesModel", "about", "(II)I"⟩ ∈ lw_tbl := List.mem_of_getElem? (i := 399) (by decide +kernel)
theorem kw_384 : Cond.code ⟨"CallFramesModel", "about", "(II)I"⟩ prog_4_method_15_code 3 (some FieldType.int) ∈ lw_tbl := List.mem_of_getElem? (i := 400) (by decide +kernel)
theorem kw_385 : Cond.methodLink "CallFramesLaw" 68 ⟨"CallFramesModel", "signature", "(I)I"⟩ ∈ lw_tbl := List.mem_of_getElem? (i := 401) (by decide +kernel)
theorem kw_386 : Cond.instanceMethod ⟨"CallFramesModel", "signature", "(I)I"⟩ ∈ lw_tbl := List.mem_of_getElem? (i := 402) (by decide +kernel)
theorem kw_387 : Cond.selects "CallFramesModel" ⟨"CallFramesModel", "signature", "(I)I"⟩ ⟨"CallFramesModel", "signature", "(I)I"⟩ ∈ lw_tbl := List.mem_of_getElem? (i := 403) (by decide +kernel)
theorem kw_388 : Cond.code ⟨"CallFramesModel", "signature", "(I)I"⟩ prog_4_method_17_code 3 (some FieldType.int) ∈ lw_tbl := List.mem_of_getElem? (i := 404) (by decide +kernel)
theorem kw_389 : Cond.methodLink "CallFramesModel" 66 ⟨"CallFramesModel", "area", "()I"⟩ ∈ lw_tbl := List.mem_of_getElem? (i := 405) (by decide +kernel)
theorem kw_391 : Cond.instanceMethod ⟨"CallFramesModel", "area", "()I"⟩ ∈ lw_tbl := List.mem_of_getElem? (i := 407) (by decide +kernel)
theorem kw_392 : Cond.code ⟨"CallFramesModel", "area", "()I"⟩ prog_4_method_16_code 2 (some FieldType.int) ∈ lw_tbl := List.mem_of_getElem? (i := 408) (by decide +kernel)
theorem kw_393 : Cond.methodLink "CallFramesLaw" 72 ⟨"CallFramesModel", "call", "()I"⟩ ∈ lw_tbl := List.mem_of_getElem? (i := 409) (by decide +kernel)
theorem kw_394 : Cond.instanceMethod ⟨"CallFramesModel", "call", "()I"⟩ ∈ lw_tbl := List.mem_of_getElem? (i := 410) (by decide +kernel)
theorem kw_395 : Cond.selects "CallFramesModel" ⟨"CallFramesModel", "call", "()I"⟩ ⟨"CallFramesModel", "call", "()I"⟩ ∈ lw_tbl := List.mem_of_getElem? (i := 411) (by decide +kernel)
theorem kw_396 : Cond.code ⟨"CallFramesModel", "call", "()I"⟩ prog_4_method_18_code 1 (some FieldType.int) ∈ lw_tbl := List.mem_of_getElem? (i := 412) (by decide +kernel)
theorem kw_397 : Cond.methodLink "CallFramesLaw" 75 ⟨"CallFramesModel", "frame", "(III)I"⟩ ∈ lw_tbl := List.mem_of_getElem? (i := 413) (by decide +kernel)
theorem kw_398 : Cond.instanceMethod ⟨"CallFramesModel", "frame", "(III)I"⟩ ∈ lw_tbl := List.mem_of_getElem? (i := 414) (by decide +kernel)
theorem kw_399 : Cond.selects "CallFramesModel" ⟨"CallFramesModel", "frame", "(III)I"⟩ ⟨"CallFramesModel", "frame", "(III)I"⟩ ∈ lw_tbl := List.mem_of_getElem? (i := 415) (by decide +kernel)
theorem kw_400 : Cond.code ⟨"CallFramesModel", "frame", "(III)I"⟩ prog_4_method_22_code 6 (some FieldType.int) ∈ lw_tbl := List.mem_of_getElem? (i := 416) (by decide +kernel)
theorem kw_401 : Cond.constant "CallFramesModel" 92 (-1057030144) ∈ lw_tbl := List.mem_of_getElem? (i := 417) (by decide +kernel)
theorem kw_402 : Cond.constant "CallFramesModel" 93 1431306240 ∈ lw_tbl := List.mem_of_getElem? (i := 418) (by decide +kernel)
theorem kw_403 : Cond.constant "CallFramesModel" 94 (-2147483648) ∈ lw_tbl := List.mem_of_getElem? (i := 419) (by decide +kernel)
theorem kw_404 : Cond.methodLink "CallFramesModel" 98 ⟨"CallFramesModel", "generalAt", "()I"⟩ ∈ lw_tbl := List.mem_of_getElem? (i := 420) (by decide +kernel)
theorem kw_406 : Cond.instanceMethod ⟨"CallFramesModel", "generalAt", "()I"⟩ ∈ lw_tbl := List.mem_of_getElem? (i := 422) (by decide +kernel)
theorem kw_407 : Cond.code ⟨"CallFramesModel", "generalAt", "()I"⟩ prog_4_method_21_code 1 (some FieldType.int) ∈ lw_tbl := List.mem_of_getElem? (i := 423) (by decide +kernel)
theorem kw_408 : Cond.methodLink "CallFramesModel" 82 ⟨"CallFramesModel", "fractionsAt", "()I"⟩ ∈ lw_tbl := List.mem_of_getElem? (i := 424) (by decide +kernel)
theorem kw_410 : Cond.instanceMethod ⟨"CallFramesModel", "fractionsAt", "()I"⟩ ∈ lw_tbl := List.mem_of_getElem? (i := 426) (by decide +kernel)
theorem kw_411 : Cond.code ⟨"CallFramesModel", "fractionsAt", "()I"⟩ prog_4_method_20_code 1 (some FieldType.int) ∈ lw_tbl := List.mem_of_getElem? (i := 427) (by decide +kernel)
theorem kw_412 : Cond.methodLink "CallFramesModel" 88 ⟨"CallFramesModel", "saved", "(III)I"⟩ ∈ lw_tbl := List.mem_of_getElem? (i := 428) (by decide +kernel)
theorem kw_413 : Cond.static ⟨"CallFramesModel", "saved", "(III)I"⟩ ∈ lw_tbl := List.mem_of_getElem? (i := 429) (by decide +kernel)
theorem kw_414 : Cond.code ⟨"CallFramesModel", "saved", "(III)I"⟩ prog_4_method_19_code 5 (some FieldType.int) ∈ lw_tbl := List.mem_of_getElem? (i := 430) (by decide +kernel)
theorem kw_415 : Cond.methodLink "CallFramesLaw" 78 ⟨"CallFramesModel", "place", "(II)I"⟩ ∈ lw_tbl := List.mem_of_getElem? (i := 431) (by decide +kernel)
theorem kw_416 : Cond.instanceMethod ⟨"CallFramesModel", "place", "(II)I"⟩ ∈ lw_tbl := List.mem_of_getElem? (i := 432) (by decide +kernel)
theorem kw_417 : Cond.selects "CallFramesModel" ⟨"CallFramesModel", "place", "(II)I"⟩ ⟨"CallFramesModel", "place", "(II)I"⟩ ∈ lw_tbl := List.mem_of_getElem? (i := 433) (by decide +kernel)
theorem kw_418 : Cond.code ⟨"CallFramesModel", "place", "(II)I"⟩ prog_4_method_23_code 4 (some FieldType.int) ∈ lw_tbl := List.mem_of_getElem? (i := 434) (by decide +kernel)
theorem kw_419 : Cond.methodLink "CallFramesLaw" 82 ⟨"CallFramesModel", "clear", "()I"⟩ ∈ lw_tbl := List.mem_of_getElem? (i := 435) (by decide +kernel)
theorem kw_420 : Cond.instanceMethod ⟨"CallFramesModel", "clear", "()I"⟩ ∈ lw_tbl := List.mem_of_getElem? (i := 436) (by decide +kernel)
theorem kw_421 : Cond.selects "CallFramesModel" ⟨"CallFramesModel", "clear", "()I"⟩ ⟨"CallFramesModel", "clear", "()I"⟩ ∈ lw_tbl := List.mem_of_getElem? (i := 437) (by decide +kernel)
theorem kw_422 : Cond.code ⟨"CallFramesModel", "clear", "()I"⟩ prog_4_method_24_code 2 (some FieldType.int) ∈ lw_tbl := List.mem_of_getElem? (i := 438) (by decide +kernel)
theorem kw_423 : Cond.arrayClass FieldType.long ∈ lw_tbl := List.mem_of_getElem? (i := 439) (by decide +kernel)
theorem ks_0 : Cond.selects "CallFrames" ⟨"CallFrames", "empty", "()V"⟩ ⟨"CallFrames", "empty", "()V"⟩ ∈ lw_tbl := List.mem_of_getElem? (i := 0) (by decide +kernel)
theorem ks_1 : Cond.selects "CallFrames" ⟨"CallFrames", "area", "()I"⟩ ⟨"CallFrames", "area", "()I"⟩ ∈ lw_tbl := List.mem_of_getElem? (i := 1) (by decide +kernel)
theorem ks_2 : Cond.selects "CallFrames" ⟨"CallFrames", "end", "()I"⟩ ⟨"CallFrames", "end", "()I"⟩ ∈ lw_tbl := List.mem_of_getElem? (i := 2) (by decide +kernel)
theorem ks_3 : Cond.selects "java/lang/Throwable" ⟨"java/lang/Throwable", "fillInStackTrace", "(I)Ljava/lang/Throwable;"⟩ ⟨"java/lang/Throwable", "fillInStackTrace", "(I)Ljava/lang/Throwable;"⟩ ∈ lw_tbl := List.mem_of_getElem? (i := 3) (by decide +kernel)
theorem ks_4 : Cond.selects "CallFrames" ⟨"CallFrames", "isReal", "(I)Z"⟩ ⟨"CallFrames", "isReal", "(I)Z"⟩ ∈ lw_tbl := List.mem_of_getElem? (i := 4) (by decide +kernel)
theorem ks_5 : Cond.selects "CallFrames" ⟨"CallFrames", "of", "(I)LCallFrames$Argument;"⟩ ⟨"CallFrames", "of", "(I)LCallFrames$Argument;"⟩ ∈ lw_tbl := List.mem_of_getElem? (i := 5) (by decide +kernel)
theorem ks_6 : Cond.selects "CallFramesModel" ⟨"CallFramesModel", "fail", "(I)I"⟩ ⟨"CallFramesModel", "fail", "(I)I"⟩ ∈ lw_tbl := List.mem_of_getElem? (i := 6) (by decide +kernel)
theorem ks_7 : Cond.selects "CallFramesModel" ⟨"CallFramesModel", "home", "(I)I"⟩ ⟨"CallFramesModel", "home", "(I)I"⟩ ∈ lw_tbl := List.mem_of_getElem? (i := 7) (by decide +kernel)
theorem ks_8 : Cond.selects "CallFramesModel" ⟨"CallFramesModel", "isWide", "(I)Z"⟩ ⟨"CallFramesModel", "isWide", "(I)Z"⟩ ∈ lw_tbl := List.mem_of_getElem? (i := 8) (by decide +kernel)
theorem ks_9 : Cond.selects "CallFramesModel" ⟨"CallFramesModel", "bytes", "(I)I"⟩ ⟨"CallFramesModel", "bytes", "(I)I"⟩ ∈ lw_tbl := List.mem_of_getElem? (i := 9) (by decide +kernel)
theorem ks_10 : Cond.selects "CallFramesModel" ⟨"CallFramesModel", "isThere", "(I)Z"⟩ ⟨"CallFramesModel", "isThere", "(I)Z"⟩ ∈ lw_tbl := List.mem_of_getElem? (i := 10) (by decide +kernel)
theorem ks_11 : Cond.selects "CallFramesModel" ⟨"CallFramesModel", "words", "(I)I"⟩ ⟨"CallFramesModel", "words", "(I)I"⟩ ∈ lw_tbl := List.mem_of_getElem? (i := 11) (by decide +kernel)
theorem ks_12 : Cond.selects "CallFramesModel" ⟨"CallFramesModel", "isFraction", "(I)Z"⟩ ⟨"CallFramesModel", "isFraction", "(I)Z"⟩ ∈ lw_tbl := List.mem_of_getElem? (i := 12) (by decide +kernel)
theorem ks_13 : Cond.selects "CallFramesModel" ⟨"CallFramesModel", "area", "()I"⟩ ⟨"CallFramesModel", "area", "()I"⟩ ∈ lw_tbl := List.mem_of_getElem? (i := 13) (by decide +kernel)
theorem ks_14 : Cond.selects "CallFramesModel" ⟨"CallFramesModel", "generalAt", "()I"⟩ ⟨"CallFramesModel", "generalAt", "()I"⟩ ∈ lw_tbl := List.mem_of_getElem? (i := 14) (by decide +kernel)
theorem ks_15 : Cond.selects "CallFramesModel" ⟨"CallFramesModel", "fractionsAt", "()I"⟩ ⟨"CallFramesModel", "fractionsAt", "()I"⟩ ∈ lw_tbl := List.mem_of_getElem? (i := 15) (by decide +kernel)
theorem ce_Cf_init : cf_ce y_Cf_init b_Cf_init 2 none 0 := ⟨kw_15, kw_1, by decide +kernel⟩
theorem ce_Cf_empty : cf_ce y_Cf_empty b_Cf_empty 2 none 0 := ⟨kw_54, kw_1, by decide +kernel⟩
theorem cv_Cf_empty : cf_cv y_Cf_empty := ⟨kw_53, ks_0⟩
theorem ce_Cf_up : cf_ce y_Cf_up b_Cf_up 2 (some FieldType.int) 2 := ⟨kw_109, kw_1, by decide +kernel⟩
theorem cs_Cf_up : Cond.static y_Cf_up ∈ lw_tbl := kw_108
theorem ce_Cf_canBe : cf_ce y_Cf_canBe b_Cf_canBe 2 (some FieldType.boolean) 2 := ⟨kw_127, kw_1, by decide +kernel⟩
theorem cs_Cf_canBe : Cond.static y_Cf_canBe ∈ lw_tbl := kw_126
theorem ce_Cf_begin : cf_ce y_Cf_begin b_Cf_begin 5 none 4 := ⟨kw_124, kw_1, by decide +kernel⟩
theorem cv_Cf_begin : cf_cv y_Cf_begin := ⟨kw_122, kw_123⟩
theorem ce_Cf_isReal : cf_ce y_Cf_isReal b_Cf_isReal 2 (some FieldType.boolean) 1 := ⟨kw_219, kw_1, by decide +kernel⟩
theorem cv_Cf_isReal : cf_cv y_Cf_isReal := ⟨kw_218, ks_4⟩
theorem ce_Cf_end : cf_ce y_Cf_end b_Cf_end 1 (some FieldType.int) 0 := ⟨kw_98, kw_1, by decide +kernel⟩
theorem cv_Cf_end : cf_cv y_Cf_end := ⟨kw_97, ks_2⟩
theorem ce_Cf_add : cf_ce y_Cf_add b_Cf_add 7 (some FieldType.int) 3 := ⟨kw_199, kw_1, by decide +kernel⟩
theorem cv_Cf_add : cf_cv y_Cf_add := ⟨kw_197, kw_198⟩
theorem ce_Cf_of : cf_ce y_Cf_of b_Cf_of 2 (Option.some (FieldType.object "CallFrames$Argument")) 1 := ⟨kw_231, kw_1, by decide +kernel⟩
theorem cv_Cf_of : cf_cv y_Cf_of := ⟨kw_230, ks_5⟩
theorem ce_Cf_where : cf_ce y_Cf_where b_Cf_where 4 (some FieldType.int) 2 := ⟨kw_227, kw_1, by decide +kernel⟩
theorem cv_Cf_where : cf_cv y_Cf_where := ⟨kw_225, kw_226⟩
theorem ce_Cf_about : cf_ce y_Cf_about b_Cf_about 4 (some FieldType.int) 2 := ⟨kw_258, kw_1, by decide +kernel⟩
theorem cv_Cf_about : cf_cv y_Cf_about := ⟨kw_256, kw_257⟩
theorem ce_Cf_area : cf_ce y_Cf_area b_Cf_area 1 (some FieldType.int) 0 := ⟨kw_94, kw_1, by decide +kernel⟩
theorem cv_Cf_area : cf_cv y_Cf_area := ⟨kw_93, ks_1⟩
theorem ce_Cf_signature : cf_ce y_Cf_signature b_Cf_signature 2 (some FieldType.int) 1 := ⟨kw_265, kw_1, by decide +kernel⟩
theorem cv_Cf_signature : cf_cv y_Cf_signature := ⟨kw_263, kw_264⟩
theorem ce_Cf_call : cf_ce y_Cf_call b_Cf_call 1 (some FieldType.int) 0 := ⟨kw_90, kw_1, by decide +kernel⟩
theorem cv_Cf_call : cf_cv y_Cf_call := ⟨kw_88, kw_89⟩
theorem ce_Cf_frame : cf_ce y_Cf_frame b_Cf_frame 8 (some FieldType.int) 3 := ⟨kw_272, kw_1, by decide +kernel⟩
theorem cv_Cf_frame : cf_cv y_Cf_frame := ⟨kw_270, kw_271⟩
theorem ce_Cf_place : cf_ce y_Cf_place b_Cf_place 3 (some FieldType.int) 2 := ⟨kw_282, kw_1, by decide +kernel⟩
theorem cv_Cf_place : cf_cv y_Cf_place := ⟨kw_280, kw_281⟩
theorem ce_Cf_clear : cf_ce y_Cf_clear b_Cf_clear 2 (some FieldType.int) 0 := ⟨kw_116, kw_1, by decide +kernel⟩
theorem cv_Cf_clear : cf_cv y_Cf_clear := ⟨kw_114, kw_115⟩
theorem ce_Mo_init : cf_ce y_Mo_init b_Mo_init 1 none 0 := ⟨kw_287, kw_3, by decide +kernel⟩
theorem ce_Mo_thrown : cf_ce y_Mo_thrown b_Mo_thrown 1 (some FieldType.int) 0 := ⟨kw_332, kw_3, by decide +kernel⟩
theorem cv_Mo_thrown : cf_cv y_Mo_thrown := ⟨kw_330, kw_331⟩
theorem ce_Mo_fail : cf_ce y_Mo_fail b_Mo_fail 2 (some FieldType.int) 1 := ⟨kw_348, kw_3, by decide +kernel⟩
theorem cv_Mo_fail : cf_cv y_Mo_fail := ⟨kw_347, ks_6⟩
theorem ce_Mo_isGood : cf_ce y_Mo_isGood b_Mo_isGood 5 (some FieldType.boolean) 4 := ⟨kw_339, kw_3, by decide +kernel⟩
theorem cs_Mo_isGood : Cond.static y_Mo_isGood ∈ lw_tbl := kw_338
theorem ce_Mo_begin : cf_ce y_Mo_begin b_Mo_begin 5 none 4 := ⟨kw_336, kw_3, by decide +kernel⟩
theorem cv_Mo_begin : cf_cv y_Mo_begin := ⟨kw_334, kw_335⟩
theorem ce_Mo_filled : cf_ce y_Mo_filled b_Mo_filled 2 (some FieldType.int) 2 := ⟨kw_359, kw_3, by decide +kernel⟩
theorem cs_Mo_filled : Cond.static y_Mo_filled ∈ lw_tbl := kw_358
theorem ce_Mo_bytes : cf_ce y_Mo_bytes b_Mo_bytes 2 (some FieldType.int) 1 := ⟨kw_363, kw_3, by decide +kernel⟩
theorem cv_Mo_bytes : cf_cv y_Mo_bytes := ⟨kw_362, ks_9⟩
theorem ce_Mo_isWide : cf_ce y_Mo_isWide b_Mo_isWide 2 (some FieldType.boolean) 1 := ⟨kw_356, kw_3, by decide +kernel⟩
theorem cv_Mo_isWide : cf_cv y_Mo_isWide := ⟨kw_355, ks_8⟩
theorem ce_Mo_home : cf_ce y_Mo_home b_Mo_home 4 (some FieldType.int) 1 := ⟨kw_352, kw_3, by decide +kernel⟩
theorem cv_Mo_home : cf_cv y_Mo_home := ⟨kw_351, ks_7⟩
theorem ce_Mo_add : cf_ce y_Mo_add b_Mo_add 5 (some FieldType.int) 3 := ⟨kw_344, kw_3, by decide +kernel⟩
theorem cv_Mo_add : cf_cv y_Mo_add := ⟨kw_342, kw_343⟩
theorem ce_Mo_isThere : cf_ce y_Mo_isThere b_Mo_isThere 2 (some FieldType.boolean) 1 := ⟨kw_372, kw_3, by decide +kernel⟩
theorem cv_Mo_isThere : cf_cv y_Mo_isThere := ⟨kw_371, ks_10⟩
theorem ce_Mo_words : cf_ce y_Mo_words b_Mo_words 2 (some FieldType.int) 1 := ⟨kw_376, kw_3, by decide +kernel⟩
theorem cv_Mo_words : cf_cv y_Mo_words := ⟨kw_375, ks_11⟩
theorem ce_Mo_isFraction : cf_ce y_Mo_isFraction b_Mo_isFraction 2 (some FieldType.boolean) 1 := ⟨kw_380, kw_3, by decide +kernel⟩
theorem cv_Mo_isFraction : cf_cv y_Mo_isFraction := ⟨kw_379, ks_12⟩
theorem ce_Mo_where : cf_ce y_Mo_where b_Mo_where 5 (some FieldType.int) 2 := ⟨kw_368, kw_3, by decide +kernel⟩
theorem cv_Mo_where : cf_cv y_Mo_where := ⟨kw_366, kw_367⟩
theorem ce_Mo_about : cf_ce y_Mo_about b_Mo_about 3 (some FieldType.int) 2 := ⟨kw_384, kw_3, by decide +kernel⟩
theorem cv_Mo_about : cf_cv y_Mo_about := ⟨kw_382, kw_383⟩
theorem ce_Mo_area : cf_ce y_Mo_area b_Mo_area 2 (some FieldType.int) 0 := ⟨kw_392, kw_3, by decide +kernel⟩
theorem cv_Mo_area : cf_cv y_Mo_area := ⟨kw_391, ks_13⟩
theorem ce_Mo_signature : cf_ce y_Mo_signature b_Mo_signature 3 (some FieldType.int) 1 := ⟨kw_388, kw_3, by decide +kernel⟩
theorem cv_Mo_signature : cf_cv y_Mo_signature := ⟨kw_386, kw_387⟩
theorem ce_Mo_call : cf_ce y_Mo_call b_Mo_call 1 (some FieldType.int) 0 := ⟨kw_396, kw_3, by decide +kernel⟩
theorem cv_Mo_call : cf_cv y_Mo_call := ⟨kw_394, kw_395⟩
theorem ce_Mo_saved : cf_ce y_Mo_saved b_Mo_saved 5 (some FieldType.int) 3 := ⟨kw_414, kw_3, by decide +kernel⟩
theorem cs_Mo_saved : Cond.static y_Mo_saved ∈ lw_tbl := kw_413
theorem ce_Mo_fractionsAt : cf_ce y_Mo_fractionsAt b_Mo_fractionsAt 1 (some FieldType.int) 0 := ⟨kw_411, kw_3, by decide +kernel⟩
theorem cv_Mo_fractionsAt : cf_cv y_Mo_fractionsAt := ⟨kw_410, ks_15⟩
theorem ce_Mo_generalAt : cf_ce y_Mo_generalAt b_Mo_generalAt 1 (some FieldType.int) 0 := ⟨kw_407, kw_3, by decide +kernel⟩
theorem cv_Mo_generalAt : cf_cv y_Mo_generalAt := ⟨kw_406, ks_14⟩
theorem ce_Mo_frame : cf_ce y_Mo_frame b_Mo_frame 6 (some FieldType.int) 3 := ⟨kw_400, kw_3, by decide +kernel⟩
theorem cv_Mo_frame : cf_cv y_Mo_frame := ⟨kw_398, kw_399⟩
theorem ce_Mo_place : cf_ce y_Mo_place b_Mo_place 4 (some FieldType.int) 2 := ⟨kw_418, kw_3, by decide +kernel⟩
theorem cv_Mo_place : cf_cv y_Mo_place := ⟨kw_416, kw_417⟩
theorem ce_Mo_clear : cf_ce y_Mo_clear b_Mo_clear 2 (some FieldType.int) 0 := ⟨kw_422, kw_3, by decide +kernel⟩
theorem cv_Mo_clear : cf_cv y_Mo_clear := ⟨kw_420, kw_421⟩
theorem ce_Ar_init : cf_ce y_Ar_init b_Ar_init 1 none 0 := ⟨kw_23, kw_2, by decide +kernel⟩
theorem ce_Ar_become : cf_ce y_Ar_become b_Ar_become 4 none 3 := ⟨kw_50, kw_2, by decide +kernel⟩
theorem cv_Ar_become : cf_cv y_Ar_become := ⟨kw_48, kw_49⟩
theorem ce_Ar_words : cf_ce y_Ar_words b_Ar_words 1 (some FieldType.int) 0 := ⟨kw_106, kw_2, by decide +kernel⟩
theorem cv_Ar_words : cf_cv y_Ar_words := ⟨kw_104, kw_105⟩
theorem ce_Ar_end : cf_ce y_Ar_end b_Ar_end 1 (some FieldType.int) 0 := ⟨kw_102, kw_2, by decide +kernel⟩
theorem cv_Ar_end : cf_cv y_Ar_end := ⟨kw_100, kw_101⟩
theorem ce_Ar_whereWord : cf_ce y_Ar_whereWord b_Ar_whereWord 3 (some FieldType.int) 1 := ⟨kw_251, kw_2, by decide +kernel⟩
theorem cv_Ar_whereWord : cf_cv y_Ar_whereWord := ⟨kw_249, kw_250⟩
theorem cs_La_begin : Cond.static y_La_begin ∈ lw_tbl := kw_118
theorem cs_La_add : Cond.static y_La_add ∈ lw_tbl := kw_193
theorem cs_La_where : Cond.static y_La_where ∈ lw_tbl := kw_221
theorem cs_La_about : Cond.static y_La_about ∈ lw_tbl := kw_253
theorem cs_La_signature : Cond.static y_La_signature ∈ lw_tbl := kw_260
theorem cs_La_frame : Cond.static y_La_frame ∈ lw_tbl := kw_267
theorem cs_La_place : Cond.static y_La_place ∈ lw_tbl := kw_277
end
section
/-! DECODE ROWS (printed by gen/names.py) -/
theorem d_Mo_init_0 : decode b_Mo_init 0 = .ok (.aload_n 0, 1) := by decide +kernel
theorem d_Mo_init_1 : decode b_Mo_init 1 = .ok (.invokespecial 1, 3) := by decide +kernel
theorem d_Mo_init_4 : decode b_Mo_init 4 = .ok (.aload_n 0, 1) := by decide +kernel
theorem d_Mo_init_5 : decode b_Mo_init 5 = .ok (.iconst 4, 1) := by decide +kernel
theorem d_Mo_init_6 : decode b_Mo_init 6 = .ok (.putfield 9, 3) := by decide +kernel
theorem d_Mo_init_9 : decode b_Mo_init 9 = .ok (.aload_n 0, 1) := by decide +kernel
theorem d_Mo_init_10 : decode b_Mo_init 10 = .ok (.bipush 60, 2) := by decide +kernel
theorem d_Mo_init_12 : decode b_Mo_init 12 = .ok (.newarray .int, 2) := by decide +kernel
theorem d_Mo_init_14 : decode b_Mo_init 14 = .ok (.putfield 13, 3) := by decide +kernel
theorem d_Mo_init_17 : decode b_Mo_init 17 = .ok (.aload_n 0, 1) := by decide +kernel
theorem d_Mo_init_18 : decode b_Mo_init 18 = .ok (.bipush 60, 2) := by decide +kernel
theorem d_Mo_init_20 : decode b_Mo_init 20 = .ok (.newarray .int, 2) := by decide +kernel
theorem d_Mo_init_22 : decode b_Mo_init 22 = .ok (.putfield 17, 3) := by decide +kernel
theorem d_Mo_init_25 : decode b_Mo_init 25 = .ok (.aload_n 0, 1) := by decide +kernel
theorem d_Mo_init_26 : decode b_Mo_init 26 = .ok (.bipush 60, 2) := by decide +kernel
theorem d_Mo_init_28 : decode b_Mo_init 28 = .ok (.newarray .int, 2) := by decide +kernel
theorem d_Mo_init_30 : decode b_Mo_init 30 = .ok (.putfield 20, 3) := by decide +kernel
theorem d_Mo_init_33 : decode b_Mo_init 33 = .ok (.return_, 1) := by decide +kernel
theorem d_Mo_thrown_0 : decode b_Mo_thrown 0 = .ok (.aload_n 0, 1) := by decide +kernel
theorem d_Mo_thrown_1 : decode b_Mo_thrown 1 = .ok (.getfield 23, 3) := by decide +kernel
theorem d_Mo_thrown_4 : decode b_Mo_thrown 4 = .ok (.ireturn, 1) := by decide +kernel
theorem d_Mo_fail_0 : decode b_Mo_fail 0 = .ok (.aload_n 0, 1) := by decide +kernel
theorem d_Mo_fail_1 : decode b_Mo_fail 1 = .ok (.iload_n 1, 1) := by decide +kernel
theorem d_Mo_fail_2 : decode b_Mo_fail 2 = .ok (.putfield 23, 3) := by decide +kernel
theorem d_Mo_fail_5 : decode b_Mo_fail 5 = .ok (.iconst 0, 1) := by decide +kernel
theorem d_Mo_fail_6 : decode b_Mo_fail 6 = .ok (.ireturn, 1) := by decide +kernel
theorem d_Mo_isGood_0 : decode b_Mo_isGood 0 = .ok (.iload_n 0, 1) := by decide +kernel
theorem d_Mo_isGood_1 : decode b_Mo_isGood 1 = .ok (.ifCond .lt 8, 3) := by decide +kernel
theorem d_Mo_isGood_4 : decode b_Mo_isGood 4 = .ok (.iload_n 0, 1) := by decide +kernel
theorem d_Mo_isGood_5 : decode b_Mo_isGood 5 = .ok (.iload_n 1, 1) := by decide +kernel
theorem d_Mo_isGood_6 : decode b_Mo_isGood 6 = .ok (.if_icmp .le 5, 3) := by decide +kernel
theorem d_Mo_isGood_9 : decode b_Mo_isGood 9 = .ok (.iconst 0, 1) := by decide +kernel
theorem d_Mo_isGood_10 : decode b_Mo_isGood 10 = .ok (.ireturn, 1) := by decide +kernel
theorem d_Mo_isGood_11 : decode b_Mo_isGood 11 = .ok (.iload_n 0, 1) := by decide +kernel
theorem d_Mo_isGood_12 : decode b_Mo_isGood 12 = .ok (.iconst 3, 1) := by decide +kernel
theorem d_Mo_isGood_13 : decode b_Mo_isGood 13 = .ok (.if_icmp .eq 5, 3) := by decide +kernel
theorem d_Mo_isGood_16 : decode b_Mo_isGood 16 = .ok (.iconst 1, 1) := by decide +kernel
theorem d_Mo_isGood_17 : decode b_Mo_isGood 17 = .ok (.ireturn, 1) := by decide +kernel
theorem d_Mo_isGood_18 : decode b_Mo_isGood 18 = .ok (.iload_n 3, 1) := by decide +kernel
theorem d_Mo_isGood_19 : decode b_Mo_isGood 19 = .ok (.iconst 1, 1) := by decide +kernel
theorem d_Mo_isGood_20 : decode b_Mo_isGood 20 = .ok (.if_icmp .eq 19, 3) := by decide +kernel
theorem d_Mo_isGood_23 : decode b_Mo_isGood 23 = .ok (.iload_n 3, 1) := by decide +kernel
theorem d_Mo_isGood_24 : decode b_Mo_isGood 24 = .ok (.iconst 2, 1) := by decide +kernel
theorem d_Mo_isGood_25 : decode b_Mo_isGood 25 = .ok (.if_icmp .eq 14, 3) := by decide +kernel
theorem d_Mo_isGood_28 : decode b_Mo_isGood 28 = .ok (.iload_n 3, 1) := by decide +kernel
theorem d_Mo_isGood_29 : decode b_Mo_isGood 29 = .ok (.iconst 4, 1) := by decide +kernel
theorem d_Mo_isGood_30 : decode b_Mo_isGood 30 = .ok (.if_icmp .eq 9, 3) := by decide +kernel
theorem d_Mo_isGood_33 : decode b_Mo_isGood 33 = .ok (.iload_n 3, 1) := by decide +kernel
theorem d_Mo_isGood_34 : decode b_Mo_isGood 34 = .ok (.bipush 8, 2) := by decide +kernel
theorem d_Mo_isGood_36 : decode b_Mo_isGood 36 = .ok (.if_icmp .ne 7, 3) := by decide +kernel
theorem d_Mo_isGood_39 : decode b_Mo_isGood 39 = .ok (.iconst 1, 1) := by decide +kernel
theorem d_Mo_isGood_40 : decode b_Mo_isGood 40 = .ok (.goto 4, 3) := by decide +kernel
theorem d_Mo_isGood_43 : decode b_Mo_isGood 43 = .ok (.iconst 0, 1) := by decide +kernel
theorem d_Mo_isGood_44 : decode b_Mo_isGood 44 = .ok (.istore 4, 2) := by decide +kernel
theorem d_Mo_isGood_46 : decode b_Mo_isGood 46 = .ok (.iload 4, 2) := by decide +kernel
theorem d_Mo_isGood_48 : decode b_Mo_isGood 48 = .ok (.ifCond .eq 23, 3) := by decide +kernel
theorem d_Mo_isGood_51 : decode b_Mo_isGood 51 = .ok (.iload_n 2, 1) := by decide +kernel
theorem d_Mo_isGood_52 : decode b_Mo_isGood 52 = .ok (.ifCond .le 19, 3) := by decide +kernel
theorem d_Mo_isGood_55 : decode b_Mo_isGood 55 = .ok (.iload_n 2, 1) := by decide +kernel
theorem d_Mo_isGood_56 : decode b_Mo_isGood 56 = .ok (.ldc 26, 2) := by decide +kernel
theorem d_Mo_isGood_58 : decode b_Mo_isGood 58 = .ok (.if_icmp .gt 13, 3) := by decide +kernel
theorem d_Mo_isGood_61 : decode b_Mo_isGood 61 = .ok (.iload_n 2, 1) := by decide +kernel
theorem d_Mo_isGood_62 : decode b_Mo_isGood 62 = .ok (.iload_n 3, 1) := by decide +kernel
theorem d_Mo_isGood_63 : decode b_Mo_isGood 63 = .ok (.irem, 1) := by decide +kernel
theorem d_Mo_isGood_64 : decode b_Mo_isGood 64 = .ok (.ifCond .ne 7, 3) := by decide +kernel
theorem d_Mo_isGood_67 : decode b_Mo_isGood 67 = .ok (.iconst 1, 1) := by decide +kernel
theorem d_Mo_isGood_68 : decode b_Mo_isGood 68 = .ok (.goto 4, 3) := by decide +kernel
theorem d_Mo_isGood_71 : decode b_Mo_isGood 71 = .ok (.iconst 0, 1) := by decide +kernel
theorem d_Mo_isGood_72 : decode b_Mo_isGood 72 = .ok (.ireturn, 1) := by decide +kernel
theorem d_Mo_begin_0 : decode b_Mo_begin 0 = .ok (.aload_n 0, 1) := by decide +kernel
theorem d_Mo_begin_1 : decode b_Mo_begin 1 = .ok (.iconst 0, 1) := by decide +kernel
theorem d_Mo_begin_2 : decode b_Mo_begin 2 = .ok (.putfield 23, 3) := by decide +kernel
theorem d_Mo_begin_5 : decode b_Mo_begin 5 = .ok (.iload_n 1, 1) := by decide +kernel
theorem d_Mo_begin_6 : decode b_Mo_begin 6 = .ok (.iconst 4, 1) := by decide +kernel
theorem d_Mo_begin_7 : decode b_Mo_begin 7 = .ok (.iload_n 2, 1) := by decide +kernel
theorem d_Mo_begin_8 : decode b_Mo_begin 8 = .ok (.iload_n 3, 1) := by decide +kernel
theorem d_Mo_begin_9 : decode b_Mo_begin 9 = .ok (.invokestatic 27, 3) := by decide +kernel
theorem d_Mo_begin_12 : decode b_Mo_begin 12 = .ok (.ifCond .ne 9, 3) := by decide +kernel
theorem d_Mo_begin_15 : decode b_Mo_begin 15 = .ok (.aload_n 0, 1) := by decide +kernel
theorem d_Mo_begin_16 : decode b_Mo_begin 16 = .ok (.iconst 1, 1) := by decide +kernel
theorem d_Mo_begin_17 : decode b_Mo_begin 17 = .ok (.putfield 23, 3) := by decide +kernel
theorem d_Mo_begin_20 : decode b_Mo_begin 20 = .ok (.return_, 1) := by decide +kernel
theorem d_Mo_begin_21 : decode b_Mo_begin 21 = .ok (.aload_n 0, 1) := by decide +kernel
theorem d_Mo_begin_22 : decode b_Mo_begin 22 = .ok (.iload_n 1, 1) := by decide +kernel
theorem d_Mo_begin_23 : decode b_Mo_begin 23 = .ok (.putfield 9, 3) := by decide +kernel
theorem d_Mo_begin_26 : decode b_Mo_begin 26 = .ok (.aload_n 0, 1) := by decide +kernel
theorem d_Mo_begin_27 : decode b_Mo_begin 27 = .ok (.iload 4, 2) := by decide +kernel
theorem d_Mo_begin_29 : decode b_Mo_begin 29 = .ok (.putfield 31, 3) := by decide +kernel
theorem d_Mo_begin_32 : decode b_Mo_begin 32 = .ok (.aload_n 0, 1) := by decide +kernel
theorem d_Mo_begin_33 : decode b_Mo_begin 33 = .ok (.iconst 0, 1) := by decide +kernel
theorem d_Mo_begin_34 : decode b_Mo_begin 34 = .ok (.putfield 35, 3) := by decide +kernel
theorem d_Mo_begin_37 : decode b_Mo_begin 37 = .ok (.return_, 1) := by decide +kernel
theorem d_Mo_filled_0 : decode b_Mo_filled 0 = .ok (.iload_n 0, 1) := by decide +kernel
theorem d_Mo_filled_1 : decode b_Mo_filled 1 = .ok (.iload_n 1, 1) := by decide +kernel
theorem d_Mo_filled_2 : decode b_Mo_filled 2 = .ok (.iadd, 1) := by decide +kernel
theorem d_Mo_filled_3 : decode b_Mo_filled 3 = .ok (.iconst 1, 1) := by decide +kernel
theorem d_Mo_filled_4 : decode b_Mo_filled 4 = .ok (.isub, 1) := by decide +kernel
theorem d_Mo_filled_5 : decode b_Mo_filled 5 = .ok (.iload_n 1, 1) := by decide +kernel
theorem d_Mo_filled_6 : decode b_Mo_filled 6 = .ok (.idiv, 1) := by decide +kernel
theorem d_Mo_filled_7 : decode b_Mo_filled 7 = .ok (.iload_n 1, 1) := by decide +kernel
theorem d_Mo_filled_8 : decode b_Mo_filled 8 = .ok (.imul, 1) := by decide +kernel
theorem d_Mo_filled_9 : decode b_Mo_filled 9 = .ok (.ireturn, 1) := by decide +kernel
theorem d_Mo_bytes_0 : decode b_Mo_bytes 0 = .ok (.aload_n 0, 1) := by decide +kernel
theorem d_Mo_bytes_1 : decode b_Mo_bytes 1 = .ok (.getfield 13, 3) := by decide +kernel
theorem d_Mo_bytes_4 : decode b_Mo_bytes 4 = .ok (.iload_n 1, 1) := by decide +kernel
theorem d_Mo_bytes_5 : decode b_Mo_bytes 5 = .ok (.iaload, 1) := by decide +kernel
theorem d_Mo_bytes_6 : decode b_Mo_bytes 6 = .ok (.iconst 2, 1) := by decide +kernel
theorem d_Mo_bytes_7 : decode b_Mo_bytes 7 = .ok (.if_icmp .ne 8, 3) := by decide +kernel
theorem d_Mo_bytes_10 : decode b_Mo_bytes 10 = .ok (.bipush 8, 2) := by decide +kernel
theorem d_Mo_bytes_12 : decode b_Mo_bytes 12 = .ok (.goto 23, 3) := by decide +kernel
theorem d_Mo_bytes_15 : decode b_Mo_bytes 15 = .ok (.aload_n 0, 1) := by decide +kernel
theorem d_Mo_bytes_16 : decode b_Mo_bytes 16 = .ok (.getfield 13, 3) := by decide +kernel
theorem d_Mo_bytes_19 : decode b_Mo_bytes 19 = .ok (.iload_n 1, 1) := by decide +kernel
theorem d_Mo_bytes_20 : decode b_Mo_bytes 20 = .ok (.iaload, 1) := by decide +kernel
theorem d_Mo_bytes_21 : decode b_Mo_bytes 21 = .ok (.iconst 3, 1) := by decide +kernel
theorem d_Mo_bytes_22 : decode b_Mo_bytes 22 = .ok (.if_icmp .ne 12, 3) := by decide +kernel
theorem d_Mo_bytes_25 : decode b_Mo_bytes 25 = .ok (.aload_n 0, 1) := by decide +kernel
theorem d_Mo_bytes_26 : decode b_Mo_bytes 26 = .ok (.getfield 17, 3) := by decide +kernel
theorem d_Mo_bytes_29 : decode b_Mo_bytes 29 = .ok (.iload_n 1, 1) := by decide +kernel
theorem d_Mo_bytes_30 : decode b_Mo_bytes 30 = .ok (.iaload, 1) := by decide +kernel
theorem d_Mo_bytes_31 : decode b_Mo_bytes 31 = .ok (.goto 4, 3) := by decide +kernel
theorem d_Mo_bytes_34 : decode b_Mo_bytes 34 = .ok (.iconst 4, 1) := by decide +kernel
theorem d_Mo_bytes_35 : decode b_Mo_bytes 35 = .ok (.ireturn, 1) := by decide +kernel
theorem d_Mo_isWide_0 : decode b_Mo_isWide 0 = .ok (.aload_n 0, 1) := by decide +kernel
theorem d_Mo_isWide_1 : decode b_Mo_isWide 1 = .ok (.getfield 13, 3) := by decide +kernel
theorem d_Mo_isWide_4 : decode b_Mo_isWide 4 = .ok (.iload_n 1, 1) := by decide +kernel
theorem d_Mo_isWide_5 : decode b_Mo_isWide 5 = .ok (.iaload, 1) := by decide +kernel
theorem d_Mo_isWide_6 : decode b_Mo_isWide 6 = .ok (.iconst 2, 1) := by decide +kernel
theorem d_Mo_isWide_7 : decode b_Mo_isWide 7 = .ok (.if_icmp .eq 24, 3) := by decide +kernel
theorem d_Mo_isWide_10 : decode b_Mo_isWide 10 = .ok (.aload_n 0, 1) := by decide +kernel
theorem d_Mo_isWide_11 : decode b_Mo_isWide 11 = .ok (.getfield 13, 3) := by decide +kernel
theorem d_Mo_isWide_14 : decode b_Mo_isWide 14 = .ok (.iload_n 1, 1) := by decide +kernel
theorem d_Mo_isWide_15 : decode b_Mo_isWide 15 = .ok (.iaload, 1) := by decide +kernel
theorem d_Mo_isWide_16 : decode b_Mo_isWide 16 = .ok (.iconst 3, 1) := by decide +kernel
theorem d_Mo_isWide_17 : decode b_Mo_isWide 17 = .ok (.if_icmp .ne 18, 3) := by decide +kernel
theorem d_Mo_isWide_20 : decode b_Mo_isWide 20 = .ok (.aload_n 0, 1) := by decide +kernel
theorem d_Mo_isWide_21 : decode b_Mo_isWide 21 = .ok (.getfield 20, 3) := by decide +kernel
theorem d_Mo_isWide_24 : decode b_Mo_isWide 24 = .ok (.iload_n 1, 1) := by decide +kernel
theorem d_Mo_isWide_25 : decode b_Mo_isWide 25 = .ok (.iaload, 1) := by decide +kernel
theorem d_Mo_isWide_26 : decode b_Mo_isWide 26 = .ok (.bipush 8, 2) := by decide +kernel
theorem d_Mo_isWide_28 : decode b_Mo_isWide 28 = .ok (.if_icmp .ne 7, 3) := by decide +kernel
theorem d_Mo_isWide_31 : decode b_Mo_isWide 31 = .ok (.iconst 1, 1) := by decide +kernel
theorem d_Mo_isWide_32 : decode b_Mo_isWide 32 = .ok (.goto 4, 3) := by decide +kernel
theorem d_Mo_isWide_35 : decode b_Mo_isWide 35 = .ok (.iconst 0, 1) := by decide +kernel
theorem d_Mo_isWide_36 : decode b_Mo_isWide 36 = .ok (.ireturn, 1) := by decide +kernel
theorem d_Mo_home_0 : decode b_Mo_home 0 = .ok (.aload_n 0, 1) := by decide +kernel
theorem d_Mo_home_1 : decode b_Mo_home 1 = .ok (.getfield 9, 3) := by decide +kernel
theorem d_Mo_home_4 : decode b_Mo_home 4 = .ok (.iconst 3, 1) := by decide +kernel
theorem d_Mo_home_5 : decode b_Mo_home 5 = .ok (.if_icmp .ne 7, 3) := by decide +kernel
theorem d_Mo_home_8 : decode b_Mo_home 8 = .ok (.iconst 4, 1) := by decide +kernel
theorem d_Mo_home_9 : decode b_Mo_home 9 = .ok (.goto 4, 3) := by decide +kernel
theorem d_Mo_home_12 : decode b_Mo_home 12 = .ok (.iconst 0, 1) := by decide +kernel
theorem d_Mo_home_13 : decode b_Mo_home 13 = .ok (.istore_n 2, 1) := by decide +kernel
theorem d_Mo_home_14 : decode b_Mo_home 14 = .ok (.iconst 0, 1) := by decide +kernel
theorem d_Mo_home_15 : decode b_Mo_home 15 = .ok (.istore_n 3, 1) := by decide +kernel
theorem d_Mo_home_16 : decode b_Mo_home 16 = .ok (.iload_n 3, 1) := by decide +kernel
theorem d_Mo_home_17 : decode b_Mo_home 17 = .ok (.iload_n 1, 1) := by decide +kernel
theorem d_Mo_home_18 : decode b_Mo_home 18 = .ok (.if_icmp .ge 36, 3) := by decide +kernel
theorem d_Mo_home_21 : decode b_Mo_home 21 = .ok (.aload_n 0, 1) := by decide +kernel
theorem d_Mo_home_22 : decode b_Mo_home 22 = .ok (.iload_n 3, 1) := by decide +kernel
theorem d_Mo_home_23 : decode b_Mo_home 23 = .ok (.invokevirtual 38, 3) := by decide +kernel
theorem d_Mo_home_26 : decode b_Mo_home 26 = .ok (.ifCond .eq 10, 3) := by decide +kernel
theorem d_Mo_home_29 : decode b_Mo_home 29 = .ok (.iload_n 2, 1) := by decide +kernel
theorem d_Mo_home_30 : decode b_Mo_home 30 = .ok (.bipush 8, 2) := by decide +kernel
theorem d_Mo_home_32 : decode b_Mo_home 32 = .ok (.invokestatic 42, 3) := by decide +kernel
theorem d_Mo_home_35 : decode b_Mo_home 35 = .ok (.istore_n 2, 1) := by decide +kernel
theorem d_Mo_home_36 : decode b_Mo_home 36 = .ok (.iload_n 2, 1) := by decide +kernel
theorem d_Mo_home_37 : decode b_Mo_home 37 = .ok (.aload_n 0, 1) := by decide +kernel
theorem d_Mo_home_38 : decode b_Mo_home 38 = .ok (.iload_n 3, 1) := by decide +kernel
theorem d_Mo_home_39 : decode b_Mo_home 39 = .ok (.invokevirtual 46, 3) := by decide +kernel
theorem d_Mo_home_42 : decode b_Mo_home 42 = .ok (.iconst 4, 1) := by decide +kernel
theorem d_Mo_home_43 : decode b_Mo_home 43 = .ok (.invokestatic 42, 3) := by decide +kernel
theorem d_Mo_home_46 : decode b_Mo_home 46 = .ok (.iadd, 1) := by decide +kernel
theorem d_Mo_home_47 : decode b_Mo_home 47 = .ok (.istore_n 2, 1) := by decide +kernel
theorem d_Mo_home_48 : decode b_Mo_home 48 = .ok (.iinc 3 1, 3) := by decide +kernel
theorem d_Mo_home_51 : decode b_Mo_home 51 = .ok (.goto (-35), 3) := by decide +kernel
theorem d_Mo_home_54 : decode b_Mo_home 54 = .ok (.iload_n 1, 1) := by decide +kernel
theorem d_Mo_home_55 : decode b_Mo_home 55 = .ok (.aload_n 0, 1) := by decide +kernel
theorem d_Mo_home_56 : decode b_Mo_home 56 = .ok (.getfield 35, 3) := by decide +kernel
theorem d_Mo_home_59 : decode b_Mo_home 59 = .ok (.if_icmp .ge 20, 3) := by decide +kernel
theorem d_Mo_home_62 : decode b_Mo_home 62 = .ok (.aload_n 0, 1) := by decide +kernel
theorem d_Mo_home_63 : decode b_Mo_home 63 = .ok (.iload_n 1, 1) := by decide +kernel
theorem d_Mo_home_64 : decode b_Mo_home 64 = .ok (.invokevirtual 38, 3) := by decide +kernel
theorem d_Mo_home_67 : decode b_Mo_home 67 = .ok (.ifCond .eq 12, 3) := by decide +kernel
theorem d_Mo_home_70 : decode b_Mo_home 70 = .ok (.iload_n 2, 1) := by decide +kernel
theorem d_Mo_home_71 : decode b_Mo_home 71 = .ok (.bipush 8, 2) := by decide +kernel
theorem d_Mo_home_73 : decode b_Mo_home 73 = .ok (.invokestatic 42, 3) := by decide +kernel
theorem d_Mo_home_76 : decode b_Mo_home 76 = .ok (.goto 4, 3) := by decide +kernel
theorem d_Mo_home_79 : decode b_Mo_home 79 = .ok (.iload_n 2, 1) := by decide +kernel
theorem d_Mo_home_80 : decode b_Mo_home 80 = .ok (.ireturn, 1) := by decide +kernel
theorem d_Mo_add_0 : decode b_Mo_add 0 = .ok (.aload_n 0, 1) := by decide +kernel
theorem d_Mo_add_1 : decode b_Mo_add 1 = .ok (.iconst 0, 1) := by decide +kernel
theorem d_Mo_add_2 : decode b_Mo_add 2 = .ok (.putfield 23, 3) := by decide +kernel
theorem d_Mo_add_5 : decode b_Mo_add 5 = .ok (.iload_n 1, 1) := by decide +kernel
theorem d_Mo_add_6 : decode b_Mo_add 6 = .ok (.iconst 3, 1) := by decide +kernel
theorem d_Mo_add_7 : decode b_Mo_add 7 = .ok (.iload_n 2, 1) := by decide +kernel
theorem d_Mo_add_8 : decode b_Mo_add 8 = .ok (.iload_n 3, 1) := by decide +kernel
theorem d_Mo_add_9 : decode b_Mo_add 9 = .ok (.invokestatic 27, 3) := by decide +kernel
theorem d_Mo_add_12 : decode b_Mo_add 12 = .ok (.ifCond .ne 9, 3) := by decide +kernel
theorem d_Mo_add_15 : decode b_Mo_add 15 = .ok (.aload_n 0, 1) := by decide +kernel
theorem d_Mo_add_16 : decode b_Mo_add 16 = .ok (.iconst 1, 1) := by decide +kernel
theorem d_Mo_add_17 : decode b_Mo_add 17 = .ok (.invokevirtual 50, 3) := by decide +kernel
theorem d_Mo_add_20 : decode b_Mo_add 20 = .ok (.ireturn, 1) := by decide +kernel
theorem d_Mo_add_21 : decode b_Mo_add 21 = .ok (.aload_n 0, 1) := by decide +kernel
theorem d_Mo_add_22 : decode b_Mo_add 22 = .ok (.getfield 35, 3) := by decide +kernel
theorem d_Mo_add_25 : decode b_Mo_add 25 = .ok (.bipush 60, 2) := by decide +kernel
theorem d_Mo_add_27 : decode b_Mo_add 27 = .ok (.if_icmp .ne 9, 3) := by decide +kernel
theorem d_Mo_add_30 : decode b_Mo_add 30 = .ok (.aload_n 0, 1) := by decide +kernel
theorem d_Mo_add_31 : decode b_Mo_add 31 = .ok (.iconst 2, 1) := by decide +kernel
theorem d_Mo_add_32 : decode b_Mo_add 32 = .ok (.invokevirtual 50, 3) := by decide +kernel
theorem d_Mo_add_35 : decode b_Mo_add 35 = .ok (.ireturn, 1) := by decide +kernel
theorem d_Mo_add_36 : decode b_Mo_add 36 = .ok (.aload_n 0, 1) := by decide +kernel
theorem d_Mo_add_37 : decode b_Mo_add 37 = .ok (.getfield 13, 3) := by decide +kernel
theorem d_Mo_add_40 : decode b_Mo_add 40 = .ok (.aload_n 0, 1) := by decide +kernel
theorem d_Mo_add_41 : decode b_Mo_add 41 = .ok (.getfield 35, 3) := by decide +kernel
theorem d_Mo_add_44 : decode b_Mo_add 44 = .ok (.iload_n 1, 1) := by decide +kernel
theorem d_Mo_add_45 : decode b_Mo_add 45 = .ok (.iastore, 1) := by decide +kernel
theorem d_Mo_add_46 : decode b_Mo_add 46 = .ok (.aload_n 0, 1) := by decide +kernel
theorem d_Mo_add_47 : decode b_Mo_add 47 = .ok (.getfield 17, 3) := by decide +kernel
theorem d_Mo_add_50 : decode b_Mo_add 50 = .ok (.aload_n 0, 1) := by decide +kernel
theorem d_Mo_add_51 : decode b_Mo_add 51 = .ok (.getfield 35, 3) := by decide +kernel
theorem d_Mo_add_54 : decode b_Mo_add 54 = .ok (.iload_n 2, 1) := by decide +kernel
theorem d_Mo_add_55 : decode b_Mo_add 55 = .ok (.iastore, 1) := by decide +kernel
theorem d_Mo_add_56 : decode b_Mo_add 56 = .ok (.aload_n 0, 1) := by decide +kernel
theorem d_Mo_add_57 : decode b_Mo_add 57 = .ok (.getfield 20, 3) := by decide +kernel
theorem d_Mo_add_60 : decode b_Mo_add 60 = .ok (.aload_n 0, 1) := by decide +kernel
theorem d_Mo_add_61 : decode b_Mo_add 61 = .ok (.getfield 35, 3) := by decide +kernel
theorem d_Mo_add_64 : decode b_Mo_add 64 = .ok (.iload_n 3, 1) := by decide +kernel
theorem d_Mo_add_65 : decode b_Mo_add 65 = .ok (.iastore, 1) := by decide +kernel
theorem d_Mo_add_66 : decode b_Mo_add 66 = .ok (.aload_n 0, 1) := by decide +kernel
theorem d_Mo_add_67 : decode b_Mo_add 67 = .ok (.dup, 1) := by decide +kernel
theorem d_Mo_add_68 : decode b_Mo_add 68 = .ok (.getfield 35, 3) := by decide +kernel
theorem d_Mo_add_71 : decode b_Mo_add 71 = .ok (.iconst 1, 1) := by decide +kernel
theorem d_Mo_add_72 : decode b_Mo_add 72 = .ok (.iadd, 1) := by decide +kernel
theorem d_Mo_add_73 : decode b_Mo_add 73 = .ok (.putfield 35, 3) := by decide +kernel
theorem d_Mo_add_76 : decode b_Mo_add 76 = .ok (.aload_n 0, 1) := by decide +kernel
theorem d_Mo_add_77 : decode b_Mo_add 77 = .ok (.aload_n 0, 1) := by decide +kernel
theorem d_Mo_add_78 : decode b_Mo_add 78 = .ok (.getfield 35, 3) := by decide +kernel
theorem d_Mo_add_81 : decode b_Mo_add 81 = .ok (.iconst 1, 1) := by decide +kernel
theorem d_Mo_add_82 : decode b_Mo_add 82 = .ok (.isub, 1) := by decide +kernel
theorem d_Mo_add_83 : decode b_Mo_add 83 = .ok (.invokevirtual 53, 3) := by decide +kernel
theorem d_Mo_add_86 : decode b_Mo_add 86 = .ok (.istore 4, 2) := by decide +kernel
theorem d_Mo_add_88 : decode b_Mo_add 88 = .ok (.iload 4, 2) := by decide +kernel
theorem d_Mo_add_90 : decode b_Mo_add 90 = .ok (.aload_n 0, 1) := by decide +kernel
theorem d_Mo_add_91 : decode b_Mo_add 91 = .ok (.aload_n 0, 1) := by decide +kernel
theorem d_Mo_add_92 : decode b_Mo_add 92 = .ok (.getfield 35, 3) := by decide +kernel
theorem d_Mo_add_95 : decode b_Mo_add 95 = .ok (.iconst 1, 1) := by decide +kernel
theorem d_Mo_add_96 : decode b_Mo_add 96 = .ok (.isub, 1) := by decide +kernel
theorem d_Mo_add_97 : decode b_Mo_add 97 = .ok (.invokevirtual 46, 3) := by decide +kernel
theorem d_Mo_add_100 : decode b_Mo_add 100 = .ok (.iconst 4, 1) := by decide +kernel
theorem d_Mo_add_101 : decode b_Mo_add 101 = .ok (.invokestatic 42, 3) := by decide +kernel
theorem d_Mo_add_104 : decode b_Mo_add 104 = .ok (.iadd, 1) := by decide +kernel
theorem d_Mo_add_105 : decode b_Mo_add 105 = .ok (.ldc 56, 2) := by decide +kernel
theorem d_Mo_add_107 : decode b_Mo_add 107 = .ok (.if_icmp .le 19, 3) := by decide +kernel
theorem d_Mo_add_110 : decode b_Mo_add 110 = .ok (.aload_n 0, 1) := by decide +kernel
theorem d_Mo_add_111 : decode b_Mo_add 111 = .ok (.dup, 1) := by decide +kernel
theorem d_Mo_add_112 : decode b_Mo_add 112 = .ok (.getfield 35, 3) := by decide +kernel
theorem d_Mo_add_115 : decode b_Mo_add 115 = .ok (.iconst 1, 1) := by decide +kernel
theorem d_Mo_add_116 : decode b_Mo_add 116 = .ok (.isub, 1) := by decide +kernel
theorem d_Mo_add_117 : decode b_Mo_add 117 = .ok (.putfield 35, 3) := by decide +kernel
theorem d_Mo_add_120 : decode b_Mo_add 120 = .ok (.aload_n 0, 1) := by decide +kernel
theorem d_Mo_add_121 : decode b_Mo_add 121 = .ok (.iconst 2, 1) := by decide +kernel
theorem d_Mo_add_122 : decode b_Mo_add 122 = .ok (.invokevirtual 50, 3) := by decide +kernel
theorem d_Mo_add_125 : decode b_Mo_add 125 = .ok (.ireturn, 1) := by decide +kernel
theorem d_Mo_add_126 : decode b_Mo_add 126 = .ok (.iload 4, 2) := by decide +kernel
theorem d_Mo_add_128 : decode b_Mo_add 128 = .ok (.ireturn, 1) := by decide +kernel
theorem d_Mo_isThere_0 : decode b_Mo_isThere 0 = .ok (.iload_n 1, 1) := by decide +kernel
theorem d_Mo_isThere_1 : decode b_Mo_isThere 1 = .ok (.ifCond .lt 11, 3) := by decide +kernel
theorem d_Mo_isThere_4 : decode b_Mo_isThere 4 = .ok (.iload_n 1, 1) := by decide +kernel
theorem d_Mo_isThere_5 : decode b_Mo_isThere 5 = .ok (.aload_n 0, 1) := by decide +kernel
theorem d_Mo_isThere_6 : decode b_Mo_isThere 6 = .ok (.getfield 35, 3) := by decide +kernel
theorem d_Mo_isThere_9 : decode b_Mo_isThere 9 = .ok (.if_icmp .lt 16, 3) := by decide +kernel
theorem d_Mo_isThere_12 : decode b_Mo_isThere 12 = .ok (.iload_n 1, 1) := by decide +kernel
theorem d_Mo_isThere_13 : decode b_Mo_isThere 13 = .ok (.iconst (-1), 1) := by decide +kernel
theorem d_Mo_isThere_14 : decode b_Mo_isThere 14 = .ok (.if_icmp .ne 15, 3) := by decide +kernel
theorem d_Mo_isThere_17 : decode b_Mo_isThere 17 = .ok (.aload_n 0, 1) := by decide +kernel
theorem d_Mo_isThere_18 : decode b_Mo_isThere 18 = .ok (.getfield 9, 3) := by decide +kernel
theorem d_Mo_isThere_21 : decode b_Mo_isThere 21 = .ok (.iconst 3, 1) := by decide +kernel
theorem d_Mo_isThere_22 : decode b_Mo_isThere 22 = .ok (.if_icmp .ne 7, 3) := by decide +kernel
theorem d_Mo_isThere_25 : decode b_Mo_isThere 25 = .ok (.iconst 1, 1) := by decide +kernel
theorem d_Mo_isThere_26 : decode b_Mo_isThere 26 = .ok (.goto 4, 3) := by decide +kernel
theorem d_Mo_isThere_29 : decode b_Mo_isThere 29 = .ok (.iconst 0, 1) := by decide +kernel
theorem d_Mo_isThere_30 : decode b_Mo_isThere 30 = .ok (.ireturn, 1) := by decide +kernel
theorem d_Mo_words_0 : decode b_Mo_words 0 = .ok (.iload_n 1, 1) := by decide +kernel
theorem d_Mo_words_1 : decode b_Mo_words 1 = .ok (.iconst (-1), 1) := by decide +kernel
theorem d_Mo_words_2 : decode b_Mo_words 2 = .ok (.if_icmp .ne 7, 3) := by decide +kernel
theorem d_Mo_words_5 : decode b_Mo_words 5 = .ok (.iconst 1, 1) := by decide +kernel
theorem d_Mo_words_6 : decode b_Mo_words 6 = .ok (.goto 14, 3) := by decide +kernel
theorem d_Mo_words_9 : decode b_Mo_words 9 = .ok (.aload_n 0, 1) := by decide +kernel
theorem d_Mo_words_10 : decode b_Mo_words 10 = .ok (.iload_n 1, 1) := by decide +kernel
theorem d_Mo_words_11 : decode b_Mo_words 11 = .ok (.invokevirtual 46, 3) := by decide +kernel
theorem d_Mo_words_14 : decode b_Mo_words 14 = .ok (.iconst 4, 1) := by decide +kernel
theorem d_Mo_words_15 : decode b_Mo_words 15 = .ok (.invokestatic 42, 3) := by decide +kernel
theorem d_Mo_words_18 : decode b_Mo_words 18 = .ok (.iconst 4, 1) := by decide +kernel
theorem d_Mo_words_19 : decode b_Mo_words 19 = .ok (.idiv, 1) := by decide +kernel
theorem d_Mo_words_20 : decode b_Mo_words 20 = .ok (.ireturn, 1) := by decide +kernel
theorem d_Mo_isFraction_0 : decode b_Mo_isFraction 0 = .ok (.aload_n 0, 1) := by decide +kernel
theorem d_Mo_isFraction_1 : decode b_Mo_isFraction 1 = .ok (.getfield 13, 3) := by decide +kernel
theorem d_Mo_isFraction_4 : decode b_Mo_isFraction 4 = .ok (.iload_n 1, 1) := by decide +kernel
theorem d_Mo_isFraction_5 : decode b_Mo_isFraction 5 = .ok (.iaload, 1) := by decide +kernel
theorem d_Mo_isFraction_6 : decode b_Mo_isFraction 6 = .ok (.iconst 1, 1) := by decide +kernel
theorem d_Mo_isFraction_7 : decode b_Mo_isFraction 7 = .ok (.if_icmp .eq 13, 3) := by decide +kernel
theorem d_Mo_isFraction_10 : decode b_Mo_isFraction 10 = .ok (.aload_n 0, 1) := by decide +kernel
theorem d_Mo_isFraction_11 : decode b_Mo_isFraction 11 = .ok (.getfield 13, 3) := by decide +kernel
theorem d_Mo_isFraction_14 : decode b_Mo_isFraction 14 = .ok (.iload_n 1, 1) := by decide +kernel
theorem d_Mo_isFraction_15 : decode b_Mo_isFraction 15 = .ok (.iaload, 1) := by decide +kernel
theorem d_Mo_isFraction_16 : decode b_Mo_isFraction 16 = .ok (.iconst 2, 1) := by decide +kernel
theorem d_Mo_isFraction_17 : decode b_Mo_isFraction 17 = .ok (.if_icmp .ne 7, 3) := by decide +kernel
theorem d_Mo_isFraction_20 : decode b_Mo_isFraction 20 = .ok (.iconst 1, 1) := by decide +kernel
theorem d_Mo_isFraction_21 : decode b_Mo_isFraction 21 = .ok (.goto 4, 3) := by decide +kernel
theorem d_Mo_isFraction_24 : decode b_Mo_isFraction 24 = .ok (.iconst 0, 1) := by decide +kernel
theorem d_Mo_isFraction_25 : decode b_Mo_isFraction 25 = .ok (.ireturn, 1) := by decide +kernel
theorem d_Mo_where_0 : decode b_Mo_where 0 = .ok (.aload_n 0, 1) := by decide +kernel
theorem d_Mo_where_1 : decode b_Mo_where 1 = .ok (.iconst 0, 1) := by decide +kernel
theorem d_Mo_where_2 : decode b_Mo_where 2 = .ok (.putfield 23, 3) := by decide +kernel
theorem d_Mo_where_5 : decode b_Mo_where 5 = .ok (.aload_n 0, 1) := by decide +kernel
theorem d_Mo_where_6 : decode b_Mo_where 6 = .ok (.iload_n 1, 1) := by decide +kernel
theorem d_Mo_where_7 : decode b_Mo_where 7 = .ok (.invokevirtual 57, 3) := by decide +kernel
theorem d_Mo_where_10 : decode b_Mo_where 10 = .ok (.ifCond .eq 16, 3) := by decide +kernel
theorem d_Mo_where_13 : decode b_Mo_where 13 = .ok (.iload_n 2, 1) := by decide +kernel
theorem d_Mo_where_14 : decode b_Mo_where 14 = .ok (.ifCond .lt 12, 3) := by decide +kernel
theorem d_Mo_where_17 : decode b_Mo_where 17 = .ok (.iload_n 2, 1) := by decide +kernel
theorem d_Mo_where_18 : decode b_Mo_where 18 = .ok (.aload_n 0, 1) := by decide +kernel
theorem d_Mo_where_19 : decode b_Mo_where 19 = .ok (.iload_n 1, 1) := by decide +kernel
theorem d_Mo_where_20 : decode b_Mo_where 20 = .ok (.invokevirtual 60, 3) := by decide +kernel
theorem d_Mo_where_23 : decode b_Mo_where 23 = .ok (.if_icmp .lt 9, 3) := by decide +kernel
theorem d_Mo_where_26 : decode b_Mo_where 26 = .ok (.aload_n 0, 1) := by decide +kernel
theorem d_Mo_where_27 : decode b_Mo_where 27 = .ok (.iconst 1, 1) := by decide +kernel
theorem d_Mo_where_28 : decode b_Mo_where 28 = .ok (.invokevirtual 50, 3) := by decide +kernel
theorem d_Mo_where_31 : decode b_Mo_where 31 = .ok (.ireturn, 1) := by decide +kernel
theorem d_Mo_where_32 : decode b_Mo_where 32 = .ok (.iload_n 1, 1) := by decide +kernel
theorem d_Mo_where_33 : decode b_Mo_where 33 = .ok (.iconst (-1), 1) := by decide +kernel
theorem d_Mo_where_34 : decode b_Mo_where 34 = .ok (.if_icmp .ne 5, 3) := by decide +kernel
theorem d_Mo_where_37 : decode b_Mo_where 37 = .ok (.iconst 4, 1) := by decide +kernel
theorem d_Mo_where_38 : decode b_Mo_where 38 = .ok (.ireturn, 1) := by decide +kernel
theorem d_Mo_where_39 : decode b_Mo_where 39 = .ok (.aload_n 0, 1) := by decide +kernel
theorem d_Mo_where_40 : decode b_Mo_where 40 = .ok (.getfield 31, 3) := by decide +kernel
theorem d_Mo_where_43 : decode b_Mo_where 43 = .ok (.ifCond .ne 36, 3) := by decide +kernel
theorem d_Mo_where_46 : decode b_Mo_where 46 = .ok (.aload_n 0, 1) := by decide +kernel
theorem d_Mo_where_47 : decode b_Mo_where 47 = .ok (.getfield 9, 3) := by decide +kernel
theorem d_Mo_where_50 : decode b_Mo_where 50 = .ok (.iconst 3, 1) := by decide +kernel
theorem d_Mo_where_51 : decode b_Mo_where 51 = .ok (.if_icmp .eq 28, 3) := by decide +kernel
theorem d_Mo_where_54 : decode b_Mo_where 54 = .ok (.iload_n 1, 1) := by decide +kernel
theorem d_Mo_where_55 : decode b_Mo_where 55 = .ok (.iconst 2, 1) := by decide +kernel
theorem d_Mo_where_56 : decode b_Mo_where 56 = .ok (.if_icmp .ge 23, 3) := by decide +kernel
theorem d_Mo_where_59 : decode b_Mo_where 59 = .ok (.aload_n 0, 1) := by decide +kernel
theorem d_Mo_where_60 : decode b_Mo_where 60 = .ok (.iconst 0, 1) := by decide +kernel
theorem d_Mo_where_61 : decode b_Mo_where 61 = .ok (.invokevirtual 63, 3) := by decide +kernel
theorem d_Mo_where_64 : decode b_Mo_where 64 = .ok (.ifCond .eq 15, 3) := by decide +kernel
theorem d_Mo_where_67 : decode b_Mo_where 67 = .ok (.aload_n 0, 1) := by decide +kernel
theorem d_Mo_where_68 : decode b_Mo_where 68 = .ok (.iload_n 1, 1) := by decide +kernel
theorem d_Mo_where_69 : decode b_Mo_where 69 = .ok (.invokevirtual 63, 3) := by decide +kernel
theorem d_Mo_where_72 : decode b_Mo_where 72 = .ok (.ifCond .eq 7, 3) := by decide +kernel
theorem d_Mo_where_75 : decode b_Mo_where 75 = .ok (.iconst 1, 1) := by decide +kernel
theorem d_Mo_where_76 : decode b_Mo_where 76 = .ok (.goto 4, 3) := by decide +kernel
theorem d_Mo_where_79 : decode b_Mo_where 79 = .ok (.iconst 0, 1) := by decide +kernel
theorem d_Mo_where_80 : decode b_Mo_where 80 = .ok (.istore_n 3, 1) := by decide +kernel
theorem d_Mo_where_81 : decode b_Mo_where 81 = .ok (.iload_n 3, 1) := by decide +kernel
theorem d_Mo_where_82 : decode b_Mo_where 82 = .ok (.ifCond .eq 35, 3) := by decide +kernel
theorem d_Mo_where_85 : decode b_Mo_where 85 = .ok (.bipush 44, 2) := by decide +kernel
theorem d_Mo_where_87 : decode b_Mo_where 87 = .ok (.iconst 2, 1) := by decide +kernel
theorem d_Mo_where_88 : decode b_Mo_where 88 = .ok (.iload_n 1, 1) := by decide +kernel
theorem d_Mo_where_89 : decode b_Mo_where 89 = .ok (.imul, 1) := by decide +kernel
theorem d_Mo_where_90 : decode b_Mo_where 90 = .ok (.iadd, 1) := by decide +kernel
theorem d_Mo_where_91 : decode b_Mo_where 91 = .ok (.istore 4, 2) := by decide +kernel
theorem d_Mo_where_93 : decode b_Mo_where 93 = .ok (.aload_n 0, 1) := by decide +kernel
theorem d_Mo_where_94 : decode b_Mo_where 94 = .ok (.getfield 13, 3) := by decide +kernel
theorem d_Mo_where_97 : decode b_Mo_where 97 = .ok (.iload_n 1, 1) := by decide +kernel
theorem d_Mo_where_98 : decode b_Mo_where 98 = .ok (.iaload, 1) := by decide +kernel
theorem d_Mo_where_99 : decode b_Mo_where 99 = .ok (.iconst 2, 1) := by decide +kernel
theorem d_Mo_where_100 : decode b_Mo_where 100 = .ok (.if_icmp .ne 14, 3) := by decide +kernel
theorem d_Mo_where_103 : decode b_Mo_where 103 = .ok (.iload_n 2, 1) := by decide +kernel
theorem d_Mo_where_104 : decode b_Mo_where 104 = .ok (.ifCond .ne 10, 3) := by decide +kernel
theorem d_Mo_where_107 : decode b_Mo_where 107 = .ok (.iload 4, 2) := by decide +kernel
theorem d_Mo_where_109 : decode b_Mo_where 109 = .ok (.iconst 1, 1) := by decide +kernel
theorem d_Mo_where_110 : decode b_Mo_where 110 = .ok (.iadd, 1) := by decide +kernel
theorem d_Mo_where_111 : decode b_Mo_where 111 = .ok (.goto 5, 3) := by decide +kernel
theorem d_Mo_where_114 : decode b_Mo_where 114 = .ok (.iload 4, 2) := by decide +kernel
theorem d_Mo_where_116 : decode b_Mo_where 116 = .ok (.ireturn, 1) := by decide +kernel
theorem d_Mo_where_117 : decode b_Mo_where 117 = .ok (.aload_n 0, 1) := by decide +kernel
theorem d_Mo_where_118 : decode b_Mo_where 118 = .ok (.iload_n 1, 1) := by decide +kernel
theorem d_Mo_where_119 : decode b_Mo_where 119 = .ok (.invokevirtual 53, 3) := by decide +kernel
theorem d_Mo_where_122 : decode b_Mo_where 122 = .ok (.iconst 4, 1) := by decide +kernel
theorem d_Mo_where_123 : decode b_Mo_where 123 = .ok (.idiv, 1) := by decide +kernel
theorem d_Mo_where_124 : decode b_Mo_where 124 = .ok (.iload_n 2, 1) := by decide +kernel
theorem d_Mo_where_125 : decode b_Mo_where 125 = .ok (.iadd, 1) := by decide +kernel
theorem d_Mo_where_126 : decode b_Mo_where 126 = .ok (.istore 4, 2) := by decide +kernel
theorem d_Mo_where_128 : decode b_Mo_where 128 = .ok (.iload 4, 2) := by decide +kernel
theorem d_Mo_where_130 : decode b_Mo_where 130 = .ok (.iconst 4, 1) := by decide +kernel
theorem d_Mo_where_131 : decode b_Mo_where 131 = .ok (.if_icmp .ge 10, 3) := by decide +kernel
theorem d_Mo_where_134 : decode b_Mo_where 134 = .ok (.iconst 4, 1) := by decide +kernel
theorem d_Mo_where_135 : decode b_Mo_where 135 = .ok (.iload 4, 2) := by decide +kernel
theorem d_Mo_where_137 : decode b_Mo_where 137 = .ok (.iadd, 1) := by decide +kernel
theorem d_Mo_where_138 : decode b_Mo_where 138 = .ok (.goto 4, 3) := by decide +kernel
theorem d_Mo_where_141 : decode b_Mo_where 141 = .ok (.iconst (-1), 1) := by decide +kernel
theorem d_Mo_where_142 : decode b_Mo_where 142 = .ok (.ireturn, 1) := by decide +kernel
theorem d_Mo_about_0 : decode b_Mo_about 0 = .ok (.aload_n 0, 1) := by decide +kernel
theorem d_Mo_about_1 : decode b_Mo_about 1 = .ok (.iconst 0, 1) := by decide +kernel
theorem d_Mo_about_2 : decode b_Mo_about 2 = .ok (.putfield 23, 3) := by decide +kernel
theorem d_Mo_about_5 : decode b_Mo_about 5 = .ok (.aload_n 0, 1) := by decide +kernel
theorem d_Mo_about_6 : decode b_Mo_about 6 = .ok (.iload_n 1, 1) := by decide +kernel
theorem d_Mo_about_7 : decode b_Mo_about 7 = .ok (.invokevirtual 57, 3) := by decide +kernel
theorem d_Mo_about_10 : decode b_Mo_about 10 = .ok (.ifCond .eq 12, 3) := by decide +kernel
theorem d_Mo_about_13 : decode b_Mo_about 13 = .ok (.iload_n 2, 1) := by decide +kernel
theorem d_Mo_about_14 : decode b_Mo_about 14 = .ok (.ifCond .lt 8, 3) := by decide +kernel
theorem d_Mo_about_17 : decode b_Mo_about 17 = .ok (.iload_n 2, 1) := by decide +kernel
theorem d_Mo_about_18 : decode b_Mo_about 18 = .ok (.iconst 2, 1) := by decide +kernel
theorem d_Mo_about_19 : decode b_Mo_about 19 = .ok (.if_icmp .le 9, 3) := by decide +kernel
theorem d_Mo_about_22 : decode b_Mo_about 22 = .ok (.aload_n 0, 1) := by decide +kernel
theorem d_Mo_about_23 : decode b_Mo_about 23 = .ok (.iconst 1, 1) := by decide +kernel
theorem d_Mo_about_24 : decode b_Mo_about 24 = .ok (.invokevirtual 50, 3) := by decide +kernel
theorem d_Mo_about_27 : decode b_Mo_about 27 = .ok (.ireturn, 1) := by decide +kernel
theorem d_Mo_about_28 : decode b_Mo_about 28 = .ok (.iload_n 1, 1) := by decide +kernel
theorem d_Mo_about_29 : decode b_Mo_about 29 = .ok (.iconst (-1), 1) := by decide +kernel
theorem d_Mo_about_30 : decode b_Mo_about 30 = .ok (.if_icmp .ne 22, 3) := by decide +kernel
theorem d_Mo_about_33 : decode b_Mo_about 33 = .ok (.iload_n 2, 1) := by decide +kernel
theorem d_Mo_about_34 : decode b_Mo_about 34 = .ok (.ifCond .ne 7, 3) := by decide +kernel
theorem d_Mo_about_37 : decode b_Mo_about 37 = .ok (.iconst 0, 1) := by decide +kernel
theorem d_Mo_about_38 : decode b_Mo_about 38 = .ok (.goto 13, 3) := by decide +kernel
theorem d_Mo_about_41 : decode b_Mo_about 41 = .ok (.iload_n 2, 1) := by decide +kernel
theorem d_Mo_about_42 : decode b_Mo_about 42 = .ok (.iconst 1, 1) := by decide +kernel
theorem d_Mo_about_43 : decode b_Mo_about 43 = .ok (.if_icmp .ne 7, 3) := by decide +kernel
theorem d_Mo_about_46 : decode b_Mo_about 46 = .ok (.iconst 4, 1) := by decide +kernel
theorem d_Mo_about_47 : decode b_Mo_about 47 = .ok (.goto 4, 3) := by decide +kernel
theorem d_Mo_about_50 : decode b_Mo_about 50 = .ok (.iconst 1, 1) := by decide +kernel
theorem d_Mo_about_51 : decode b_Mo_about 51 = .ok (.ireturn, 1) := by decide +kernel
theorem d_Mo_about_52 : decode b_Mo_about 52 = .ok (.iload_n 2, 1) := by decide +kernel
theorem d_Mo_about_53 : decode b_Mo_about 53 = .ok (.ifCond .ne 11, 3) := by decide +kernel
theorem d_Mo_about_56 : decode b_Mo_about 56 = .ok (.aload_n 0, 1) := by decide +kernel
theorem d_Mo_about_57 : decode b_Mo_about 57 = .ok (.iload_n 1, 1) := by decide +kernel
theorem d_Mo_about_58 : decode b_Mo_about 58 = .ok (.invokevirtual 53, 3) := by decide +kernel
theorem d_Mo_about_61 : decode b_Mo_about 61 = .ok (.goto 21, 3) := by decide +kernel
theorem d_Mo_about_64 : decode b_Mo_about 64 = .ok (.iload_n 2, 1) := by decide +kernel
theorem d_Mo_about_65 : decode b_Mo_about 65 = .ok (.iconst 1, 1) := by decide +kernel
theorem d_Mo_about_66 : decode b_Mo_about 66 = .ok (.if_icmp .ne 11, 3) := by decide +kernel
theorem d_Mo_about_69 : decode b_Mo_about 69 = .ok (.aload_n 0, 1) := by decide +kernel
theorem d_Mo_about_70 : decode b_Mo_about 70 = .ok (.iload_n 1, 1) := by decide +kernel
theorem d_Mo_about_71 : decode b_Mo_about 71 = .ok (.invokevirtual 46, 3) := by decide +kernel
theorem d_Mo_about_74 : decode b_Mo_about 74 = .ok (.goto 8, 3) := by decide +kernel
theorem d_Mo_about_77 : decode b_Mo_about 77 = .ok (.aload_n 0, 1) := by decide +kernel
theorem d_Mo_about_78 : decode b_Mo_about 78 = .ok (.iload_n 1, 1) := by decide +kernel
theorem d_Mo_about_79 : decode b_Mo_about 79 = .ok (.invokevirtual 60, 3) := by decide +kernel
theorem d_Mo_about_82 : decode b_Mo_about 82 = .ok (.ireturn, 1) := by decide +kernel
theorem d_Mo_area_0 : decode b_Mo_area 0 = .ok (.aload_n 0, 1) := by decide +kernel
theorem d_Mo_area_1 : decode b_Mo_area 1 = .ok (.aload_n 0, 1) := by decide +kernel
theorem d_Mo_area_2 : decode b_Mo_area 2 = .ok (.getfield 35, 3) := by decide +kernel
theorem d_Mo_area_5 : decode b_Mo_area 5 = .ok (.invokevirtual 53, 3) := by decide +kernel
theorem d_Mo_area_8 : decode b_Mo_area 8 = .ok (.bipush 8, 2) := by decide +kernel
theorem d_Mo_area_10 : decode b_Mo_area 10 = .ok (.invokestatic 42, 3) := by decide +kernel
theorem d_Mo_area_13 : decode b_Mo_area 13 = .ok (.istore_n 1, 1) := by decide +kernel
theorem d_Mo_area_14 : decode b_Mo_area 14 = .ok (.iload_n 1, 1) := by decide +kernel
theorem d_Mo_area_15 : decode b_Mo_area 15 = .ok (.bipush 16, 2) := by decide +kernel
theorem d_Mo_area_17 : decode b_Mo_area 17 = .ok (.if_icmp .ge 8, 3) := by decide +kernel
theorem d_Mo_area_20 : decode b_Mo_area 20 = .ok (.bipush 16, 2) := by decide +kernel
theorem d_Mo_area_22 : decode b_Mo_area 22 = .ok (.goto 4, 3) := by decide +kernel
theorem d_Mo_area_25 : decode b_Mo_area 25 = .ok (.iload_n 1, 1) := by decide +kernel
theorem d_Mo_area_26 : decode b_Mo_area 26 = .ok (.ireturn, 1) := by decide +kernel
theorem d_Mo_signature_0 : decode b_Mo_signature 0 = .ok (.aload_n 0, 1) := by decide +kernel
theorem d_Mo_signature_1 : decode b_Mo_signature 1 = .ok (.iconst 0, 1) := by decide +kernel
theorem d_Mo_signature_2 : decode b_Mo_signature 2 = .ok (.putfield 23, 3) := by decide +kernel
theorem d_Mo_signature_5 : decode b_Mo_signature 5 = .ok (.iload_n 1, 1) := by decide +kernel
theorem d_Mo_signature_6 : decode b_Mo_signature 6 = .ok (.ifCond .lt 8, 3) := by decide +kernel
theorem d_Mo_signature_9 : decode b_Mo_signature 9 = .ok (.iload_n 1, 1) := by decide +kernel
theorem d_Mo_signature_10 : decode b_Mo_signature 10 = .ok (.iconst 3, 1) := by decide +kernel
theorem d_Mo_signature_11 : decode b_Mo_signature 11 = .ok (.if_icmp .le 9, 3) := by decide +kernel
theorem d_Mo_signature_14 : decode b_Mo_signature 14 = .ok (.aload_n 0, 1) := by decide +kernel
theorem d_Mo_signature_15 : decode b_Mo_signature 15 = .ok (.iconst 1, 1) := by decide +kernel
theorem d_Mo_signature_16 : decode b_Mo_signature 16 = .ok (.invokevirtual 50, 3) := by decide +kernel
theorem d_Mo_signature_19 : decode b_Mo_signature 19 = .ok (.ireturn, 1) := by decide +kernel
theorem d_Mo_signature_20 : decode b_Mo_signature 20 = .ok (.aload_n 0, 1) := by decide +kernel
theorem d_Mo_signature_21 : decode b_Mo_signature 21 = .ok (.getfield 9, 3) := by decide +kernel
theorem d_Mo_signature_24 : decode b_Mo_signature 24 = .ok (.iconst 4, 1) := by decide +kernel
theorem d_Mo_signature_25 : decode b_Mo_signature 25 = .ok (.if_icmp .ne 7, 3) := by decide +kernel
theorem d_Mo_signature_28 : decode b_Mo_signature 28 = .ok (.iconst (-1), 1) := by decide +kernel
theorem d_Mo_signature_29 : decode b_Mo_signature 29 = .ok (.goto 24, 3) := by decide +kernel
theorem d_Mo_signature_32 : decode b_Mo_signature 32 = .ok (.aload_n 0, 1) := by decide +kernel
theorem d_Mo_signature_33 : decode b_Mo_signature 33 = .ok (.getfield 9, 3) := by decide +kernel
theorem d_Mo_signature_36 : decode b_Mo_signature 36 = .ok (.ifCond .eq 11, 3) := by decide +kernel
theorem d_Mo_signature_39 : decode b_Mo_signature 39 = .ok (.aload_n 0, 1) := by decide +kernel
theorem d_Mo_signature_40 : decode b_Mo_signature 40 = .ok (.getfield 9, 3) := by decide +kernel
theorem d_Mo_signature_43 : decode b_Mo_signature 43 = .ok (.iconst 3, 1) := by decide +kernel
theorem d_Mo_signature_44 : decode b_Mo_signature 44 = .ok (.if_icmp .ne 7, 3) := by decide +kernel
theorem d_Mo_signature_47 : decode b_Mo_signature 47 = .ok (.iconst 2, 1) := by decide +kernel
theorem d_Mo_signature_48 : decode b_Mo_signature 48 = .ok (.goto 5, 3) := by decide +kernel
theorem d_Mo_signature_51 : decode b_Mo_signature 51 = .ok (.bipush 32, 2) := by decide +kernel
theorem d_Mo_signature_53 : decode b_Mo_signature 53 = .ok (.istore_n 2, 1) := by decide +kernel
theorem d_Mo_signature_54 : decode b_Mo_signature 54 = .ok (.iload_n 1, 1) := by decide +kernel
theorem d_Mo_signature_55 : decode b_Mo_signature 55 = .ok (.ifCond .ne 10, 3) := by decide +kernel
theorem d_Mo_signature_58 : decode b_Mo_signature 58 = .ok (.aload_n 0, 1) := by decide +kernel
theorem d_Mo_signature_59 : decode b_Mo_signature 59 = .ok (.invokevirtual 66, 3) := by decide +kernel
theorem d_Mo_signature_62 : decode b_Mo_signature 62 = .ok (.goto 32, 3) := by decide +kernel
theorem d_Mo_signature_65 : decode b_Mo_signature 65 = .ok (.iload_n 1, 1) := by decide +kernel
theorem d_Mo_signature_66 : decode b_Mo_signature 66 = .ok (.iconst 1, 1) := by decide +kernel
theorem d_Mo_signature_67 : decode b_Mo_signature 67 = .ok (.if_icmp .ne 10, 3) := by decide +kernel
theorem d_Mo_signature_70 : decode b_Mo_signature 70 = .ok (.aload_n 0, 1) := by decide +kernel
theorem d_Mo_signature_71 : decode b_Mo_signature 71 = .ok (.getfield 35, 3) := by decide +kernel
theorem d_Mo_signature_74 : decode b_Mo_signature 74 = .ok (.goto 20, 3) := by decide +kernel
theorem d_Mo_signature_77 : decode b_Mo_signature 77 = .ok (.iload_n 1, 1) := by decide +kernel
theorem d_Mo_signature_78 : decode b_Mo_signature 78 = .ok (.iconst 2, 1) := by decide +kernel
theorem d_Mo_signature_79 : decode b_Mo_signature 79 = .ok (.if_icmp .ne 7, 3) := by decide +kernel
theorem d_Mo_signature_82 : decode b_Mo_signature 82 = .ok (.iload_n 2, 1) := by decide +kernel
theorem d_Mo_signature_83 : decode b_Mo_signature 83 = .ok (.goto 11, 3) := by decide +kernel
theorem d_Mo_signature_86 : decode b_Mo_signature 86 = .ok (.aload_n 0, 1) := by decide +kernel
theorem d_Mo_signature_87 : decode b_Mo_signature 87 = .ok (.aload_n 0, 1) := by decide +kernel
theorem d_Mo_signature_88 : decode b_Mo_signature 88 = .ok (.getfield 35, 3) := by decide +kernel
theorem d_Mo_signature_91 : decode b_Mo_signature 91 = .ok (.invokevirtual 53, 3) := by decide +kernel
theorem d_Mo_signature_94 : decode b_Mo_signature 94 = .ok (.ireturn, 1) := by decide +kernel
theorem d_Mo_call_0 : decode b_Mo_call 0 = .ok (.aload_n 0, 1) := by decide +kernel
theorem d_Mo_call_1 : decode b_Mo_call 1 = .ok (.iconst 0, 1) := by decide +kernel
theorem d_Mo_call_2 : decode b_Mo_call 2 = .ok (.putfield 23, 3) := by decide +kernel
theorem d_Mo_call_5 : decode b_Mo_call 5 = .ok (.aload_n 0, 1) := by decide +kernel
theorem d_Mo_call_6 : decode b_Mo_call 6 = .ok (.dup, 1) := by decide +kernel
theorem d_Mo_call_7 : decode b_Mo_call 7 = .ok (.getfield 70, 3) := by decide +kernel
theorem d_Mo_call_10 : decode b_Mo_call 10 = .ok (.iconst 1, 1) := by decide +kernel
theorem d_Mo_call_11 : decode b_Mo_call 11 = .ok (.iadd, 1) := by decide +kernel
theorem d_Mo_call_12 : decode b_Mo_call 12 = .ok (.putfield 70, 3) := by decide +kernel
theorem d_Mo_call_15 : decode b_Mo_call 15 = .ok (.aload_n 0, 1) := by decide +kernel
theorem d_Mo_call_16 : decode b_Mo_call 16 = .ok (.invokevirtual 66, 3) := by decide +kernel
theorem d_Mo_call_19 : decode b_Mo_call 19 = .ok (.aload_n 0, 1) := by decide +kernel
theorem d_Mo_call_20 : decode b_Mo_call 20 = .ok (.getfield 73, 3) := by decide +kernel
theorem d_Mo_call_23 : decode b_Mo_call 23 = .ok (.if_icmp .le 11, 3) := by decide +kernel
theorem d_Mo_call_26 : decode b_Mo_call 26 = .ok (.aload_n 0, 1) := by decide +kernel
theorem d_Mo_call_27 : decode b_Mo_call 27 = .ok (.aload_n 0, 1) := by decide +kernel
theorem d_Mo_call_28 : decode b_Mo_call 28 = .ok (.invokevirtual 66, 3) := by decide +kernel
theorem d_Mo_call_31 : decode b_Mo_call 31 = .ok (.putfield 73, 3) := by decide +kernel
theorem d_Mo_call_34 : decode b_Mo_call 34 = .ok (.aload_n 0, 1) := by decide +kernel
theorem d_Mo_call_35 : decode b_Mo_call 35 = .ok (.getfield 73, 3) := by decide +kernel
theorem d_Mo_call_38 : decode b_Mo_call 38 = .ok (.ireturn, 1) := by decide +kernel
theorem d_Mo_saved_0 : decode b_Mo_saved 0 = .ok (.iconst 0, 1) := by decide +kernel
theorem d_Mo_saved_1 : decode b_Mo_saved 1 = .ok (.istore_n 3, 1) := by decide +kernel
theorem d_Mo_saved_2 : decode b_Mo_saved 2 = .ok (.iconst 0, 1) := by decide +kernel
theorem d_Mo_saved_3 : decode b_Mo_saved 3 = .ok (.istore 4, 2) := by decide +kernel
theorem d_Mo_saved_5 : decode b_Mo_saved 5 = .ok (.iload 4, 2) := by decide +kernel
theorem d_Mo_saved_7 : decode b_Mo_saved 7 = .ok (.iload_n 1, 1) := by decide +kernel
theorem d_Mo_saved_8 : decode b_Mo_saved 8 = .ok (.if_icmp .ge 20, 3) := by decide +kernel
theorem d_Mo_saved_11 : decode b_Mo_saved 11 = .ok (.iload_n 3, 1) := by decide +kernel
theorem d_Mo_saved_12 : decode b_Mo_saved 12 = .ok (.iload_n 0, 1) := by decide +kernel
theorem d_Mo_saved_13 : decode b_Mo_saved 13 = .ok (.iload 4, 2) := by decide +kernel
theorem d_Mo_saved_15 : decode b_Mo_saved 15 = .ok (.ishr, 1) := by decide +kernel
theorem d_Mo_saved_16 : decode b_Mo_saved 16 = .ok (.iconst 1, 1) := by decide +kernel
theorem d_Mo_saved_17 : decode b_Mo_saved 17 = .ok (.iand, 1) := by decide +kernel
theorem d_Mo_saved_18 : decode b_Mo_saved 18 = .ok (.iload_n 2, 1) := by decide +kernel
theorem d_Mo_saved_19 : decode b_Mo_saved 19 = .ok (.imul, 1) := by decide +kernel
theorem d_Mo_saved_20 : decode b_Mo_saved 20 = .ok (.iadd, 1) := by decide +kernel
theorem d_Mo_saved_21 : decode b_Mo_saved 21 = .ok (.istore_n 3, 1) := by decide +kernel
theorem d_Mo_saved_22 : decode b_Mo_saved 22 = .ok (.iinc 4 1, 3) := by decide +kernel
theorem d_Mo_saved_25 : decode b_Mo_saved 25 = .ok (.goto (-20), 3) := by decide +kernel
theorem d_Mo_saved_28 : decode b_Mo_saved 28 = .ok (.iload_n 3, 1) := by decide +kernel
theorem d_Mo_saved_29 : decode b_Mo_saved 29 = .ok (.ireturn, 1) := by decide +kernel
theorem d_Mo_fractionsAt_0 : decode b_Mo_fractionsAt 0 = .ok (.aload_n 0, 1) := by decide +kernel
theorem d_Mo_fractionsAt_1 : decode b_Mo_fractionsAt 1 = .ok (.getfield 76, 3) := by decide +kernel
theorem d_Mo_fractionsAt_4 : decode b_Mo_fractionsAt 4 = .ok (.aload_n 0, 1) := by decide +kernel
theorem d_Mo_fractionsAt_5 : decode b_Mo_fractionsAt 5 = .ok (.getfield 79, 3) := by decide +kernel
theorem d_Mo_fractionsAt_8 : decode b_Mo_fractionsAt 8 = .ok (.iadd, 1) := by decide +kernel
theorem d_Mo_fractionsAt_9 : decode b_Mo_fractionsAt 9 = .ok (.bipush 8, 2) := by decide +kernel
theorem d_Mo_fractionsAt_11 : decode b_Mo_fractionsAt 11 = .ok (.invokestatic 42, 3) := by decide +kernel
theorem d_Mo_fractionsAt_14 : decode b_Mo_fractionsAt 14 = .ok (.ireturn, 1) := by decide +kernel
theorem d_Mo_generalAt_0 : decode b_Mo_generalAt 0 = .ok (.aload_n 0, 1) := by decide +kernel
theorem d_Mo_generalAt_1 : decode b_Mo_generalAt 1 = .ok (.invokevirtual 82, 3) := by decide +kernel
theorem d_Mo_generalAt_4 : decode b_Mo_generalAt 4 = .ok (.aload_n 0, 1) := by decide +kernel
theorem d_Mo_generalAt_5 : decode b_Mo_generalAt 5 = .ok (.getfield 85, 3) := by decide +kernel
theorem d_Mo_generalAt_8 : decode b_Mo_generalAt 8 = .ok (.bipush 32, 2) := by decide +kernel
theorem d_Mo_generalAt_10 : decode b_Mo_generalAt 10 = .ok (.bipush 8, 2) := by decide +kernel
theorem d_Mo_generalAt_12 : decode b_Mo_generalAt 12 = .ok (.invokestatic 88, 3) := by decide +kernel
theorem d_Mo_generalAt_15 : decode b_Mo_generalAt 15 = .ok (.iadd, 1) := by decide +kernel
theorem d_Mo_generalAt_16 : decode b_Mo_generalAt 16 = .ok (.ireturn, 1) := by decide +kernel
theorem d_Mo_frame_0 : decode b_Mo_frame 0 = .ok (.aload_n 0, 1) := by decide +kernel
theorem d_Mo_frame_1 : decode b_Mo_frame 1 = .ok (.iconst 0, 1) := by decide +kernel
theorem d_Mo_frame_2 : decode b_Mo_frame 2 = .ok (.putfield 23, 3) := by decide +kernel
theorem d_Mo_frame_5 : decode b_Mo_frame 5 = .ok (.ldc 92, 2) := by decide +kernel
theorem d_Mo_frame_7 : decode b_Mo_frame 7 = .ok (.istore 4, 2) := by decide +kernel
theorem d_Mo_frame_9 : decode b_Mo_frame 9 = .ok (.ldc 93, 2) := by decide +kernel
theorem d_Mo_frame_11 : decode b_Mo_frame 11 = .ok (.istore 5, 2) := by decide +kernel
theorem d_Mo_frame_13 : decode b_Mo_frame 13 = .ok (.iload_n 1, 1) := by decide +kernel
theorem d_Mo_frame_14 : decode b_Mo_frame 14 = .ok (.ifCond .lt 27, 3) := by decide +kernel
theorem d_Mo_frame_17 : decode b_Mo_frame 17 = .ok (.iload_n 1, 1) := by decide +kernel
theorem d_Mo_frame_18 : decode b_Mo_frame 18 = .ok (.ldc 56, 2) := by decide +kernel
theorem d_Mo_frame_20 : decode b_Mo_frame 20 = .ok (.if_icmp .gt 21, 3) := by decide +kernel
theorem d_Mo_frame_23 : decode b_Mo_frame 23 = .ok (.iload_n 2, 1) := by decide +kernel
theorem d_Mo_frame_24 : decode b_Mo_frame 24 = .ok (.iload 4, 2) := by decide +kernel
theorem d_Mo_frame_26 : decode b_Mo_frame 26 = .ok (.iconst (-1), 1) := by decide +kernel
theorem d_Mo_frame_27 : decode b_Mo_frame 27 = .ok (.ixor, 1) := by decide +kernel
theorem d_Mo_frame_28 : decode b_Mo_frame 28 = .ok (.iand, 1) := by decide +kernel
theorem d_Mo_frame_29 : decode b_Mo_frame 29 = .ok (.ifCond .ne 12, 3) := by decide +kernel
theorem d_Mo_frame_32 : decode b_Mo_frame 32 = .ok (.iload_n 3, 1) := by decide +kernel
theorem d_Mo_frame_33 : decode b_Mo_frame 33 = .ok (.iload 5, 2) := by decide +kernel
theorem d_Mo_frame_35 : decode b_Mo_frame 35 = .ok (.iconst (-1), 1) := by decide +kernel
theorem d_Mo_frame_36 : decode b_Mo_frame 36 = .ok (.ixor, 1) := by decide +kernel
theorem d_Mo_frame_37 : decode b_Mo_frame 37 = .ok (.iand, 1) := by decide +kernel
theorem d_Mo_frame_38 : decode b_Mo_frame 38 = .ok (.ifCond .eq 9, 3) := by decide +kernel
theorem d_Mo_frame_41 : decode b_Mo_frame 41 = .ok (.aload_n 0, 1) := by decide +kernel
theorem d_Mo_frame_42 : decode b_Mo_frame 42 = .ok (.iconst 1, 1) := by decide +kernel
theorem d_Mo_frame_43 : decode b_Mo_frame 43 = .ok (.invokevirtual 50, 3) := by decide +kernel
theorem d_Mo_frame_46 : decode b_Mo_frame 46 = .ok (.ireturn, 1) := by decide +kernel
theorem d_Mo_frame_47 : decode b_Mo_frame 47 = .ok (.aload_n 0, 1) := by decide +kernel
theorem d_Mo_frame_48 : decode b_Mo_frame 48 = .ok (.aload_n 0, 1) := by decide +kernel
theorem d_Mo_frame_49 : decode b_Mo_frame 49 = .ok (.getfield 70, 3) := by decide +kernel
theorem d_Mo_frame_52 : decode b_Mo_frame 52 = .ok (.ifCond .le 10, 3) := by decide +kernel
theorem d_Mo_frame_55 : decode b_Mo_frame 55 = .ok (.aload_n 0, 1) := by decide +kernel
theorem d_Mo_frame_56 : decode b_Mo_frame 56 = .ok (.getfield 73, 3) := by decide +kernel
theorem d_Mo_frame_59 : decode b_Mo_frame 59 = .ok (.goto 4, 3) := by decide +kernel
theorem d_Mo_frame_62 : decode b_Mo_frame 62 = .ok (.iconst 0, 1) := by decide +kernel
theorem d_Mo_frame_63 : decode b_Mo_frame 63 = .ok (.putfield 76, 3) := by decide +kernel
theorem d_Mo_frame_66 : decode b_Mo_frame 66 = .ok (.aload_n 0, 1) := by decide +kernel
theorem d_Mo_frame_67 : decode b_Mo_frame 67 = .ok (.iload_n 1, 1) := by decide +kernel
theorem d_Mo_frame_68 : decode b_Mo_frame 68 = .ok (.putfield 79, 3) := by decide +kernel
theorem d_Mo_frame_71 : decode b_Mo_frame 71 = .ok (.aload_n 0, 1) := by decide +kernel
theorem d_Mo_frame_72 : decode b_Mo_frame 72 = .ok (.aload_n 0, 1) := by decide +kernel
theorem d_Mo_frame_73 : decode b_Mo_frame 73 = .ok (.getfield 70, 3) := by decide +kernel
theorem d_Mo_frame_76 : decode b_Mo_frame 76 = .ok (.ifCond .le 10, 3) := by decide +kernel
theorem d_Mo_frame_79 : decode b_Mo_frame 79 = .ok (.iload_n 2, 1) := by decide +kernel
theorem d_Mo_frame_80 : decode b_Mo_frame 80 = .ok (.ldc 94, 2) := by decide +kernel
theorem d_Mo_frame_82 : decode b_Mo_frame 82 = .ok (.ior, 1) := by decide +kernel
theorem d_Mo_frame_83 : decode b_Mo_frame 83 = .ok (.goto 4, 3) := by decide +kernel
theorem d_Mo_frame_86 : decode b_Mo_frame 86 = .ok (.iload_n 2, 1) := by decide +kernel
theorem d_Mo_frame_87 : decode b_Mo_frame 87 = .ok (.putfield 95, 3) := by decide +kernel
theorem d_Mo_frame_90 : decode b_Mo_frame 90 = .ok (.aload_n 0, 1) := by decide +kernel
theorem d_Mo_frame_91 : decode b_Mo_frame 91 = .ok (.iload_n 3, 1) := by decide +kernel
theorem d_Mo_frame_92 : decode b_Mo_frame 92 = .ok (.putfield 85, 3) := by decide +kernel
theorem d_Mo_frame_95 : decode b_Mo_frame 95 = .ok (.aload_n 0, 1) := by decide +kernel
theorem d_Mo_frame_96 : decode b_Mo_frame 96 = .ok (.invokevirtual 98, 3) := by decide +kernel
theorem d_Mo_frame_99 : decode b_Mo_frame 99 = .ok (.aload_n 0, 1) := by decide +kernel
theorem d_Mo_frame_100 : decode b_Mo_frame 100 = .ok (.getfield 95, 3) := by decide +kernel
theorem d_Mo_frame_103 : decode b_Mo_frame 103 = .ok (.bipush 32, 2) := by decide +kernel
theorem d_Mo_frame_105 : decode b_Mo_frame 105 = .ok (.iconst 4, 1) := by decide +kernel
theorem d_Mo_frame_106 : decode b_Mo_frame 106 = .ok (.invokestatic 88, 3) := by decide +kernel
theorem d_Mo_frame_109 : decode b_Mo_frame 109 = .ok (.iadd, 1) := by decide +kernel
theorem d_Mo_frame_110 : decode b_Mo_frame 110 = .ok (.bipush 8, 2) := by decide +kernel
theorem d_Mo_frame_112 : decode b_Mo_frame 112 = .ok (.invokestatic 42, 3) := by decide +kernel
theorem d_Mo_frame_115 : decode b_Mo_frame 115 = .ok (.ireturn, 1) := by decide +kernel
theorem d_Mo_place_0 : decode b_Mo_place 0 = .ok (.aload_n 0, 1) := by decide +kernel
theorem d_Mo_place_1 : decode b_Mo_place 1 = .ok (.iconst 0, 1) := by decide +kernel
theorem d_Mo_place_2 : decode b_Mo_place 2 = .ok (.putfield 23, 3) := by decide +kernel
theorem d_Mo_place_5 : decode b_Mo_place 5 = .ok (.iload_n 1, 1) := by decide +kernel
theorem d_Mo_place_6 : decode b_Mo_place 6 = .ok (.ifCond .lt 18, 3) := by decide +kernel
theorem d_Mo_place_9 : decode b_Mo_place 9 = .ok (.iload_n 1, 1) := by decide +kernel
theorem d_Mo_place_10 : decode b_Mo_place 10 = .ok (.iconst 2, 1) := by decide +kernel
theorem d_Mo_place_11 : decode b_Mo_place 11 = .ok (.if_icmp .gt 13, 3) := by decide +kernel
theorem d_Mo_place_14 : decode b_Mo_place 14 = .ok (.iload_n 2, 1) := by decide +kernel
theorem d_Mo_place_15 : decode b_Mo_place 15 = .ok (.ifCond .lt 9, 3) := by decide +kernel
theorem d_Mo_place_18 : decode b_Mo_place 18 = .ok (.iload_n 2, 1) := by decide +kernel
theorem d_Mo_place_19 : decode b_Mo_place 19 = .ok (.bipush 31, 2) := by decide +kernel
theorem d_Mo_place_21 : decode b_Mo_place 21 = .ok (.if_icmp .le 9, 3) := by decide +kernel
theorem d_Mo_place_24 : decode b_Mo_place 24 = .ok (.aload_n 0, 1) := by decide +kernel
theorem d_Mo_place_25 : decode b_Mo_place 25 = .ok (.iconst 1, 1) := by decide +kernel
theorem d_Mo_place_26 : decode b_Mo_place 26 = .ok (.invokevirtual 50, 3) := by decide +kernel
theorem d_Mo_place_29 : decode b_Mo_place 29 = .ok (.ireturn, 1) := by decide +kernel
theorem d_Mo_place_30 : decode b_Mo_place 30 = .ok (.iload_n 1, 1) := by decide +kernel
theorem d_Mo_place_31 : decode b_Mo_place 31 = .ok (.ifCond .ne 8, 3) := by decide +kernel
theorem d_Mo_place_34 : decode b_Mo_place 34 = .ok (.aload_n 0, 1) := by decide +kernel
theorem d_Mo_place_35 : decode b_Mo_place 35 = .ok (.getfield 76, 3) := by decide +kernel
theorem d_Mo_place_38 : decode b_Mo_place 38 = .ok (.ireturn, 1) := by decide +kernel
theorem d_Mo_place_39 : decode b_Mo_place 39 = .ok (.iload_n 1, 1) := by decide +kernel
theorem d_Mo_place_40 : decode b_Mo_place 40 = .ok (.iconst 1, 1) := by decide +kernel
theorem d_Mo_place_41 : decode b_Mo_place 41 = .ok (.if_icmp .ne 10, 3) := by decide +kernel
theorem d_Mo_place_44 : decode b_Mo_place 44 = .ok (.aload_n 0, 1) := by decide +kernel
theorem d_Mo_place_45 : decode b_Mo_place 45 = .ok (.getfield 95, 3) := by decide +kernel
theorem d_Mo_place_48 : decode b_Mo_place 48 = .ok (.goto 7, 3) := by decide +kernel
theorem d_Mo_place_51 : decode b_Mo_place 51 = .ok (.aload_n 0, 1) := by decide +kernel
theorem d_Mo_place_52 : decode b_Mo_place 52 = .ok (.getfield 85, 3) := by decide +kernel
theorem d_Mo_place_55 : decode b_Mo_place 55 = .ok (.istore_n 3, 1) := by decide +kernel
theorem d_Mo_place_56 : decode b_Mo_place 56 = .ok (.iload_n 3, 1) := by decide +kernel
theorem d_Mo_place_57 : decode b_Mo_place 57 = .ok (.iload_n 2, 1) := by decide +kernel
theorem d_Mo_place_58 : decode b_Mo_place 58 = .ok (.ishr, 1) := by decide +kernel
theorem d_Mo_place_59 : decode b_Mo_place 59 = .ok (.iconst 1, 1) := by decide +kernel
theorem d_Mo_place_60 : decode b_Mo_place 60 = .ok (.iand, 1) := by decide +kernel
theorem d_Mo_place_61 : decode b_Mo_place 61 = .ok (.ifCond .ne 5, 3) := by decide +kernel
theorem d_Mo_place_64 : decode b_Mo_place 64 = .ok (.iconst (-1), 1) := by decide +kernel
theorem d_Mo_place_65 : decode b_Mo_place 65 = .ok (.ireturn, 1) := by decide +kernel
theorem d_Mo_place_66 : decode b_Mo_place 66 = .ok (.iload_n 1, 1) := by decide +kernel
theorem d_Mo_place_67 : decode b_Mo_place 67 = .ok (.iconst 1, 1) := by decide +kernel
theorem d_Mo_place_68 : decode b_Mo_place 68 = .ok (.if_icmp .ne 17, 3) := by decide +kernel
theorem d_Mo_place_71 : decode b_Mo_place 71 = .ok (.aload_n 0, 1) := by decide +kernel
theorem d_Mo_place_72 : decode b_Mo_place 72 = .ok (.invokevirtual 98, 3) := by decide +kernel
theorem d_Mo_place_75 : decode b_Mo_place 75 = .ok (.iload_n 3, 1) := by decide +kernel
theorem d_Mo_place_76 : decode b_Mo_place 76 = .ok (.iload_n 2, 1) := by decide +kernel
theorem d_Mo_place_77 : decode b_Mo_place 77 = .ok (.iconst 4, 1) := by decide +kernel
theorem d_Mo_place_78 : decode b_Mo_place 78 = .ok (.invokestatic 88, 3) := by decide +kernel
theorem d_Mo_place_81 : decode b_Mo_place 81 = .ok (.iadd, 1) := by decide +kernel
theorem d_Mo_place_82 : decode b_Mo_place 82 = .ok (.goto 15, 3) := by decide +kernel
theorem d_Mo_place_85 : decode b_Mo_place 85 = .ok (.aload_n 0, 1) := by decide +kernel
theorem d_Mo_place_86 : decode b_Mo_place 86 = .ok (.invokevirtual 82, 3) := by decide +kernel
theorem d_Mo_place_89 : decode b_Mo_place 89 = .ok (.iload_n 3, 1) := by decide +kernel
theorem d_Mo_place_90 : decode b_Mo_place 90 = .ok (.iload_n 2, 1) := by decide +kernel
theorem d_Mo_place_91 : decode b_Mo_place 91 = .ok (.bipush 8, 2) := by decide +kernel
theorem d_Mo_place_93 : decode b_Mo_place 93 = .ok (.invokestatic 88, 3) := by decide +kernel
theorem d_Mo_place_96 : decode b_Mo_place 96 = .ok (.iadd, 1) := by decide +kernel
theorem d_Mo_place_97 : decode b_Mo_place 97 = .ok (.ireturn, 1) := by decide +kernel
theorem d_Mo_clear_0 : decode b_Mo_clear 0 = .ok (.aload_n 0, 1) := by decide +kernel
theorem d_Mo_clear_1 : decode b_Mo_clear 1 = .ok (.iconst 0, 1) := by decide +kernel
theorem d_Mo_clear_2 : decode b_Mo_clear 2 = .ok (.putfield 23, 3) := by decide +kernel
theorem d_Mo_clear_5 : decode b_Mo_clear 5 = .ok (.aload_n 0, 1) := by decide +kernel
theorem d_Mo_clear_6 : decode b_Mo_clear 6 = .ok (.getfield 70, 3) := by decide +kernel
theorem d_Mo_clear_9 : decode b_Mo_clear 9 = .ok (.istore_n 1, 1) := by decide +kernel
theorem d_Mo_clear_10 : decode b_Mo_clear 10 = .ok (.aload_n 0, 1) := by decide +kernel
theorem d_Mo_clear_11 : decode b_Mo_clear 11 = .ok (.iconst 0, 1) := by decide +kernel
theorem d_Mo_clear_12 : decode b_Mo_clear 12 = .ok (.putfield 70, 3) := by decide +kernel
theorem d_Mo_clear_15 : decode b_Mo_clear 15 = .ok (.aload_n 0, 1) := by decide +kernel
theorem d_Mo_clear_16 : decode b_Mo_clear 16 = .ok (.iconst 0, 1) := by decide +kernel
theorem d_Mo_clear_17 : decode b_Mo_clear 17 = .ok (.putfield 73, 3) := by decide +kernel
theorem d_Mo_clear_20 : decode b_Mo_clear 20 = .ok (.aload_n 0, 1) := by decide +kernel
theorem d_Mo_clear_21 : decode b_Mo_clear 21 = .ok (.iconst 0, 1) := by decide +kernel
theorem d_Mo_clear_22 : decode b_Mo_clear 22 = .ok (.putfield 76, 3) := by decide +kernel
theorem d_Mo_clear_25 : decode b_Mo_clear 25 = .ok (.aload_n 0, 1) := by decide +kernel
theorem d_Mo_clear_26 : decode b_Mo_clear 26 = .ok (.iconst 0, 1) := by decide +kernel
theorem d_Mo_clear_27 : decode b_Mo_clear 27 = .ok (.putfield 79, 3) := by decide +kernel
theorem d_Mo_clear_30 : decode b_Mo_clear 30 = .ok (.aload_n 0, 1) := by decide +kernel
theorem d_Mo_clear_31 : decode b_Mo_clear 31 = .ok (.iconst 0, 1) := by decide +kernel
theorem d_Mo_clear_32 : decode b_Mo_clear 32 = .ok (.putfield 95, 3) := by decide +kernel
theorem d_Mo_clear_35 : decode b_Mo_clear 35 = .ok (.aload_n 0, 1) := by decide +kernel
theorem d_Mo_clear_36 : decode b_Mo_clear 36 = .ok (.iconst 0, 1) := by decide +kernel
theorem d_Mo_clear_37 : decode b_Mo_clear 37 = .ok (.putfield 85, 3) := by decide +kernel
theorem d_Mo_clear_40 : decode b_Mo_clear 40 = .ok (.iload_n 1, 1) := by decide +kernel
theorem d_Mo_clear_41 : decode b_Mo_clear 41 = .ok (.ireturn, 1) := by decide +kernel
end
section
/-! DECODE ROWS (printed by gen/names.py) -/
theorem d_Cf_init_0 : decode b_Cf_init 0 = .ok (.aload_n 0, 1) := by decide +kernel
theorem d_Cf_init_1 : decode b_Cf_init 1 = .ok (.invokespecial 1, 3) := by decide +kernel
theorem d_Cf_init_4 : decode b_Cf_init 4 = .ok (.aload_n 0, 1) := by decide +kernel
theorem d_Cf_init_5 : decode b_Cf_init 5 = .ok (.new 7, 3) := by decide +kernel
theorem d_Cf_init_8 : decode b_Cf_init 8 = .ok (.dup, 1) := by decide +kernel
theorem d_Cf_init_9 : decode b_Cf_init 9 = .ok (.invokespecial 9, 3) := by decide +kernel
theorem d_Cf_init_12 : decode b_Cf_init 12 = .ok (.putfield 10, 3) := by decide +kernel
theorem d_Cf_init_15 : decode b_Cf_init 15 = .ok (.aload_n 0, 1) := by decide +kernel
theorem d_Cf_init_16 : decode b_Cf_init 16 = .ok (.bipush 60, 2) := by decide +kernel
theorem d_Cf_init_18 : decode b_Cf_init 18 = .ok (.anewarray 7, 3) := by decide +kernel
theorem d_Cf_init_21 : decode b_Cf_init 21 = .ok (.putfield 16, 3) := by decide +kernel
theorem d_Cf_init_24 : decode b_Cf_init 24 = .ok (.aload_n 0, 1) := by decide +kernel
theorem d_Cf_init_25 : decode b_Cf_init 25 = .ok (.iconst 4, 1) := by decide +kernel
theorem d_Cf_init_26 : decode b_Cf_init 26 = .ok (.putfield 20, 3) := by decide +kernel
theorem d_Cf_init_29 : decode b_Cf_init 29 = .ok (.aload_n 0, 1) := by decide +kernel
theorem d_Cf_init_30 : decode b_Cf_init 30 = .ok (.bipush 32, 2) := by decide +kernel
theorem d_Cf_init_32 : decode b_Cf_init 32 = .ok (.newarray .int, 2) := by decide +kernel
theorem d_Cf_init_34 : decode b_Cf_init 34 = .ok (.putfield 24, 3) := by decide +kernel
theorem d_Cf_init_37 : decode b_Cf_init 37 = .ok (.aload_n 0, 1) := by decide +kernel
theorem d_Cf_init_38 : decode b_Cf_init 38 = .ok (.bipush 32, 2) := by decide +kernel
theorem d_Cf_init_40 : decode b_Cf_init 40 = .ok (.newarray .int, 2) := by decide +kernel
theorem d_Cf_init_42 : decode b_Cf_init 42 = .ok (.putfield 28, 3) := by decide +kernel
theorem d_Cf_init_45 : decode b_Cf_init 45 = .ok (.iconst 0, 1) := by decide +kernel
theorem d_Cf_init_46 : decode b_Cf_init 46 = .ok (.istore_n 1, 1) := by decide +kernel
theorem d_Cf_init_47 : decode b_Cf_init 47 = .ok (.iload_n 1, 1) := by decide +kernel
theorem d_Cf_init_48 : decode b_Cf_init 48 = .ok (.bipush 60, 2) := by decide +kernel
theorem d_Cf_init_50 : decode b_Cf_init 50 = .ok (.if_icmp .ge 22, 3) := by decide +kernel
theorem d_Cf_init_53 : decode b_Cf_init 53 = .ok (.aload_n 0, 1) := by decide +kernel
theorem d_Cf_init_54 : decode b_Cf_init 54 = .ok (.getfield 16, 3) := by decide +kernel
theorem d_Cf_init_57 : decode b_Cf_init 57 = .ok (.iload_n 1, 1) := by decide +kernel
theorem d_Cf_init_58 : decode b_Cf_init 58 = .ok (.new 7, 3) := by decide +kernel
theorem d_Cf_init_61 : decode b_Cf_init 61 = .ok (.dup, 1) := by decide +kernel
theorem d_Cf_init_62 : decode b_Cf_init 62 = .ok (.invokespecial 9, 3) := by decide +kernel
theorem d_Cf_init_65 : decode b_Cf_init 65 = .ok (.aastore, 1) := by decide +kernel
theorem d_Cf_init_66 : decode b_Cf_init 66 = .ok (.iinc 1 1, 3) := by decide +kernel
theorem d_Cf_init_69 : decode b_Cf_init 69 = .ok (.goto (-22), 3) := by decide +kernel
theorem d_Cf_init_72 : decode b_Cf_init 72 = .ok (.aload_n 0, 1) := by decide +kernel
theorem d_Cf_init_73 : decode b_Cf_init 73 = .ok (.getfield 10, 3) := by decide +kernel
theorem d_Cf_init_76 : decode b_Cf_init 76 = .ok (.iconst 0, 1) := by decide +kernel
theorem d_Cf_init_77 : decode b_Cf_init 77 = .ok (.iconst 0, 1) := by decide +kernel
theorem d_Cf_init_78 : decode b_Cf_init 78 = .ok (.iconst 4, 1) := by decide +kernel
theorem d_Cf_init_79 : decode b_Cf_init 79 = .ok (.invokevirtual 31, 3) := by decide +kernel
theorem d_Cf_init_82 : decode b_Cf_init 82 = .ok (.aload_n 0, 1) := by decide +kernel
theorem d_Cf_init_83 : decode b_Cf_init 83 = .ok (.invokevirtual 35, 3) := by decide +kernel
theorem d_Cf_init_86 : decode b_Cf_init 86 = .ok (.return_, 1) := by decide +kernel
theorem d_Cf_empty_0 : decode b_Cf_empty 0 = .ok (.aload_n 0, 1) := by decide +kernel
theorem d_Cf_empty_1 : decode b_Cf_empty 1 = .ok (.iconst 0, 1) := by decide +kernel
theorem d_Cf_empty_2 : decode b_Cf_empty 2 = .ok (.putfield 38, 3) := by decide +kernel
theorem d_Cf_empty_5 : decode b_Cf_empty 5 = .ok (.iconst 0, 1) := by decide +kernel
theorem d_Cf_empty_6 : decode b_Cf_empty 6 = .ok (.istore_n 1, 1) := by decide +kernel
theorem d_Cf_empty_7 : decode b_Cf_empty 7 = .ok (.iload_n 1, 1) := by decide +kernel
theorem d_Cf_empty_8 : decode b_Cf_empty 8 = .ok (.bipush 32, 2) := by decide +kernel
theorem d_Cf_empty_10 : decode b_Cf_empty 10 = .ok (.if_icmp .ge 23, 3) := by decide +kernel
theorem d_Cf_empty_13 : decode b_Cf_empty 13 = .ok (.aload_n 0, 1) := by decide +kernel
theorem d_Cf_empty_14 : decode b_Cf_empty 14 = .ok (.getfield 24, 3) := by decide +kernel
theorem d_Cf_empty_17 : decode b_Cf_empty 17 = .ok (.iload_n 1, 1) := by decide +kernel
theorem d_Cf_empty_18 : decode b_Cf_empty 18 = .ok (.iconst (-1), 1) := by decide +kernel
theorem d_Cf_empty_19 : decode b_Cf_empty 19 = .ok (.iastore, 1) := by decide +kernel
theorem d_Cf_empty_20 : decode b_Cf_empty 20 = .ok (.aload_n 0, 1) := by decide +kernel
theorem d_Cf_empty_21 : decode b_Cf_empty 21 = .ok (.getfield 28, 3) := by decide +kernel
theorem d_Cf_empty_24 : decode b_Cf_empty 24 = .ok (.iload_n 1, 1) := by decide +kernel
theorem d_Cf_empty_25 : decode b_Cf_empty 25 = .ok (.iconst (-1), 1) := by decide +kernel
theorem d_Cf_empty_26 : decode b_Cf_empty 26 = .ok (.iastore, 1) := by decide +kernel
theorem d_Cf_empty_27 : decode b_Cf_empty 27 = .ok (.iinc 1 1, 3) := by decide +kernel
theorem d_Cf_empty_30 : decode b_Cf_empty 30 = .ok (.goto (-23), 3) := by decide +kernel
theorem d_Cf_empty_33 : decode b_Cf_empty 33 = .ok (.return_, 1) := by decide +kernel
theorem d_Cf_up_0 : decode b_Cf_up 0 = .ok (.iload_n 0, 1) := by decide +kernel
theorem d_Cf_up_1 : decode b_Cf_up 1 = .ok (.iload_n 1, 1) := by decide +kernel
theorem d_Cf_up_2 : decode b_Cf_up 2 = .ok (.iadd, 1) := by decide +kernel
theorem d_Cf_up_3 : decode b_Cf_up 3 = .ok (.iconst 1, 1) := by decide +kernel
theorem d_Cf_up_4 : decode b_Cf_up 4 = .ok (.isub, 1) := by decide +kernel
theorem d_Cf_up_5 : decode b_Cf_up 5 = .ok (.iload_n 1, 1) := by decide +kernel
theorem d_Cf_up_6 : decode b_Cf_up 6 = .ok (.ineg, 1) := by decide +kernel
theorem d_Cf_up_7 : decode b_Cf_up 7 = .ok (.iand, 1) := by decide +kernel
theorem d_Cf_up_8 : decode b_Cf_up 8 = .ok (.ireturn, 1) := by decide +kernel
theorem d_Cf_canBe_0 : decode b_Cf_canBe 0 = .ok (.iload_n 1, 1) := by decide +kernel
theorem d_Cf_canBe_1 : decode b_Cf_canBe 1 = .ok (.ifCond .le 37, 3) := by decide +kernel
theorem d_Cf_canBe_4 : decode b_Cf_canBe 4 = .ok (.iload_n 1, 1) := by decide +kernel
theorem d_Cf_canBe_5 : decode b_Cf_canBe 5 = .ok (.bipush 8, 2) := by decide +kernel
theorem d_Cf_canBe_7 : decode b_Cf_canBe 7 = .ok (.if_icmp .gt 31, 3) := by decide +kernel
theorem d_Cf_canBe_10 : decode b_Cf_canBe 10 = .ok (.iload_n 1, 1) := by decide +kernel
theorem d_Cf_canBe_11 : decode b_Cf_canBe 11 = .ok (.iload_n 1, 1) := by decide +kernel
theorem d_Cf_canBe_12 : decode b_Cf_canBe 12 = .ok (.iconst 1, 1) := by decide +kernel
theorem d_Cf_canBe_13 : decode b_Cf_canBe 13 = .ok (.isub, 1) := by decide +kernel
theorem d_Cf_canBe_14 : decode b_Cf_canBe 14 = .ok (.iand, 1) := by decide +kernel
theorem d_Cf_canBe_15 : decode b_Cf_canBe 15 = .ok (.ifCond .ne 23, 3) := by decide +kernel
theorem d_Cf_canBe_18 : decode b_Cf_canBe 18 = .ok (.iload_n 0, 1) := by decide +kernel
theorem d_Cf_canBe_19 : decode b_Cf_canBe 19 = .ok (.ifCond .le 19, 3) := by decide +kernel
theorem d_Cf_canBe_22 : decode b_Cf_canBe 22 = .ok (.iload_n 0, 1) := by decide +kernel
theorem d_Cf_canBe_23 : decode b_Cf_canBe 23 = .ok (.ldc 41, 2) := by decide +kernel
theorem d_Cf_canBe_25 : decode b_Cf_canBe 25 = .ok (.if_icmp .gt 13, 3) := by decide +kernel
theorem d_Cf_canBe_28 : decode b_Cf_canBe 28 = .ok (.iload_n 0, 1) := by decide +kernel
theorem d_Cf_canBe_29 : decode b_Cf_canBe 29 = .ok (.iload_n 1, 1) := by decide +kernel
theorem d_Cf_canBe_30 : decode b_Cf_canBe 30 = .ok (.irem, 1) := by decide +kernel
theorem d_Cf_canBe_31 : decode b_Cf_canBe 31 = .ok (.ifCond .ne 7, 3) := by decide +kernel
theorem d_Cf_canBe_34 : decode b_Cf_canBe 34 = .ok (.iconst 1, 1) := by decide +kernel
theorem d_Cf_canBe_35 : decode b_Cf_canBe 35 = .ok (.goto 4, 3) := by decide +kernel
theorem d_Cf_canBe_38 : decode b_Cf_canBe 38 = .ok (.iconst 0, 1) := by decide +kernel
theorem d_Cf_canBe_39 : decode b_Cf_canBe 39 = .ok (.ireturn, 1) := by decide +kernel
theorem d_Cf_begin_0 : decode b_Cf_begin 0 = .ok (.iload_n 1, 1) := by decide +kernel
theorem d_Cf_begin_1 : decode b_Cf_begin 1 = .ok (.ifCond .lt 21, 3) := by decide +kernel
theorem d_Cf_begin_4 : decode b_Cf_begin 4 = .ok (.iload_n 1, 1) := by decide +kernel
theorem d_Cf_begin_5 : decode b_Cf_begin 5 = .ok (.iconst 4, 1) := by decide +kernel
theorem d_Cf_begin_6 : decode b_Cf_begin 6 = .ok (.if_icmp .gt 16, 3) := by decide +kernel
theorem d_Cf_begin_9 : decode b_Cf_begin 9 = .ok (.iload_n 1, 1) := by decide +kernel
theorem d_Cf_begin_10 : decode b_Cf_begin 10 = .ok (.iconst 3, 1) := by decide +kernel
theorem d_Cf_begin_11 : decode b_Cf_begin 11 = .ok (.if_icmp .ne 19, 3) := by decide +kernel
theorem d_Cf_begin_14 : decode b_Cf_begin 14 = .ok (.iload_n 2, 1) := by decide +kernel
theorem d_Cf_begin_15 : decode b_Cf_begin 15 = .ok (.iload_n 3, 1) := by decide +kernel
theorem d_Cf_begin_16 : decode b_Cf_begin 16 = .ok (.invokestatic 42, 3) := by decide +kernel
theorem d_Cf_begin_19 : decode b_Cf_begin 19 = .ok (.ifCond .ne 11, 3) := by decide +kernel
theorem d_Cf_begin_22 : decode b_Cf_begin 22 = .ok (.new 46, 3) := by decide +kernel
theorem d_Cf_begin_25 : decode b_Cf_begin 25 = .ok (.dup, 1) := by decide +kernel
theorem d_Cf_begin_26 : decode b_Cf_begin 26 = .ok (.invokespecial 48, 3) := by decide +kernel
theorem d_Cf_begin_29 : decode b_Cf_begin 29 = .ok (.athrow, 1) := by decide +kernel
theorem d_Cf_begin_30 : decode b_Cf_begin 30 = .ok (.aload_n 0, 1) := by decide +kernel
theorem d_Cf_begin_31 : decode b_Cf_begin 31 = .ok (.iload_n 1, 1) := by decide +kernel
theorem d_Cf_begin_32 : decode b_Cf_begin 32 = .ok (.putfield 20, 3) := by decide +kernel
theorem d_Cf_begin_35 : decode b_Cf_begin 35 = .ok (.aload_n 0, 1) := by decide +kernel
theorem d_Cf_begin_36 : decode b_Cf_begin 36 = .ok (.iload 4, 2) := by decide +kernel
theorem d_Cf_begin_38 : decode b_Cf_begin 38 = .ok (.putfield 49, 3) := by decide +kernel
theorem d_Cf_begin_41 : decode b_Cf_begin 41 = .ok (.aload_n 0, 1) := by decide +kernel
theorem d_Cf_begin_42 : decode b_Cf_begin 42 = .ok (.iconst 0, 1) := by decide +kernel
theorem d_Cf_begin_43 : decode b_Cf_begin 43 = .ok (.putfield 53, 3) := by decide +kernel
theorem d_Cf_begin_46 : decode b_Cf_begin 46 = .ok (.return_, 1) := by decide +kernel
theorem d_Cf_isReal_0 : decode b_Cf_isReal 0 = .ok (.aload_n 0, 1) := by decide +kernel
theorem d_Cf_isReal_1 : decode b_Cf_isReal 1 = .ok (.getfield 16, 3) := by decide +kernel
theorem d_Cf_isReal_4 : decode b_Cf_isReal 4 = .ok (.iload_n 1, 1) := by decide +kernel
theorem d_Cf_isReal_5 : decode b_Cf_isReal 5 = .ok (.aaload, 1) := by decide +kernel
theorem d_Cf_isReal_6 : decode b_Cf_isReal 6 = .ok (.getfield 56, 3) := by decide +kernel
theorem d_Cf_isReal_9 : decode b_Cf_isReal 9 = .ok (.iconst 1, 1) := by decide +kernel
theorem d_Cf_isReal_10 : decode b_Cf_isReal 10 = .ok (.if_icmp .eq 16, 3) := by decide +kernel
theorem d_Cf_isReal_13 : decode b_Cf_isReal 13 = .ok (.aload_n 0, 1) := by decide +kernel
theorem d_Cf_isReal_14 : decode b_Cf_isReal 14 = .ok (.getfield 16, 3) := by decide +kernel
theorem d_Cf_isReal_17 : decode b_Cf_isReal 17 = .ok (.iload_n 1, 1) := by decide +kernel
theorem d_Cf_isReal_18 : decode b_Cf_isReal 18 = .ok (.aaload, 1) := by decide +kernel
theorem d_Cf_isReal_19 : decode b_Cf_isReal 19 = .ok (.getfield 56, 3) := by decide +kernel
theorem d_Cf_isReal_22 : decode b_Cf_isReal 22 = .ok (.iconst 2, 1) := by decide +kernel
theorem d_Cf_isReal_23 : decode b_Cf_isReal 23 = .ok (.if_icmp .ne 7, 3) := by decide +kernel
theorem d_Cf_isReal_26 : decode b_Cf_isReal 26 = .ok (.iconst 1, 1) := by decide +kernel
theorem d_Cf_isReal_27 : decode b_Cf_isReal 27 = .ok (.goto 4, 3) := by decide +kernel
theorem d_Cf_isReal_30 : decode b_Cf_isReal 30 = .ok (.iconst 0, 1) := by decide +kernel
theorem d_Cf_isReal_31 : decode b_Cf_isReal 31 = .ok (.ireturn, 1) := by decide +kernel
theorem d_Cf_end_0 : decode b_Cf_end 0 = .ok (.aload_n 0, 1) := by decide +kernel
theorem d_Cf_end_1 : decode b_Cf_end 1 = .ok (.getfield 53, 3) := by decide +kernel
theorem d_Cf_end_4 : decode b_Cf_end 4 = .ok (.ifCond .le 20, 3) := by decide +kernel
theorem d_Cf_end_7 : decode b_Cf_end 7 = .ok (.aload_n 0, 1) := by decide +kernel
theorem d_Cf_end_8 : decode b_Cf_end 8 = .ok (.getfield 16, 3) := by decide +kernel
theorem d_Cf_end_11 : decode b_Cf_end 11 = .ok (.aload_n 0, 1) := by decide +kernel
theorem d_Cf_end_12 : decode b_Cf_end 12 = .ok (.getfield 53, 3) := by decide +kernel
theorem d_Cf_end_15 : decode b_Cf_end 15 = .ok (.iconst 1, 1) := by decide +kernel
theorem d_Cf_end_16 : decode b_Cf_end 16 = .ok (.isub, 1) := by decide +kernel
theorem d_Cf_end_17 : decode b_Cf_end 17 = .ok (.aaload, 1) := by decide +kernel
theorem d_Cf_end_18 : decode b_Cf_end 18 = .ok (.invokevirtual 59, 3) := by decide +kernel
theorem d_Cf_end_21 : decode b_Cf_end 21 = .ok (.goto 16, 3) := by decide +kernel
theorem d_Cf_end_24 : decode b_Cf_end 24 = .ok (.aload_n 0, 1) := by decide +kernel
theorem d_Cf_end_25 : decode b_Cf_end 25 = .ok (.getfield 20, 3) := by decide +kernel
theorem d_Cf_end_28 : decode b_Cf_end 28 = .ok (.iconst 3, 1) := by decide +kernel
theorem d_Cf_end_29 : decode b_Cf_end 29 = .ok (.if_icmp .ne 7, 3) := by decide +kernel
theorem d_Cf_end_32 : decode b_Cf_end 32 = .ok (.iconst 4, 1) := by decide +kernel
theorem d_Cf_end_33 : decode b_Cf_end 33 = .ok (.goto 4, 3) := by decide +kernel
theorem d_Cf_end_36 : decode b_Cf_end 36 = .ok (.iconst 0, 1) := by decide +kernel
theorem d_Cf_end_37 : decode b_Cf_end 37 = .ok (.ireturn, 1) := by decide +kernel
theorem d_Cf_add_0 : decode b_Cf_add 0 = .ok (.iload_n 1, 1) := by decide +kernel
theorem d_Cf_add_1 : decode b_Cf_add 1 = .ok (.ifCond .lt 21, 3) := by decide +kernel
theorem d_Cf_add_4 : decode b_Cf_add 4 = .ok (.iload_n 1, 1) := by decide +kernel
theorem d_Cf_add_5 : decode b_Cf_add 5 = .ok (.iconst 3, 1) := by decide +kernel
theorem d_Cf_add_6 : decode b_Cf_add 6 = .ok (.if_icmp .gt 16, 3) := by decide +kernel
theorem d_Cf_add_9 : decode b_Cf_add 9 = .ok (.iload_n 1, 1) := by decide +kernel
theorem d_Cf_add_10 : decode b_Cf_add 10 = .ok (.iconst 3, 1) := by decide +kernel
theorem d_Cf_add_11 : decode b_Cf_add 11 = .ok (.if_icmp .ne 19, 3) := by decide +kernel
theorem d_Cf_add_14 : decode b_Cf_add 14 = .ok (.iload_n 2, 1) := by decide +kernel
theorem d_Cf_add_15 : decode b_Cf_add 15 = .ok (.iload_n 3, 1) := by decide +kernel
theorem d_Cf_add_16 : decode b_Cf_add 16 = .ok (.invokestatic 42, 3) := by decide +kernel
theorem d_Cf_add_19 : decode b_Cf_add 19 = .ok (.ifCond .ne 11, 3) := by decide +kernel
theorem d_Cf_add_22 : decode b_Cf_add 22 = .ok (.new 46, 3) := by decide +kernel
theorem d_Cf_add_25 : decode b_Cf_add 25 = .ok (.dup, 1) := by decide +kernel
theorem d_Cf_add_26 : decode b_Cf_add 26 = .ok (.invokespecial 48, 3) := by decide +kernel
theorem d_Cf_add_29 : decode b_Cf_add 29 = .ok (.athrow, 1) := by decide +kernel
theorem d_Cf_add_30 : decode b_Cf_add 30 = .ok (.aload_n 0, 1) := by decide +kernel
theorem d_Cf_add_31 : decode b_Cf_add 31 = .ok (.invokevirtual 63, 3) := by decide +kernel
theorem d_Cf_add_34 : decode b_Cf_add 34 = .ok (.iload_n 1, 1) := by decide +kernel
theorem d_Cf_add_35 : decode b_Cf_add 35 = .ok (.iconst 2, 1) := by decide +kernel
theorem d_Cf_add_36 : decode b_Cf_add 36 = .ok (.if_icmp .eq 14, 3) := by decide +kernel
theorem d_Cf_add_39 : decode b_Cf_add 39 = .ok (.iload_n 1, 1) := by decide +kernel
theorem d_Cf_add_40 : decode b_Cf_add 40 = .ok (.iconst 3, 1) := by decide +kernel
theorem d_Cf_add_41 : decode b_Cf_add 41 = .ok (.if_icmp .ne 14, 3) := by decide +kernel
theorem d_Cf_add_44 : decode b_Cf_add 44 = .ok (.iload_n 3, 1) := by decide +kernel
theorem d_Cf_add_45 : decode b_Cf_add 45 = .ok (.bipush 8, 2) := by decide +kernel
theorem d_Cf_add_47 : decode b_Cf_add 47 = .ok (.if_icmp .ne 8, 3) := by decide +kernel
theorem d_Cf_add_50 : decode b_Cf_add 50 = .ok (.bipush 8, 2) := by decide +kernel
theorem d_Cf_add_52 : decode b_Cf_add 52 = .ok (.goto 4, 3) := by decide +kernel
theorem d_Cf_add_55 : decode b_Cf_add 55 = .ok (.iconst 4, 1) := by decide +kernel
theorem d_Cf_add_56 : decode b_Cf_add 56 = .ok (.invokestatic 64, 3) := by decide +kernel
theorem d_Cf_add_59 : decode b_Cf_add 59 = .ok (.istore 4, 2) := by decide +kernel
theorem d_Cf_add_61 : decode b_Cf_add 61 = .ok (.iload_n 1, 1) := by decide +kernel
theorem d_Cf_add_62 : decode b_Cf_add 62 = .ok (.iconst 3, 1) := by decide +kernel
theorem d_Cf_add_63 : decode b_Cf_add 63 = .ok (.if_icmp .ne 7, 3) := by decide +kernel
theorem d_Cf_add_66 : decode b_Cf_add 66 = .ok (.iload_n 2, 1) := by decide +kernel
theorem d_Cf_add_67 : decode b_Cf_add 67 = .ok (.goto 14, 3) := by decide +kernel
theorem d_Cf_add_70 : decode b_Cf_add 70 = .ok (.iload_n 1, 1) := by decide +kernel
theorem d_Cf_add_71 : decode b_Cf_add 71 = .ok (.iconst 2, 1) := by decide +kernel
theorem d_Cf_add_72 : decode b_Cf_add 72 = .ok (.if_icmp .ne 8, 3) := by decide +kernel
theorem d_Cf_add_75 : decode b_Cf_add 75 = .ok (.bipush 8, 2) := by decide +kernel
theorem d_Cf_add_77 : decode b_Cf_add 77 = .ok (.goto 4, 3) := by decide +kernel
theorem d_Cf_add_80 : decode b_Cf_add 80 = .ok (.iconst 4, 1) := by decide +kernel
theorem d_Cf_add_81 : decode b_Cf_add 81 = .ok (.istore 5, 2) := by decide +kernel
theorem d_Cf_add_83 : decode b_Cf_add 83 = .ok (.aload_n 0, 1) := by decide +kernel
theorem d_Cf_add_84 : decode b_Cf_add 84 = .ok (.getfield 53, 3) := by decide +kernel
theorem d_Cf_add_87 : decode b_Cf_add 87 = .ok (.bipush 60, 2) := by decide +kernel
theorem d_Cf_add_89 : decode b_Cf_add 89 = .ok (.if_icmp .eq 17, 3) := by decide +kernel
theorem d_Cf_add_92 : decode b_Cf_add 92 = .ok (.iload 4, 2) := by decide +kernel
theorem d_Cf_add_94 : decode b_Cf_add 94 = .ok (.iload 5, 2) := by decide +kernel
theorem d_Cf_add_96 : decode b_Cf_add 96 = .ok (.iadd, 1) := by decide +kernel
theorem d_Cf_add_97 : decode b_Cf_add 97 = .ok (.iconst 4, 1) := by decide +kernel
theorem d_Cf_add_98 : decode b_Cf_add 98 = .ok (.invokestatic 64, 3) := by decide +kernel
theorem d_Cf_add_101 : decode b_Cf_add 101 = .ok (.ldc 68, 2) := by decide +kernel
theorem d_Cf_add_103 : decode b_Cf_add 103 = .ok (.if_icmp .le 11, 3) := by decide +kernel
theorem d_Cf_add_106 : decode b_Cf_add 106 = .ok (.new 69, 3) := by decide +kernel
theorem d_Cf_add_109 : decode b_Cf_add 109 = .ok (.dup, 1) := by decide +kernel
theorem d_Cf_add_110 : decode b_Cf_add 110 = .ok (.invokespecial 71, 3) := by decide +kernel
theorem d_Cf_add_113 : decode b_Cf_add 113 = .ok (.athrow, 1) := by decide +kernel
theorem d_Cf_add_114 : decode b_Cf_add 114 = .ok (.aload_n 0, 1) := by decide +kernel
theorem d_Cf_add_115 : decode b_Cf_add 115 = .ok (.getfield 16, 3) := by decide +kernel
theorem d_Cf_add_118 : decode b_Cf_add 118 = .ok (.aload_n 0, 1) := by decide +kernel
theorem d_Cf_add_119 : decode b_Cf_add 119 = .ok (.getfield 53, 3) := by decide +kernel
theorem d_Cf_add_122 : decode b_Cf_add 122 = .ok (.aaload, 1) := by decide +kernel
theorem d_Cf_add_123 : decode b_Cf_add 123 = .ok (.astore 6, 2) := by decide +kernel
theorem d_Cf_add_125 : decode b_Cf_add 125 = .ok (.aload 6, 2) := by decide +kernel
theorem d_Cf_add_127 : decode b_Cf_add 127 = .ok (.iload_n 1, 1) := by decide +kernel
theorem d_Cf_add_128 : decode b_Cf_add 128 = .ok (.iload 4, 2) := by decide +kernel
theorem d_Cf_add_130 : decode b_Cf_add 130 = .ok (.iload 5, 2) := by decide +kernel
theorem d_Cf_add_132 : decode b_Cf_add 132 = .ok (.invokevirtual 31, 3) := by decide +kernel
theorem d_Cf_add_135 : decode b_Cf_add 135 = .ok (.aload_n 0, 1) := by decide +kernel
theorem d_Cf_add_136 : decode b_Cf_add 136 = .ok (.getfield 53, 3) := by decide +kernel
theorem d_Cf_add_139 : decode b_Cf_add 139 = .ok (.iconst 2, 1) := by decide +kernel
theorem d_Cf_add_140 : decode b_Cf_add 140 = .ok (.if_icmp .ge 64, 3) := by decide +kernel
theorem d_Cf_add_143 : decode b_Cf_add 143 = .ok (.aload_n 0, 1) := by decide +kernel
theorem d_Cf_add_144 : decode b_Cf_add 144 = .ok (.getfield 49, 3) := by decide +kernel
theorem d_Cf_add_147 : decode b_Cf_add 147 = .ok (.ifCond .ne 57, 3) := by decide +kernel
theorem d_Cf_add_150 : decode b_Cf_add 150 = .ok (.aload_n 0, 1) := by decide +kernel
theorem d_Cf_add_151 : decode b_Cf_add 151 = .ok (.getfield 20, 3) := by decide +kernel
theorem d_Cf_add_154 : decode b_Cf_add 154 = .ok (.iconst 3, 1) := by decide +kernel
theorem d_Cf_add_155 : decode b_Cf_add 155 = .ok (.if_icmp .eq 49, 3) := by decide +kernel
theorem d_Cf_add_158 : decode b_Cf_add 158 = .ok (.aload_n 0, 1) := by decide +kernel
theorem d_Cf_add_159 : decode b_Cf_add 159 = .ok (.aload_n 0, 1) := by decide +kernel
theorem d_Cf_add_160 : decode b_Cf_add 160 = .ok (.getfield 53, 3) := by decide +kernel
theorem d_Cf_add_163 : decode b_Cf_add 163 = .ok (.invokevirtual 72, 3) := by decide +kernel
theorem d_Cf_add_166 : decode b_Cf_add 166 = .ok (.ifCond .eq 38, 3) := by decide +kernel
theorem d_Cf_add_169 : decode b_Cf_add 169 = .ok (.aload_n 0, 1) := by decide +kernel
theorem d_Cf_add_170 : decode b_Cf_add 170 = .ok (.getfield 53, 3) := by decide +kernel
theorem d_Cf_add_173 : decode b_Cf_add 173 = .ok (.ifCond .eq 11, 3) := by decide +kernel
theorem d_Cf_add_176 : decode b_Cf_add 176 = .ok (.aload_n 0, 1) := by decide +kernel
theorem d_Cf_add_177 : decode b_Cf_add 177 = .ok (.iconst 0, 1) := by decide +kernel
theorem d_Cf_add_178 : decode b_Cf_add 178 = .ok (.invokevirtual 72, 3) := by decide +kernel
theorem d_Cf_add_181 : decode b_Cf_add 181 = .ok (.ifCond .eq 23, 3) := by decide +kernel
theorem d_Cf_add_184 : decode b_Cf_add 184 = .ok (.aload 6, 2) := by decide +kernel
theorem d_Cf_add_186 : decode b_Cf_add 186 = .ok (.iconst 1, 1) := by decide +kernel
theorem d_Cf_add_187 : decode b_Cf_add 187 = .ok (.putfield 76, 3) := by decide +kernel
theorem d_Cf_add_190 : decode b_Cf_add 190 = .ok (.aload 6, 2) := by decide +kernel
theorem d_Cf_add_192 : decode b_Cf_add 192 = .ok (.bipush 12, 2) := by decide +kernel
theorem d_Cf_add_194 : decode b_Cf_add 194 = .ok (.iconst 2, 1) := by decide +kernel
theorem d_Cf_add_195 : decode b_Cf_add 195 = .ok (.aload_n 0, 1) := by decide +kernel
theorem d_Cf_add_196 : decode b_Cf_add 196 = .ok (.getfield 53, 3) := by decide +kernel
theorem d_Cf_add_199 : decode b_Cf_add 199 = .ok (.imul, 1) := by decide +kernel
theorem d_Cf_add_200 : decode b_Cf_add 200 = .ok (.iadd, 1) := by decide +kernel
theorem d_Cf_add_201 : decode b_Cf_add 201 = .ok (.putfield 79, 3) := by decide +kernel
theorem d_Cf_add_204 : decode b_Cf_add 204 = .ok (.aload_n 0, 1) := by decide +kernel
theorem d_Cf_add_205 : decode b_Cf_add 205 = .ok (.dup, 1) := by decide +kernel
theorem d_Cf_add_206 : decode b_Cf_add 206 = .ok (.getfield 53, 3) := by decide +kernel
theorem d_Cf_add_209 : decode b_Cf_add 209 = .ok (.iconst 1, 1) := by decide +kernel
theorem d_Cf_add_210 : decode b_Cf_add 210 = .ok (.iadd, 1) := by decide +kernel
theorem d_Cf_add_211 : decode b_Cf_add 211 = .ok (.putfield 53, 3) := by decide +kernel
theorem d_Cf_add_214 : decode b_Cf_add 214 = .ok (.iload 4, 2) := by decide +kernel
theorem d_Cf_add_216 : decode b_Cf_add 216 = .ok (.ireturn, 1) := by decide +kernel
theorem d_Cf_of_0 : decode b_Cf_of 0 = .ok (.iload_n 1, 1) := by decide +kernel
theorem d_Cf_of_1 : decode b_Cf_of 1 = .ok (.iconst (-1), 1) := by decide +kernel
theorem d_Cf_of_2 : decode b_Cf_of 2 = .ok (.if_icmp .lt 24, 3) := by decide +kernel
theorem d_Cf_of_5 : decode b_Cf_of 5 = .ok (.iload_n 1, 1) := by decide +kernel
theorem d_Cf_of_6 : decode b_Cf_of 6 = .ok (.aload_n 0, 1) := by decide +kernel
theorem d_Cf_of_7 : decode b_Cf_of 7 = .ok (.getfield 53, 3) := by decide +kernel
theorem d_Cf_of_10 : decode b_Cf_of 10 = .ok (.if_icmp .ge 16, 3) := by decide +kernel
theorem d_Cf_of_13 : decode b_Cf_of 13 = .ok (.iload_n 1, 1) := by decide +kernel
theorem d_Cf_of_14 : decode b_Cf_of 14 = .ok (.iconst (-1), 1) := by decide +kernel
theorem d_Cf_of_15 : decode b_Cf_of 15 = .ok (.if_icmp .ne 19, 3) := by decide +kernel
theorem d_Cf_of_18 : decode b_Cf_of 18 = .ok (.aload_n 0, 1) := by decide +kernel
theorem d_Cf_of_19 : decode b_Cf_of 19 = .ok (.getfield 20, 3) := by decide +kernel
theorem d_Cf_of_22 : decode b_Cf_of 22 = .ok (.iconst 3, 1) := by decide +kernel
theorem d_Cf_of_23 : decode b_Cf_of 23 = .ok (.if_icmp .eq 11, 3) := by decide +kernel
theorem d_Cf_of_26 : decode b_Cf_of 26 = .ok (.new 82, 3) := by decide +kernel
theorem d_Cf_of_29 : decode b_Cf_of 29 = .ok (.dup, 1) := by decide +kernel
theorem d_Cf_of_30 : decode b_Cf_of 30 = .ok (.invokespecial 84, 3) := by decide +kernel
theorem d_Cf_of_33 : decode b_Cf_of 33 = .ok (.athrow, 1) := by decide +kernel
theorem d_Cf_of_34 : decode b_Cf_of 34 = .ok (.iload_n 1, 1) := by decide +kernel
theorem d_Cf_of_35 : decode b_Cf_of 35 = .ok (.iconst (-1), 1) := by decide +kernel
theorem d_Cf_of_36 : decode b_Cf_of 36 = .ok (.if_icmp .ne 10, 3) := by decide +kernel
theorem d_Cf_of_39 : decode b_Cf_of 39 = .ok (.aload_n 0, 1) := by decide +kernel
theorem d_Cf_of_40 : decode b_Cf_of 40 = .ok (.getfield 10, 3) := by decide +kernel
theorem d_Cf_of_43 : decode b_Cf_of 43 = .ok (.goto 9, 3) := by decide +kernel
theorem d_Cf_of_46 : decode b_Cf_of 46 = .ok (.aload_n 0, 1) := by decide +kernel
theorem d_Cf_of_47 : decode b_Cf_of 47 = .ok (.getfield 16, 3) := by decide +kernel
theorem d_Cf_of_50 : decode b_Cf_of 50 = .ok (.iload_n 1, 1) := by decide +kernel
theorem d_Cf_of_51 : decode b_Cf_of 51 = .ok (.aaload, 1) := by decide +kernel
theorem d_Cf_of_52 : decode b_Cf_of 52 = .ok (.areturn, 1) := by decide +kernel
theorem d_Cf_where_0 : decode b_Cf_where 0 = .ok (.aload_n 0, 1) := by decide +kernel
theorem d_Cf_where_1 : decode b_Cf_where 1 = .ok (.iload_n 1, 1) := by decide +kernel
theorem d_Cf_where_2 : decode b_Cf_where 2 = .ok (.invokevirtual 85, 3) := by decide +kernel
theorem d_Cf_where_5 : decode b_Cf_where 5 = .ok (.astore_n 3, 1) := by decide +kernel
theorem d_Cf_where_6 : decode b_Cf_where 6 = .ok (.iload_n 2, 1) := by decide +kernel
theorem d_Cf_where_7 : decode b_Cf_where 7 = .ok (.ifCond .lt 11, 3) := by decide +kernel
theorem d_Cf_where_10 : decode b_Cf_where 10 = .ok (.iload_n 2, 1) := by decide +kernel
theorem d_Cf_where_11 : decode b_Cf_where 11 = .ok (.aload_n 3, 1) := by decide +kernel
theorem d_Cf_where_12 : decode b_Cf_where 12 = .ok (.invokevirtual 89, 3) := by decide +kernel
theorem d_Cf_where_15 : decode b_Cf_where 15 = .ok (.if_icmp .lt 11, 3) := by decide +kernel
theorem d_Cf_where_18 : decode b_Cf_where 18 = .ok (.new 82, 3) := by decide +kernel
theorem d_Cf_where_21 : decode b_Cf_where 21 = .ok (.dup, 1) := by decide +kernel
theorem d_Cf_where_22 : decode b_Cf_where 22 = .ok (.invokespecial 84, 3) := by decide +kernel
theorem d_Cf_where_25 : decode b_Cf_where 25 = .ok (.athrow, 1) := by decide +kernel
theorem d_Cf_where_26 : decode b_Cf_where 26 = .ok (.aload_n 3, 1) := by decide +kernel
theorem d_Cf_where_27 : decode b_Cf_where 27 = .ok (.iload_n 2, 1) := by decide +kernel
theorem d_Cf_where_28 : decode b_Cf_where 28 = .ok (.invokevirtual 92, 3) := by decide +kernel
theorem d_Cf_where_31 : decode b_Cf_where 31 = .ok (.ireturn, 1) := by decide +kernel
theorem d_Cf_about_0 : decode b_Cf_about 0 = .ok (.aload_n 0, 1) := by decide +kernel
theorem d_Cf_about_1 : decode b_Cf_about 1 = .ok (.iload_n 1, 1) := by decide +kernel
theorem d_Cf_about_2 : decode b_Cf_about 2 = .ok (.invokevirtual 85, 3) := by decide +kernel
theorem d_Cf_about_5 : decode b_Cf_about 5 = .ok (.astore_n 3, 1) := by decide +kernel
theorem d_Cf_about_6 : decode b_Cf_about 6 = .ok (.iload_n 2, 1) := by decide +kernel
theorem d_Cf_about_7 : decode b_Cf_about 7 = .ok (.ifCond .lt 8, 3) := by decide +kernel
theorem d_Cf_about_10 : decode b_Cf_about 10 = .ok (.iload_n 2, 1) := by decide +kernel
theorem d_Cf_about_11 : decode b_Cf_about 11 = .ok (.iconst 2, 1) := by decide +kernel
theorem d_Cf_about_12 : decode b_Cf_about 12 = .ok (.if_icmp .le 11, 3) := by decide +kernel
theorem d_Cf_about_15 : decode b_Cf_about 15 = .ok (.new 82, 3) := by decide +kernel
theorem d_Cf_about_18 : decode b_Cf_about 18 = .ok (.dup, 1) := by decide +kernel
theorem d_Cf_about_19 : decode b_Cf_about 19 = .ok (.invokespecial 84, 3) := by decide +kernel
theorem d_Cf_about_22 : decode b_Cf_about 22 = .ok (.athrow, 1) := by decide +kernel
theorem d_Cf_about_23 : decode b_Cf_about 23 = .ok (.iload_n 2, 1) := by decide +kernel
theorem d_Cf_about_24 : decode b_Cf_about 24 = .ok (.ifCond .ne 10, 3) := by decide +kernel
theorem d_Cf_about_27 : decode b_Cf_about 27 = .ok (.aload_n 3, 1) := by decide +kernel
theorem d_Cf_about_28 : decode b_Cf_about 28 = .ok (.getfield 96, 3) := by decide +kernel
theorem d_Cf_about_31 : decode b_Cf_about 31 = .ok (.goto 19, 3) := by decide +kernel
theorem d_Cf_about_34 : decode b_Cf_about 34 = .ok (.iload_n 2, 1) := by decide +kernel
theorem d_Cf_about_35 : decode b_Cf_about 35 = .ok (.iconst 1, 1) := by decide +kernel
theorem d_Cf_about_36 : decode b_Cf_about 36 = .ok (.if_icmp .ne 10, 3) := by decide +kernel
theorem d_Cf_about_39 : decode b_Cf_about 39 = .ok (.aload_n 3, 1) := by decide +kernel
theorem d_Cf_about_40 : decode b_Cf_about 40 = .ok (.getfield 99, 3) := by decide +kernel
theorem d_Cf_about_43 : decode b_Cf_about 43 = .ok (.goto 7, 3) := by decide +kernel
theorem d_Cf_about_46 : decode b_Cf_about 46 = .ok (.aload_n 3, 1) := by decide +kernel
theorem d_Cf_about_47 : decode b_Cf_about 47 = .ok (.invokevirtual 89, 3) := by decide +kernel
theorem d_Cf_about_50 : decode b_Cf_about 50 = .ok (.ireturn, 1) := by decide +kernel
theorem d_Cf_area_0 : decode b_Cf_area 0 = .ok (.bipush 16, 2) := by decide +kernel
theorem d_Cf_area_2 : decode b_Cf_area 2 = .ok (.aload_n 0, 1) := by decide +kernel
theorem d_Cf_area_3 : decode b_Cf_area 3 = .ok (.invokevirtual 63, 3) := by decide +kernel
theorem d_Cf_area_6 : decode b_Cf_area 6 = .ok (.bipush 8, 2) := by decide +kernel
theorem d_Cf_area_8 : decode b_Cf_area 8 = .ok (.invokestatic 64, 3) := by decide +kernel
theorem d_Cf_area_11 : decode b_Cf_area 11 = .ok (.invokestatic 102, 3) := by decide +kernel
theorem d_Cf_area_14 : decode b_Cf_area 14 = .ok (.ireturn, 1) := by decide +kernel
theorem d_Cf_signature_0 : decode b_Cf_signature 0 = .ok (.iload_n 1, 1) := by decide +kernel
theorem d_Cf_signature_1 : decode b_Cf_signature 1 = .ok (.tableswitch 81 0 3 #[31, 36, 41, 76], 31) := by decide +kernel
theorem d_Cf_signature_32 : decode b_Cf_signature 32 = .ok (.aload_n 0, 1) := by decide +kernel
theorem d_Cf_signature_33 : decode b_Cf_signature 33 = .ok (.invokevirtual 107, 3) := by decide +kernel
theorem d_Cf_signature_36 : decode b_Cf_signature 36 = .ok (.ireturn, 1) := by decide +kernel
theorem d_Cf_signature_37 : decode b_Cf_signature 37 = .ok (.aload_n 0, 1) := by decide +kernel
theorem d_Cf_signature_38 : decode b_Cf_signature 38 = .ok (.getfield 53, 3) := by decide +kernel
theorem d_Cf_signature_41 : decode b_Cf_signature 41 = .ok (.ireturn, 1) := by decide +kernel
theorem d_Cf_signature_42 : decode b_Cf_signature 42 = .ok (.aload_n 0, 1) := by decide +kernel
theorem d_Cf_signature_43 : decode b_Cf_signature 43 = .ok (.getfield 20, 3) := by decide +kernel
theorem d_Cf_signature_46 : decode b_Cf_signature 46 = .ok (.iconst 4, 1) := by decide +kernel
theorem d_Cf_signature_47 : decode b_Cf_signature 47 = .ok (.if_icmp .ne 7, 3) := by decide +kernel
theorem d_Cf_signature_50 : decode b_Cf_signature 50 = .ok (.iconst (-1), 1) := by decide +kernel
theorem d_Cf_signature_51 : decode b_Cf_signature 51 = .ok (.goto 25, 3) := by decide +kernel
theorem d_Cf_signature_54 : decode b_Cf_signature 54 = .ok (.aload_n 0, 1) := by decide +kernel
theorem d_Cf_signature_55 : decode b_Cf_signature 55 = .ok (.getfield 20, 3) := by decide +kernel
theorem d_Cf_signature_58 : decode b_Cf_signature 58 = .ok (.iconst 1, 1) := by decide +kernel
theorem d_Cf_signature_59 : decode b_Cf_signature 59 = .ok (.if_icmp .eq 11, 3) := by decide +kernel
theorem d_Cf_signature_62 : decode b_Cf_signature 62 = .ok (.aload_n 0, 1) := by decide +kernel
theorem d_Cf_signature_63 : decode b_Cf_signature 63 = .ok (.getfield 20, 3) := by decide +kernel
theorem d_Cf_signature_66 : decode b_Cf_signature 66 = .ok (.iconst 2, 1) := by decide +kernel
theorem d_Cf_signature_67 : decode b_Cf_signature 67 = .ok (.if_icmp .ne 8, 3) := by decide +kernel
theorem d_Cf_signature_70 : decode b_Cf_signature 70 = .ok (.bipush 32, 2) := by decide +kernel
theorem d_Cf_signature_72 : decode b_Cf_signature 72 = .ok (.goto 4, 3) := by decide +kernel
theorem d_Cf_signature_75 : decode b_Cf_signature 75 = .ok (.iconst 2, 1) := by decide +kernel
theorem d_Cf_signature_76 : decode b_Cf_signature 76 = .ok (.ireturn, 1) := by decide +kernel
theorem d_Cf_signature_77 : decode b_Cf_signature 77 = .ok (.aload_n 0, 1) := by decide +kernel
theorem d_Cf_signature_78 : decode b_Cf_signature 78 = .ok (.invokevirtual 63, 3) := by decide +kernel
theorem d_Cf_signature_81 : decode b_Cf_signature 81 = .ok (.ireturn, 1) := by decide +kernel
theorem d_Cf_signature_82 : decode b_Cf_signature 82 = .ok (.new 82, 3) := by decide +kernel
theorem d_Cf_signature_85 : decode b_Cf_signature 85 = .ok (.dup, 1) := by decide +kernel
theorem d_Cf_signature_86 : decode b_Cf_signature 86 = .ok (.invokespecial 84, 3) := by decide +kernel
theorem d_Cf_signature_89 : decode b_Cf_signature 89 = .ok (.athrow, 1) := by decide +kernel
theorem d_Cf_call_0 : decode b_Cf_call 0 = .ok (.aload_n 0, 1) := by decide +kernel
theorem d_Cf_call_1 : decode b_Cf_call 1 = .ok (.dup, 1) := by decide +kernel
theorem d_Cf_call_2 : decode b_Cf_call 2 = .ok (.getfield 110, 3) := by decide +kernel
theorem d_Cf_call_5 : decode b_Cf_call 5 = .ok (.iconst 1, 1) := by decide +kernel
theorem d_Cf_call_6 : decode b_Cf_call 6 = .ok (.iadd, 1) := by decide +kernel
theorem d_Cf_call_7 : decode b_Cf_call 7 = .ok (.putfield 110, 3) := by decide +kernel
theorem d_Cf_call_10 : decode b_Cf_call 10 = .ok (.aload_n 0, 1) := by decide +kernel
theorem d_Cf_call_11 : decode b_Cf_call 11 = .ok (.aload_n 0, 1) := by decide +kernel
theorem d_Cf_call_12 : decode b_Cf_call 12 = .ok (.getfield 113, 3) := by decide +kernel
theorem d_Cf_call_15 : decode b_Cf_call 15 = .ok (.aload_n 0, 1) := by decide +kernel
theorem d_Cf_call_16 : decode b_Cf_call 16 = .ok (.invokevirtual 107, 3) := by decide +kernel
theorem d_Cf_call_19 : decode b_Cf_call 19 = .ok (.invokestatic 102, 3) := by decide +kernel
theorem d_Cf_call_22 : decode b_Cf_call 22 = .ok (.putfield 113, 3) := by decide +kernel
theorem d_Cf_call_25 : decode b_Cf_call 25 = .ok (.aload_n 0, 1) := by decide +kernel
theorem d_Cf_call_26 : decode b_Cf_call 26 = .ok (.getfield 113, 3) := by decide +kernel
theorem d_Cf_call_29 : decode b_Cf_call 29 = .ok (.ireturn, 1) := by decide +kernel
theorem d_Cf_frame_0 : decode b_Cf_frame 0 = .ok (.iload_n 1, 1) := by decide +kernel
theorem d_Cf_frame_1 : decode b_Cf_frame 1 = .ok (.ifCond .lt 27, 3) := by decide +kernel
theorem d_Cf_frame_4 : decode b_Cf_frame 4 = .ok (.iload_n 1, 1) := by decide +kernel
theorem d_Cf_frame_5 : decode b_Cf_frame 5 = .ok (.ldc 68, 2) := by decide +kernel
theorem d_Cf_frame_7 : decode b_Cf_frame 7 = .ok (.if_icmp .gt 21, 3) := by decide +kernel
theorem d_Cf_frame_10 : decode b_Cf_frame 10 = .ok (.iload_n 2, 1) := by decide +kernel
theorem d_Cf_frame_11 : decode b_Cf_frame 11 = .ok (.ldc 116, 2) := by decide +kernel
theorem d_Cf_frame_13 : decode b_Cf_frame 13 = .ok (.iand, 1) := by decide +kernel
theorem d_Cf_frame_14 : decode b_Cf_frame 14 = .ok (.ifCond .ne 14, 3) := by decide +kernel
theorem d_Cf_frame_17 : decode b_Cf_frame 17 = .ok (.iload_n 3, 1) := by decide +kernel
theorem d_Cf_frame_18 : decode b_Cf_frame 18 = .ok (.ldc 117, 2) := by decide +kernel
theorem d_Cf_frame_20 : decode b_Cf_frame 20 = .ok (.iand, 1) := by decide +kernel
theorem d_Cf_frame_21 : decode b_Cf_frame 21 = .ok (.ifCond .ne 7, 3) := by decide +kernel
theorem d_Cf_frame_24 : decode b_Cf_frame 24 = .ok (.iconst 1, 1) := by decide +kernel
theorem d_Cf_frame_25 : decode b_Cf_frame 25 = .ok (.goto 4, 3) := by decide +kernel
theorem d_Cf_frame_28 : decode b_Cf_frame 28 = .ok (.iconst 0, 1) := by decide +kernel
theorem d_Cf_frame_29 : decode b_Cf_frame 29 = .ok (.istore 4, 2) := by decide +kernel
theorem d_Cf_frame_31 : decode b_Cf_frame 31 = .ok (.iload 4, 2) := by decide +kernel
theorem d_Cf_frame_33 : decode b_Cf_frame 33 = .ok (.ifCond .ne 11, 3) := by decide +kernel
theorem d_Cf_frame_36 : decode b_Cf_frame 36 = .ok (.new 46, 3) := by decide +kernel
theorem d_Cf_frame_39 : decode b_Cf_frame 39 = .ok (.dup, 1) := by decide +kernel
theorem d_Cf_frame_40 : decode b_Cf_frame 40 = .ok (.invokespecial 48, 3) := by decide +kernel
theorem d_Cf_frame_43 : decode b_Cf_frame 43 = .ok (.athrow, 1) := by decide +kernel
theorem d_Cf_frame_44 : decode b_Cf_frame 44 = .ok (.aload_n 0, 1) := by decide +kernel
theorem d_Cf_frame_45 : decode b_Cf_frame 45 = .ok (.invokevirtual 35, 3) := by decide +kernel
theorem d_Cf_frame_48 : decode b_Cf_frame 48 = .ok (.aload_n 0, 1) := by decide +kernel
theorem d_Cf_frame_49 : decode b_Cf_frame 49 = .ok (.aload_n 0, 1) := by decide +kernel
theorem d_Cf_frame_50 : decode b_Cf_frame 50 = .ok (.getfield 113, 3) := by decide +kernel
theorem d_Cf_frame_53 : decode b_Cf_frame 53 = .ok (.bipush 8, 2) := by decide +kernel
theorem d_Cf_frame_55 : decode b_Cf_frame 55 = .ok (.invokestatic 64, 3) := by decide +kernel
theorem d_Cf_frame_58 : decode b_Cf_frame 58 = .ok (.putfield 38, 3) := by decide +kernel
theorem d_Cf_frame_61 : decode b_Cf_frame 61 = .ok (.aload_n 0, 1) := by decide +kernel
theorem d_Cf_frame_62 : decode b_Cf_frame 62 = .ok (.getfield 38, 3) := by decide +kernel
theorem d_Cf_frame_65 : decode b_Cf_frame 65 = .ok (.iload_n 1, 1) := by decide +kernel
theorem d_Cf_frame_66 : decode b_Cf_frame 66 = .ok (.iadd, 1) := by decide +kernel
theorem d_Cf_frame_67 : decode b_Cf_frame 67 = .ok (.bipush 8, 2) := by decide +kernel
theorem d_Cf_frame_69 : decode b_Cf_frame 69 = .ok (.invokestatic 64, 3) := by decide +kernel
theorem d_Cf_frame_72 : decode b_Cf_frame 72 = .ok (.istore 5, 2) := by decide +kernel
theorem d_Cf_frame_74 : decode b_Cf_frame 74 = .ok (.bipush 20, 2) := by decide +kernel
theorem d_Cf_frame_76 : decode b_Cf_frame 76 = .ok (.istore 6, 2) := by decide +kernel
theorem d_Cf_frame_78 : decode b_Cf_frame 78 = .ok (.iload 6, 2) := by decide +kernel
theorem d_Cf_frame_80 : decode b_Cf_frame 80 = .ok (.bipush 32, 2) := by decide +kernel
theorem d_Cf_frame_82 : decode b_Cf_frame 82 = .ok (.if_icmp .ge 33, 3) := by decide +kernel
theorem d_Cf_frame_85 : decode b_Cf_frame 85 = .ok (.iload_n 3, 1) := by decide +kernel
theorem d_Cf_frame_86 : decode b_Cf_frame 86 = .ok (.iload 6, 2) := by decide +kernel
theorem d_Cf_frame_88 : decode b_Cf_frame 88 = .ok (.ishr, 1) := by decide +kernel
theorem d_Cf_frame_89 : decode b_Cf_frame 89 = .ok (.iconst 1, 1) := by decide +kernel
theorem d_Cf_frame_90 : decode b_Cf_frame 90 = .ok (.iand, 1) := by decide +kernel
theorem d_Cf_frame_91 : decode b_Cf_frame 91 = .ok (.ifCond .ne 6, 3) := by decide +kernel
theorem d_Cf_frame_94 : decode b_Cf_frame 94 = .ok (.goto 15, 3) := by decide +kernel
theorem d_Cf_frame_97 : decode b_Cf_frame 97 = .ok (.aload_n 0, 1) := by decide +kernel
theorem d_Cf_frame_98 : decode b_Cf_frame 98 = .ok (.getfield 28, 3) := by decide +kernel
theorem d_Cf_frame_101 : decode b_Cf_frame 101 = .ok (.iload 6, 2) := by decide +kernel
theorem d_Cf_frame_103 : decode b_Cf_frame 103 = .ok (.iload 5, 2) := by decide +kernel
theorem d_Cf_frame_105 : decode b_Cf_frame 105 = .ok (.iastore, 1) := by decide +kernel
theorem d_Cf_frame_106 : decode b_Cf_frame 106 = .ok (.iinc 5 8, 3) := by decide +kernel
theorem d_Cf_frame_109 : decode b_Cf_frame 109 = .ok (.iinc 6 2, 3) := by decide +kernel
theorem d_Cf_frame_112 : decode b_Cf_frame 112 = .ok (.goto (-34), 3) := by decide +kernel
theorem d_Cf_frame_115 : decode b_Cf_frame 115 = .ok (.iload_n 2, 1) := by decide +kernel
theorem d_Cf_frame_116 : decode b_Cf_frame 116 = .ok (.aload_n 0, 1) := by decide +kernel
theorem d_Cf_frame_117 : decode b_Cf_frame 117 = .ok (.getfield 110, 3) := by decide +kernel
theorem d_Cf_frame_120 : decode b_Cf_frame 120 = .ok (.ifCond .le 8, 3) := by decide +kernel
theorem d_Cf_frame_123 : decode b_Cf_frame 123 = .ok (.ldc 118, 2) := by decide +kernel
theorem d_Cf_frame_125 : decode b_Cf_frame 125 = .ok (.goto 4, 3) := by decide +kernel
theorem d_Cf_frame_128 : decode b_Cf_frame 128 = .ok (.iconst 0, 1) := by decide +kernel
theorem d_Cf_frame_129 : decode b_Cf_frame 129 = .ok (.ior, 1) := by decide +kernel
theorem d_Cf_frame_130 : decode b_Cf_frame 130 = .ok (.istore 6, 2) := by decide +kernel
theorem d_Cf_frame_132 : decode b_Cf_frame 132 = .ok (.bipush 16, 2) := by decide +kernel
theorem d_Cf_frame_134 : decode b_Cf_frame 134 = .ok (.istore 7, 2) := by decide +kernel
theorem d_Cf_frame_136 : decode b_Cf_frame 136 = .ok (.iload 7, 2) := by decide +kernel
theorem d_Cf_frame_138 : decode b_Cf_frame 138 = .ok (.bipush 32, 2) := by decide +kernel
theorem d_Cf_frame_140 : decode b_Cf_frame 140 = .ok (.if_icmp .ge 34, 3) := by decide +kernel
theorem d_Cf_frame_143 : decode b_Cf_frame 143 = .ok (.iload 6, 2) := by decide +kernel
theorem d_Cf_frame_145 : decode b_Cf_frame 145 = .ok (.iload 7, 2) := by decide +kernel
theorem d_Cf_frame_147 : decode b_Cf_frame 147 = .ok (.ishr, 1) := by decide +kernel
theorem d_Cf_frame_148 : decode b_Cf_frame 148 = .ok (.iconst 1, 1) := by decide +kernel
theorem d_Cf_frame_149 : decode b_Cf_frame 149 = .ok (.iand, 1) := by decide +kernel
theorem d_Cf_frame_150 : decode b_Cf_frame 150 = .ok (.ifCond .ne 6, 3) := by decide +kernel
theorem d_Cf_frame_153 : decode b_Cf_frame 153 = .ok (.goto 15, 3) := by decide +kernel
theorem d_Cf_frame_156 : decode b_Cf_frame 156 = .ok (.aload_n 0, 1) := by decide +kernel
theorem d_Cf_frame_157 : decode b_Cf_frame 157 = .ok (.getfield 24, 3) := by decide +kernel
theorem d_Cf_frame_160 : decode b_Cf_frame 160 = .ok (.iload 7, 2) := by decide +kernel
theorem d_Cf_frame_162 : decode b_Cf_frame 162 = .ok (.iload 5, 2) := by decide +kernel
theorem d_Cf_frame_164 : decode b_Cf_frame 164 = .ok (.iastore, 1) := by decide +kernel
theorem d_Cf_frame_165 : decode b_Cf_frame 165 = .ok (.iinc 5 4, 3) := by decide +kernel
theorem d_Cf_frame_168 : decode b_Cf_frame 168 = .ok (.iinc 7 1, 3) := by decide +kernel
theorem d_Cf_frame_171 : decode b_Cf_frame 171 = .ok (.goto (-35), 3) := by decide +kernel
theorem d_Cf_frame_174 : decode b_Cf_frame 174 = .ok (.iload 5, 2) := by decide +kernel
theorem d_Cf_frame_176 : decode b_Cf_frame 176 = .ok (.bipush 8, 2) := by decide +kernel
theorem d_Cf_frame_178 : decode b_Cf_frame 178 = .ok (.invokestatic 64, 3) := by decide +kernel
theorem d_Cf_frame_181 : decode b_Cf_frame 181 = .ok (.ireturn, 1) := by decide +kernel
theorem d_Cf_place_0 : decode b_Cf_place 0 = .ok (.iload_n 1, 1) := by decide +kernel
theorem d_Cf_place_1 : decode b_Cf_place 1 = .ok (.ifCond .lt 18, 3) := by decide +kernel
theorem d_Cf_place_4 : decode b_Cf_place 4 = .ok (.iload_n 1, 1) := by decide +kernel
theorem d_Cf_place_5 : decode b_Cf_place 5 = .ok (.iconst 2, 1) := by decide +kernel
theorem d_Cf_place_6 : decode b_Cf_place 6 = .ok (.if_icmp .gt 13, 3) := by decide +kernel
theorem d_Cf_place_9 : decode b_Cf_place 9 = .ok (.iload_n 2, 1) := by decide +kernel
theorem d_Cf_place_10 : decode b_Cf_place 10 = .ok (.ifCond .lt 9, 3) := by decide +kernel
theorem d_Cf_place_13 : decode b_Cf_place 13 = .ok (.iload_n 2, 1) := by decide +kernel
theorem d_Cf_place_14 : decode b_Cf_place 14 = .ok (.bipush 32, 2) := by decide +kernel
theorem d_Cf_place_16 : decode b_Cf_place 16 = .ok (.if_icmp .lt 11, 3) := by decide +kernel
theorem d_Cf_place_19 : decode b_Cf_place 19 = .ok (.new 82, 3) := by decide +kernel
theorem d_Cf_place_22 : decode b_Cf_place 22 = .ok (.dup, 1) := by decide +kernel
theorem d_Cf_place_23 : decode b_Cf_place 23 = .ok (.invokespecial 84, 3) := by decide +kernel
theorem d_Cf_place_26 : decode b_Cf_place 26 = .ok (.athrow, 1) := by decide +kernel
theorem d_Cf_place_27 : decode b_Cf_place 27 = .ok (.iload_n 1, 1) := by decide +kernel
theorem d_Cf_place_28 : decode b_Cf_place 28 = .ok (.ifCond .ne 10, 3) := by decide +kernel
theorem d_Cf_place_31 : decode b_Cf_place 31 = .ok (.aload_n 0, 1) := by decide +kernel
theorem d_Cf_place_32 : decode b_Cf_place 32 = .ok (.getfield 38, 3) := by decide +kernel
theorem d_Cf_place_35 : decode b_Cf_place 35 = .ok (.goto 23, 3) := by decide +kernel
theorem d_Cf_place_38 : decode b_Cf_place 38 = .ok (.iload_n 1, 1) := by decide +kernel
theorem d_Cf_place_39 : decode b_Cf_place 39 = .ok (.iconst 1, 1) := by decide +kernel
theorem d_Cf_place_40 : decode b_Cf_place 40 = .ok (.if_icmp .ne 12, 3) := by decide +kernel
theorem d_Cf_place_43 : decode b_Cf_place 43 = .ok (.aload_n 0, 1) := by decide +kernel
theorem d_Cf_place_44 : decode b_Cf_place 44 = .ok (.getfield 24, 3) := by decide +kernel
theorem d_Cf_place_47 : decode b_Cf_place 47 = .ok (.iload_n 2, 1) := by decide +kernel
theorem d_Cf_place_48 : decode b_Cf_place 48 = .ok (.iaload, 1) := by decide +kernel
theorem d_Cf_place_49 : decode b_Cf_place 49 = .ok (.goto 9, 3) := by decide +kernel
theorem d_Cf_place_52 : decode b_Cf_place 52 = .ok (.aload_n 0, 1) := by decide +kernel
theorem d_Cf_place_53 : decode b_Cf_place 53 = .ok (.getfield 28, 3) := by decide +kernel
theorem d_Cf_place_56 : decode b_Cf_place 56 = .ok (.iload_n 2, 1) := by decide +kernel
theorem d_Cf_place_57 : decode b_Cf_place 57 = .ok (.iaload, 1) := by decide +kernel
theorem d_Cf_place_58 : decode b_Cf_place 58 = .ok (.ireturn, 1) := by decide +kernel
theorem d_Cf_clear_0 : decode b_Cf_clear 0 = .ok (.aload_n 0, 1) := by decide +kernel
theorem d_Cf_clear_1 : decode b_Cf_clear 1 = .ok (.getfield 110, 3) := by decide +kernel
theorem d_Cf_clear_4 : decode b_Cf_clear 4 = .ok (.istore_n 1, 1) := by decide +kernel
theorem d_Cf_clear_5 : decode b_Cf_clear 5 = .ok (.aload_n 0, 1) := by decide +kernel
theorem d_Cf_clear_6 : decode b_Cf_clear 6 = .ok (.iconst 0, 1) := by decide +kernel
theorem d_Cf_clear_7 : decode b_Cf_clear 7 = .ok (.putfield 110, 3) := by decide +kernel
theorem d_Cf_clear_10 : decode b_Cf_clear 10 = .ok (.aload_n 0, 1) := by decide +kernel
theorem d_Cf_clear_11 : decode b_Cf_clear 11 = .ok (.iconst 0, 1) := by decide +kernel
theorem d_Cf_clear_12 : decode b_Cf_clear 12 = .ok (.putfield 113, 3) := by decide +kernel
theorem d_Cf_clear_15 : decode b_Cf_clear 15 = .ok (.aload_n 0, 1) := by decide +kernel
theorem d_Cf_clear_16 : decode b_Cf_clear 16 = .ok (.invokevirtual 35, 3) := by decide +kernel
theorem d_Cf_clear_19 : decode b_Cf_clear 19 = .ok (.iload_n 1, 1) := by decide +kernel
theorem d_Cf_clear_20 : decode b_Cf_clear 20 = .ok (.ireturn, 1) := by decide +kernel
theorem d_Ar_init_0 : decode b_Ar_init 0 = .ok (.aload_n 0, 1) := by decide +kernel
theorem d_Ar_init_1 : decode b_Ar_init 1 = .ok (.invokespecial 3, 3) := by decide +kernel
theorem d_Ar_init_4 : decode b_Ar_init 4 = .ok (.return_, 1) := by decide +kernel
theorem d_Ar_become_0 : decode b_Ar_become 0 = .ok (.aload_n 0, 1) := by decide +kernel
theorem d_Ar_become_1 : decode b_Ar_become 1 = .ok (.iload_n 1, 1) := by decide +kernel
theorem d_Ar_become_2 : decode b_Ar_become 2 = .ok (.putfield 9, 3) := by decide +kernel
theorem d_Ar_become_5 : decode b_Ar_become 5 = .ok (.aload_n 0, 1) := by decide +kernel
theorem d_Ar_become_6 : decode b_Ar_become 6 = .ok (.iload_n 2, 1) := by decide +kernel
theorem d_Ar_become_7 : decode b_Ar_become 7 = .ok (.putfield 15, 3) := by decide +kernel
theorem d_Ar_become_10 : decode b_Ar_become 10 = .ok (.aload_n 0, 1) := by decide +kernel
theorem d_Ar_become_11 : decode b_Ar_become 11 = .ok (.iload_n 3, 1) := by decide +kernel
theorem d_Ar_become_12 : decode b_Ar_become 12 = .ok (.putfield 18, 3) := by decide +kernel
theorem d_Ar_become_15 : decode b_Ar_become 15 = .ok (.aload_n 0, 1) := by decide +kernel
theorem d_Ar_become_16 : decode b_Ar_become 16 = .ok (.iconst 0, 1) := by decide +kernel
theorem d_Ar_become_17 : decode b_Ar_become 17 = .ok (.putfield 21, 3) := by decide +kernel
theorem d_Ar_become_20 : decode b_Ar_become 20 = .ok (.aload_n 0, 1) := by decide +kernel
theorem d_Ar_become_21 : decode b_Ar_become 21 = .ok (.iconst (-1), 1) := by decide +kernel
theorem d_Ar_become_22 : decode b_Ar_become 22 = .ok (.putfield 25, 3) := by decide +kernel
theorem d_Ar_become_25 : decode b_Ar_become 25 = .ok (.return_, 1) := by decide +kernel
theorem d_Ar_words_0 : decode b_Ar_words 0 = .ok (.aload_n 0, 1) := by decide +kernel
theorem d_Ar_words_1 : decode b_Ar_words 1 = .ok (.getfield 18, 3) := by decide +kernel
theorem d_Ar_words_4 : decode b_Ar_words 4 = .ok (.iconst 3, 1) := by decide +kernel
theorem d_Ar_words_5 : decode b_Ar_words 5 = .ok (.iadd, 1) := by decide +kernel
theorem d_Ar_words_6 : decode b_Ar_words 6 = .ok (.iconst 2, 1) := by decide +kernel
theorem d_Ar_words_7 : decode b_Ar_words 7 = .ok (.ishr, 1) := by decide +kernel
theorem d_Ar_words_8 : decode b_Ar_words 8 = .ok (.ireturn, 1) := by decide +kernel
theorem d_Ar_end_0 : decode b_Ar_end 0 = .ok (.aload_n 0, 1) := by decide +kernel
theorem d_Ar_end_1 : decode b_Ar_end 1 = .ok (.getfield 15, 3) := by decide +kernel
theorem d_Ar_end_4 : decode b_Ar_end 4 = .ok (.iconst 4, 1) := by decide +kernel
theorem d_Ar_end_5 : decode b_Ar_end 5 = .ok (.aload_n 0, 1) := by decide +kernel
theorem d_Ar_end_6 : decode b_Ar_end 6 = .ok (.invokevirtual 28, 3) := by decide +kernel
theorem d_Ar_end_9 : decode b_Ar_end 9 = .ok (.imul, 1) := by decide +kernel
theorem d_Ar_end_10 : decode b_Ar_end 10 = .ok (.iadd, 1) := by decide +kernel
theorem d_Ar_end_11 : decode b_Ar_end 11 = .ok (.ireturn, 1) := by decide +kernel
theorem d_Ar_whereWord_0 : decode b_Ar_whereWord 0 = .ok (.aload_n 0, 1) := by decide +kernel
theorem d_Ar_whereWord_1 : decode b_Ar_whereWord 1 = .ok (.getfield 21, 3) := by decide +kernel
theorem d_Ar_whereWord_4 : decode b_Ar_whereWord 4 = .ok (.ifCond .eq 29, 3) := by decide +kernel
theorem d_Ar_whereWord_7 : decode b_Ar_whereWord 7 = .ok (.bipush 32, 2) := by decide +kernel
theorem d_Ar_whereWord_9 : decode b_Ar_whereWord 9 = .ok (.aload_n 0, 1) := by decide +kernel
theorem d_Ar_whereWord_10 : decode b_Ar_whereWord 10 = .ok (.getfield 25, 3) := by decide +kernel
theorem d_Ar_whereWord_13 : decode b_Ar_whereWord 13 = .ok (.iadd, 1) := by decide +kernel
theorem d_Ar_whereWord_14 : decode b_Ar_whereWord 14 = .ok (.aload_n 0, 1) := by decide +kernel
theorem d_Ar_whereWord_15 : decode b_Ar_whereWord 15 = .ok (.getfield 9, 3) := by decide +kernel
theorem d_Ar_whereWord_18 : decode b_Ar_whereWord 18 = .ok (.iconst 2, 1) := by decide +kernel
theorem d_Ar_whereWord_19 : decode b_Ar_whereWord 19 = .ok (.if_icmp .ne 11, 3) := by decide +kernel
theorem d_Ar_whereWord_22 : decode b_Ar_whereWord 22 = .ok (.iload_n 1, 1) := by decide +kernel
theorem d_Ar_whereWord_23 : decode b_Ar_whereWord 23 = .ok (.ifCond .ne 7, 3) := by decide +kernel
theorem d_Ar_whereWord_26 : decode b_Ar_whereWord 26 = .ok (.iconst 1, 1) := by decide +kernel
theorem d_Ar_whereWord_27 : decode b_Ar_whereWord 27 = .ok (.goto 4, 3) := by decide +kernel
theorem d_Ar_whereWord_30 : decode b_Ar_whereWord 30 = .ok (.iconst 0, 1) := by decide +kernel
theorem d_Ar_whereWord_31 : decode b_Ar_whereWord 31 = .ok (.iadd, 1) := by decide +kernel
theorem d_Ar_whereWord_32 : decode b_Ar_whereWord 32 = .ok (.ireturn, 1) := by decide +kernel
theorem d_Ar_whereWord_33 : decode b_Ar_whereWord 33 = .ok (.aload_n 0, 1) := by decide +kernel
theorem d_Ar_whereWord_34 : decode b_Ar_whereWord 34 = .ok (.getfield 15, 3) := by decide +kernel
theorem d_Ar_whereWord_37 : decode b_Ar_whereWord 37 = .ok (.iconst 4, 1) := by decide +kernel
theorem d_Ar_whereWord_38 : decode b_Ar_whereWord 38 = .ok (.iload_n 1, 1) := by decide +kernel
theorem d_Ar_whereWord_39 : decode b_Ar_whereWord 39 = .ok (.imul, 1) := by decide +kernel
theorem d_Ar_whereWord_40 : decode b_Ar_whereWord 40 = .ok (.iadd, 1) := by decide +kernel
theorem d_Ar_whereWord_41 : decode b_Ar_whereWord 41 = .ok (.istore_n 2, 1) := by decide +kernel
theorem d_Ar_whereWord_42 : decode b_Ar_whereWord 42 = .ok (.iload_n 2, 1) := by decide +kernel
theorem d_Ar_whereWord_43 : decode b_Ar_whereWord 43 = .ok (.bipush 16, 2) := by decide +kernel
theorem d_Ar_whereWord_45 : decode b_Ar_whereWord 45 = .ok (.if_icmp .ge 11, 3) := by decide +kernel
theorem d_Ar_whereWord_48 : decode b_Ar_whereWord 48 = .ok (.iconst 4, 1) := by decide +kernel
theorem d_Ar_whereWord_49 : decode b_Ar_whereWord 49 = .ok (.iload_n 2, 1) := by decide +kernel
theorem d_Ar_whereWord_50 : decode b_Ar_whereWord 50 = .ok (.iconst 2, 1) := by decide +kernel
theorem d_Ar_whereWord_51 : decode b_Ar_whereWord 51 = .ok (.ishr, 1) := by decide +kernel
theorem d_Ar_whereWord_52 : decode b_Ar_whereWord 52 = .ok (.iadd, 1) := by decide +kernel
theorem d_Ar_whereWord_53 : decode b_Ar_whereWord 53 = .ok (.goto 4, 3) := by decide +kernel
theorem d_Ar_whereWord_56 : decode b_Ar_whereWord 56 = .ok (.iconst (-1), 1) := by decide +kernel
theorem d_Ar_whereWord_57 : decode b_Ar_whereWord 57 = .ok (.ireturn, 1) := by decide +kernel
end
section
/-! DECODE ROWS (printed by gen/names.py) -/
theorem d_La_begin_0 : decode b_La_begin 0 = .ok (.aload_n 0, 1) := by decide +kernel
theorem d_La_begin_1 : decode b_La_begin 1 = .ok (.iload_n 1, 1) := by decide +kernel
theorem d_La_begin_2 : decode b_La_begin 2 = .ok (.iload_n 2, 1) := by decide +kernel
theorem d_La_begin_3 : decode b_La_begin 3 = .ok (.iload_n 3, 1) := by decide +kernel
theorem d_La_begin_4 : decode b_La_begin 4 = .ok (.iload 4, 2) := by decide +kernel
theorem d_La_begin_6 : decode b_La_begin 6 = .ok (.invokevirtual 7, 3) := by decide +kernel
theorem d_La_begin_9 : decode b_La_begin 9 = .ok (.goto 7, 3) := by decide +kernel
theorem d_La_begin_12 : decode b_La_begin 12 = .ok (.astore 5, 2) := by decide +kernel
theorem d_La_begin_14 : decode b_La_begin 14 = .ok (.iconst 1, 1) := by decide +kernel
theorem d_La_begin_15 : decode b_La_begin 15 = .ok (.ireturn, 1) := by decide +kernel
theorem d_La_begin_16 : decode b_La_begin 16 = .ok (.iconst 0, 1) := by decide +kernel
theorem d_La_begin_17 : decode b_La_begin 17 = .ok (.ireturn, 1) := by decide +kernel
theorem d_La_add_0 : decode b_La_add 0 = .ok (.aload 4, 2) := by decide +kernel
theorem d_La_add_2 : decode b_La_add 2 = .ok (.iconst 0, 1) := by decide +kernel
theorem d_La_add_3 : decode b_La_add 3 = .ok (.aload_n 0, 1) := by decide +kernel
theorem d_La_add_4 : decode b_La_add 4 = .ok (.iload_n 1, 1) := by decide +kernel
theorem d_La_add_5 : decode b_La_add 5 = .ok (.iload_n 2, 1) := by decide +kernel
theorem d_La_add_6 : decode b_La_add 6 = .ok (.iload_n 3, 1) := by decide +kernel
theorem d_La_add_7 : decode b_La_add 7 = .ok (.invokevirtual 15, 3) := by decide +kernel
theorem d_La_add_10 : decode b_La_add 10 = .ok (.i2l, 1) := by decide +kernel
theorem d_La_add_11 : decode b_La_add 11 = .ok (.lastore, 1) := by decide +kernel
theorem d_La_add_12 : decode b_La_add 12 = .ok (.goto 11, 3) := by decide +kernel
theorem d_La_add_15 : decode b_La_add 15 = .ok (.astore 5, 2) := by decide +kernel
theorem d_La_add_17 : decode b_La_add 17 = .ok (.iconst 1, 1) := by decide +kernel
theorem d_La_add_18 : decode b_La_add 18 = .ok (.ireturn, 1) := by decide +kernel
theorem d_La_add_19 : decode b_La_add 19 = .ok (.astore 5, 2) := by decide +kernel
theorem d_La_add_21 : decode b_La_add 21 = .ok (.iconst 2, 1) := by decide +kernel
theorem d_La_add_22 : decode b_La_add 22 = .ok (.ireturn, 1) := by decide +kernel
theorem d_La_add_23 : decode b_La_add 23 = .ok (.iconst 0, 1) := by decide +kernel
theorem d_La_add_24 : decode b_La_add 24 = .ok (.ireturn, 1) := by decide +kernel
theorem d_La_where_0 : decode b_La_where 0 = .ok (.aload_n 3, 1) := by decide +kernel
theorem d_La_where_1 : decode b_La_where 1 = .ok (.iconst 0, 1) := by decide +kernel
theorem d_La_where_2 : decode b_La_where 2 = .ok (.aload_n 0, 1) := by decide +kernel
theorem d_La_where_3 : decode b_La_where 3 = .ok (.iload_n 1, 1) := by decide +kernel
theorem d_La_where_4 : decode b_La_where 4 = .ok (.iload_n 2, 1) := by decide +kernel
theorem d_La_where_5 : decode b_La_where 5 = .ok (.invokevirtual 21, 3) := by decide +kernel
theorem d_La_where_8 : decode b_La_where 8 = .ok (.i2l, 1) := by decide +kernel
theorem d_La_where_9 : decode b_La_where 9 = .ok (.lastore, 1) := by decide +kernel
theorem d_La_where_10 : decode b_La_where 10 = .ok (.goto 7, 3) := by decide +kernel
theorem d_La_where_13 : decode b_La_where 13 = .ok (.astore 4, 2) := by decide +kernel
theorem d_La_where_15 : decode b_La_where 15 = .ok (.iconst 1, 1) := by decide +kernel
theorem d_La_where_16 : decode b_La_where 16 = .ok (.ireturn, 1) := by decide +kernel
theorem d_La_where_17 : decode b_La_where 17 = .ok (.iconst 0, 1) := by decide +kernel
theorem d_La_where_18 : decode b_La_where 18 = .ok (.ireturn, 1) := by decide +kernel
theorem d_La_about_0 : decode b_La_about 0 = .ok (.aload_n 3, 1) := by decide +kernel
theorem d_La_about_1 : decode b_La_about 1 = .ok (.iconst 0, 1) := by decide +kernel
theorem d_La_about_2 : decode b_La_about 2 = .ok (.aload_n 0, 1) := by decide +kernel
theorem d_La_about_3 : decode b_La_about 3 = .ok (.iload_n 1, 1) := by decide +kernel
theorem d_La_about_4 : decode b_La_about 4 = .ok (.iload_n 2, 1) := by decide +kernel
theorem d_La_about_5 : decode b_La_about 5 = .ok (.invokevirtual 27, 3) := by decide +kernel
theorem d_La_about_8 : decode b_La_about 8 = .ok (.i2l, 1) := by decide +kernel
theorem d_La_about_9 : decode b_La_about 9 = .ok (.lastore, 1) := by decide +kernel
theorem d_La_about_10 : decode b_La_about 10 = .ok (.goto 7, 3) := by decide +kernel
theorem d_La_about_13 : decode b_La_about 13 = .ok (.astore 4, 2) := by decide +kernel
theorem d_La_about_15 : decode b_La_about 15 = .ok (.iconst 1, 1) := by decide +kernel
theorem d_La_about_16 : decode b_La_about 16 = .ok (.ireturn, 1) := by decide +kernel
theorem d_La_about_17 : decode b_La_about 17 = .ok (.iconst 0, 1) := by decide +kernel
theorem d_La_about_18 : decode b_La_about 18 = .ok (.ireturn, 1) := by decide +kernel
theorem d_La_signature_0 : decode b_La_signature 0 = .ok (.aload_n 2, 1) := by decide +kernel
theorem d_La_signature_1 : decode b_La_signature 1 = .ok (.iconst 0, 1) := by decide +kernel
theorem d_La_signature_2 : decode b_La_signature 2 = .ok (.aload_n 0, 1) := by decide +kernel
theorem d_La_signature_3 : decode b_La_signature 3 = .ok (.iload_n 1, 1) := by decide +kernel
theorem d_La_signature_4 : decode b_La_signature 4 = .ok (.invokevirtual 30, 3) := by decide +kernel
theorem d_La_signature_7 : decode b_La_signature 7 = .ok (.i2l, 1) := by decide +kernel
theorem d_La_signature_8 : decode b_La_signature 8 = .ok (.lastore, 1) := by decide +kernel
theorem d_La_signature_9 : decode b_La_signature 9 = .ok (.goto 6, 3) := by decide +kernel
theorem d_La_signature_12 : decode b_La_signature 12 = .ok (.astore_n 3, 1) := by decide +kernel
theorem d_La_signature_13 : decode b_La_signature 13 = .ok (.iconst 1, 1) := by decide +kernel
theorem d_La_signature_14 : decode b_La_signature 14 = .ok (.ireturn, 1) := by decide +kernel
theorem d_La_signature_15 : decode b_La_signature 15 = .ok (.iconst 0, 1) := by decide +kernel
theorem d_La_signature_16 : decode b_La_signature 16 = .ok (.ireturn, 1) := by decide +kernel
theorem d_La_frame_0 : decode b_La_frame 0 = .ok (.aload 4, 2) := by decide +kernel
theorem d_La_frame_2 : decode b_La_frame 2 = .ok (.iconst 0, 1) := by decide +kernel
theorem d_La_frame_3 : decode b_La_frame 3 = .ok (.aload_n 0, 1) := by decide +kernel
theorem d_La_frame_4 : decode b_La_frame 4 = .ok (.iload_n 1, 1) := by decide +kernel
theorem d_La_frame_5 : decode b_La_frame 5 = .ok (.iload_n 2, 1) := by decide +kernel
theorem d_La_frame_6 : decode b_La_frame 6 = .ok (.iload_n 3, 1) := by decide +kernel
theorem d_La_frame_7 : decode b_La_frame 7 = .ok (.invokevirtual 34, 3) := by decide +kernel
theorem d_La_frame_10 : decode b_La_frame 10 = .ok (.i2l, 1) := by decide +kernel
theorem d_La_frame_11 : decode b_La_frame 11 = .ok (.lastore, 1) := by decide +kernel
theorem d_La_frame_12 : decode b_La_frame 12 = .ok (.goto 7, 3) := by decide +kernel
theorem d_La_frame_15 : decode b_La_frame 15 = .ok (.astore 5, 2) := by decide +kernel
theorem d_La_frame_17 : decode b_La_frame 17 = .ok (.iconst 1, 1) := by decide +kernel
theorem d_La_frame_18 : decode b_La_frame 18 = .ok (.ireturn, 1) := by decide +kernel
theorem d_La_frame_19 : decode b_La_frame 19 = .ok (.iconst 0, 1) := by decide +kernel
theorem d_La_frame_20 : decode b_La_frame 20 = .ok (.ireturn, 1) := by decide +kernel
theorem d_La_place_0 : decode b_La_place 0 = .ok (.aload_n 3, 1) := by decide +kernel
theorem d_La_place_1 : decode b_La_place 1 = .ok (.iconst 0, 1) := by decide +kernel
theorem d_La_place_2 : decode b_La_place 2 = .ok (.aload_n 0, 1) := by decide +kernel
theorem d_La_place_3 : decode b_La_place 3 = .ok (.iload_n 1, 1) := by decide +kernel
theorem d_La_place_4 : decode b_La_place 4 = .ok (.iload_n 2, 1) := by decide +kernel
theorem d_La_place_5 : decode b_La_place 5 = .ok (.invokevirtual 37, 3) := by decide +kernel
theorem d_La_place_8 : decode b_La_place 8 = .ok (.i2l, 1) := by decide +kernel
theorem d_La_place_9 : decode b_La_place 9 = .ok (.lastore, 1) := by decide +kernel
theorem d_La_place_10 : decode b_La_place 10 = .ok (.goto 7, 3) := by decide +kernel
theorem d_La_place_13 : decode b_La_place 13 = .ok (.astore 4, 2) := by decide +kernel
theorem d_La_place_15 : decode b_La_place 15 = .ok (.iconst 1, 1) := by decide +kernel
theorem d_La_place_16 : decode b_La_place 16 = .ok (.ireturn, 1) := by decide +kernel
theorem d_La_place_17 : decode b_La_place 17 = .ok (.iconst 0, 1) := by decide +kernel
theorem d_La_place_18 : decode b_La_place 18 = .ok (.ireturn, 1) := by decide +kernel
theorem d_La_law_0 : decode code 0 = .ok (.new 8, 3) := by decide +kernel
theorem d_La_law_3 : decode code 3 = .ok (.dup, 1) := by decide +kernel
theorem d_La_law_4 : decode code 4 = .ok (.invokespecial 40, 3) := by decide +kernel
theorem d_La_law_7 : decode code 7 = .ok (.astore_n 1, 1) := by decide +kernel
theorem d_La_law_8 : decode code 8 = .ok (.new 41, 3) := by decide +kernel
theorem d_La_law_11 : decode code 11 = .ok (.dup, 1) := by decide +kernel
theorem d_La_law_12 : decode code 12 = .ok (.invokespecial 43, 3) := by decide +kernel
theorem d_La_law_15 : decode code 15 = .ok (.astore_n 2, 1) := by decide +kernel
theorem d_La_law_16 : decode code 16 = .ok (.iconst 1, 1) := by decide +kernel
theorem d_La_law_17 : decode code 17 = .ok (.newarray .long, 2) := by decide +kernel
theorem d_La_law_19 : decode code 19 = .ok (.astore_n 3, 1) := by decide +kernel
theorem d_La_law_20 : decode code 20 = .ok (.iconst 0, 1) := by decide +kernel
theorem d_La_law_21 : decode code 21 = .ok (.istore 4, 2) := by decide +kernel
theorem d_La_law_23 : decode code 23 = .ok (.iload 4, 2) := by decide +kernel
theorem d_La_law_25 : decode code 25 = .ok (.aload_n 0, 1) := by decide +kernel
theorem d_La_law_26 : decode code 26 = .ok (.arraylength, 1) := by decide +kernel
theorem d_La_law_27 : decode code 27 = .ok (.iconst 5, 1) := by decide +kernel
theorem d_La_law_28 : decode code 28 = .ok (.isub, 1) := by decide +kernel
theorem d_La_law_29 : decode code 29 = .ok (.if_icmp .gt 599, 3) := by decide +kernel
theorem d_La_law_32 : decode code 32 = .ok (.aload_n 0, 1) := by decide +kernel
theorem d_La_law_33 : decode code 33 = .ok (.iload 4, 2) := by decide +kernel
theorem d_La_law_35 : decode code 35 = .ok (.iaload, 1) := by decide +kernel
theorem d_La_law_36 : decode code 36 = .ok (.bipush 15, 2) := by decide +kernel
theorem d_La_law_38 : decode code 38 = .ok (.iand, 1) := by decide +kernel
theorem d_La_law_39 : decode code 39 = .ok (.tableswitch 583 0 8 #[49, 137, 217, 285, 353, 409, 422, 502, 570], 49) := by decide +kernel
theorem d_La_law_88 : decode code 88 = .ok (.aload_n 1, 1) := by decide +kernel
theorem d_La_law_89 : decode code 89 = .ok (.aload_n 0, 1) := by decide +kernel
theorem d_La_law_90 : decode code 90 = .ok (.iload 4, 2) := by decide +kernel
theorem d_La_law_92 : decode code 92 = .ok (.iconst 1, 1) := by decide +kernel
theorem d_La_law_93 : decode code 93 = .ok (.iadd, 1) := by decide +kernel
theorem d_La_law_94 : decode code 94 = .ok (.iaload, 1) := by decide +kernel
theorem d_La_law_95 : decode code 95 = .ok (.aload_n 0, 1) := by decide +kernel
theorem d_La_law_96 : decode code 96 = .ok (.iload 4, 2) := by decide +kernel
theorem d_La_law_98 : decode code 98 = .ok (.iconst 2, 1) := by decide +kernel
theorem d_La_law_99 : decode code 99 = .ok (.iadd, 1) := by decide +kernel
theorem d_La_law_100 : decode code 100 = .ok (.iaload, 1) := by decide +kernel
theorem d_La_law_101 : decode code 101 = .ok (.aload_n 0, 1) := by decide +kernel
theorem d_La_law_102 : decode code 102 = .ok (.iload 4, 2) := by decide +kernel
theorem d_La_law_104 : decode code 104 = .ok (.iconst 3, 1) := by decide +kernel
theorem d_La_law_105 : decode code 105 = .ok (.iadd, 1) := by decide +kernel
theorem d_La_law_106 : decode code 106 = .ok (.iaload, 1) := by decide +kernel
theorem d_La_law_107 : decode code 107 = .ok (.aload_n 0, 1) := by decide +kernel
theorem d_La_law_108 : decode code 108 = .ok (.iload 4, 2) := by decide +kernel
theorem d_La_law_110 : decode code 110 = .ok (.iconst 4, 1) := by decide +kernel
theorem d_La_law_111 : decode code 111 = .ok (.iadd, 1) := by decide +kernel
theorem d_La_law_112 : decode code 112 = .ok (.iaload, 1) := by decide +kernel
theorem d_La_law_113 : decode code 113 = .ok (.ifCond .eq 7, 3) := by decide +kernel
theorem d_La_law_116 : decode code 116 = .ok (.iconst 1, 1) := by decide +kernel
theorem d_La_law_117 : decode code 117 = .ok (.goto 4, 3) := by decide +kernel
theorem d_La_law_120 : decode code 120 = .ok (.iconst 0, 1) := by decide +kernel
theorem d_La_law_121 : decode code 121 = .ok (.invokestatic 44, 3) := by decide +kernel
theorem d_La_law_124 : decode code 124 = .ok (.istore 5, 2) := by decide +kernel
theorem d_La_law_126 : decode code 126 = .ok (.aload_n 2, 1) := by decide +kernel
theorem d_La_law_127 : decode code 127 = .ok (.aload_n 0, 1) := by decide +kernel
theorem d_La_law_128 : decode code 128 = .ok (.iload 4, 2) := by decide +kernel
theorem d_La_law_130 : decode code 130 = .ok (.iconst 1, 1) := by decide +kernel
theorem d_La_law_131 : decode code 131 = .ok (.iadd, 1) := by decide +kernel
theorem d_La_law_132 : decode code 132 = .ok (.iaload, 1) := by decide +kernel
theorem d_La_law_133 : decode code 133 = .ok (.aload_n 0, 1) := by decide +kernel
theorem d_La_law_134 : decode code 134 = .ok (.iload 4, 2) := by decide +kernel
theorem d_La_law_136 : decode code 136 = .ok (.iconst 2, 1) := by decide +kernel
theorem d_La_law_137 : decode code 137 = .ok (.iadd, 1) := by decide +kernel
theorem d_La_law_138 : decode code 138 = .ok (.iaload, 1) := by decide +kernel
theorem d_La_law_139 : decode code 139 = .ok (.aload_n 0, 1) := by decide +kernel
theorem d_La_law_140 : decode code 140 = .ok (.iload 4, 2) := by decide +kernel
theorem d_La_law_142 : decode code 142 = .ok (.iconst 3, 1) := by decide +kernel
theorem d_La_law_143 : decode code 143 = .ok (.iadd, 1) := by decide +kernel
theorem d_La_law_144 : decode code 144 = .ok (.iaload, 1) := by decide +kernel
theorem d_La_law_145 : decode code 145 = .ok (.aload_n 0, 1) := by decide +kernel
theorem d_La_law_146 : decode code 146 = .ok (.iload 4, 2) := by decide +kernel
theorem d_La_law_148 : decode code 148 = .ok (.iconst 4, 1) := by decide +kernel
theorem d_La_law_149 : decode code 149 = .ok (.iadd, 1) := by decide +kernel
theorem d_La_law_150 : decode code 150 = .ok (.iaload, 1) := by decide +kernel
theorem d_La_law_151 : decode code 151 = .ok (.ifCond .eq 7, 3) := by decide +kernel
theorem d_La_law_154 : decode code 154 = .ok (.iconst 1, 1) := by decide +kernel
theorem d_La_law_155 : decode code 155 = .ok (.goto 4, 3) := by decide +kernel
theorem d_La_law_158 : decode code 158 = .ok (.iconst 0, 1) := by decide +kernel
theorem d_La_law_159 : decode code 159 = .ok (.invokevirtual 49, 3) := by decide +kernel
theorem d_La_law_162 : decode code 162 = .ok (.aload_n 2, 1) := by decide +kernel
theorem d_La_law_163 : decode code 163 = .ok (.invokevirtual 50, 3) := by decide +kernel
theorem d_La_law_166 : decode code 166 = .ok (.iload 5, 2) := by decide +kernel
theorem d_La_law_168 : decode code 168 = .ok (.if_icmp .eq 5, 3) := by decide +kernel
theorem d_La_law_171 : decode code 171 = .ok (.iconst 0, 1) := by decide +kernel
theorem d_La_law_172 : decode code 172 = .ok (.ireturn, 1) := by decide +kernel
theorem d_La_law_173 : decode code 173 = .ok (.goto 449, 3) := by decide +kernel
theorem d_La_law_176 : decode code 176 = .ok (.aload_n 1, 1) := by decide +kernel
theorem d_La_law_177 : decode code 177 = .ok (.aload_n 0, 1) := by decide +kernel
theorem d_La_law_178 : decode code 178 = .ok (.iload 4, 2) := by decide +kernel
theorem d_La_law_180 : decode code 180 = .ok (.iconst 1, 1) := by decide +kernel
theorem d_La_law_181 : decode code 181 = .ok (.iadd, 1) := by decide +kernel
theorem d_La_law_182 : decode code 182 = .ok (.iaload, 1) := by decide +kernel
theorem d_La_law_183 : decode code 183 = .ok (.aload_n 0, 1) := by decide +kernel
theorem d_La_law_184 : decode code 184 = .ok (.iload 4, 2) := by decide +kernel
theorem d_La_law_186 : decode code 186 = .ok (.iconst 2, 1) := by decide +kernel
theorem d_La_law_187 : decode code 187 = .ok (.iadd, 1) := by decide +kernel
theorem d_La_law_188 : decode code 188 = .ok (.iaload, 1) := by decide +kernel
theorem d_La_law_189 : decode code 189 = .ok (.aload_n 0, 1) := by decide +kernel
theorem d_La_law_190 : decode code 190 = .ok (.iload 4, 2) := by decide +kernel
theorem d_La_law_192 : decode code 192 = .ok (.iconst 3, 1) := by decide +kernel
theorem d_La_law_193 : decode code 193 = .ok (.iadd, 1) := by decide +kernel
theorem d_La_law_194 : decode code 194 = .ok (.iaload, 1) := by decide +kernel
theorem d_La_law_195 : decode code 195 = .ok (.aload_n 3, 1) := by decide +kernel
theorem d_La_law_196 : decode code 196 = .ok (.invokestatic 54, 3) := by decide +kernel
theorem d_La_law_199 : decode code 199 = .ok (.istore 5, 2) := by decide +kernel
theorem d_La_law_201 : decode code 201 = .ok (.aload_n 2, 1) := by decide +kernel
theorem d_La_law_202 : decode code 202 = .ok (.aload_n 0, 1) := by decide +kernel
theorem d_La_law_203 : decode code 203 = .ok (.iload 4, 2) := by decide +kernel
theorem d_La_law_205 : decode code 205 = .ok (.iconst 1, 1) := by decide +kernel
theorem d_La_law_206 : decode code 206 = .ok (.iadd, 1) := by decide +kernel
theorem d_La_law_207 : decode code 207 = .ok (.iaload, 1) := by decide +kernel
theorem d_La_law_208 : decode code 208 = .ok (.aload_n 0, 1) := by decide +kernel
theorem d_La_law_209 : decode code 209 = .ok (.iload 4, 2) := by decide +kernel
theorem d_La_law_211 : decode code 211 = .ok (.iconst 2, 1) := by decide +kernel
theorem d_La_law_212 : decode code 212 = .ok (.iadd, 1) := by decide +kernel
theorem d_La_law_213 : decode code 213 = .ok (.iaload, 1) := by decide +kernel
theorem d_La_law_214 : decode code 214 = .ok (.aload_n 0, 1) := by decide +kernel
theorem d_La_law_215 : decode code 215 = .ok (.iload 4, 2) := by decide +kernel
theorem d_La_law_217 : decode code 217 = .ok (.iconst 3, 1) := by decide +kernel
theorem d_La_law_218 : decode code 218 = .ok (.iadd, 1) := by decide +kernel
theorem d_La_law_219 : decode code 219 = .ok (.iaload, 1) := by decide +kernel
theorem d_La_law_220 : decode code 220 = .ok (.invokevirtual 57, 3) := by decide +kernel
theorem d_La_law_223 : decode code 223 = .ok (.istore 6, 2) := by decide +kernel
theorem d_La_law_225 : decode code 225 = .ok (.aload_n 2, 1) := by decide +kernel
theorem d_La_law_226 : decode code 226 = .ok (.invokevirtual 50, 3) := by decide +kernel
theorem d_La_law_229 : decode code 229 = .ok (.iload 5, 2) := by decide +kernel
theorem d_La_law_231 : decode code 231 = .ok (.if_icmp .eq 5, 3) := by decide +kernel
theorem d_La_law_234 : decode code 234 = .ok (.iconst 0, 1) := by decide +kernel
theorem d_La_law_235 : decode code 235 = .ok (.ireturn, 1) := by decide +kernel
theorem d_La_law_236 : decode code 236 = .ok (.iload 5, 2) := by decide +kernel
theorem d_La_law_238 : decode code 238 = .ok (.ifCond .ne 15, 3) := by decide +kernel
theorem d_La_law_241 : decode code 241 = .ok (.aload_n 3, 1) := by decide +kernel
theorem d_La_law_242 : decode code 242 = .ok (.iconst 0, 1) := by decide +kernel
theorem d_La_law_243 : decode code 243 = .ok (.laload, 1) := by decide +kernel
theorem d_La_law_244 : decode code 244 = .ok (.iload 6, 2) := by decide +kernel
theorem d_La_law_246 : decode code 246 = .ok (.i2l, 1) := by decide +kernel
theorem d_La_law_247 : decode code 247 = .ok (.lcmp, 1) := by decide +kernel
theorem d_La_law_248 : decode code 248 = .ok (.ifCond .eq 5, 3) := by decide +kernel
theorem d_La_law_251 : decode code 251 = .ok (.iconst 0, 1) := by decide +kernel
theorem d_La_law_252 : decode code 252 = .ok (.ireturn, 1) := by decide +kernel
theorem d_La_law_253 : decode code 253 = .ok (.goto 369, 3) := by decide +kernel
theorem d_La_law_256 : decode code 256 = .ok (.aload_n 1, 1) := by decide +kernel
theorem d_La_law_257 : decode code 257 = .ok (.aload_n 0, 1) := by decide +kernel
theorem d_La_law_258 : decode code 258 = .ok (.iload 4, 2) := by decide +kernel
theorem d_La_law_260 : decode code 260 = .ok (.iconst 1, 1) := by decide +kernel
theorem d_La_law_261 : decode code 261 = .ok (.iadd, 1) := by decide +kernel
theorem d_La_law_262 : decode code 262 = .ok (.iaload, 1) := by decide +kernel
theorem d_La_law_263 : decode code 263 = .ok (.aload_n 0, 1) := by decide +kernel
theorem d_La_law_264 : decode code 264 = .ok (.iload 4, 2) := by decide +kernel
theorem d_La_law_266 : decode code 266 = .ok (.iconst 2, 1) := by decide +kernel
theorem d_La_law_267 : decode code 267 = .ok (.iadd, 1) := by decide +kernel
theorem d_La_law_268 : decode code 268 = .ok (.iaload, 1) := by decide +kernel
theorem d_La_law_269 : decode code 269 = .ok (.aload_n 3, 1) := by decide +kernel
theorem d_La_law_270 : decode code 270 = .ok (.invokestatic 58, 3) := by decide +kernel
theorem d_La_law_273 : decode code 273 = .ok (.istore 5, 2) := by decide +kernel
theorem d_La_law_275 : decode code 275 = .ok (.aload_n 2, 1) := by decide +kernel
theorem d_La_law_276 : decode code 276 = .ok (.aload_n 0, 1) := by decide +kernel
theorem d_La_law_277 : decode code 277 = .ok (.iload 4, 2) := by decide +kernel
theorem d_La_law_279 : decode code 279 = .ok (.iconst 1, 1) := by decide +kernel
theorem d_La_law_280 : decode code 280 = .ok (.iadd, 1) := by decide +kernel
theorem d_La_law_281 : decode code 281 = .ok (.iaload, 1) := by decide +kernel
theorem d_La_law_282 : decode code 282 = .ok (.aload_n 0, 1) := by decide +kernel
theorem d_La_law_283 : decode code 283 = .ok (.iload 4, 2) := by decide +kernel
theorem d_La_law_285 : decode code 285 = .ok (.iconst 2, 1) := by decide +kernel
theorem d_La_law_286 : decode code 286 = .ok (.iadd, 1) := by decide +kernel
theorem d_La_law_287 : decode code 287 = .ok (.iaload, 1) := by decide +kernel
theorem d_La_law_288 : decode code 288 = .ok (.invokevirtual 61, 3) := by decide +kernel
theorem d_La_law_291 : decode code 291 = .ok (.istore 6, 2) := by decide +kernel
theorem d_La_law_293 : decode code 293 = .ok (.aload_n 2, 1) := by decide +kernel
theorem d_La_law_294 : decode code 294 = .ok (.invokevirtual 50, 3) := by decide +kernel
theorem d_La_law_297 : decode code 297 = .ok (.iload 5, 2) := by decide +kernel
theorem d_La_law_299 : decode code 299 = .ok (.if_icmp .eq 5, 3) := by decide +kernel
theorem d_La_law_302 : decode code 302 = .ok (.iconst 0, 1) := by decide +kernel
theorem d_La_law_303 : decode code 303 = .ok (.ireturn, 1) := by decide +kernel
theorem d_La_law_304 : decode code 304 = .ok (.iload 5, 2) := by decide +kernel
theorem d_La_law_306 : decode code 306 = .ok (.ifCond .ne 15, 3) := by decide +kernel
theorem d_La_law_309 : decode code 309 = .ok (.aload_n 3, 1) := by decide +kernel
theorem d_La_law_310 : decode code 310 = .ok (.iconst 0, 1) := by decide +kernel
theorem d_La_law_311 : decode code 311 = .ok (.laload, 1) := by decide +kernel
theorem d_La_law_312 : decode code 312 = .ok (.iload 6, 2) := by decide +kernel
theorem d_La_law_314 : decode code 314 = .ok (.i2l, 1) := by decide +kernel
theorem d_La_law_315 : decode code 315 = .ok (.lcmp, 1) := by decide +kernel
theorem d_La_law_316 : decode code 316 = .ok (.ifCond .eq 5, 3) := by decide +kernel
theorem d_La_law_319 : decode code 319 = .ok (.iconst 0, 1) := by decide +kernel
theorem d_La_law_320 : decode code 320 = .ok (.ireturn, 1) := by decide +kernel
theorem d_La_law_321 : decode code 321 = .ok (.goto 301, 3) := by decide +kernel
theorem d_La_law_324 : decode code 324 = .ok (.aload_n 1, 1) := by decide +kernel
theorem d_La_law_325 : decode code 325 = .ok (.aload_n 0, 1) := by decide +kernel
theorem d_La_law_326 : decode code 326 = .ok (.iload 4, 2) := by decide +kernel
theorem d_La_law_328 : decode code 328 = .ok (.iconst 1, 1) := by decide +kernel
theorem d_La_law_329 : decode code 329 = .ok (.iadd, 1) := by decide +kernel
theorem d_La_law_330 : decode code 330 = .ok (.iaload, 1) := by decide +kernel
theorem d_La_law_331 : decode code 331 = .ok (.aload_n 0, 1) := by decide +kernel
theorem d_La_law_332 : decode code 332 = .ok (.iload 4, 2) := by decide +kernel
theorem d_La_law_334 : decode code 334 = .ok (.iconst 2, 1) := by decide +kernel
theorem d_La_law_335 : decode code 335 = .ok (.iadd, 1) := by decide +kernel
theorem d_La_law_336 : decode code 336 = .ok (.iaload, 1) := by decide +kernel
theorem d_La_law_337 : decode code 337 = .ok (.aload_n 3, 1) := by decide +kernel
theorem d_La_law_338 : decode code 338 = .ok (.invokestatic 62, 3) := by decide +kernel
theorem d_La_law_341 : decode code 341 = .ok (.istore 5, 2) := by decide +kernel
theorem d_La_law_343 : decode code 343 = .ok (.aload_n 2, 1) := by decide +kernel
theorem d_La_law_344 : decode code 344 = .ok (.aload_n 0, 1) := by decide +kernel
theorem d_La_law_345 : decode code 345 = .ok (.iload 4, 2) := by decide +kernel
theorem d_La_law_347 : decode code 347 = .ok (.iconst 1, 1) := by decide +kernel
theorem d_La_law_348 : decode code 348 = .ok (.iadd, 1) := by decide +kernel
theorem d_La_law_349 : decode code 349 = .ok (.iaload, 1) := by decide +kernel
theorem d_La_law_350 : decode code 350 = .ok (.aload_n 0, 1) := by decide +kernel
theorem d_La_law_351 : decode code 351 = .ok (.iload 4, 2) := by decide +kernel
theorem d_La_law_353 : decode code 353 = .ok (.iconst 2, 1) := by decide +kernel
theorem d_La_law_354 : decode code 354 = .ok (.iadd, 1) := by decide +kernel
theorem d_La_law_355 : decode code 355 = .ok (.iaload, 1) := by decide +kernel
theorem d_La_law_356 : decode code 356 = .ok (.invokevirtual 64, 3) := by decide +kernel
theorem d_La_law_359 : decode code 359 = .ok (.istore 6, 2) := by decide +kernel
theorem d_La_law_361 : decode code 361 = .ok (.aload_n 2, 1) := by decide +kernel
theorem d_La_law_362 : decode code 362 = .ok (.invokevirtual 50, 3) := by decide +kernel
theorem d_La_law_365 : decode code 365 = .ok (.iload 5, 2) := by decide +kernel
theorem d_La_law_367 : decode code 367 = .ok (.if_icmp .eq 5, 3) := by decide +kernel
theorem d_La_law_370 : decode code 370 = .ok (.iconst 0, 1) := by decide +kernel
theorem d_La_law_371 : decode code 371 = .ok (.ireturn, 1) := by decide +kernel
theorem d_La_law_372 : decode code 372 = .ok (.iload 5, 2) := by decide +kernel
theorem d_La_law_374 : decode code 374 = .ok (.ifCond .ne 15, 3) := by decide +kernel
theorem d_La_law_377 : decode code 377 = .ok (.aload_n 3, 1) := by decide +kernel
theorem d_La_law_378 : decode code 378 = .ok (.iconst 0, 1) := by decide +kernel
theorem d_La_law_379 : decode code 379 = .ok (.laload, 1) := by decide +kernel
theorem d_La_law_380 : decode code 380 = .ok (.iload 6, 2) := by decide +kernel
theorem d_La_law_382 : decode code 382 = .ok (.i2l, 1) := by decide +kernel
theorem d_La_law_383 : decode code 383 = .ok (.lcmp, 1) := by decide +kernel
theorem d_La_law_384 : decode code 384 = .ok (.ifCond .eq 5, 3) := by decide +kernel
theorem d_La_law_387 : decode code 387 = .ok (.iconst 0, 1) := by decide +kernel
theorem d_La_law_388 : decode code 388 = .ok (.ireturn, 1) := by decide +kernel
theorem d_La_law_389 : decode code 389 = .ok (.goto 233, 3) := by decide +kernel
theorem d_La_law_392 : decode code 392 = .ok (.aload_n 1, 1) := by decide +kernel
theorem d_La_law_393 : decode code 393 = .ok (.aload_n 0, 1) := by decide +kernel
theorem d_La_law_394 : decode code 394 = .ok (.iload 4, 2) := by decide +kernel
theorem d_La_law_396 : decode code 396 = .ok (.iconst 1, 1) := by decide +kernel
theorem d_La_law_397 : decode code 397 = .ok (.iadd, 1) := by decide +kernel
theorem d_La_law_398 : decode code 398 = .ok (.iaload, 1) := by decide +kernel
theorem d_La_law_399 : decode code 399 = .ok (.aload_n 3, 1) := by decide +kernel
theorem d_La_law_400 : decode code 400 = .ok (.invokestatic 65, 3) := by decide +kernel
theorem d_La_law_403 : decode code 403 = .ok (.istore 5, 2) := by decide +kernel
theorem d_La_law_405 : decode code 405 = .ok (.aload_n 2, 1) := by decide +kernel
theorem d_La_law_406 : decode code 406 = .ok (.aload_n 0, 1) := by decide +kernel
theorem d_La_law_407 : decode code 407 = .ok (.iload 4, 2) := by decide +kernel
theorem d_La_law_409 : decode code 409 = .ok (.iconst 1, 1) := by decide +kernel
theorem d_La_law_410 : decode code 410 = .ok (.iadd, 1) := by decide +kernel
theorem d_La_law_411 : decode code 411 = .ok (.iaload, 1) := by decide +kernel
theorem d_La_law_412 : decode code 412 = .ok (.invokevirtual 68, 3) := by decide +kernel
theorem d_La_law_415 : decode code 415 = .ok (.istore 6, 2) := by decide +kernel
theorem d_La_law_417 : decode code 417 = .ok (.aload_n 2, 1) := by decide +kernel
theorem d_La_law_418 : decode code 418 = .ok (.invokevirtual 50, 3) := by decide +kernel
theorem d_La_law_421 : decode code 421 = .ok (.iload 5, 2) := by decide +kernel
theorem d_La_law_423 : decode code 423 = .ok (.if_icmp .eq 5, 3) := by decide +kernel
theorem d_La_law_426 : decode code 426 = .ok (.iconst 0, 1) := by decide +kernel
theorem d_La_law_427 : decode code 427 = .ok (.ireturn, 1) := by decide +kernel
theorem d_La_law_428 : decode code 428 = .ok (.iload 5, 2) := by decide +kernel
theorem d_La_law_430 : decode code 430 = .ok (.ifCond .ne 15, 3) := by decide +kernel
theorem d_La_law_433 : decode code 433 = .ok (.aload_n 3, 1) := by decide +kernel
theorem d_La_law_434 : decode code 434 = .ok (.iconst 0, 1) := by decide +kernel
theorem d_La_law_435 : decode code 435 = .ok (.laload, 1) := by decide +kernel
theorem d_La_law_436 : decode code 436 = .ok (.iload 6, 2) := by decide +kernel
theorem d_La_law_438 : decode code 438 = .ok (.i2l, 1) := by decide +kernel
theorem d_La_law_439 : decode code 439 = .ok (.lcmp, 1) := by decide +kernel
theorem d_La_law_440 : decode code 440 = .ok (.ifCond .eq 5, 3) := by decide +kernel
theorem d_La_law_443 : decode code 443 = .ok (.iconst 0, 1) := by decide +kernel
theorem d_La_law_444 : decode code 444 = .ok (.ireturn, 1) := by decide +kernel
theorem d_La_law_445 : decode code 445 = .ok (.goto 177, 3) := by decide +kernel
theorem d_La_law_448 : decode code 448 = .ok (.aload_n 1, 1) := by decide +kernel
theorem d_La_law_449 : decode code 449 = .ok (.invokevirtual 69, 3) := by decide +kernel
theorem d_La_law_452 : decode code 452 = .ok (.aload_n 2, 1) := by decide +kernel
theorem d_La_law_453 : decode code 453 = .ok (.invokevirtual 72, 3) := by decide +kernel
theorem d_La_law_456 : decode code 456 = .ok (.if_icmp .eq 166, 3) := by decide +kernel
theorem d_La_law_459 : decode code 459 = .ok (.iconst 0, 1) := by decide +kernel
theorem d_La_law_460 : decode code 460 = .ok (.ireturn, 1) := by decide +kernel
theorem d_La_law_461 : decode code 461 = .ok (.aload_n 1, 1) := by decide +kernel
theorem d_La_law_462 : decode code 462 = .ok (.aload_n 0, 1) := by decide +kernel
theorem d_La_law_463 : decode code 463 = .ok (.iload 4, 2) := by decide +kernel
theorem d_La_law_465 : decode code 465 = .ok (.iconst 1, 1) := by decide +kernel
theorem d_La_law_466 : decode code 466 = .ok (.iadd, 1) := by decide +kernel
theorem d_La_law_467 : decode code 467 = .ok (.iaload, 1) := by decide +kernel
theorem d_La_law_468 : decode code 468 = .ok (.aload_n 0, 1) := by decide +kernel
theorem d_La_law_469 : decode code 469 = .ok (.iload 4, 2) := by decide +kernel
theorem d_La_law_471 : decode code 471 = .ok (.iconst 2, 1) := by decide +kernel
theorem d_La_law_472 : decode code 472 = .ok (.iadd, 1) := by decide +kernel
theorem d_La_law_473 : decode code 473 = .ok (.iaload, 1) := by decide +kernel
theorem d_La_law_474 : decode code 474 = .ok (.aload_n 0, 1) := by decide +kernel
theorem d_La_law_475 : decode code 475 = .ok (.iload 4, 2) := by decide +kernel
theorem d_La_law_477 : decode code 477 = .ok (.iconst 3, 1) := by decide +kernel
theorem d_La_law_478 : decode code 478 = .ok (.iadd, 1) := by decide +kernel
theorem d_La_law_479 : decode code 479 = .ok (.iaload, 1) := by decide +kernel
theorem d_La_law_480 : decode code 480 = .ok (.aload_n 3, 1) := by decide +kernel
theorem d_La_law_481 : decode code 481 = .ok (.invokestatic 73, 3) := by decide +kernel
theorem d_La_law_484 : decode code 484 = .ok (.istore 5, 2) := by decide +kernel
theorem d_La_law_486 : decode code 486 = .ok (.aload_n 2, 1) := by decide +kernel
theorem d_La_law_487 : decode code 487 = .ok (.aload_n 0, 1) := by decide +kernel
theorem d_La_law_488 : decode code 488 = .ok (.iload 4, 2) := by decide +kernel
theorem d_La_law_490 : decode code 490 = .ok (.iconst 1, 1) := by decide +kernel
theorem d_La_law_491 : decode code 491 = .ok (.iadd, 1) := by decide +kernel
theorem d_La_law_492 : decode code 492 = .ok (.iaload, 1) := by decide +kernel
theorem d_La_law_493 : decode code 493 = .ok (.aload_n 0, 1) := by decide +kernel
theorem d_La_law_494 : decode code 494 = .ok (.iload 4, 2) := by decide +kernel
theorem d_La_law_496 : decode code 496 = .ok (.iconst 2, 1) := by decide +kernel
theorem d_La_law_497 : decode code 497 = .ok (.iadd, 1) := by decide +kernel
theorem d_La_law_498 : decode code 498 = .ok (.iaload, 1) := by decide +kernel
theorem d_La_law_499 : decode code 499 = .ok (.aload_n 0, 1) := by decide +kernel
theorem d_La_law_500 : decode code 500 = .ok (.iload 4, 2) := by decide +kernel
theorem d_La_law_502 : decode code 502 = .ok (.iconst 3, 1) := by decide +kernel
theorem d_La_law_503 : decode code 503 = .ok (.iadd, 1) := by decide +kernel
theorem d_La_law_504 : decode code 504 = .ok (.iaload, 1) := by decide +kernel
theorem d_La_law_505 : decode code 505 = .ok (.invokevirtual 75, 3) := by decide +kernel
theorem d_La_law_508 : decode code 508 = .ok (.istore 6, 2) := by decide +kernel
theorem d_La_law_510 : decode code 510 = .ok (.aload_n 2, 1) := by decide +kernel
theorem d_La_law_511 : decode code 511 = .ok (.invokevirtual 50, 3) := by decide +kernel
theorem d_La_law_514 : decode code 514 = .ok (.iload 5, 2) := by decide +kernel
theorem d_La_law_516 : decode code 516 = .ok (.if_icmp .eq 5, 3) := by decide +kernel
theorem d_La_law_519 : decode code 519 = .ok (.iconst 0, 1) := by decide +kernel
theorem d_La_law_520 : decode code 520 = .ok (.ireturn, 1) := by decide +kernel
theorem d_La_law_521 : decode code 521 = .ok (.iload 5, 2) := by decide +kernel
theorem d_La_law_523 : decode code 523 = .ok (.ifCond .ne 15, 3) := by decide +kernel
theorem d_La_law_526 : decode code 526 = .ok (.aload_n 3, 1) := by decide +kernel
theorem d_La_law_527 : decode code 527 = .ok (.iconst 0, 1) := by decide +kernel
theorem d_La_law_528 : decode code 528 = .ok (.laload, 1) := by decide +kernel
theorem d_La_law_529 : decode code 529 = .ok (.iload 6, 2) := by decide +kernel
theorem d_La_law_531 : decode code 531 = .ok (.i2l, 1) := by decide +kernel
theorem d_La_law_532 : decode code 532 = .ok (.lcmp, 1) := by decide +kernel
theorem d_La_law_533 : decode code 533 = .ok (.ifCond .eq 5, 3) := by decide +kernel
theorem d_La_law_536 : decode code 536 = .ok (.iconst 0, 1) := by decide +kernel
theorem d_La_law_537 : decode code 537 = .ok (.ireturn, 1) := by decide +kernel
theorem d_La_law_538 : decode code 538 = .ok (.goto 84, 3) := by decide +kernel
theorem d_La_law_541 : decode code 541 = .ok (.aload_n 1, 1) := by decide +kernel
theorem d_La_law_542 : decode code 542 = .ok (.aload_n 0, 1) := by decide +kernel
theorem d_La_law_543 : decode code 543 = .ok (.iload 4, 2) := by decide +kernel
theorem d_La_law_545 : decode code 545 = .ok (.iconst 1, 1) := by decide +kernel
theorem d_La_law_546 : decode code 546 = .ok (.iadd, 1) := by decide +kernel
theorem d_La_law_547 : decode code 547 = .ok (.iaload, 1) := by decide +kernel
theorem d_La_law_548 : decode code 548 = .ok (.aload_n 0, 1) := by decide +kernel
theorem d_La_law_549 : decode code 549 = .ok (.iload 4, 2) := by decide +kernel
theorem d_La_law_551 : decode code 551 = .ok (.iconst 2, 1) := by decide +kernel
theorem d_La_law_552 : decode code 552 = .ok (.iadd, 1) := by decide +kernel
theorem d_La_law_553 : decode code 553 = .ok (.iaload, 1) := by decide +kernel
theorem d_La_law_554 : decode code 554 = .ok (.aload_n 3, 1) := by decide +kernel
theorem d_La_law_555 : decode code 555 = .ok (.invokestatic 76, 3) := by decide +kernel
theorem d_La_law_558 : decode code 558 = .ok (.istore 5, 2) := by decide +kernel
theorem d_La_law_560 : decode code 560 = .ok (.aload_n 2, 1) := by decide +kernel
theorem d_La_law_561 : decode code 561 = .ok (.aload_n 0, 1) := by decide +kernel
theorem d_La_law_562 : decode code 562 = .ok (.iload 4, 2) := by decide +kernel
theorem d_La_law_564 : decode code 564 = .ok (.iconst 1, 1) := by decide +kernel
theorem d_La_law_565 : decode code 565 = .ok (.iadd, 1) := by decide +kernel
theorem d_La_law_566 : decode code 566 = .ok (.iaload, 1) := by decide +kernel
theorem d_La_law_567 : decode code 567 = .ok (.aload_n 0, 1) := by decide +kernel
theorem d_La_law_568 : decode code 568 = .ok (.iload 4, 2) := by decide +kernel
theorem d_La_law_570 : decode code 570 = .ok (.iconst 2, 1) := by decide +kernel
theorem d_La_law_571 : decode code 571 = .ok (.iadd, 1) := by decide +kernel
theorem d_La_law_572 : decode code 572 = .ok (.iaload, 1) := by decide +kernel
theorem d_La_law_573 : decode code 573 = .ok (.invokevirtual 78, 3) := by decide +kernel
theorem d_La_law_576 : decode code 576 = .ok (.istore 6, 2) := by decide +kernel
theorem d_La_law_578 : decode code 578 = .ok (.aload_n 2, 1) := by decide +kernel
theorem d_La_law_579 : decode code 579 = .ok (.invokevirtual 50, 3) := by decide +kernel
theorem d_La_law_582 : decode code 582 = .ok (.iload 5, 2) := by decide +kernel
theorem d_La_law_584 : decode code 584 = .ok (.if_icmp .eq 5, 3) := by decide +kernel
theorem d_La_law_587 : decode code 587 = .ok (.iconst 0, 1) := by decide +kernel
theorem d_La_law_588 : decode code 588 = .ok (.ireturn, 1) := by decide +kernel
theorem d_La_law_589 : decode code 589 = .ok (.iload 5, 2) := by decide +kernel
theorem d_La_law_591 : decode code 591 = .ok (.ifCond .ne 15, 3) := by decide +kernel
theorem d_La_law_594 : decode code 594 = .ok (.aload_n 3, 1) := by decide +kernel
theorem d_La_law_595 : decode code 595 = .ok (.iconst 0, 1) := by decide +kernel
theorem d_La_law_596 : decode code 596 = .ok (.laload, 1) := by decide +kernel
theorem d_La_law_597 : decode code 597 = .ok (.iload 6, 2) := by decide +kernel
theorem d_La_law_599 : decode code 599 = .ok (.i2l, 1) := by decide +kernel
theorem d_La_law_600 : decode code 600 = .ok (.lcmp, 1) := by decide +kernel
theorem d_La_law_601 : decode code 601 = .ok (.ifCond .eq 5, 3) := by decide +kernel
theorem d_La_law_604 : decode code 604 = .ok (.iconst 0, 1) := by decide +kernel
theorem d_La_law_605 : decode code 605 = .ok (.ireturn, 1) := by decide +kernel
theorem d_La_law_606 : decode code 606 = .ok (.goto 16, 3) := by decide +kernel
theorem d_La_law_609 : decode code 609 = .ok (.aload_n 1, 1) := by decide +kernel
theorem d_La_law_610 : decode code 610 = .ok (.invokevirtual 79, 3) := by decide +kernel
theorem d_La_law_613 : decode code 613 = .ok (.aload_n 2, 1) := by decide +kernel
theorem d_La_law_614 : decode code 614 = .ok (.invokevirtual 82, 3) := by decide +kernel
theorem d_La_law_617 : decode code 617 = .ok (.if_icmp .eq 5, 3) := by decide +kernel
theorem d_La_law_620 : decode code 620 = .ok (.iconst 0, 1) := by decide +kernel
theorem d_La_law_621 : decode code 621 = .ok (.ireturn, 1) := by decide +kernel
theorem d_La_law_622 : decode code 622 = .ok (.iinc 4 5, 3) := by decide +kernel
theorem d_La_law_625 : decode code 625 = .ok (.goto (-602), 3) := by decide +kernel
theorem d_La_law_628 : decode code 628 = .ok (.iconst 1, 1) := by decide +kernel
theorem d_La_law_629 : decode code 629 = .ok (.ireturn, 1) := by decide +kernel
end
section
/-! ROWS OF OURS: an array by a Nat index, the top under another name, worlds of few cells -/
theorem cf_P0 {D : va_G} {H : Heap} : va_P D cf_cl [] H := fun k q h => by simp at h
theorem cf_K0 {D : va_G} {tys : List (ClassId × FieldType)} {U : State} (h : va_K D cf_cl tys U) : va_K D cf_cl [] U := h.sub [] rfl
theorem cf_P1 {D : va_G} {ws : va_W} {H : Heap} {k : Nat} {q : Nat × va_E} (h : va_P D cf_cl ws H) (hk : ws[k]? = some q) : va_P D cf_cl [q] H := fun j x hj => by
  have hz : j < 1 := (List.getElem?_eq_some_iff.mp hj).1
  rw [show j = 0 by omega] at hj
  cases hj
  exact h k q hk
section CFR
variable {p : Program} {l : Launch} {e : Env} {R : Room} {s : State} {m : MethodId} {args : Array Value} {below : List Frame} {meth : Method} {c : Code} {H H0 : Heap} {locs : List Loc} {cells slots : Nat} {Q : State → Prop}
variable {cc : ByteArray} {pc : Nat} {ls : Array Slot} {rest : List Value} {D : va_G} {ws : va_W} {tys : List (ClassId × FieldType)} {A : Nat → Prop}
theorem cf_top {x y : Int32} (h : x = y) (k : W p l e R s m args below meth c H locs cells slots Q (F0 m pc ls (.int y :: rest))) : W p l e R s m args below meth c H locs cells slots Q (F0 m pc ls (.int x :: rest)) := by
  rw [h]; exact k
theorem cf_topr {x y : Value} (h : x = y) (k : W p l e R s m args below meth c H locs cells slots Q (F0 m pc ls (y :: rest))) : W p l e R s m args below meth c H locs cells slots Q (F0 m pc ls (x :: rest)) := by
  rw [h]; exact k
theorem cf_iald (hexec : p.tables.exec = Jvm.exec) (hb : c.code = cc) (hK : va_K D cf_cl tys s) (hP : va_P D cf_cl ws H) (q0 t0 : Nat) {a : Nat} {cA : ClassId} {n : Nat} {f : Nat → Int32} (ha : ws[q0]? = some (a, .inl (cA, n, .inl f))) (ht : tys[t0]? = some (cA, .int)) {k : Nat} (hk : k < n) (hn : n < 2 ^ 31) (hdg : decode cc pc = .ok (.iaload, 1))
    (kk : W p l e R s m args below meth c H locs cells slots Q (F0 m (pc + 1) ls (.int (f k) :: rest))) : W p l e R s m args below meth c H locs cells slots Q (F0 m pc ls (.int (nI k) :: .ref a :: rest)) := by
  refine va_iald hexec hb hK hP q0 t0 ha ht (vp_in_nI hk hn) hdg ?_
  rw [nI_clamp (by omega)]
  exact kk
theorem cf_iast (hexec : p.tables.exec = Jvm.exec) (hb : c.code = cc) (hK : va_K D cf_cl tys s) (hP : va_P D cf_cl ws H) (hD : va_D A ws) (hS : va_S A H0 H locs) (q0 t0 : Nat) {a : Nat} {cA : ClassId} {n : Nat} {f : Nat → Int32} (ha : ws[q0]? = some (a, .inl (cA, n, .inl f))) (ht : tys[t0]? = some (cA, .int)) {k : Nat} {x : Int32} (hk : k < n) (hn : n < 2 ^ 31) (hdg : decode cc pc = .ok (.iastore, 1))
    (kk : ∀ (H1 : Heap) (locs1 : List Loc), va_P D cf_cl (ws.set q0 (a, .inl (cA, n, .inl (upd f k x)))) H1 → va_D A (ws.set q0 (a, .inl (cA, n, .inl (upd f k x)))) → va_S A H0 H1 locs1 → W p l e R s m args below meth c H1 locs1 cells slots Q (F0 m (pc + 1) ls rest)) : W p l e R s m args below meth c H locs cells slots Q (F0 m pc ls (.int x :: .int (nI k) :: .ref a :: rest)) := by
  refine va_iast hexec hb hK hP hD hS q0 t0 ha ht (vp_in_nI hk hn) hdg ?_
  rw [nI_clamp (by omega)]
  exact kk
theorem cf_aald (hexec : p.tables.exec = Jvm.exec) (hb : c.code = cc) (hK : va_K D cf_cl tys s) (hP : va_P D cf_cl ws H) (q0 t0 : Nat) {a : Nat} {cA : ClassId} {C : String} {n : Nat} {f : Nat → Option Nat} (ha : ws[q0]? = some (a, .inl (cA, n, .inr (.inr (.inr (.inr f)))))) (ht : tys[t0]? = some (cA, .object C)) {k b : Nat} (hf : f k = some b) (hk : k < n) (hn : n < 2 ^ 31) (hdg : decode cc pc = .ok (.aaload, 1))
    (kk : W p l e R s m args below meth c H locs cells slots Q (F0 m (pc + 1) ls (.ref b :: rest))) : W p l e R s m args below meth c H locs cells slots Q (F0 m pc ls (.int (nI k) :: .ref a :: rest)) := by
  refine va_aldq hexec hb hK hP q0 t0 ha ht (vp_in_nI hk hn) hdg ?_
  rw [nI_clamp (by omega), hf]
  exact kk
end CFR
/-! JOINS AND LOOPS -/
section CFJ
variable {p : Program} {l : Launch} {e : Env} {R : Room} {s : State} {m : MethodId} {args : Array Value} {below : List Frame} {meth : Method} {c : Code} {H : Heap} {locs : List Loc} {cells slots : Nat} {Q : State → Prop}
/-- where two roads meet with a number on top -/
theorem cf_join {g : JFrame} (M : Nat) (ls : Array Slot) (rest : List Value) (P : Int32 → Prop) (J : ∀ v : Int32, P v → W p l e R s m args below meth c H locs cells slots Q (F0 m M ls (.int v :: rest)))
    (K : (∀ v : Int32, P v → W p l e R s m args below meth c H locs cells slots Q (F0 m M ls (.int v :: rest))) → W p l e R s m args below meth c H locs cells slots Q g) : W p l e R s m args below meth c H locs cells slots Q g := K J
/-- where two roads meet with other locals -/
theorem cf_joinL {g : JFrame} (M : Nat) (rest : List Value) (P : Array Slot → Prop) (J : ∀ ls : Array Slot, P ls → W p l e R s m args below meth c H locs cells slots Q (F0 m M ls rest))
    (K : (∀ ls : Array Slot, P ls → W p l e R s m args below meth c H locs cells slots Q (F0 m M ls rest)) → W p l e R s m args below meth c H locs cells slots Q g) : W p l e R s m args below meth c H locs cells slots Q g := K J
/-- a loop, by a measure that falls -/
theorem cf_down (M : Nat) (P : Nat → Heap → List Loc → Nat → Nat → Array Slot → Prop)
    (step : ∀ (n : Nat) (H : Heap) (locs : List Loc) (cells slots : Nat) (ls : Array Slot), P n H locs cells slots ls → (∀ (n' : Nat) (H' : Heap) (locs' : List Loc) (cells' slots' : Nat) (ls' : Array Slot), n' < n → P n' H' locs' cells' slots' ls' → W p l e R s m args below meth c H' locs' cells' slots' Q (F0 m M ls' [])) → W p l e R s m args below meth c H locs cells slots Q (F0 m M ls [])) :
    ∀ (n : Nat) (H : Heap) (locs : List Loc) (cells slots : Nat) (ls : Array Slot), P n H locs cells slots ls → W p l e R s m args below meth c H locs cells slots Q (F0 m M ls []) := by
  have key : ∀ (N n : Nat), n < N → ∀ (H : Heap) (locs : List Loc) (cells slots : Nat) (ls : Array Slot), P n H locs cells slots ls → W p l e R s m args below meth c H locs cells slots Q (F0 m M ls []) := by
    intro N
    induction N with
    | zero => intro n hn; exact absurd hn (Nat.not_lt_zero n)
    | succ N ih =>
      intro n hn H locs cells slots ls hp
      exact step n H locs cells slots ls hp (fun n' H' locs' cells' slots' ls' h hp' => ih n' (by omega) H' locs' cells' slots' ls' hp')
  intro n H locs cells slots ls hp
  exact key (n + 1) n (Nat.lt_succ_self n) H locs cells slots ls hp
end CFJ
/-- cells that are apart stay so, whatever they hold -/
theorem cf_Dm {A : Nat → Prop} {ws ws' : va_W} (h : va_D A ws) (he : ws'.map (fun q => q.1) = ws.map (fun q => q.1)) : va_D A ws' := by
  have key : ∀ (k : Nat) (q : Nat × va_E), ws'[k]? = some q → ∃ q' : Nat × va_E, ws[k]? = some q' ∧ q'.1 = q.1 := by
    intro k q hk
    have h1 : (ws'.map (fun q => q.1))[k]? = some q.1 := by rw [List.getElem?_map, hk]; rfl
    rw [he, List.getElem?_map] at h1
    cases hq : ws[k]? with
    | none => rw [hq] at h1; cases h1
    | some q' =>
      rw [hq] at h1
      exact ⟨q', rfl, Option.some.inj h1⟩
  refine ⟨fun i j x y hx hy hxy => ?_, fun k q hk => ?_⟩
  · obtain ⟨x', hx', ex⟩ := key i x hx
    obtain ⟨y', hy', ey⟩ := key j y hy
    exact h.1 i j x' y' hx' hy' (by rw [ex, ey, hxy])
  · obtain ⟨q', hq', eq⟩ := key k q hk
    rw [← eq]
    exact h.2 k q' hq'
theorem cf_Dt {A : Nat → Prop} {ws ws' : va_W} (h : va_D A ws) (he : ws'.map (fun q => q.1) = ws.map (fun q => q.1)) : va_D (fun _ => True) ws' := (cf_Dm h he).weaken (fun _ _ _ _ => trivial)
section CFR2
variable {p : Program} {l : Launch} {e : Env} {R : Room} {s : State} {m : MethodId} {args : Array Value} {below : List Frame} {meth : Method} {c : Code}
variable {cc : ByteArray} {pc : Nat} {ls : Array Slot}
theorem cf_aret {r : Value} {a : Nat} {C : String} (hexec : p.tables.exec = Jvm.exec) (hb : c.code = cc) (hr : meth.sig.returnType = some (.object C)) (hlocks : meth.locks = false) (hv : Value.ref a = r) (hdg : decode cc pc = .ok (.areturn, 1)) :
    W p l e R s m args below meth c s.heap [] 0 0 (MQ below (cf_PQ r) args s 0 0 (fun _ => False)) (F0 m pc ls [.ref a]) :=
  W.aret hexec hb hr (Or.inl ⟨_, rfl⟩) (Or.inr ⟨_, rfl⟩) (fun t ht _ => ⟨by rw [hv], ht⟩) (fun q h => by cases h) hdg hlocks
end CFR2
end
section
/-! PURE ROWS: the numbers of both sides, in plain Lean. (The seven rows of bits stand in kit/laws/BITS.to-paste.) -/
def bt (x : Int32) (i : Nat) : Bool := x.toBitVec.getLsbD i
theorem b_ext {x y : Int32} (h : ∀ i, i < 32 → bt x i = bt y i) : x = y := Int32.toBitVec_inj.mp (BitVec.eq_of_getLsbD_eq (fun i hi => h i hi))
theorem b_or (x y : Int32) (i : Nat) : bt (x ||| y) i = (bt x i || bt y i) := by unfold bt; rw [Int32.toBitVec_or, BitVec.getLsbD_or]
theorem b_and (x y : Int32) (i : Nat) : bt (x &&& y) i = (bt x i && bt y i) := by unfold bt; rw [Int32.toBitVec_and, BitVec.getLsbD_and]
theorem b_xor (x y : Int32) (i : Nat) : bt (x ^^^ y) i = (bt x i ^^ bt y i) := by unfold bt; rw [Int32.toBitVec_xor, BitVec.getLsbD_xor]
theorem b_big {x : Int32} {i : Nat} (h : 32 ≤ i) : bt x i = false := BitVec.getLsbD_of_ge _ _ h
theorem b_0 (i : Nat) : bt 0 i = false := BitVec.getLsbD_zero
theorem s_l : ∀ n, n < 32 → ((nI n &&& 31).toBitVec.smod 32).toNat = n := by decide +kernel
theorem b_sshr (n : Nat) (hn : n < 32) (x : Int32) {i : Nat} (hi : i < 32) : bt (x >>> (nI n &&& 31)) i = if n + i < 32 then bt x (n + i) else bt x 31 := by
  unfold bt
  rw [Int32.toBitVec_shiftRight]
  show (x.toBitVec.sshiftRight ((nI n &&& 31).toBitVec.smod 32).toNat).getLsbD i = _
  rw [s_l n hn, BitVec.getLsbD_sshiftRight, BitVec.msb_eq_getLsbD_last]
  simp [hi]
/-- n rounded up to a multiple of t -/
def p_u (n t : Nat) : Nat := (n + t - 1) / t * t
theorem p_split (x m : Int32) : (x &&& m) + (x &&& ~~~m) = x := by
  apply Int32.toBitVec_inj.mp
  rw [Int32.toBitVec_add, Int32.toBitVec_and, Int32.toBitVec_and, Int32.toBitVec_not]
  rw [BitVec.add_eq_or_of_and_eq_zero]
  · apply BitVec.eq_of_getLsbD_eq
    intro i hi
    simp [hi]
    cases x.toBitVec[i] <;> cases m.toBitVec[i] <;> rfl
  · apply BitVec.eq_of_getLsbD_eq
    intro i hi
    simp [hi]
    cases x.toBitVec[i] <;> cases m.toBitVec[i] <;> simp
theorem p_mask {a : Nat} (h : a < 2 ^ 31) (j : Nat) {m : Int32} (hm : m.toBitVec.toNat = 2 ^ j - 1) : nI a &&& ~~~m = nI (a / 2 ^ j * 2 ^ j) := by
  have h1 : nI a &&& m = nI (a % 2 ^ j) := pk_andN (by omega) j hm
  have h2 := p_split (nI a) m
  rw [h1] at h2
  have h3 : nI a &&& ~~~m = nI a - nI (a % 2 ^ j) := by
    rw [← h2, Int32.add_comm, Int32.add_sub_cancel]
    rw [Int32.add_comm, h2]
  rw [h3, pk_sub (Nat.mod_le _ _)]
  congr 1
  have := Nat.div_add_mod a (2 ^ j)
  rw [Nat.mul_comm] at this
  omega
theorem p_and8 {a : Nat} (h : a < 2 ^ 31) : nI a &&& (-8) = nI (a / 8 * 8) := p_mask (m := 7) h 3 (by decide)
theorem p_and4 {a : Nat} (h : a < 2 ^ 31) : nI a &&& (-4) = nI (a / 4 * 4) := p_mask (m := 3) h 2 (by decide)
theorem p_pre8 (a : Nat) : nI a + 8 - 1 = nI (a + 7) := by
  show nI a + nI 8 - 1 = _
  rw [nI_add]
  exact nI_pred (a + 7)
theorem p_pre4 (a : Nat) : nI a + 4 - 1 = nI (a + 3) := by
  show nI a + nI 4 - 1 = _
  rw [nI_add]
  exact nI_pred (a + 3)
theorem p_up8 {a : Nat} (h : a < 2 ^ 30) : (nI a + 8 - 1) &&& (-8) = nI (p_u a 8) := by rw [p_pre8, p_and8 (by omega)]; rfl
theorem p_up4 {a : Nat} (h : a < 2 ^ 30) : (nI a + 4 - 1) &&& (-4) = nI (p_u a 4) := by rw [p_pre4, p_and4 (by omega)]; rfl
theorem p_fi8 {a : Nat} (h : a < 2 ^ 30) : (nI a + 8 - 1) / 8 * 8 = nI (p_u a 8) := by
  rw [p_pre8]
  show nI (a + 7) / nI 8 * nI 8 = _
  rw [pk_div (by omega) (by omega) (by omega), pk_mul]
  rfl
theorem p_fi4 {a : Nat} (h : a < 2 ^ 30) : (nI a + 4 - 1) / 4 * 4 = nI (p_u a 4) := by
  rw [p_pre4]
  show nI (a + 3) / nI 4 * nI 4 = _
  rw [pk_div (by omega) (by omega) (by omega), pk_mul]
  rfl
theorem p_ub8 (a : Nat) : a ≤ p_u a 8 ∧ p_u a 8 < a + 8 ∧ p_u a 8 % 8 = 0 := by unfold p_u; omega
theorem p_ub4 (a : Nat) : a ≤ p_u a 4 ∧ p_u a 4 < a + 4 ∧ p_u a 4 % 4 = 0 := by unfold p_u; omega
/-! the sum of homes -/
abbrev p_w (k a : Int32) : Prop := k = 2 ∨ (k = 3 ∧ a = 8)
def p_b (k s : Int32) : Nat := if k = 2 then 8 else if k = 3 then s.toNatClampNeg else 4
/-- a size that is right for its kind -/
def p_ok (k s : Int32) : Prop := k = 3 → 0 < s ∧ s ≤ 65536
theorem p_ok_b {k s : Int32} (h : p_ok k s) : 0 < p_b k s ∧ p_b k s ≤ 65536 := by
  unfold p_b
  split
  · omega
  · split
    · rename_i h3
      obtain ⟨h1, h2⟩ := h h3
      have e1 : (0 : Int32).toInt < s.toInt := Int32.lt_iff_toInt_lt.mp h1
      have e2 : s.toInt ≤ (65536 : Int32).toInt := Int32.le_iff_toInt_le.mp h2
      have e3 : (65536 : Int32).toInt = 65536 := rfl
      have e4 : (0 : Int32).toInt = 0 := rfl
      rw [e3] at e2
      rw [e4] at e1
      have e5 : s.toNatClampNeg = s.toInt.toNat := rfl
      omega
    · omega
theorem p_ok_s {k s : Int32} (h : p_ok k s) (h3 : k = 3) : s = nI (p_b k s) := by
  obtain ⟨h1, h2⟩ := h h3
  obtain ⟨j, hj, rfl⟩ := nI_of (x := s) (fun q => by
    have e1 := Int32.lt_iff_toInt_lt.mp h1
    have e2 := Int32.lt_iff_toInt_lt.mp q
    omega)
  unfold p_b
  rw [if_neg (by rw [h3]; decide), if_pos h3, nI_clamp hj]
/-- bytes of an argument as the model answers -/
theorem p_bI {k s : Int32} (h : p_ok k s) : (if k = 2 then 8 else if k = 3 then s else 4) = nI (p_b k s) := by
  by_cases h2 : k = 2
  · rw [if_pos h2]; unfold p_b; rw [if_pos h2]; rfl
  · rw [if_neg h2]
    by_cases h3 : k = 3
    · rw [if_pos h3]; exact p_ok_s h h3
    · rw [if_neg h3]; unfold p_b; rw [if_neg h2, if_neg h3]; rfl
def p_at (r : Int32) (kd sz al : Nat → Int32) : Nat → Nat
  | 0 => if r = 3 then 4 else 0
  | k + 1 => (if p_w (kd k) (al k) then p_u (p_at r kd sz al k) 8 else p_at r kd sz al k) + p_u (p_b (kd k) (sz k)) 4
def p_h (r : Int32) (kd sz al : Nat → Int32) (k : Nat) : Nat := if p_w (kd k) (al k) then p_u (p_at r kd sz al k) 8 else p_at r kd sz al k
theorem p_at_s (r : Int32) (kd sz al : Nat → Int32) (k : Nat) : p_at r kd sz al (k + 1) = p_h r kd sz al k + p_u (p_b (kd k) (sz k)) 4 := rfl
theorem p_h_ge (r : Int32) (kd sz al : Nat → Int32) (k : Nat) : p_at r kd sz al k ≤ p_h r kd sz al k ∧ p_h r kd sz al k < p_at r kd sz al k + 8 := by
  have := p_ub8 (p_at r kd sz al k)
  unfold p_h
  split <;> omega
theorem p_at_le (r : Int32) (kd sz al : Nat → Int32) (k j : Nat) : p_at r kd sz al k ≤ p_at r kd sz al (k + j) := by
  induction j with
  | zero => exact Nat.le_refl _
  | succ j ih =>
    have h1 := p_h_ge r kd sz al (k + j)
    have h2 := p_at_s r kd sz al (k + j)
    rw [← Nat.add_assoc]
    omega
theorem p_at_mono (r : Int32) (kd sz al : Nat → Int32) {k j : Nat} (h : k ≤ j) : p_at r kd sz al k ≤ p_at r kd sz al j := by
  have := p_at_le r kd sz al k (j - k)
  rwa [Nat.add_sub_cancel' h] at this
theorem p_at_4 (r : Int32) (kd sz al : Nat → Int32) (k : Nat) : p_at r kd sz al k % 4 = 0 := by
  induction k with
  | zero => unfold p_at; split <;> rfl
  | succ k ih =>
    have h1 := p_ub8 (p_at r kd sz al k)
    have h2 := p_ub4 (p_b (kd k) (sz k))
    rw [p_at_s]
    unfold p_h
    split <;> omega
theorem p_h_4 (r : Int32) (kd sz al : Nat → Int32) (k : Nat) : p_h r kd sz al k % 4 = 0 := by
  have h1 := p_ub8 (p_at r kd sz al k)
  have h2 := p_at_4 r kd sz al k
  unfold p_h
  split <;> omega
/-- they depend on the rows below alone -/
theorem p_at_congr {r : Int32} {kd sz al kd' sz' al' : Nat → Int32} {n : Nat} (h : ∀ i, i < n → kd i = kd' i ∧ sz i = sz' i ∧ al i = al' i) : ∀ k, k ≤ n → p_at r kd sz al k = p_at r kd' sz' al' k := by
  intro k
  induction k with
  | zero => intro _; rfl
  | succ k ih =>
    intro hk
    obtain ⟨h1, h2, h3⟩ := h k (by omega)
    show (if p_w (kd k) (al k) then _ else _) + _ = (if p_w (kd' k) (al' k) then _ else _) + _
    rw [ih (by omega), h1, h2, h3]
theorem p_h_congr {r : Int32} {kd sz al kd' sz' al' : Nat → Int32} {n : Nat} (h : ∀ i, i < n → kd i = kd' i ∧ sz i = sz' i ∧ al i = al' i) {k : Nat} (hk : k < n) : p_h r kd sz al k = p_h r kd' sz' al' k := by
  unfold p_h
  obtain ⟨h1, h2, h3⟩ := h k hk
  rw [p_at_congr h k (by omega), h1, h3]
/-! what a call may ask -/
def p_can (size al : Int32) : Bool := decide (¬ al ≤ 0 ∧ ¬ 8 < al ∧ (al &&& (al - 1)) = 0 ∧ ¬ size ≤ 0 ∧ ¬ 65536 < size ∧ (size - size / al * al) = 0)
def p_good (kind most size al : Int32) : Bool := decide (¬ kind < 0 ∧ ¬ most < kind ∧ (kind = 3 → p_can size al = true))
theorem p_pow {al : Int32} : (al = 1 ∨ al = 2 ∨ al = 4 ∨ al = 8) ↔ (¬ al ≤ 0 ∧ ¬ 8 < al ∧ (al &&& (al - 1)) = 0) := by
  constructor
  · rintro (rfl | rfl | rfl | rfl) <;> decide
  · rintro ⟨h1, h2, h3⟩
    have h1 : 0 < al := Int32.not_le.mp h1
    have h2 : al ≤ 8 := Int32.not_lt.mp h2
    obtain ⟨j, hj, rfl⟩ := nI_of2 (x := al) (M := 8) (n := 8) rfl (fun q => by
      have e1 := Int32.lt_iff_toInt_lt.mp h1
      have e2 := Int32.lt_iff_toInt_lt.mp q
      omega) h2
    have key : ∀ j, j < 9 → 0 < nI j → (nI j &&& (nI j - 1)) = 0 → (nI j = 1 ∨ nI j = 2 ∨ nI j = 4 ∨ nI j = 8) := by decide +kernel
    exact key j (by omega) h1 h3
theorem p_can_ok {k size al : Int32} (h : k = 3 → p_can size al = true) : p_ok k size := by
  intro h3
  have := h h3
  unfold p_can at this
  obtain ⟨-, -, -, h4, h5, -⟩ := of_decide_eq_true this
  exact ⟨Int32.not_le.mp h4, Int32.not_lt.mp h5⟩
/-! registers that are saved -/
abbrev p_z (m : Int32) (k : Nat) : Prop := (m >>> (nI k &&& 31)) &&& 1 = 0
/-- how many bits of m stand below k -/
def p_c (m : Int32) : Nat → Nat
  | 0 => 0
  | k + 1 => p_c m k + (if p_z m k then 0 else 1)
theorem p_c_le (m : Int32) (k : Nat) : p_c m k ≤ k := by
  induction k with
  | zero => exact Nat.le_refl _
  | succ k ih => show p_c m k + (if _ then _ else _) ≤ _; split <;> omega
theorem p_zb (m : Int32) {k : Nat} (hk : k < 32) : p_z m k ↔ bt m k = false := by
  have h0 : bt (m >>> (nI k &&& 31)) 0 = bt m k := by
    rw [b_sshr k hk m (by omega), if_pos (by omega)]
    rfl
  have h1 : ∀ i, bt ((m >>> (nI k &&& 31)) &&& 1) i = (bt m k && decide (i = 0)) := by
    intro i
    rw [b_and]
    rcases Nat.lt_or_ge i 32 with h | h
    · have h2 : bt 1 i = decide (i = 0) := (by decide +kernel : ∀ i, i < 32 → bt 1 i = decide (i = 0)) i h
      rw [h2]
      by_cases hi : i = 0
      · subst hi; rw [h0]
      · simp [hi]
    · rw [b_big h, b_big h]
      simp
      omega
  constructor
  · intro hz
    have := h1 0
    rw [hz, b_0] at this
    simpa using this.symm
  · intro hb
    apply b_ext
    intro i _
    rw [h1 i, hb, b_0]
    rfl
theorem p_one (m : Int32) (k : Nat) : (m >>> (nI k &&& 31)) &&& 1 = if p_z m k then 0 else 1 := by
  obtain ⟨j, hj, he⟩ := pk_andE (m >>> (nI k &&& 31)) (m := 1) 1 (by decide)
  by_cases hz : p_z m k
  · rw [if_pos hz]; exact hz
  · rw [if_neg hz, he]
    have : j ≠ 0 := fun h => hz (by show _ = _; rw [he, h]; rfl)
    rw [show j = 1 by omega]
    rfl
theorem p_sum (m : Int32) (e k : Nat) : nI (e * p_c m k) + ((m >>> (nI k &&& 31)) &&& 1) * nI e = nI (e * p_c m (k + 1)) := by
  rw [p_one]
  show _ = nI (e * (p_c m k + (if p_z m k then 0 else 1)))
  split
  · rw [show (0 : Int32) = nI 0 from rfl, pk_mul, nI_add]
    congr 1
    rw [Nat.zero_mul, Nat.add_zero, Nat.add_zero]
  · rw [show (1 : Int32) = nI 1 from rfl, pk_mul, nI_add]
    congr 1
    rw [Nat.mul_add, Nat.one_mul, Nat.mul_one]
/-- bits under a mask that may not stand -/
theorem p_off {m M : Int32} (h : m &&& M = 0) {k : Nat} (hk : k < 32) (hM : bt M k = true) : p_z m k := by
  rw [p_zb m hk]
  have := b_and m M k
  rw [h, b_0, hM] at this
  simpa using this.symm
theorem p_c_zero {m : Int32} {n : Nat} (h : ∀ i, i < n → p_z m i) : p_c m n = 0 := by
  induction n with
  | zero => rfl
  | succ n ih =>
    show p_c m n + (if p_z m n then 0 else 1) = 0
    rw [ih (fun i hi => h i (by omega)), if_pos (h n (by omega))]
theorem p_good3 {kind most size a : Int32} (h0 : ¬ kind < 0) (h1 : kind ≤ most) (h3 : kind = 3) : p_good kind most size a = p_can size a := by
  unfold p_good
  subst h3
  cases h : p_can size a
  · exact decide_eq_false (fun q => by have := q.2.2 rfl; cases this)
  · exact decide_eq_true ⟨h0, Int32.not_lt.mpr h1, fun _ => rfl⟩
theorem p_canA (size a : Int32) : p_can size a = decide ((a = 1 ∨ a = 2 ∨ a = 4 ∨ a = 8) ∧ ¬ size ≤ 0 ∧ ¬ 65536 < size ∧ (size - size / a * a) = 0) := by
  unfold p_can
  exact decide_eq_decide.mpr ⟨fun h => ⟨p_pow.mpr ⟨h.1, h.2.1, h.2.2.1⟩, h.2.2.2⟩, fun h => ⟨(p_pow.mp h.1).1, (p_pow.mp h.1).2.1, (p_pow.mp h.1).2.2, h.2⟩⟩
theorem p_bit0 {P : Prop} {h : Decidable P} {v : Int32} (e : v = if P then 1 else 0) (c : v = 0) : ¬ P := fun q => by rw [if_pos q] at e; rw [e] at c; exact absurd c (by decide)
theorem p_bit1 {P : Prop} {h : Decidable P} {v : Int32} (e : v = if P then 1 else 0) (c : ¬ v = 0) : P := by
  by_cases q : P
  · exact q
  · rw [if_neg q] at e; exact absurd e c
theorem p_m1 (k : Nat) (h : k < 2 ^ 31) : ¬ nI k = -1 := fun q => by
  have := congrArg Int32.toInt q
  rw [nI_toInt h] at this
  have h2 : (-1 : Int32).toInt = -1 := rfl
  omega
theorem p_wI {b : Nat} (h : b < 2 ^ 30) : nI (p_u b 4) / 4 = nI ((b + 3) / 4) := by
  show nI (p_u b 4) / nI 4 = _
  have := p_ub4 b
  rw [pk_div (by omega) (by omega) (by omega)]
  congr 1
  unfold p_u
  omega
/-- the home of an argument behind x bytes, and the first byte behind it -/
def p_nh (x : Nat) (kind a : Int32) : Nat := if p_w kind a then p_u x 8 else x
def p_ne (x : Nat) (kind size a : Int32) : Nat := p_nh x kind a + p_u (p_b kind size) 4
theorem p_upd_at (r : Int32) (kd sz al : Nat → Int32) (n : Nat) (k s a : Int32) : p_at r (upd kd n k) (upd sz n s) (upd al n a) n = p_at r kd sz al n :=
  p_at_congr (n := n) (fun i hi => ⟨pk_un (by omega), pk_un (by omega), pk_un (by omega)⟩) n (Nat.le_refl n)
theorem p_upd_h (r : Int32) (kd sz al : Nat → Int32) (n : Nat) (k s a : Int32) : p_h r (upd kd n k) (upd sz n s) (upd al n a) n = p_nh (p_at r kd sz al n) k a := by
  unfold p_h p_nh
  rw [p_upd_at, pk_us, pk_us]
theorem p_upd_s (r : Int32) (kd sz al : Nat → Int32) (n : Nat) (k s a : Int32) : p_at r (upd kd n k) (upd sz n s) (upd al n a) (n + 1) = p_ne (p_at r kd sz al n) k s a := by
  rw [p_at_s, p_upd_h, pk_us, pk_us]
  rfl
theorem p_upd_ok {kd sz : Nat → Int32} {n : Nat} (h : ∀ i, i < n → p_ok (kd i) (sz i)) (k s : Int32) : ∀ i, i < n → p_ok (upd kd n k i) (upd sz n s i) := fun i hi => by
  rw [pk_un (by omega), pk_un (by omega)]
  exact h i hi
theorem p_good_ok {kind most size a : Int32} (h : p_good kind most size a = true) : p_ok kind size := p_can_ok (of_decide_eq_true h).2.2
theorem p_nh_b (x : Nat) (kind a : Int32) : x ≤ p_nh x kind a ∧ p_nh x kind a < x + 8 := by
  have := p_ub8 x
  unfold p_nh
  split <;> omega
theorem p_ne_b (x : Nat) {kind size : Int32} (a : Int32) (h : p_ok kind size) : x ≤ p_ne x kind size a ∧ p_ne x kind size a < x + 65560 := by
  have h1 := p_nh_b x kind a
  have h2 := p_ub4 (p_b kind size)
  have h3 := p_ok_b h
  unfold p_ne
  omega
def p_mx (g a : Nat) : Nat := if g < a then a else g
/-- where the general registers' row begins -/
def p_ga (la lb : Nat) (lf : Int32) : Nat := p_u (la + lb) 8 + 8 * p_c lf 32
theorem p_ga_b {la lb : Nat} (lf : Int32) (h1 : la ≤ 1000000) (h2 : lb ≤ 1000000) : p_ga la lb lf < 2000300 := by
  have h3 := p_ub8 (la + lb)
  have h4 := p_c_le lf 32
  unfold p_ga
  omega
def p_lg (cl gm : Int32) : Int32 := if cl ≤ 0 then gm else (gm ||| (-2147483648))
def p_fr (la lb : Nat) (lg lf : Int32) : Nat := p_u (p_ga la lb lf + 4 * p_c lg 32) 8
/-- what place(1, k), place(2, k) answer -/
def p_pg (la lb : Nat) (lg lf : Int32) (k : Nat) : Int32 := if p_z lg k then -1 else nI (p_ga la lb lf + 4 * p_c lg k)
def p_pf (la lb : Nat) (lf : Int32) (k : Nat) : Int32 := if p_z lf k then -1 else nI (p_u (la + lb) 8 + 8 * p_c lf k)
def p_sig (r : Int32) (kd sz al : Nat → Int32) (n ar : Nat) (w : Int32) : Int32 := if w = 0 then nI ar else if w = 1 then nI n else if w = 2 then (if r = 4 then -1 else if r = 0 ∨ r = 3 then 2 else 32) else nI (p_at r kd sz al n)
/-- is argument i in a register of fractions -/
abbrev p_fra (r op : Int32) (kd : Nat → Int32) (i : Nat) : Prop := op = 0 ∧ ¬ r = 3 ∧ i < 2 ∧ (kd 0 = 1 ∨ kd 0 = 2) ∧ (kd i = 1 ∨ kd i = 2)
theorem p_fra_dec (r op : Int32) (kd : Nat → Int32) (i : Nat) : p_fra r op kd i ∨ ¬ p_fra r op kd i := Classical.em _
/-- where word w of argument i is, in a register of fractions or not -/
def p_whF (kd : Nat → Int32) (i w : Nat) : Int32 := if kd i = 2 ∧ w = 0 then nI (44 + 2 * i + 1) else nI (44 + 2 * i)
def p_whG (h w : Nat) : Int32 := if h / 4 + w < 4 then nI (4 + (h / 4 + w)) else -1
theorem p_lit {k : Nat} {x : Int32} (h : nI k = x) (hk : k < 2 ^ 31) {j : Nat} (hx : x = nI j) (hj : j < 2 ^ 31) : k = j := (nI_eq hk hj).mp (h.trans hx)
/-- what frame takes -/
def p_frok (lo gm fm : Int32) : Prop := ¬ lo < 0 ∧ ¬ 1000000 < lo ∧ gm &&& 1057030143 = 0 ∧ fm &&& (-1431306241) = 0
theorem p_ar_b {x : Nat} (h : x ≤ 1000000) : (if p_u x 8 < 16 then 16 else p_u x 8) ≤ 1000000 := by
  have := p_ub8 x
  split <;> omega
def p_pl (la lb : Nat) (lg lf : Int32) (w : Int32) (k : Nat) : Int32 := if w = 0 then nI la else if w = 1 then p_pg la lb lg lf k else p_pf la lb lf k
/-- an argument's five fields: kind, home, bytes, register, isFraction -/
abbrev cf_T : Type := Int32 × Int32 × Int32 × Int32 × Int32
def cf_av (t : cf_T) : List Value := [.int t.1, .int t.2.1, .int t.2.2.1, .int t.2.2.2.1, .int t.2.2.2.2]
def p_arg (r op : Int32) (kd sz al : Nat → Int32) (i : Nat) : cf_T := (kd i, nI (p_h r kd sz al i), nI (p_b (kd i) (sz i)), (if p_fra r op kd i then nI (12 + 2 * i) else -1), (if p_fra r op kd i then 1 else 0))
theorem p_words {b : Nat} (h : b < 2 ^ 30) : (nI b + 3) >>> ((2 : Int32) &&& 31) = nI ((b + 3) / 4) := by
  show (nI b + nI 3) >>> _ = _
  rw [nI_add, pk_shrN (by omega) _ 2 (by decide)]
theorem p_u4 (b : Nat) : 4 * ((b + 3) / 4) = p_u b 4 := by unfold p_u; omega
theorem p_at4 {x : Nat} (h : x < 2 ^ 30) : nI x >>> ((2 : Int32) &&& 31) = nI (x / 4) := by rw [pk_shrN (by omega) _ 2 (by decide)]
end
section
/-! THE MODEL: its world, and the methods that change nothing (printed by gen/model.py) -/
abbrev MW (m0 m1 m2 m3 : Nat) (cI : ClassId) (th r nn cl gr lg lf ll la op : Int32) (kd sz al : Nat → Int32) : va_W := [(m0, .inr (2, [.int th, .int r, .int nn, .int cl, .int gr, .int lg, .int lf, .int ll, .int la, .int op, .ref m1, .ref m2, .ref m3])), (m1, .inl (cI, 60, .inl kd)), (m2, .inl (cI, 60, .inl sz)), (m3, .inl (cI, 60, .inl al))]
set_option maxHeartbeats 4000000 in
set_option maxRecDepth 100000 in
/-- thrown(): the field -/
theorem c_Mo_thrown (l : Launch) (D : va_G) (m0 m1 m2 m3 : Nat) (cI : ClassId) (th r nn cl gr lg lf ll la op : Int32) (kd sz al : Nat → Int32) : cf_PM l y_Mo_thrown b_Mo_thrown 1 (some FieldType.int) ({ frames := 0, cells := 0, slots := 0, locals := 0 }) [.ref m0] D (MW m0 m1 m2 m3 cI th r nn cl gr lg lf ll la op kd sz al) [(cI, .int)] (.int th) := by
  refine cf_PM_of (by decide) (Nat.le_of_ble_eq_true rfl) ?_
  intro p e s m args below meth c hx hb hr hkk hown hlocks hml hP hK ls hl
  have hl : lv_has ls 1 [(0, .ref m0)] := hl
  refine lv_aload_n hx hb d_Mo_thrown_0 rfl (lv_at hl 0 rfl) ?_
  refine va_get (ci := 2) hx hb (h_Mo hkk) (fun _ h => h) hown hK hP 0 rfl rfl 0 (by decide) (hkk.use kw_289 rfl) (fun _ h => h) rfl d_Mo_thrown_1 ?_
  exact cf_iret hx hb hr hlocks (rfl) d_Mo_thrown_4

set_option maxHeartbeats 4000000 in
set_option maxRecDepth 100000 in
/-- filled(a, t) -/
theorem c_Mo_filled (l : Launch) (D : va_G) (a t : Int32) (ht : ¬ t = 0) : cf_PM l y_Mo_filled b_Mo_filled 2 (some FieldType.int) ({ frames := 0, cells := 0, slots := 0, locals := 0 }) [.int a, .int t] D [] [] (.int ((a + t - 1) / t * t)) := by
  refine cf_PM_of (by decide) (Nat.le_of_ble_eq_true rfl) ?_
  intro p e s m args below meth c hx hb hr hkk hown hlocks hml hP hK ls hl
  have hl : lv_has ls 2 [(0, .int a), (1, .int t)] := hl
  refine lv_iload_n hx hb d_Mo_filled_0 rfl (lv_at hl 0 rfl) ?_
  refine lv_iload_n hx hb d_Mo_filled_1 rfl (lv_at hl 1 rfl) ?_
  refine lv_iadd hx hb d_Mo_filled_2 ?_
  refine lv_iconst (v := 1) hx hb d_Mo_filled_3 (by decide) ?_
  refine lv_isub hx hb d_Mo_filled_4 ?_
  refine lv_iload_n hx hb d_Mo_filled_5 rfl (lv_at hl 1 rfl) ?_
  refine lv_idiv hx hb d_Mo_filled_6 (ht) ?_
  refine lv_iload_n hx hb d_Mo_filled_7 rfl (lv_at hl 1 rfl) ?_
  refine lv_imul hx hb d_Mo_filled_8 ?_
  exact cf_iret hx hb hr hlocks (rfl) d_Mo_filled_9

set_option maxHeartbeats 4000000 in
set_option maxRecDepth 100000 in
/-- isGood -/
theorem c_Mo_isGood (l : Launch) (D : va_G) (kind most size a : Int32) : cf_PM l y_Mo_isGood b_Mo_isGood 5 (some FieldType.boolean) ({ frames := 0, cells := 0, slots := 0, locals := 0 }) [.int kind, .int most, .int size, .int a] D [] [] (.int (if p_good kind most size a = true then 1 else 0)) := by
  refine cf_PM_of (by decide) (Nat.le_of_ble_eq_true rfl) ?_
  intro p e s m args below meth c hx hb hr hkk hown hlocks hml hP hK ls hl
  have hl : lv_has ls 5 [(0, .int kind), (1, .int most), (2, .int size), (3, .int a)] := hl
  refine lv_iload_n hx hb d_Mo_isGood_0 rfl (lv_at hl 0 rfl) ?_
  refine lv_if_lt (tgt := 9) hx hb d_Mo_isGood_1 (by decide) (fun c_1 => ?_) (fun c_1 => ?_)
  · refine lv_iconst (v := 0) hx hb d_Mo_isGood_9 (by decide) ?_
    exact cf_zret hx hb hr hlocks (by decide) (by simp [p_good, Int32.not_lt, c_1]) d_Mo_isGood_10
  · refine lv_iload_n hx hb d_Mo_isGood_4 rfl (lv_at hl 0 rfl) ?_
    refine lv_iload_n hx hb d_Mo_isGood_5 rfl (lv_at hl 1 rfl) ?_
    refine lv_icmp_le (tgt := 11) hx hb d_Mo_isGood_6 (by decide) (fun c_6 => ?_) (fun c_6 => ?_)
    · refine lv_iload_n hx hb d_Mo_isGood_11 rfl (lv_at hl 0 rfl) ?_
      refine lv_iconst (v := 3) hx hb d_Mo_isGood_12 (by decide) ?_
      refine lv_icmp_eq (tgt := 18) hx hb d_Mo_isGood_13 (by decide) (fun c_13 => ?_) (fun c_13 => ?_)
      · refine cf_join 44 ls [] (fun v => v = if (a = 1 ∨ a = 2 ∨ a = 4 ∨ a = 8) then 1 else 0) (fun v_44 e_44 => ?_) (fun J_44 => ?_)
        · refine lv_istore (lv' := [(4, .int v_44), (0, .int kind), (1, .int most), (2, .int size), (3, .int a)]) hx hb d_Mo_isGood_44 hl (by decide) rfl (fun ls hl => ?_)
          refine lv_iload hx hb d_Mo_isGood_46 (lv_at hl 0 rfl) ?_
          refine lv_if_eq (tgt := 71) hx hb d_Mo_isGood_48 (by decide) (fun c_48 => ?_) (fun c_48 => ?_)
          · have hal := p_bit0 e_44 c_48
            refine lv_iconst (v := 0) hx hb d_Mo_isGood_71 (by decide) ?_
            exact cf_zret hx hb hr hlocks (by decide) (by rw [p_good3 c_1 c_6 c_13, p_canA]; simp [hal, ]) d_Mo_isGood_72
          · have hal := p_bit1 e_44 c_48
            refine lv_iload_n hx hb d_Mo_isGood_51 rfl (lv_at hl 3 rfl) ?_
            refine lv_if_le (tgt := 71) hx hb d_Mo_isGood_52 (by decide) (fun c_52 => ?_) (fun c_52 => ?_)
            · refine lv_iconst (v := 0) hx hb d_Mo_isGood_71 (by decide) ?_
              exact cf_zret hx hb hr hlocks (by decide) (by rw [p_good3 c_1 c_6 c_13, p_canA]; simp [hal, c_52]) d_Mo_isGood_72
            · refine lv_iload_n hx hb d_Mo_isGood_55 rfl (lv_at hl 3 rfl) ?_
              refine lv_ldc (v := 65536) hx hb hown (hkk.use kw_340 rfl) d_Mo_isGood_56 ?_
              refine lv_icmp_gt (tgt := 71) hx hb d_Mo_isGood_58 (by decide) (fun c_58 => ?_) (fun c_58 => ?_)
              · refine lv_iconst (v := 0) hx hb d_Mo_isGood_71 (by decide) ?_
                exact cf_zret hx hb hr hlocks (by decide) (by rw [p_good3 c_1 c_6 c_13, p_canA]; simp [hal, c_52, c_58]) d_Mo_isGood_72
              · refine lv_iload_n hx hb d_Mo_isGood_61 rfl (lv_at hl 3 rfl) ?_
                refine lv_iload_n hx hb d_Mo_isGood_62 rfl (lv_at hl 4 rfl) ?_
                refine lv_irem hx hb d_Mo_isGood_63 (by rintro rfl; simp at hal) ?_
                refine lv_if_ne (tgt := 71) hx hb d_Mo_isGood_64 (by decide) (fun c_64 => ?_) (fun c_64 => ?_)
                · refine lv_iconst (v := 0) hx hb d_Mo_isGood_71 (by decide) ?_
                  exact cf_zret hx hb hr hlocks (by decide) (by rw [p_good3 c_1 c_6 c_13, p_canA]; simp [hal, c_52, c_58, c_64]) d_Mo_isGood_72
                · refine lv_iconst (v := 1) hx hb d_Mo_isGood_67 (by decide) ?_
                  refine lv_goto (tgt := 72) hx hb d_Mo_isGood_68 (by decide) ?_
                  exact cf_zret hx hb hr hlocks (by decide) (by rw [p_good3 c_1 c_6 c_13, p_canA]; simp [hal, c_52, c_58, c_64]) d_Mo_isGood_72
        · refine lv_iload_n hx hb d_Mo_isGood_18 rfl (lv_at hl 3 rfl) ?_
          refine lv_iconst (v := 1) hx hb d_Mo_isGood_19 (by decide) ?_
          refine lv_icmp_eq (tgt := 39) hx hb d_Mo_isGood_20 (by decide) (fun c_20 => ?_) (fun c_20 => ?_)
          · refine lv_iconst (v := 1) hx hb d_Mo_isGood_39 (by decide) ?_
            refine lv_goto (tgt := 44) hx hb d_Mo_isGood_40 (by decide) ?_
            exact J_44 _ (by simp [c_1, c_6, c_13, c_20])
          · refine lv_iload_n hx hb d_Mo_isGood_23 rfl (lv_at hl 3 rfl) ?_
            refine lv_iconst (v := 2) hx hb d_Mo_isGood_24 (by decide) ?_
            refine lv_icmp_eq (tgt := 39) hx hb d_Mo_isGood_25 (by decide) (fun c_25 => ?_) (fun c_25 => ?_)
            · refine lv_iconst (v := 1) hx hb d_Mo_isGood_39 (by decide) ?_
              refine lv_goto (tgt := 44) hx hb d_Mo_isGood_40 (by decide) ?_
              exact J_44 _ (by simp [c_1, c_6, c_13, c_20, c_25])
            · refine lv_iload_n hx hb d_Mo_isGood_28 rfl (lv_at hl 3 rfl) ?_
              refine lv_iconst (v := 4) hx hb d_Mo_isGood_29 (by decide) ?_
              refine lv_icmp_eq (tgt := 39) hx hb d_Mo_isGood_30 (by decide) (fun c_30 => ?_) (fun c_30 => ?_)
              · refine lv_iconst (v := 1) hx hb d_Mo_isGood_39 (by decide) ?_
                refine lv_goto (tgt := 44) hx hb d_Mo_isGood_40 (by decide) ?_
                exact J_44 _ (by simp [c_1, c_6, c_13, c_20, c_25, c_30])
              · refine lv_iload_n hx hb d_Mo_isGood_33 rfl (lv_at hl 3 rfl) ?_
                refine lv_bipush (v := 8) hx hb d_Mo_isGood_34 (by decide) ?_
                refine lv_icmp_ne (tgt := 43) hx hb d_Mo_isGood_36 (by decide) (fun c_36 => ?_) (fun c_36 => ?_)
                · refine lv_iconst (v := 0) hx hb d_Mo_isGood_43 (by decide) ?_
                  exact J_44 _ (by simp [c_1, c_6, c_13, c_20, c_25, c_30, c_36])
                · refine lv_iconst (v := 1) hx hb d_Mo_isGood_39 (by decide) ?_
                  refine lv_goto (tgt := 44) hx hb d_Mo_isGood_40 (by decide) ?_
                  exact J_44 _ (by simp [c_1, c_6, c_13, c_20, c_25, c_30, c_36])
      · refine lv_iconst (v := 1) hx hb d_Mo_isGood_16 (by decide) ?_
        exact cf_zret hx hb hr hlocks (by decide) (by simp [p_good, Int32.not_lt, c_1, c_6, c_13]) d_Mo_isGood_17
    · refine lv_iconst (v := 0) hx hb d_Mo_isGood_9 (by decide) ?_
      exact cf_zret hx hb hr hlocks (by decide) (by simp [p_good, Int32.not_lt, c_1, c_6]) d_Mo_isGood_10

set_option maxHeartbeats 4000000 in
set_option maxRecDepth 100000 in
/-- bytes(k) -/
theorem c_Mo_bytes (l : Launch) (D : va_G) (m0 m1 m2 m3 : Nat) (cI : ClassId) (th r nn cl gr lg lf ll la op : Int32) (kd sz al : Nat → Int32) (k : Nat) (hk : k < 60) : cf_PM l y_Mo_bytes b_Mo_bytes 2 (some FieldType.int) ({ frames := 0, cells := 0, slots := 0, locals := 0 }) [.ref m0, .int (nI k)] D (MW m0 m1 m2 m3 cI th r nn cl gr lg lf ll la op kd sz al) [(cI, .int)] (.int (if kd k = 2 then 8 else if kd k = 3 then sz k else 4)) := by
  refine cf_PM_of (by decide) (Nat.le_of_ble_eq_true rfl) ?_
  intro p e s m args below meth c hx hb hr hkk hown hlocks hml hP hK ls hl
  have hl : lv_has ls 2 [(0, .ref m0), (1, .int (nI k))] := hl
  refine lv_aload_n hx hb d_Mo_bytes_0 rfl (lv_at hl 0 rfl) ?_
  refine va_get (ci := 2) hx hb (h_Mo hkk) (fun _ h => h) hown hK hP 0 rfl rfl 10 (by decide) (hkk.use kw_299 rfl) (fun _ h => h) rfl d_Mo_bytes_1 ?_
  refine lv_iload_n hx hb d_Mo_bytes_4 rfl (lv_at hl 1 rfl) ?_
  refine cf_iald hx hb hK hP 1 0 rfl rfl (k := k) (by omega) (by decide) d_Mo_bytes_5 ?_
  refine lv_iconst (v := 2) hx hb d_Mo_bytes_6 (by decide) ?_
  refine lv_icmp_ne (tgt := 15) hx hb d_Mo_bytes_7 (by decide) (fun c_7 => ?_) (fun c_7 => ?_)
  · refine lv_aload_n hx hb d_Mo_bytes_15 rfl (lv_at hl 0 rfl) ?_
    refine va_get (ci := 2) hx hb (h_Mo hkk) (fun _ h => h) hown hK hP 0 rfl rfl 10 (by decide) (hkk.use kw_299 rfl) (fun _ h => h) rfl d_Mo_bytes_16 ?_
    refine lv_iload_n hx hb d_Mo_bytes_19 rfl (lv_at hl 1 rfl) ?_
    refine cf_iald hx hb hK hP 1 0 rfl rfl (k := k) (by omega) (by decide) d_Mo_bytes_20 ?_
    refine lv_iconst (v := 3) hx hb d_Mo_bytes_21 (by decide) ?_
    refine lv_icmp_ne (tgt := 34) hx hb d_Mo_bytes_22 (by decide) (fun c_22 => ?_) (fun c_22 => ?_)
    · refine lv_iconst (v := 4) hx hb d_Mo_bytes_34 (by decide) ?_
      exact cf_iret hx hb hr hlocks (by simp [c_7, c_22]) d_Mo_bytes_35
    · refine lv_aload_n hx hb d_Mo_bytes_25 rfl (lv_at hl 0 rfl) ?_
      refine va_get (ci := 2) hx hb (h_Mo hkk) (fun _ h => h) hown hK hP 0 rfl rfl 11 (by decide) (hkk.use kw_300 rfl) (fun _ h => h) rfl d_Mo_bytes_26 ?_
      refine lv_iload_n hx hb d_Mo_bytes_29 rfl (lv_at hl 1 rfl) ?_
      refine cf_iald hx hb hK hP 2 0 rfl rfl (k := k) (by omega) (by decide) d_Mo_bytes_30 ?_
      refine lv_goto (tgt := 35) hx hb d_Mo_bytes_31 (by decide) ?_
      exact cf_iret hx hb hr hlocks (by simp [c_7, c_22]) d_Mo_bytes_35
  · refine lv_bipush (v := 8) hx hb d_Mo_bytes_10 (by decide) ?_
    refine lv_goto (tgt := 35) hx hb d_Mo_bytes_12 (by decide) ?_
    exact cf_iret hx hb hr hlocks (by simp [c_7]) d_Mo_bytes_35

set_option maxHeartbeats 4000000 in
set_option maxRecDepth 100000 in
/-- isWide(k) -/
theorem c_Mo_isWide (l : Launch) (D : va_G) (m0 m1 m2 m3 : Nat) (cI : ClassId) (th r nn cl gr lg lf ll la op : Int32) (kd sz al : Nat → Int32) (k : Nat) (hk : k < 60) : cf_PM l y_Mo_isWide b_Mo_isWide 2 (some FieldType.boolean) ({ frames := 0, cells := 0, slots := 0, locals := 0 }) [.ref m0, .int (nI k)] D (MW m0 m1 m2 m3 cI th r nn cl gr lg lf ll la op kd sz al) [(cI, .int)] (.int (if p_w (kd k) (al k) then 1 else 0)) := by
  refine cf_PM_of (by decide) (Nat.le_of_ble_eq_true rfl) ?_
  intro p e s m args below meth c hx hb hr hkk hown hlocks hml hP hK ls hl
  have hl : lv_has ls 2 [(0, .ref m0), (1, .int (nI k))] := hl
  refine lv_aload_n hx hb d_Mo_isWide_0 rfl (lv_at hl 0 rfl) ?_
  refine va_get (ci := 2) hx hb (h_Mo hkk) (fun _ h => h) hown hK hP 0 rfl rfl 10 (by decide) (hkk.use kw_299 rfl) (fun _ h => h) rfl d_Mo_isWide_1 ?_
  refine lv_iload_n hx hb d_Mo_isWide_4 rfl (lv_at hl 1 rfl) ?_
  refine cf_iald hx hb hK hP 1 0 rfl rfl (k := k) (by omega) (by decide) d_Mo_isWide_5 ?_
  refine lv_iconst (v := 2) hx hb d_Mo_isWide_6 (by decide) ?_
  refine lv_icmp_eq (tgt := 31) hx hb d_Mo_isWide_7 (by decide) (fun c_7 => ?_) (fun c_7 => ?_)
  · refine lv_iconst (v := 1) hx hb d_Mo_isWide_31 (by decide) ?_
    refine lv_goto (tgt := 36) hx hb d_Mo_isWide_32 (by decide) ?_
    exact cf_zret hx hb hr hlocks (by decide) (by simp [c_7]) d_Mo_isWide_36
  · refine lv_aload_n hx hb d_Mo_isWide_10 rfl (lv_at hl 0 rfl) ?_
    refine va_get (ci := 2) hx hb (h_Mo hkk) (fun _ h => h) hown hK hP 0 rfl rfl 10 (by decide) (hkk.use kw_299 rfl) (fun _ h => h) rfl d_Mo_isWide_11 ?_
    refine lv_iload_n hx hb d_Mo_isWide_14 rfl (lv_at hl 1 rfl) ?_
    refine cf_iald hx hb hK hP 1 0 rfl rfl (k := k) (by omega) (by decide) d_Mo_isWide_15 ?_
    refine lv_iconst (v := 3) hx hb d_Mo_isWide_16 (by decide) ?_
    refine lv_icmp_ne (tgt := 35) hx hb d_Mo_isWide_17 (by decide) (fun c_17 => ?_) (fun c_17 => ?_)
    · refine lv_iconst (v := 0) hx hb d_Mo_isWide_35 (by decide) ?_
      exact cf_zret hx hb hr hlocks (by decide) (by simp [c_7, c_17]) d_Mo_isWide_36
    · refine lv_aload_n hx hb d_Mo_isWide_20 rfl (lv_at hl 0 rfl) ?_
      refine va_get (ci := 2) hx hb (h_Mo hkk) (fun _ h => h) hown hK hP 0 rfl rfl 12 (by decide) (hkk.use kw_301 rfl) (fun _ h => h) rfl d_Mo_isWide_21 ?_
      refine lv_iload_n hx hb d_Mo_isWide_24 rfl (lv_at hl 1 rfl) ?_
      refine cf_iald hx hb hK hP 3 0 rfl rfl (k := k) (by omega) (by decide) d_Mo_isWide_25 ?_
      refine lv_bipush (v := 8) hx hb d_Mo_isWide_26 (by decide) ?_
      refine lv_icmp_ne (tgt := 35) hx hb d_Mo_isWide_28 (by decide) (fun c_28 => ?_) (fun c_28 => ?_)
      · refine lv_iconst (v := 0) hx hb d_Mo_isWide_35 (by decide) ?_
        exact cf_zret hx hb hr hlocks (by decide) (by simp [c_7, c_17, c_28]) d_Mo_isWide_36
      · refine lv_iconst (v := 1) hx hb d_Mo_isWide_31 (by decide) ?_
        refine lv_goto (tgt := 36) hx hb d_Mo_isWide_32 (by decide) ?_
        exact cf_zret hx hb hr hlocks (by decide) (by simp [c_7, c_17, c_28]) d_Mo_isWide_36

set_option maxHeartbeats 4000000 in
set_option maxRecDepth 100000 in
/-- isFraction(k) -/
theorem c_Mo_isFraction (l : Launch) (D : va_G) (m0 m1 m2 m3 : Nat) (cI : ClassId) (th r nn cl gr lg lf ll la op : Int32) (kd sz al : Nat → Int32) (k : Nat) (hk : k < 60) : cf_PM l y_Mo_isFraction b_Mo_isFraction 2 (some FieldType.boolean) ({ frames := 0, cells := 0, slots := 0, locals := 0 }) [.ref m0, .int (nI k)] D (MW m0 m1 m2 m3 cI th r nn cl gr lg lf ll la op kd sz al) [(cI, .int)] (.int (if kd k = 1 ∨ kd k = 2 then 1 else 0)) := by
  refine cf_PM_of (by decide) (Nat.le_of_ble_eq_true rfl) ?_
  intro p e s m args below meth c hx hb hr hkk hown hlocks hml hP hK ls hl
  have hl : lv_has ls 2 [(0, .ref m0), (1, .int (nI k))] := hl
  refine lv_aload_n hx hb d_Mo_isFraction_0 rfl (lv_at hl 0 rfl) ?_
  refine va_get (ci := 2) hx hb (h_Mo hkk) (fun _ h => h) hown hK hP 0 rfl rfl 10 (by decide) (hkk.use kw_299 rfl) (fun _ h => h) rfl d_Mo_isFraction_1 ?_
  refine lv_iload_n hx hb d_Mo_isFraction_4 rfl (lv_at hl 1 rfl) ?_
  refine cf_iald hx hb hK hP 1 0 rfl rfl (k := k) (by omega) (by decide) d_Mo_isFraction_5 ?_
  refine lv_iconst (v := 1) hx hb d_Mo_isFraction_6 (by decide) ?_
  refine lv_icmp_eq (tgt := 20) hx hb d_Mo_isFraction_7 (by decide) (fun c_7 => ?_) (fun c_7 => ?_)
  · refine lv_iconst (v := 1) hx hb d_Mo_isFraction_20 (by decide) ?_
    refine lv_goto (tgt := 25) hx hb d_Mo_isFraction_21 (by decide) ?_
    exact cf_zret hx hb hr hlocks (by decide) (by simp [c_7]) d_Mo_isFraction_25
  · refine lv_aload_n hx hb d_Mo_isFraction_10 rfl (lv_at hl 0 rfl) ?_
    refine va_get (ci := 2) hx hb (h_Mo hkk) (fun _ h => h) hown hK hP 0 rfl rfl 10 (by decide) (hkk.use kw_299 rfl) (fun _ h => h) rfl d_Mo_isFraction_11 ?_
    refine lv_iload_n hx hb d_Mo_isFraction_14 rfl (lv_at hl 1 rfl) ?_
    refine cf_iald hx hb hK hP 1 0 rfl rfl (k := k) (by omega) (by decide) d_Mo_isFraction_15 ?_
    refine lv_iconst (v := 2) hx hb d_Mo_isFraction_16 (by decide) ?_
    refine lv_icmp_ne (tgt := 24) hx hb d_Mo_isFraction_17 (by decide) (fun c_17 => ?_) (fun c_17 => ?_)
    · refine lv_iconst (v := 0) hx hb d_Mo_isFraction_24 (by decide) ?_
      exact cf_zret hx hb hr hlocks (by decide) (by simp [c_7, c_17]) d_Mo_isFraction_25
    · refine lv_iconst (v := 1) hx hb d_Mo_isFraction_20 (by decide) ?_
      refine lv_goto (tgt := 25) hx hb d_Mo_isFraction_21 (by decide) ?_
      exact cf_zret hx hb hr hlocks (by decide) (by simp [c_7, c_17]) d_Mo_isFraction_25

set_option maxHeartbeats 4000000 in
set_option maxRecDepth 100000 in
/-- isThere(x) -/
theorem c_Mo_isThere (l : Launch) (D : va_G) (m0 m1 m2 m3 : Nat) (cI : ClassId) (th r nn cl gr lg lf ll la op : Int32) (kd sz al : Nat → Int32) (x : Int32) : cf_PM l y_Mo_isThere b_Mo_isThere 2 (some FieldType.boolean) ({ frames := 0, cells := 0, slots := 0, locals := 0 }) [.ref m0, .int x] D (MW m0 m1 m2 m3 cI th r nn cl gr lg lf ll la op kd sz al) [(cI, .int)] (.int (if (¬ x < 0 ∧ x < nn) ∨ (x = -1 ∧ r = 3) then 1 else 0)) := by
  refine cf_PM_of (by decide) (Nat.le_of_ble_eq_true rfl) ?_
  intro p e s m args below meth c hx hb hr hkk hown hlocks hml hP hK ls hl
  have hl : lv_has ls 2 [(0, .ref m0), (1, .int x)] := hl
  refine lv_iload_n hx hb d_Mo_isThere_0 rfl (lv_at hl 1 rfl) ?_
  refine lv_if_lt (tgt := 12) hx hb d_Mo_isThere_1 (by decide) (fun c_1 => ?_) (fun c_1 => ?_)
  · refine lv_iload_n hx hb d_Mo_isThere_12 rfl (lv_at hl 1 rfl) ?_
    refine lv_iconst (v := (-1)) hx hb d_Mo_isThere_13 (by decide) ?_
    refine lv_icmp_ne (tgt := 29) hx hb d_Mo_isThere_14 (by decide) (fun c_14 => ?_) (fun c_14 => ?_)
    · refine lv_iconst (v := 0) hx hb d_Mo_isThere_29 (by decide) ?_
      exact cf_zret hx hb hr hlocks (by decide) (by simp [-Int32.not_lt, c_1, c_14]) d_Mo_isThere_30
    · refine lv_aload_n hx hb d_Mo_isThere_17 rfl (lv_at hl 0 rfl) ?_
      refine va_get (ci := 2) hx hb (h_Mo hkk) (fun _ h => h) hown hK hP 0 rfl rfl 1 (by decide) (hkk.use kw_290 rfl) (fun _ h => h) rfl d_Mo_isThere_18 ?_
      refine lv_iconst (v := 3) hx hb d_Mo_isThere_21 (by decide) ?_
      refine lv_icmp_ne (tgt := 29) hx hb d_Mo_isThere_22 (by decide) (fun c_22 => ?_) (fun c_22 => ?_)
      · refine lv_iconst (v := 0) hx hb d_Mo_isThere_29 (by decide) ?_
        exact cf_zret hx hb hr hlocks (by decide) (by simp [-Int32.not_lt, c_1, c_14, c_22]) d_Mo_isThere_30
      · refine lv_iconst (v := 1) hx hb d_Mo_isThere_25 (by decide) ?_
        refine lv_goto (tgt := 30) hx hb d_Mo_isThere_26 (by decide) ?_
        exact cf_zret hx hb hr hlocks (by decide) (by simp [-Int32.not_lt, c_1, c_14, c_22]) d_Mo_isThere_30
  · refine lv_iload_n hx hb d_Mo_isThere_4 rfl (lv_at hl 1 rfl) ?_
    refine lv_aload_n hx hb d_Mo_isThere_5 rfl (lv_at hl 0 rfl) ?_
    refine va_get (ci := 2) hx hb (h_Mo hkk) (fun _ h => h) hown hK hP 0 rfl rfl 2 (by decide) (hkk.use kw_291 rfl) (fun _ h => h) rfl d_Mo_isThere_6 ?_
    refine lv_icmp_lt (tgt := 25) hx hb d_Mo_isThere_9 (by decide) (fun c_9 => ?_) (fun c_9 => ?_)
    · refine lv_iconst (v := 1) hx hb d_Mo_isThere_25 (by decide) ?_
      refine lv_goto (tgt := 30) hx hb d_Mo_isThere_26 (by decide) ?_
      exact cf_zret hx hb hr hlocks (by decide) (by simp [-Int32.not_lt, c_1, c_9]) d_Mo_isThere_30
    · refine lv_iload_n hx hb d_Mo_isThere_12 rfl (lv_at hl 1 rfl) ?_
      refine lv_iconst (v := (-1)) hx hb d_Mo_isThere_13 (by decide) ?_
      refine lv_icmp_ne (tgt := 29) hx hb d_Mo_isThere_14 (by decide) (fun c_14 => ?_) (fun c_14 => ?_)
      · refine lv_iconst (v := 0) hx hb d_Mo_isThere_29 (by decide) ?_
        exact cf_zret hx hb hr hlocks (by decide) (by simp [-Int32.not_lt, c_1, c_9, c_14]) d_Mo_isThere_30
      · refine lv_aload_n hx hb d_Mo_isThere_17 rfl (lv_at hl 0 rfl) ?_
        refine va_get (ci := 2) hx hb (h_Mo hkk) (fun _ h => h) hown hK hP 0 rfl rfl 1 (by decide) (hkk.use kw_290 rfl) (fun _ h => h) rfl d_Mo_isThere_18 ?_
        refine lv_iconst (v := 3) hx hb d_Mo_isThere_21 (by decide) ?_
        refine lv_icmp_ne (tgt := 29) hx hb d_Mo_isThere_22 (by decide) (fun c_22 => ?_) (fun c_22 => ?_)
        · refine lv_iconst (v := 0) hx hb d_Mo_isThere_29 (by decide) ?_
          exact cf_zret hx hb hr hlocks (by decide) (by simp [-Int32.not_lt, c_1, c_9, c_14, c_22]) d_Mo_isThere_30
        · refine lv_iconst (v := 1) hx hb d_Mo_isThere_25 (by decide) ?_
          refine lv_goto (tgt := 30) hx hb d_Mo_isThere_26 (by decide) ?_
          exact cf_zret hx hb hr hlocks (by decide) (by simp [-Int32.not_lt, c_1, c_9, c_14, c_22]) d_Mo_isThere_30

set_option maxHeartbeats 4000000 in
set_option maxRecDepth 100000 in
/-- words(k) of an argument -/
theorem c_Mo_words (l : Launch) (D : va_G) (m0 m1 m2 m3 : Nat) (cI : ClassId) (th r nn cl gr lg lf ll la op : Int32) (kd sz al : Nat → Int32) (k : Nat) (hk : k < 60) (hok : p_ok (kd k) (sz k)) : cf_PM l y_Mo_words b_Mo_words 2 (some FieldType.int) ({ frames := 1, cells := 0, slots := 0, locals := 21 }) [.ref m0, .int (nI k)] D (MW m0 m1 m2 m3 cI th r nn cl gr lg lf ll la op kd sz al) [(cI, .int)] (.int (nI ((p_b (kd k) (sz k) + 3) / 4))) := by
  refine cf_PM_of (by decide) (Nat.le_of_ble_eq_true rfl) ?_
  intro p e s m args below meth c hx hb hr hkk hown hlocks hml hP hK ls hl
  have hl : lv_has ls 2 [(0, .ref m0), (1, .int (nI k))] := hl
  refine lv_iload_n hx hb d_Mo_words_0 rfl (lv_at hl 1 rfl) ?_
  refine lv_iconst (v := (-1)) hx hb d_Mo_words_1 (by decide) ?_
  refine lv_icmp_ne (tgt := 9) hx hb d_Mo_words_2 (by decide) (fun c_2 => ?_) (fun c_2 => False.elim (p_m1 k (by omega) c_2))
  refine lv_aload_n hx hb d_Mo_words_9 rfl (lv_at hl 0 rfl) ?_
  refine lv_iload_n hx hb d_Mo_words_10 rfl (lv_at hl 1 rfl) ?_
  refine cf_pcV (q0 := 0) (ci := 2) (As := [.int (nI k)]) (rest := []) hx hb hml hown hkk (c_Mo_bytes l D m0 m1 m2 m3 cI th r nn cl gr lg lf ll la op kd sz al k (hk)) ce_Mo_bytes cv_Mo_bytes kw_360 hK hP rfl rfl rfl ⟨rfl, rfl⟩ (by decide) rfl hl.1 rfl (Nat.le_of_ble_eq_true rfl) d_Mo_words_11 ⟨Nat.zero_le _, Nat.zero_le _⟩ ?_
  refine cf_top (y := nI (p_b (kd k) (sz k))) (p_bI hok) ?_
  refine lv_iconst (v := 4) hx hb d_Mo_words_14 (by decide) ?_
  refine cf_pcS (As := [.int (nI (p_b (kd k) (sz k))), .int 4]) (rest := []) hx hb hml hown hkk (c_Mo_filled l D (nI (p_b (kd k) (sz k))) 4 (by decide)) ce_Mo_filled cs_Mo_filled kw_357 (cf_K0 hK) cf_P0 ⟨rfl, rfl⟩ (by decide) rfl hl.1 rfl (Nat.le_of_ble_eq_true rfl) d_Mo_words_15 ⟨Nat.zero_le _, Nat.zero_le _⟩ ?_
  refine cf_top (y := nI (p_u (p_b (kd k) (sz k)) 4)) (p_fi4 (by have := p_ok_b hok; omega)) ?_
  refine lv_iconst (v := 4) hx hb d_Mo_words_18 (by decide) ?_
  refine lv_idiv hx hb d_Mo_words_19 (by decide) ?_
  refine cf_top (y := nI ((p_b (kd k) (sz k) + 3) / 4)) (p_wI (by have := p_ok_b hok; omega)) ?_
  exact cf_iret hx hb hr hlocks (by rfl) d_Mo_words_20

set_option maxHeartbeats 4000000 in
set_option maxRecDepth 100000 in
/-- words(-1) -/
theorem c_Mo_words1 (l : Launch) (D : va_G) (m0 m1 m2 m3 : Nat) (cI : ClassId) (th r nn cl gr lg lf ll la op : Int32) (kd sz al : Nat → Int32) : cf_PM l y_Mo_words b_Mo_words 2 (some FieldType.int) ({ frames := 0, cells := 0, slots := 0, locals := 0 }) [.ref m0, .int (-1)] D (MW m0 m1 m2 m3 cI th r nn cl gr lg lf ll la op kd sz al) [(cI, .int)] (.int 1) := by
  refine cf_PM_of (by decide) (Nat.le_of_ble_eq_true rfl) ?_
  intro p e s m args below meth c hx hb hr hkk hown hlocks hml hP hK ls hl
  have hl : lv_has ls 2 [(0, .ref m0), (1, .int (-1))] := hl
  refine lv_iload_n hx hb d_Mo_words_0 rfl (lv_at hl 1 rfl) ?_
  refine lv_iconst (v := (-1)) hx hb d_Mo_words_1 (by decide) ?_
  refine lv_icmp_ne (tgt := 9) hx hb d_Mo_words_2 (by decide) (fun c_2 => False.elim (absurd c_2 (by decide))) (fun c_2 => ?_)
  refine lv_iconst (v := 1) hx hb d_Mo_words_5 (by decide) ?_
  refine lv_goto (tgt := 20) hx hb d_Mo_words_6 (by decide) ?_
  exact cf_iret hx hb hr hlocks (rfl) d_Mo_words_20
end
section
/-! THE MODEL: homes, areas, what is saved (printed by gen/model.py) -/
set_option maxHeartbeats 4000000 in
set_option maxRecDepth 100000 in
/-- home(j): the sum of the homes -/
theorem c_Mo_home (l : Launch) (D : va_G) (m0 m1 m2 m3 : Nat) (cI : ClassId) (th r cl gr lg lf ll la op : Int32) (kd sz al : Nat → Int32) (n j : Nat) (hn : n ≤ 60) (hj : j ≤ n) (hok : ∀ i, i < j → p_ok (kd i) (sz i)) (hat : p_at r kd sz al j ≤ 1000000) : cf_PM l y_Mo_home b_Mo_home 4 (some FieldType.int) ({ frames := 1, cells := 0, slots := 0, locals := 21 }) [.ref m0, .int (nI j)] D (MW m0 m1 m2 m3 cI th r (nI n) cl gr lg lf ll la op kd sz al) [(cI, .int)] (.int (nI (if j < n then p_h r kd sz al j else p_at r kd sz al j))) := by
  refine cf_PM_of (by decide) (Nat.le_of_ble_eq_true rfl) ?_
  intro p e s m args below meth c hx hb hr hkk hown hlocks hml hP hK ls hl
  have hl : lv_has ls 4 [(0, .ref m0), (1, .int (nI j))] := hl
  refine cf_join 13 ls [] (fun v => v = nI (p_at r kd sz al 0)) (fun v_13 e_13 => ?_) (fun J_13 => ?_)
  · refine lv_istore_n (lv' := [(2, .int v_13), (0, .ref m0), (1, .int (nI j))]) hx hb d_Mo_home_13 rfl hl (by decide) rfl (fun ls hl => ?_)
    refine lv_iconst (v := 0) hx hb d_Mo_home_14 (by decide) ?_
    refine lv_istore_n (lv' := [(3, .int 0), (2, .int v_13), (0, .ref m0), (1, .int (nI j))]) hx hb d_Mo_home_15 rfl hl (by decide) rfl (fun ls hl => ?_)
    refine cf_down 16 (fun n1 H1 locs1 c1 s1 ls => ∃ k : Nat, k + n1 = j ∧ H1 = s.heap ∧ locs1 = [] ∧ c1 = 0 ∧ s1 = 0 ∧ lv_has ls 4 [(3, .int (nI k)), (2, .int (nI (p_at r kd sz al k))), (0, .ref m0), (1, .int (nI j))]) (fun n1 H1 locs1 c1 s1 ls hI IH => ?_) j s.heap [] 0 0 ls ⟨0, by omega, rfl, rfl, rfl, rfl, by rw [e_13] at hl; exact hl⟩
    obtain ⟨k, hk, rfl, rfl, rfl, rfl, hl⟩ := hI
    refine lv_iload_n hx hb d_Mo_home_16 rfl (lv_at hl 0 rfl) ?_
    refine lv_iload_n hx hb d_Mo_home_17 rfl (lv_at hl 3 rfl) ?_
    refine lv_icmp_ge (tgt := 54) hx hb d_Mo_home_18 (by decide) (fun c_18 => ?_) (fun c_18 => ?_)
    · have hkj : k = j := by have := (nI_leI (by omega) (by omega)).mp c_18; omega
      rw [hkj] at hl
      refine lv_iload_n hx hb d_Mo_home_54 rfl (lv_at hl 3 rfl) ?_
      refine lv_aload_n hx hb d_Mo_home_55 rfl (lv_at hl 2 rfl) ?_
      refine va_get (ci := 2) hx hb (h_Mo hkk) (fun _ h => h) hown hK hP 0 rfl rfl 2 (by decide) (hkk.use kw_291 rfl) (fun _ h => h) rfl d_Mo_home_56 ?_
      refine lv_icmp_ge (tgt := 79) hx hb d_Mo_home_59 (by decide) (fun c_59 => ?_) (fun c_59 => ?_)
      · refine lv_iload_n hx hb d_Mo_home_79 rfl (lv_at hl 1 rfl) ?_
        exact cf_iret hx hb hr hlocks (by rw [if_neg (by have := (nI_leI (by omega) (by omega)).mp c_59; omega)]) d_Mo_home_80
      · have hjn : j < n := Nat.lt_of_not_le (fun h => c_59 (nI_le h (by omega)))
        refine lv_aload_n hx hb d_Mo_home_62 rfl (lv_at hl 2 rfl) ?_
        refine lv_iload_n hx hb d_Mo_home_63 rfl (lv_at hl 3 rfl) ?_
        refine cf_pcV (q0 := 0) (ci := 2) (As := [.int (nI j)]) (rest := []) hx hb hml hown hkk (c_Mo_isWide l D m0 m1 m2 m3 cI th r (nI n) cl gr lg lf ll la op kd sz al j (by omega)) ce_Mo_isWide cv_Mo_isWide kw_353 hK hP rfl rfl rfl ⟨rfl, rfl⟩ (by decide) rfl hl.1 rfl (Nat.le_of_ble_eq_true rfl) d_Mo_home_64 ⟨Nat.zero_le _, Nat.zero_le _⟩ ?_
        refine lv_if_eq (tgt := 79) hx hb d_Mo_home_67 (by decide) (fun c_67 => ?_) (fun c_67 => ?_)
        · refine lv_iload_n hx hb d_Mo_home_79 rfl (lv_at hl 1 rfl) ?_
          exact cf_iret hx hb hr hlocks (by rw [if_pos hjn, show p_h r kd sz al j = p_at r kd sz al j from if_neg (p_bit0 rfl c_67)]) d_Mo_home_80
        · refine lv_iload_n hx hb d_Mo_home_70 rfl (lv_at hl 1 rfl) ?_
          refine lv_bipush (v := 8) hx hb d_Mo_home_71 (by decide) ?_
          refine cf_pcS (As := [.int (nI (p_at r kd sz al j)), .int 8]) (rest := []) hx hb hml hown hkk (c_Mo_filled l D (nI (p_at r kd sz al j)) 8 (by decide)) ce_Mo_filled cs_Mo_filled kw_357 (cf_K0 hK) cf_P0 ⟨rfl, rfl⟩ (by decide) rfl hl.1 rfl (Nat.le_of_ble_eq_true rfl) d_Mo_home_73 ⟨Nat.zero_le _, Nat.zero_le _⟩ ?_
          refine cf_top (y := nI (p_h r kd sz al j)) (by rw [p_fi8 (by omega), show p_h r kd sz al j = p_u (p_at r kd sz al j) 8 from if_pos (p_bit1 rfl c_67)]) ?_
          refine lv_goto (tgt := 80) hx hb d_Mo_home_76 (by decide) ?_
          exact cf_iret hx hb hr hlocks (by rw [if_pos hjn]) d_Mo_home_80
    · have hkj : k < j := Nat.lt_of_not_le (fun h => c_18 (nI_le h (by omega)))
      have hkb : p_at r kd sz al k ≤ 1000000 := Nat.le_trans (p_at_mono r kd sz al (Nat.le_of_lt hkj)) hat
      have hpo := hok k hkj
      refine cf_joinL 36 [] (fun ls => lv_has ls 4 [(2, .int (nI (p_h r kd sz al k))), (3, .int (nI k)), (0, .ref m0), (1, .int (nI j))]) (fun ls hl => ?_) (fun J_36 => ?_)
      · refine lv_iload_n hx hb d_Mo_home_36 rfl (lv_at hl 0 rfl) ?_
        refine lv_aload_n hx hb d_Mo_home_37 rfl (lv_at hl 2 rfl) ?_
        refine lv_iload_n hx hb d_Mo_home_38 rfl (lv_at hl 1 rfl) ?_
        refine cf_pcV (q0 := 0) (ci := 2) (As := [.int (nI k)]) (rest := [.int (nI (p_h r kd sz al k))]) hx hb hml hown hkk (c_Mo_bytes l D m0 m1 m2 m3 cI th r (nI n) cl gr lg lf ll la op kd sz al k (by omega)) ce_Mo_bytes cv_Mo_bytes kw_360 hK hP rfl rfl rfl ⟨rfl, rfl⟩ (by decide) rfl hl.1 rfl (Nat.le_of_ble_eq_true rfl) d_Mo_home_39 ⟨Nat.zero_le _, Nat.zero_le _⟩ ?_
        refine cf_top (y := nI (p_b (kd k) (sz k))) (p_bI hpo) ?_
        refine lv_iconst (v := 4) hx hb d_Mo_home_42 (by decide) ?_
        refine cf_pcS (As := [.int (nI (p_b (kd k) (sz k))), .int 4]) (rest := [.int (nI (p_h r kd sz al k))]) hx hb hml hown hkk (c_Mo_filled l D (nI (p_b (kd k) (sz k))) 4 (by decide)) ce_Mo_filled cs_Mo_filled kw_357 (cf_K0 hK) cf_P0 ⟨rfl, rfl⟩ (by decide) rfl hl.1 rfl (Nat.le_of_ble_eq_true rfl) d_Mo_home_43 ⟨Nat.zero_le _, Nat.zero_le _⟩ ?_
        refine cf_top (y := nI (p_u (p_b (kd k) (sz k)) 4)) (p_fi4 (by have := p_ok_b hpo; omega)) ?_
        refine lv_iadd hx hb d_Mo_home_46 ?_
        refine cf_top (y := nI (p_at r kd sz al (k + 1))) (by rw [nI_add]; rfl) ?_
        refine lv_istore_n (lv' := [(2, .int (nI (p_at r kd sz al (k + 1)))), (3, .int (nI k)), (0, .ref m0), (1, .int (nI j))]) hx hb d_Mo_home_47 rfl hl (by decide) rfl (fun ls hl => ?_)
        refine lv_iinc (v := nI (k + 1)) (lv' := [(3, .int (nI (k + 1))), (2, .int (nI (p_at r kd sz al (k + 1)))), (0, .ref m0), (1, .int (nI j))]) hx hb d_Mo_home_48 hl (k := 1) rfl (nI_1 k) (by decide) rfl (fun ls hl => ?_)
        refine lv_goto (tgt := 16) hx hb d_Mo_home_51 (by decide) ?_
        exact IH (n1 - 1) s.heap [] 0 0 ls (by omega) ⟨k + 1, by omega, rfl, rfl, rfl, rfl, hl⟩
      · refine lv_aload_n hx hb d_Mo_home_21 rfl (lv_at hl 2 rfl) ?_
        refine lv_iload_n hx hb d_Mo_home_22 rfl (lv_at hl 0 rfl) ?_
        refine cf_pcV (q0 := 0) (ci := 2) (As := [.int (nI k)]) (rest := []) hx hb hml hown hkk (c_Mo_isWide l D m0 m1 m2 m3 cI th r (nI n) cl gr lg lf ll la op kd sz al k (by omega)) ce_Mo_isWide cv_Mo_isWide kw_353 hK hP rfl rfl rfl ⟨rfl, rfl⟩ (by decide) rfl hl.1 rfl (Nat.le_of_ble_eq_true rfl) d_Mo_home_23 ⟨Nat.zero_le _, Nat.zero_le _⟩ ?_
        refine lv_if_eq (tgt := 36) hx hb d_Mo_home_26 (by decide) (fun c_26 => ?_) (fun c_26 => ?_)
        · exact J_36 ls (by rw [show p_h r kd sz al k = p_at r kd sz al k from if_neg (p_bit0 rfl c_26)]; exact lv_sub hl [1, 0, 2, 3] rfl)
        · refine lv_iload_n hx hb d_Mo_home_29 rfl (lv_at hl 1 rfl) ?_
          refine lv_bipush (v := 8) hx hb d_Mo_home_30 (by decide) ?_
          refine cf_pcS (As := [.int (nI (p_at r kd sz al k)), .int 8]) (rest := []) hx hb hml hown hkk (c_Mo_filled l D (nI (p_at r kd sz al k)) 8 (by decide)) ce_Mo_filled cs_Mo_filled kw_357 (cf_K0 hK) cf_P0 ⟨rfl, rfl⟩ (by decide) rfl hl.1 rfl (Nat.le_of_ble_eq_true rfl) d_Mo_home_32 ⟨Nat.zero_le _, Nat.zero_le _⟩ ?_
          refine cf_top (y := nI (p_h r kd sz al k)) (by rw [p_fi8 (by omega), show p_h r kd sz al k = p_u (p_at r kd sz al k) 8 from if_pos (p_bit1 rfl c_26)]) ?_
          refine lv_istore_n (lv' := [(2, .int (nI (p_h r kd sz al k))), (3, .int (nI k)), (0, .ref m0), (1, .int (nI j))]) hx hb d_Mo_home_35 rfl hl (by decide) rfl (fun ls hl => ?_)
          exact J_36 ls hl
  · refine lv_aload_n hx hb d_Mo_home_0 rfl (lv_at hl 0 rfl) ?_
    refine va_get (ci := 2) hx hb (h_Mo hkk) (fun _ h => h) hown hK hP 0 rfl rfl 1 (by decide) (hkk.use kw_290 rfl) (fun _ h => h) rfl d_Mo_home_1 ?_
    refine lv_iconst (v := 3) hx hb d_Mo_home_4 (by decide) ?_
    refine lv_icmp_ne (tgt := 12) hx hb d_Mo_home_5 (by decide) (fun c_5 => ?_) (fun c_5 => ?_)
    · refine lv_iconst (v := 0) hx hb d_Mo_home_12 (by decide) ?_
      exact J_13 _ (by rw [show p_at r kd sz al 0 = if r = 3 then 4 else 0 from rfl, if_neg c_5]; rfl)
    · refine lv_iconst (v := 4) hx hb d_Mo_home_8 (by decide) ?_
      refine lv_goto (tgt := 13) hx hb d_Mo_home_9 (by decide) ?_
      exact J_13 _ (by rw [show p_at r kd sz al 0 = if r = 3 then 4 else 0 from rfl, if_pos c_5]; rfl)

def p_ar (x : Nat) : Nat := if x < 16 then 16 else x
def p_area (r : Int32) (kd sz al : Nat → Int32) (n : Nat) : Nat := p_ar (p_u (p_at r kd sz al n) 8)
set_option maxHeartbeats 4000000 in
set_option maxRecDepth 100000 in
/-- area() -/
theorem c_Mo_area (l : Launch) (D : va_G) (m0 m1 m2 m3 : Nat) (cI : ClassId) (th r cl gr lg lf ll la op : Int32) (kd sz al : Nat → Int32) (n : Nat) (hn : n ≤ 60) (hok : ∀ i, i < n → p_ok (kd i) (sz i)) (hat : p_at r kd sz al n ≤ 1000000) : cf_PM l y_Mo_area b_Mo_area 2 (some FieldType.int) ({ frames := 2, cells := 0, slots := 0, locals := 44 }) [.ref m0] D (MW m0 m1 m2 m3 cI th r (nI n) cl gr lg lf ll la op kd sz al) [(cI, .int)] (.int (nI (p_area r kd sz al n))) := by
  refine cf_PM_of (by decide) (Nat.le_of_ble_eq_true rfl) ?_
  intro p e s m args below meth c hx hb hr hkk hown hlocks hml hP hK ls hl
  have hl : lv_has ls 2 [(0, .ref m0)] := hl
  refine lv_aload_n hx hb d_Mo_area_0 rfl (lv_at hl 0 rfl) ?_
  refine lv_aload_n hx hb d_Mo_area_1 rfl (lv_at hl 0 rfl) ?_
  refine va_get (ci := 2) hx hb (h_Mo hkk) (fun _ h => h) hown hK hP 0 rfl rfl 2 (by decide) (hkk.use kw_291 rfl) (fun _ h => h) rfl d_Mo_area_2 ?_
  refine cf_pcV (q0 := 0) (ci := 2) (As := [.int (nI n)]) (rest := []) hx hb hml hown hkk (c_Mo_home l D m0 m1 m2 m3 cI th r cl gr lg lf ll la op kd sz al n n (hn) (Nat.le_refl n) (hok) (hat)) ce_Mo_home cv_Mo_home kw_349 hK hP rfl rfl rfl ⟨rfl, rfl⟩ (by decide) rfl hl.1 rfl (Nat.le_of_ble_eq_true rfl) d_Mo_area_5 ⟨Nat.zero_le _, Nat.zero_le _⟩ ?_
  refine cf_top (y := nI (p_at r kd sz al n)) (by rw [if_neg (Nat.lt_irrefl n)]) ?_
  refine lv_bipush (v := 8) hx hb d_Mo_area_8 (by decide) ?_
  refine cf_pcS (As := [.int (nI (p_at r kd sz al n)), .int 8]) (rest := []) hx hb hml hown hkk (c_Mo_filled l D (nI (p_at r kd sz al n)) 8 (by decide)) ce_Mo_filled cs_Mo_filled kw_357 (cf_K0 hK) cf_P0 ⟨rfl, rfl⟩ (by decide) rfl hl.1 rfl (Nat.le_of_ble_eq_true rfl) d_Mo_area_10 ⟨Nat.zero_le _, Nat.zero_le _⟩ ?_
  refine cf_top (y := nI (p_u (p_at r kd sz al n) 8)) (p_fi8 (by omega)) ?_
  refine lv_istore_n (lv' := [(1, .int (nI (p_u (p_at r kd sz al n) 8))), (0, .ref m0)]) hx hb d_Mo_area_13 rfl hl (by decide) rfl (fun ls hl => ?_)
  refine lv_iload_n hx hb d_Mo_area_14 rfl (lv_at hl 0 rfl) ?_
  refine lv_bipush (v := 16) hx hb d_Mo_area_15 (by decide) ?_
  refine lv_icmp_ge (tgt := 25) hx hb d_Mo_area_17 (by decide) (fun c_17 => ?_) (fun c_17 => ?_)
  · refine lv_iload_n hx hb d_Mo_area_25 rfl (lv_at hl 0 rfl) ?_
    exact cf_iret hx hb hr hlocks (by unfold p_area p_ar; rw [if_neg (by have := (nI_leI (a := 16) (by omega) (by have := p_ub8 (p_at r kd sz al n); omega)).mp c_17; omega)]) d_Mo_area_26
  · refine lv_bipush (v := 16) hx hb d_Mo_area_20 (by decide) ?_
    refine lv_goto (tgt := 26) hx hb d_Mo_area_22 (by decide) ?_
    exact cf_iret hx hb hr hlocks (by unfold p_area p_ar; rw [if_pos (Nat.lt_of_not_le (fun h => c_17 (nI_le h (by have := p_ub8 (p_at r kd sz al n); omega))))]; rfl) d_Mo_area_26

set_option maxHeartbeats 4000000 in
set_option maxRecDepth 100000 in
/-- saved(st, bw, ea) -/
theorem c_Mo_saved (l : Launch) (D : va_G) (st : Int32) (bw ea : Nat) (hbw : bw ≤ 32) : cf_PM l y_Mo_saved b_Mo_saved 5 (some FieldType.int) ({ frames := 0, cells := 0, slots := 0, locals := 0 }) [.int st, .int (nI bw), .int (nI ea)] D [] [] (.int (nI (ea * p_c st bw))) := by
  refine cf_PM_of (by decide) (Nat.le_of_ble_eq_true rfl) ?_
  intro p e s m args below meth c hx hb hr hkk hown hlocks hml hP hK ls hl
  have hl : lv_has ls 5 [(0, .int st), (1, .int (nI bw)), (2, .int (nI ea))] := hl
  refine lv_iconst (v := 0) hx hb d_Mo_saved_0 (by decide) ?_
  refine lv_istore_n (lv' := [(3, .int 0), (0, .int st), (1, .int (nI bw)), (2, .int (nI ea))]) hx hb d_Mo_saved_1 rfl hl (by decide) rfl (fun ls hl => ?_)
  refine lv_iconst (v := 0) hx hb d_Mo_saved_2 (by decide) ?_
  refine lv_istore (lv' := [(4, .int 0), (3, .int 0), (0, .int st), (1, .int (nI bw)), (2, .int (nI ea))]) hx hb d_Mo_saved_3 hl (by decide) rfl (fun ls hl => ?_)
  refine cf_down 5 (fun n1 H1 locs1 c1 s1 ls => ∃ k : Nat, k + n1 = bw ∧ H1 = s.heap ∧ locs1 = [] ∧ c1 = 0 ∧ s1 = 0 ∧ lv_has ls 5 [(4, .int (nI k)), (3, .int (nI (ea * p_c st k))), (0, .int st), (1, .int (nI bw)), (2, .int (nI ea))]) (fun n1 H1 locs1 c1 s1 ls hI IH => ?_) bw s.heap [] 0 0 ls ⟨0, by omega, rfl, rfl, rfl, rfl, by show lv_has ls 5 [(4, .int 0), (3, .int (nI (ea * 0))), (0, .int st), (1, .int (nI bw)), (2, .int (nI ea))]; rw [Nat.mul_zero]; exact hl⟩
  obtain ⟨k, hk, rfl, rfl, rfl, rfl, hl⟩ := hI
  refine lv_iload hx hb d_Mo_saved_5 (lv_at hl 0 rfl) ?_
  refine lv_iload_n hx hb d_Mo_saved_7 rfl (lv_at hl 3 rfl) ?_
  refine lv_icmp_ge (tgt := 28) hx hb d_Mo_saved_8 (by decide) (fun c_8 => ?_) (fun c_8 => ?_)
  · refine lv_iload_n hx hb d_Mo_saved_28 rfl (lv_at hl 1 rfl) ?_
    exact cf_iret hx hb hr hlocks (by rw [show k = bw by have := (nI_leI (by omega) (by omega)).mp c_8; omega]) d_Mo_saved_29
  · have hkj : k < bw := Nat.lt_of_not_le (fun h => c_8 (nI_le h (by omega)))
    refine lv_iload_n hx hb d_Mo_saved_11 rfl (lv_at hl 1 rfl) ?_
    refine lv_iload_n hx hb d_Mo_saved_12 rfl (lv_at hl 2 rfl) ?_
    refine lv_iload hx hb d_Mo_saved_13 (lv_at hl 0 rfl) ?_
    refine lv_ishr hx hb d_Mo_saved_15 ?_
    refine lv_iconst (v := 1) hx hb d_Mo_saved_16 (by decide) ?_
    refine lv_iand hx hb d_Mo_saved_17 ?_
    refine lv_iload_n hx hb d_Mo_saved_18 rfl (lv_at hl 4 rfl) ?_
    refine lv_imul hx hb d_Mo_saved_19 ?_
    refine lv_iadd hx hb d_Mo_saved_20 ?_
    refine cf_top (y := nI (ea * p_c st (k + 1))) (p_sum st ea k) ?_
    refine lv_istore_n (lv' := [(3, .int (nI (ea * p_c st (k + 1)))), (4, .int (nI k)), (0, .int st), (1, .int (nI bw)), (2, .int (nI ea))]) hx hb d_Mo_saved_21 rfl hl (by decide) rfl (fun ls hl => ?_)
    refine lv_iinc (v := nI (k + 1)) (lv' := [(4, .int (nI (k + 1))), (3, .int (nI (ea * p_c st (k + 1)))), (0, .int st), (1, .int (nI bw)), (2, .int (nI ea))]) hx hb d_Mo_saved_22 hl (k := 1) rfl (nI_1 k) (by decide) rfl (fun ls hl => ?_)
    refine lv_goto (tgt := 5) hx hb d_Mo_saved_25 (by decide) ?_
    exact IH (n1 - 1) s.heap [] 0 0 ls (by omega) ⟨k + 1, by omega, rfl, rfl, rfl, rfl, hl⟩

set_option maxHeartbeats 4000000 in
set_option maxRecDepth 100000 in
/-- fractionsAt() -/
theorem c_Mo_fractionsAt (l : Launch) (D : va_G) (m0 m1 m2 m3 : Nat) (cI : ClassId) (th r nn cl gr lg lf op : Int32) (kd sz al : Nat → Int32) (lb lc : Nat) (hlb : lb ≤ 1000000) (hlc : lc ≤ 1000000) : cf_PM l y_Mo_fractionsAt b_Mo_fractionsAt 1 (some FieldType.int) ({ frames := 1, cells := 0, slots := 0, locals := 21 }) [.ref m0] D (MW m0 m1 m2 m3 cI th r nn cl gr lg lf (nI lb) (nI lc) op kd sz al) [(cI, .int)] (.int (nI (p_u (lc + lb) 8))) := by
  refine cf_PM_of (by decide) (Nat.le_of_ble_eq_true rfl) ?_
  intro p e s m args below meth c hx hb hr hkk hown hlocks hml hP hK ls hl
  have hl : lv_has ls 1 [(0, .ref m0)] := hl
  refine lv_aload_n hx hb d_Mo_fractionsAt_0 rfl (lv_at hl 0 rfl) ?_
  refine va_get (ci := 2) hx hb (h_Mo hkk) (fun _ h => h) hown hK hP 0 rfl rfl 8 (by decide) (hkk.use kw_297 rfl) (fun _ h => h) rfl d_Mo_fractionsAt_1 ?_
  refine lv_aload_n hx hb d_Mo_fractionsAt_4 rfl (lv_at hl 0 rfl) ?_
  refine va_get (ci := 2) hx hb (h_Mo hkk) (fun _ h => h) hown hK hP 0 rfl rfl 7 (by decide) (hkk.use kw_296 rfl) (fun _ h => h) rfl d_Mo_fractionsAt_5 ?_
  refine lv_iadd hx hb d_Mo_fractionsAt_8 ?_
  refine cf_top (y := nI (lc + lb)) (nI_add _ _) ?_
  refine lv_bipush (v := 8) hx hb d_Mo_fractionsAt_9 (by decide) ?_
  refine cf_pcS (As := [.int (nI (lc + lb)), .int 8]) (rest := []) hx hb hml hown hkk (c_Mo_filled l D (nI (lc + lb)) 8 (by decide)) ce_Mo_filled cs_Mo_filled kw_357 (cf_K0 hK) cf_P0 ⟨rfl, rfl⟩ (by decide) rfl hl.1 rfl (Nat.le_of_ble_eq_true rfl) d_Mo_fractionsAt_11 ⟨Nat.zero_le _, Nat.zero_le _⟩ ?_
  refine cf_top (y := nI (p_u (lc + lb) 8)) (p_fi8 (by omega)) ?_
  exact cf_iret hx hb hr hlocks (rfl) d_Mo_fractionsAt_14

set_option maxHeartbeats 4000000 in
set_option maxRecDepth 100000 in
/-- generalAt() -/
theorem c_Mo_generalAt (l : Launch) (D : va_G) (m0 m1 m2 m3 : Nat) (cI : ClassId) (th r nn cl gr lg lf op : Int32) (kd sz al : Nat → Int32) (lb lc : Nat) (hlb : lb ≤ 1000000) (hlc : lc ≤ 1000000) : cf_PM l y_Mo_generalAt b_Mo_generalAt 1 (some FieldType.int) ({ frames := 2, cells := 0, slots := 0, locals := 41 }) [.ref m0] D (MW m0 m1 m2 m3 cI th r nn cl gr lg lf (nI lb) (nI lc) op kd sz al) [(cI, .int)] (.int (nI (p_u (lc + lb) 8 + 8 * p_c lf 32))) := by
  refine cf_PM_of (by decide) (Nat.le_of_ble_eq_true rfl) ?_
  intro p e s m args below meth c hx hb hr hkk hown hlocks hml hP hK ls hl
  have hl : lv_has ls 1 [(0, .ref m0)] := hl
  refine lv_aload_n hx hb d_Mo_generalAt_0 rfl (lv_at hl 0 rfl) ?_
  refine cf_pcV (q0 := 0) (ci := 2) (As := []) (rest := []) hx hb hml hown hkk (c_Mo_fractionsAt l D m0 m1 m2 m3 cI th r nn cl gr lg lf op kd sz al lb lc hlb hlc) ce_Mo_fractionsAt cv_Mo_fractionsAt kw_408 hK hP rfl rfl rfl ⟨rfl, rfl⟩ (by decide) rfl hl.1 rfl (Nat.le_of_ble_eq_true rfl) d_Mo_generalAt_1 ⟨Nat.zero_le _, Nat.zero_le _⟩ ?_
  refine lv_aload_n hx hb d_Mo_generalAt_4 rfl (lv_at hl 0 rfl) ?_
  refine va_get (ci := 2) hx hb (h_Mo hkk) (fun _ h => h) hown hK hP 0 rfl rfl 6 (by decide) (hkk.use kw_295 rfl) (fun _ h => h) rfl d_Mo_generalAt_5 ?_
  refine lv_bipush (v := 32) hx hb d_Mo_generalAt_8 (by decide) ?_
  refine lv_bipush (v := 8) hx hb d_Mo_generalAt_10 (by decide) ?_
  refine cf_pcS (As := [.int lf, .int 32, .int 8]) (rest := [.int (nI (p_u (lc + lb) 8))]) hx hb hml hown hkk (c_Mo_saved l D lf 32 8 (by omega)) ce_Mo_saved cs_Mo_saved kw_412 (cf_K0 hK) cf_P0 ⟨rfl, rfl⟩ (by decide) rfl hl.1 rfl (Nat.le_of_ble_eq_true rfl) d_Mo_generalAt_12 ⟨Nat.zero_le _, Nat.zero_le _⟩ ?_
  refine lv_iadd hx hb d_Mo_generalAt_15 ?_
  refine cf_top (y := nI (p_u (lc + lb) 8 + 8 * p_c lf 32)) (nI_add _ _) ?_
  exact cf_iret hx hb hr hlocks (rfl) d_Mo_generalAt_16
end
section
/-! THE MODEL: the methods that write its fields (printed by gen/modelI.py) -/
set_option maxHeartbeats 4000000 in
set_option maxRecDepth 100000 in
/-- fail(code) -/
theorem c_Mo_fail (l : Launch) (D : va_G) (m0 m1 m2 m3 : Nat) (cI : ClassId) (th r nn cl gr lg lf ll la op : Int32) (kd sz al : Nat → Int32) (cd : Int32) (hD0 : va_D (fun _ => True) (MW m0 m1 m2 m3 cI th r nn cl gr lg lf ll la op kd sz al)) : cf_IM l y_Mo_fail b_Mo_fail 2 (some FieldType.int) ({ frames := 0, cells := 0, slots := 0, locals := 0 }) [.ref m0, .int cd] D (MW m0 m1 m2 m3 cI th r nn cl gr lg lf ll la op kd sz al) [(cI, .int)] (some (.int 0)) (MW m0 m1 m2 m3 cI cd r nn cl gr lg lf ll la op kd sz al) := by
  refine cf_IM_of (by decide) (Nat.le_of_ble_eq_true rfl) hD0 ?_
  intro p e s m args below meth c A hx hb hr hkk hown hlocks hml hin hP hK hD hS hA hAe ls hl
  have hl : lv_has ls 2 [(0, .ref m0), (1, .int cd)] := hl
  refine lv_aload_n hx hb d_Mo_fail_0 rfl (lv_at hl 0 rfl) ?_
  refine lv_iload_n hx hb d_Mo_fail_1 rfl (lv_at hl 1 rfl) ?_
  refine va_put (ci := 2) (v := .int cd) (ty := .int) hx hb (h_Mo hkk) (fun _ h => h) t_Mo t_Mo_ok n_Mo hown hK hP hD hS 0 rfl rfl 0 (by decide) (hkk.use kw_289 rfl) (fun _ h => h) rfl (by decide +kernel) rfl rfl (Nat.le_of_ble_eq_true rfl) d_Mo_fail_2 (fun H locs hP hD hS => ?_)
  have hP : va_P D cf_cl (MW m0 m1 m2 m3 cI cd r nn cl gr lg lf ll la op kd sz al) H := hP
  have hD : va_D A (MW m0 m1 m2 m3 cI cd r nn cl gr lg lf ll la op kd sz al) := hD
  refine lv_iconst (v := 0) hx hb d_Mo_fail_5 (by decide) ?_
  exact cf_iretI hx hb hr hlocks hP hS (Nat.zero_le _) (Nat.zero_le _) (rfl) d_Mo_fail_6

set_option maxHeartbeats 4000000 in
set_option maxRecDepth 100000 in
/-- begin, its arguments right -/
theorem c_Mo_begin_ok (l : Launch) (D : va_G) (m0 m1 m2 m3 : Nat) (cI : ClassId) (th r nn cl gr lg lf ll la op : Int32) (kd sz al : Nat → Int32) (kind size a o2 : Int32) (hop : o2 = 0 ∨ o2 = 1) (hg : p_good kind 4 size a = true) (hD0 : va_D (fun _ => True) (MW m0 m1 m2 m3 cI th r nn cl gr lg lf ll la op kd sz al)) : cf_IM l y_Mo_begin b_Mo_begin 5 none ({ frames := 1, cells := 0, slots := 0, locals := 24 }) [.ref m0, .int kind, .int size, .int a, .int o2] D (MW m0 m1 m2 m3 cI th r nn cl gr lg lf ll la op kd sz al) [(cI, .int)] (none) (MW m0 m1 m2 m3 cI 0 kind 0 cl gr lg lf ll la o2 kd sz al) := by
  refine cf_IM_of (by decide) (Nat.le_of_ble_eq_true rfl) hD0 ?_
  intro p e s m args below meth c A hx hb hr hkk hown hlocks hml hin hP hK hD hS hA hAe ls hl
  have hl : lv_has ls 5 [(0, .ref m0), (1, .int kind), (2, .int size), (3, .int a), (4, .int o2)] := hl
  refine lv_aload_n hx hb d_Mo_begin_0 rfl (lv_at hl 0 rfl) ?_
  refine lv_iconst (v := 0) hx hb d_Mo_begin_1 (by decide) ?_
  refine va_put (ci := 2) (v := .int 0) (ty := .int) hx hb (h_Mo hkk) (fun _ h => h) t_Mo t_Mo_ok n_Mo hown hK hP hD hS 0 rfl rfl 0 (by decide) (hkk.use kw_289 rfl) (fun _ h => h) rfl (by decide +kernel) rfl rfl (Nat.le_of_ble_eq_true rfl) d_Mo_begin_2 (fun H locs hP hD hS => ?_)
  have hP : va_P D cf_cl (MW m0 m1 m2 m3 cI 0 r nn cl gr lg lf ll la op kd sz al) H := hP
  have hD : va_D A (MW m0 m1 m2 m3 cI 0 r nn cl gr lg lf ll la op kd sz al) := hD
  refine lv_iload_n hx hb d_Mo_begin_5 rfl (lv_at hl 1 rfl) ?_
  refine lv_iconst (v := 4) hx hb d_Mo_begin_6 (by decide) ?_
  refine lv_iload_n hx hb d_Mo_begin_7 rfl (lv_at hl 2 rfl) ?_
  refine lv_iload_n hx hb d_Mo_begin_8 rfl (lv_at hl 3 rfl) ?_
  refine cf_pcS (As := [.int kind, .int 4, .int size, .int a]) (rest := []) hx hb hml hown hkk (c_Mo_isGood l D kind 4 size a) ce_Mo_isGood cs_Mo_isGood kw_337 (cf_K0 hK) cf_P0 ⟨rfl, rfl⟩ (by decide) rfl hl.1 rfl (Nat.le_of_ble_eq_true rfl) d_Mo_begin_9 ⟨Nat.zero_le _, Nat.zero_le _⟩ ?_
  refine lv_if_ne (tgt := 21) hx hb d_Mo_begin_12 (by decide) (fun c_12 => ?_) (fun c_12 => False.elim (p_bit0 rfl c_12 hg))
  refine lv_aload_n hx hb d_Mo_begin_21 rfl (lv_at hl 0 rfl) ?_
  refine lv_iload_n hx hb d_Mo_begin_22 rfl (lv_at hl 1 rfl) ?_
  refine va_put (ci := 2) (v := .int kind) (ty := .int) hx hb (h_Mo hkk) (fun _ h => h) t_Mo t_Mo_ok n_Mo hown hK hP hD hS 0 rfl rfl 1 (by decide) (hkk.use kw_290 rfl) (fun _ h => h) rfl (by decide +kernel) rfl rfl (Nat.le_of_ble_eq_true rfl) d_Mo_begin_23 (fun H locs hP hD hS => ?_)
  have hP : va_P D cf_cl (MW m0 m1 m2 m3 cI 0 kind nn cl gr lg lf ll la op kd sz al) H := hP
  have hD : va_D A (MW m0 m1 m2 m3 cI 0 kind nn cl gr lg lf ll la op kd sz al) := hD
  refine lv_aload_n hx hb d_Mo_begin_26 rfl (lv_at hl 0 rfl) ?_
  refine lv_iload hx hb d_Mo_begin_27 (lv_at hl 4 rfl) ?_
  refine va_put (ci := 2) (v := .int o2) (ty := .boolean) hx hb (h_Mo hkk) (fun _ h => h) t_Mo t_Mo_ok n_Mo hown hK hP hD hS 0 rfl rfl 9 (by decide) (hkk.use kw_298 rfl) (fun _ h => h) rfl (by decide +kernel) (by rcases hop with h | h <;> rw [h] <;> rfl) (by rcases hop with h | h <;> rw [h] <;> rfl) (Nat.le_of_ble_eq_true rfl) d_Mo_begin_29 (fun H locs hP hD hS => ?_)
  have hP : va_P D cf_cl (MW m0 m1 m2 m3 cI 0 kind nn cl gr lg lf ll la o2 kd sz al) H := hP
  have hD : va_D A (MW m0 m1 m2 m3 cI 0 kind nn cl gr lg lf ll la o2 kd sz al) := hD
  refine lv_aload_n hx hb d_Mo_begin_32 rfl (lv_at hl 0 rfl) ?_
  refine lv_iconst (v := 0) hx hb d_Mo_begin_33 (by decide) ?_
  refine va_put (ci := 2) (v := .int 0) (ty := .int) hx hb (h_Mo hkk) (fun _ h => h) t_Mo t_Mo_ok n_Mo hown hK hP hD hS 0 rfl rfl 2 (by decide) (hkk.use kw_291 rfl) (fun _ h => h) rfl (by decide +kernel) rfl rfl (Nat.le_of_ble_eq_true rfl) d_Mo_begin_34 (fun H locs hP hD hS => ?_)
  have hP : va_P D cf_cl (MW m0 m1 m2 m3 cI 0 kind 0 cl gr lg lf ll la o2 kd sz al) H := hP
  have hD : va_D A (MW m0 m1 m2 m3 cI 0 kind 0 cl gr lg lf ll la o2 kd sz al) := hD
  exact cf_vretI hx hb hr hlocks hP hS (Nat.zero_le _) (Nat.zero_le _) d_Mo_begin_37

set_option maxHeartbeats 4000000 in
set_option maxRecDepth 100000 in
/-- begin, refused -/
theorem c_Mo_begin_no (l : Launch) (D : va_G) (m0 m1 m2 m3 : Nat) (cI : ClassId) (th r nn cl gr lg lf ll la op : Int32) (kd sz al : Nat → Int32) (kind size a o2 : Int32) (hg : ¬ p_good kind 4 size a = true) (hD0 : va_D (fun _ => True) (MW m0 m1 m2 m3 cI th r nn cl gr lg lf ll la op kd sz al)) : cf_IM l y_Mo_begin b_Mo_begin 5 none ({ frames := 1, cells := 0, slots := 0, locals := 24 }) [.ref m0, .int kind, .int size, .int a, .int o2] D (MW m0 m1 m2 m3 cI th r nn cl gr lg lf ll la op kd sz al) [(cI, .int)] (none) (MW m0 m1 m2 m3 cI 1 r nn cl gr lg lf ll la op kd sz al) := by
  refine cf_IM_of (by decide) (Nat.le_of_ble_eq_true rfl) hD0 ?_
  intro p e s m args below meth c A hx hb hr hkk hown hlocks hml hin hP hK hD hS hA hAe ls hl
  have hl : lv_has ls 5 [(0, .ref m0), (1, .int kind), (2, .int size), (3, .int a), (4, .int o2)] := hl
  refine lv_aload_n hx hb d_Mo_begin_0 rfl (lv_at hl 0 rfl) ?_
  refine lv_iconst (v := 0) hx hb d_Mo_begin_1 (by decide) ?_
  refine va_put (ci := 2) (v := .int 0) (ty := .int) hx hb (h_Mo hkk) (fun _ h => h) t_Mo t_Mo_ok n_Mo hown hK hP hD hS 0 rfl rfl 0 (by decide) (hkk.use kw_289 rfl) (fun _ h => h) rfl (by decide +kernel) rfl rfl (Nat.le_of_ble_eq_true rfl) d_Mo_begin_2 (fun H locs hP hD hS => ?_)
  have hP : va_P D cf_cl (MW m0 m1 m2 m3 cI 0 r nn cl gr lg lf ll la op kd sz al) H := hP
  have hD : va_D A (MW m0 m1 m2 m3 cI 0 r nn cl gr lg lf ll la op kd sz al) := hD
  refine lv_iload_n hx hb d_Mo_begin_5 rfl (lv_at hl 1 rfl) ?_
  refine lv_iconst (v := 4) hx hb d_Mo_begin_6 (by decide) ?_
  refine lv_iload_n hx hb d_Mo_begin_7 rfl (lv_at hl 2 rfl) ?_
  refine lv_iload_n hx hb d_Mo_begin_8 rfl (lv_at hl 3 rfl) ?_
  refine cf_pcS (As := [.int kind, .int 4, .int size, .int a]) (rest := []) hx hb hml hown hkk (c_Mo_isGood l D kind 4 size a) ce_Mo_isGood cs_Mo_isGood kw_337 (cf_K0 hK) cf_P0 ⟨rfl, rfl⟩ (by decide) rfl hl.1 rfl (Nat.le_of_ble_eq_true rfl) d_Mo_begin_9 ⟨Nat.zero_le _, Nat.zero_le _⟩ ?_
  refine lv_if_ne (tgt := 21) hx hb d_Mo_begin_12 (by decide) (fun c_12 => False.elim (hg (p_bit1 rfl c_12))) (fun c_12 => ?_)
  refine lv_aload_n hx hb d_Mo_begin_15 rfl (lv_at hl 0 rfl) ?_
  refine lv_iconst (v := 1) hx hb d_Mo_begin_16 (by decide) ?_
  refine va_put (ci := 2) (v := .int 1) (ty := .int) hx hb (h_Mo hkk) (fun _ h => h) t_Mo t_Mo_ok n_Mo hown hK hP hD hS 0 rfl rfl 0 (by decide) (hkk.use kw_289 rfl) (fun _ h => h) rfl (by decide +kernel) rfl rfl (Nat.le_of_ble_eq_true rfl) d_Mo_begin_17 (fun H locs hP hD hS => ?_)
  have hP : va_P D cf_cl (MW m0 m1 m2 m3 cI 1 r nn cl gr lg lf ll la op kd sz al) H := hP
  have hD : va_D A (MW m0 m1 m2 m3 cI 1 r nn cl gr lg lf ll la op kd sz al) := hD
  exact cf_vretI hx hb hr hlocks hP hS (Nat.zero_le _) (Nat.zero_le _) d_Mo_begin_20

set_option maxHeartbeats 4000000 in
set_option maxRecDepth 100000 in
/-- add, refused -/
theorem c_Mo_add_no (l : Launch) (D : va_G) (m0 m1 m2 m3 : Nat) (cI : ClassId) (th r cl gr lg lf ll la op : Int32) (kd sz al : Nat → Int32) (kind size a : Int32) (n : Nat) (hn : n ≤ 60) (hg : ¬ p_good kind 3 size a = true) (hD0 : va_D (fun _ => True) (MW m0 m1 m2 m3 cI th r (nI n) cl gr lg lf ll la op kd sz al)) : cf_IM l y_Mo_add b_Mo_add 5 (some FieldType.int) ({ frames := 1, cells := 0, slots := 0, locals := 24 }) [.ref m0, .int kind, .int size, .int a] D (MW m0 m1 m2 m3 cI th r (nI n) cl gr lg lf ll la op kd sz al) [(cI, .int)] (some (.int 0)) (MW m0 m1 m2 m3 cI 1 r (nI n) cl gr lg lf ll la op kd sz al) := by
  refine cf_IM_of (by decide) (Nat.le_of_ble_eq_true rfl) hD0 ?_
  intro p e s m args below meth c A hx hb hr hkk hown hlocks hml hin hP hK hD hS hA hAe ls hl
  have hl : lv_has ls 5 [(0, .ref m0), (1, .int kind), (2, .int size), (3, .int a)] := hl
  refine lv_aload_n hx hb d_Mo_add_0 rfl (lv_at hl 0 rfl) ?_
  refine lv_iconst (v := 0) hx hb d_Mo_add_1 (by decide) ?_
  refine va_put (ci := 2) (v := .int 0) (ty := .int) hx hb (h_Mo hkk) (fun _ h => h) t_Mo t_Mo_ok n_Mo hown hK hP hD hS 0 rfl rfl 0 (by decide) (hkk.use kw_289 rfl) (fun _ h => h) rfl (by decide +kernel) rfl rfl (Nat.le_of_ble_eq_true rfl) d_Mo_add_2 (fun H locs hP hD hS => ?_)
  have hP : va_P D cf_cl (MW m0 m1 m2 m3 cI 0 r (nI n) cl gr lg lf ll la op kd sz al) H := hP
  have hD : va_D A (MW m0 m1 m2 m3 cI 0 r (nI n) cl gr lg lf ll la op kd sz al) := hD
  refine lv_iload_n hx hb d_Mo_add_5 rfl (lv_at hl 1 rfl) ?_
  refine lv_iconst (v := 3) hx hb d_Mo_add_6 (by decide) ?_
  refine lv_iload_n hx hb d_Mo_add_7 rfl (lv_at hl 2 rfl) ?_
  refine lv_iload_n hx hb d_Mo_add_8 rfl (lv_at hl 3 rfl) ?_
  refine cf_pcS (As := [.int kind, .int 3, .int size, .int a]) (rest := []) hx hb hml hown hkk (c_Mo_isGood l D kind 3 size a) ce_Mo_isGood cs_Mo_isGood kw_337 (cf_K0 hK) cf_P0 ⟨rfl, rfl⟩ (by decide) rfl hl.1 rfl (Nat.le_of_ble_eq_true rfl) d_Mo_add_9 ⟨Nat.zero_le _, Nat.zero_le _⟩ ?_
  refine lv_if_ne (tgt := 21) hx hb d_Mo_add_12 (by decide) (fun c_12 => False.elim (hg (p_bit1 rfl c_12))) (fun c_12 => ?_)
  refine lv_aload_n hx hb d_Mo_add_15 rfl (lv_at hl 0 rfl) ?_
  refine lv_iconst (v := 1) hx hb d_Mo_add_16 (by decide) ?_
  refine cf_icV (q0 := 0) (ci := 2) (As := [.int 1]) (rest := []) hx hb hml hown hkk (c_Mo_fail l D m0 m1 m2 m3 cI 0 r (nI n) cl gr lg lf ll la op kd sz al 1 (cf_Dt hD rfl)) ce_Mo_fail cv_Mo_fail kw_345 hK hP rfl rfl rfl hS (va_free hD hS hA [0, 1, 2, 3] rfl) (by decide) rfl hl.1 rfl (Nat.le_of_ble_eq_true rfl) d_Mo_add_17 ⟨Nat.zero_le _, Nat.zero_le _⟩ (fun H locs hP hzI hkI hS => ?_)
  have hP : va_P D cf_cl (MW m0 m1 m2 m3 cI 1 r (nI n) cl gr lg lf ll la op kd sz al) H := hP
  have hD : va_D A (MW m0 m1 m2 m3 cI 1 r (nI n) cl gr lg lf ll la op kd sz al) := cf_Dm hD rfl
  exact cf_iretI hx hb hr hlocks hP hS (Nat.zero_le _) (Nat.zero_le _) (rfl) d_Mo_add_20

set_option maxHeartbeats 4000000 in
set_option maxRecDepth 100000 in
/-- add, no room for a row -/
theorem c_Mo_add_60 (l : Launch) (D : va_G) (m0 m1 m2 m3 : Nat) (cI : ClassId) (th r cl gr lg lf ll la op : Int32) (kd sz al : Nat → Int32) (kind size a : Int32) (n : Nat) (hn : n ≤ 60) (hg : p_good kind 3 size a = true) (h60 : n = 60) (hD0 : va_D (fun _ => True) (MW m0 m1 m2 m3 cI th r (nI n) cl gr lg lf ll la op kd sz al)) : cf_IM l y_Mo_add b_Mo_add 5 (some FieldType.int) ({ frames := 1, cells := 0, slots := 0, locals := 24 }) [.ref m0, .int kind, .int size, .int a] D (MW m0 m1 m2 m3 cI th r (nI n) cl gr lg lf ll la op kd sz al) [(cI, .int)] (some (.int 0)) (MW m0 m1 m2 m3 cI 2 r (nI n) cl gr lg lf ll la op kd sz al) := by
  refine cf_IM_of (by decide) (Nat.le_of_ble_eq_true rfl) hD0 ?_
  intro p e s m args below meth c A hx hb hr hkk hown hlocks hml hin hP hK hD hS hA hAe ls hl
  have hl : lv_has ls 5 [(0, .ref m0), (1, .int kind), (2, .int size), (3, .int a)] := hl
  refine lv_aload_n hx hb d_Mo_add_0 rfl (lv_at hl 0 rfl) ?_
  refine lv_iconst (v := 0) hx hb d_Mo_add_1 (by decide) ?_
  refine va_put (ci := 2) (v := .int 0) (ty := .int) hx hb (h_Mo hkk) (fun _ h => h) t_Mo t_Mo_ok n_Mo hown hK hP hD hS 0 rfl rfl 0 (by decide) (hkk.use kw_289 rfl) (fun _ h => h) rfl (by decide +kernel) rfl rfl (Nat.le_of_ble_eq_true rfl) d_Mo_add_2 (fun H locs hP hD hS => ?_)
  have hP : va_P D cf_cl (MW m0 m1 m2 m3 cI 0 r (nI n) cl gr lg lf ll la op kd sz al) H := hP
  have hD : va_D A (MW m0 m1 m2 m3 cI 0 r (nI n) cl gr lg lf ll la op kd sz al) := hD
  refine lv_iload_n hx hb d_Mo_add_5 rfl (lv_at hl 1 rfl) ?_
  refine lv_iconst (v := 3) hx hb d_Mo_add_6 (by decide) ?_
  refine lv_iload_n hx hb d_Mo_add_7 rfl (lv_at hl 2 rfl) ?_
  refine lv_iload_n hx hb d_Mo_add_8 rfl (lv_at hl 3 rfl) ?_
  refine cf_pcS (As := [.int kind, .int 3, .int size, .int a]) (rest := []) hx hb hml hown hkk (c_Mo_isGood l D kind 3 size a) ce_Mo_isGood cs_Mo_isGood kw_337 (cf_K0 hK) cf_P0 ⟨rfl, rfl⟩ (by decide) rfl hl.1 rfl (Nat.le_of_ble_eq_true rfl) d_Mo_add_9 ⟨Nat.zero_le _, Nat.zero_le _⟩ ?_
  refine lv_if_ne (tgt := 21) hx hb d_Mo_add_12 (by decide) (fun c_12 => ?_) (fun c_12 => False.elim (p_bit0 rfl c_12 hg))
  refine lv_aload_n hx hb d_Mo_add_21 rfl (lv_at hl 0 rfl) ?_
  refine va_get (ci := 2) hx hb (h_Mo hkk) (fun _ h => h) hown hK hP 0 rfl rfl 2 (by decide) (hkk.use kw_291 rfl) (fun _ h => h) rfl d_Mo_add_22 ?_
  refine lv_bipush (v := 60) hx hb d_Mo_add_25 (by decide) ?_
  refine lv_icmp_ne (tgt := 36) hx hb d_Mo_add_27 (by decide) (fun c_27 => False.elim (c_27 (by rw [h60]; rfl))) (fun c_27 => ?_)
  refine lv_aload_n hx hb d_Mo_add_30 rfl (lv_at hl 0 rfl) ?_
  refine lv_iconst (v := 2) hx hb d_Mo_add_31 (by decide) ?_
  refine cf_icV (q0 := 0) (ci := 2) (As := [.int 2]) (rest := []) hx hb hml hown hkk (c_Mo_fail l D m0 m1 m2 m3 cI 0 r (nI n) cl gr lg lf ll la op kd sz al 2 (cf_Dt hD rfl)) ce_Mo_fail cv_Mo_fail kw_345 hK hP rfl rfl rfl hS (va_free hD hS hA [0, 1, 2, 3] rfl) (by decide) rfl hl.1 rfl (Nat.le_of_ble_eq_true rfl) d_Mo_add_32 ⟨Nat.zero_le _, Nat.zero_le _⟩ (fun H locs hP hzI hkI hS => ?_)
  have hP : va_P D cf_cl (MW m0 m1 m2 m3 cI 2 r (nI n) cl gr lg lf ll la op kd sz al) H := hP
  have hD : va_D A (MW m0 m1 m2 m3 cI 2 r (nI n) cl gr lg lf ll la op kd sz al) := cf_Dm hD rfl
  exact cf_iretI hx hb hr hlocks hP hS (Nat.zero_le _) (Nat.zero_le _) (rfl) d_Mo_add_35

set_option maxHeartbeats 4000000 in
set_option maxRecDepth 100000 in
/-- add: one row more -/
theorem c_Mo_add_ok (l : Launch) (D : va_G) (m0 m1 m2 m3 : Nat) (cI : ClassId) (th r cl gr lg lf ll la op : Int32) (kd sz al : Nat → Int32) (kind size a : Int32) (n : Nat) (hn : n ≤ 60) (hg : p_good kind 3 size a = true) (h60 : ¬ n = 60) (hok : ∀ i, i < n → p_ok (kd i) (sz i)) (hat : p_at r kd sz al n ≤ 1000000) (hne : p_ne (p_at r kd sz al n) kind size a ≤ 1000000) (hD0 : va_D (fun _ => True) (MW m0 m1 m2 m3 cI th r (nI n) cl gr lg lf ll la op kd sz al)) : cf_IM l y_Mo_add b_Mo_add 5 (some FieldType.int) ({ frames := 2, cells := 0, slots := 0, locals := 44 }) [.ref m0, .int kind, .int size, .int a] D (MW m0 m1 m2 m3 cI th r (nI n) cl gr lg lf ll la op kd sz al) [(cI, .int)] (some (.int (nI (p_nh (p_at r kd sz al n) kind a)))) (MW m0 m1 m2 m3 cI 0 r (nI (n + 1)) cl gr lg lf ll la op (upd kd n kind) (upd sz n size) (upd al n a)) := by
  refine cf_IM_of (by decide) (Nat.le_of_ble_eq_true rfl) hD0 ?_
  intro p e s m args below meth c A hx hb hr hkk hown hlocks hml hin hP hK hD hS hA hAe ls hl
  have hl : lv_has ls 5 [(0, .ref m0), (1, .int kind), (2, .int size), (3, .int a)] := hl
  refine lv_aload_n hx hb d_Mo_add_0 rfl (lv_at hl 0 rfl) ?_
  refine lv_iconst (v := 0) hx hb d_Mo_add_1 (by decide) ?_
  refine va_put (ci := 2) (v := .int 0) (ty := .int) hx hb (h_Mo hkk) (fun _ h => h) t_Mo t_Mo_ok n_Mo hown hK hP hD hS 0 rfl rfl 0 (by decide) (hkk.use kw_289 rfl) (fun _ h => h) rfl (by decide +kernel) rfl rfl (Nat.le_of_ble_eq_true rfl) d_Mo_add_2 (fun H locs hP hD hS => ?_)
  have hP : va_P D cf_cl (MW m0 m1 m2 m3 cI 0 r (nI n) cl gr lg lf ll la op kd sz al) H := hP
  have hD : va_D A (MW m0 m1 m2 m3 cI 0 r (nI n) cl gr lg lf ll la op kd sz al) := hD
  refine lv_iload_n hx hb d_Mo_add_5 rfl (lv_at hl 1 rfl) ?_
  refine lv_iconst (v := 3) hx hb d_Mo_add_6 (by decide) ?_
  refine lv_iload_n hx hb d_Mo_add_7 rfl (lv_at hl 2 rfl) ?_
  refine lv_iload_n hx hb d_Mo_add_8 rfl (lv_at hl 3 rfl) ?_
  refine cf_pcS (As := [.int kind, .int 3, .int size, .int a]) (rest := []) hx hb hml hown hkk (c_Mo_isGood l D kind 3 size a) ce_Mo_isGood cs_Mo_isGood kw_337 (cf_K0 hK) cf_P0 ⟨rfl, rfl⟩ (by decide) rfl hl.1 rfl (Nat.le_of_ble_eq_true rfl) d_Mo_add_9 ⟨Nat.zero_le _, Nat.zero_le _⟩ ?_
  refine lv_if_ne (tgt := 21) hx hb d_Mo_add_12 (by decide) (fun c_12 => ?_) (fun c_12 => False.elim (p_bit0 rfl c_12 hg))
  refine lv_aload_n hx hb d_Mo_add_21 rfl (lv_at hl 0 rfl) ?_
  refine va_get (ci := 2) hx hb (h_Mo hkk) (fun _ h => h) hown hK hP 0 rfl rfl 2 (by decide) (hkk.use kw_291 rfl) (fun _ h => h) rfl d_Mo_add_22 ?_
  refine lv_bipush (v := 60) hx hb d_Mo_add_25 (by decide) ?_
  refine lv_icmp_ne (tgt := 36) hx hb d_Mo_add_27 (by decide) (fun c_27 => ?_) (fun c_27 => False.elim (absurd (p_lit c_27 (by omega) (show (60 : Int32) = nI 60 from rfl) (by omega)) (by omega)))
  refine lv_aload_n hx hb d_Mo_add_36 rfl (lv_at hl 0 rfl) ?_
  refine va_get (ci := 2) hx hb (h_Mo hkk) (fun _ h => h) hown hK hP 0 rfl rfl 10 (by decide) (hkk.use kw_299 rfl) (fun _ h => h) rfl d_Mo_add_37 ?_
  refine lv_aload_n hx hb d_Mo_add_40 rfl (lv_at hl 0 rfl) ?_
  refine va_get (ci := 2) hx hb (h_Mo hkk) (fun _ h => h) hown hK hP 0 rfl rfl 2 (by decide) (hkk.use kw_291 rfl) (fun _ h => h) rfl d_Mo_add_41 ?_
  refine lv_iload_n hx hb d_Mo_add_44 rfl (lv_at hl 1 rfl) ?_
  refine cf_iast hx hb hK hP hD hS 1 0 rfl rfl (k := n) (by omega) (by decide) d_Mo_add_45 (fun H locs hP hD hS => ?_)
  have hP : va_P D cf_cl (MW m0 m1 m2 m3 cI 0 r (nI n) cl gr lg lf ll la op (upd kd n kind) sz al) H := hP
  have hD : va_D A (MW m0 m1 m2 m3 cI 0 r (nI n) cl gr lg lf ll la op (upd kd n kind) sz al) := hD
  refine lv_aload_n hx hb d_Mo_add_46 rfl (lv_at hl 0 rfl) ?_
  refine va_get (ci := 2) hx hb (h_Mo hkk) (fun _ h => h) hown hK hP 0 rfl rfl 11 (by decide) (hkk.use kw_300 rfl) (fun _ h => h) rfl d_Mo_add_47 ?_
  refine lv_aload_n hx hb d_Mo_add_50 rfl (lv_at hl 0 rfl) ?_
  refine va_get (ci := 2) hx hb (h_Mo hkk) (fun _ h => h) hown hK hP 0 rfl rfl 2 (by decide) (hkk.use kw_291 rfl) (fun _ h => h) rfl d_Mo_add_51 ?_
  refine lv_iload_n hx hb d_Mo_add_54 rfl (lv_at hl 2 rfl) ?_
  refine cf_iast hx hb hK hP hD hS 2 0 rfl rfl (k := n) (by omega) (by decide) d_Mo_add_55 (fun H locs hP hD hS => ?_)
  have hP : va_P D cf_cl (MW m0 m1 m2 m3 cI 0 r (nI n) cl gr lg lf ll la op (upd kd n kind) (upd sz n size) al) H := hP
  have hD : va_D A (MW m0 m1 m2 m3 cI 0 r (nI n) cl gr lg lf ll la op (upd kd n kind) (upd sz n size) al) := hD
  refine lv_aload_n hx hb d_Mo_add_56 rfl (lv_at hl 0 rfl) ?_
  refine va_get (ci := 2) hx hb (h_Mo hkk) (fun _ h => h) hown hK hP 0 rfl rfl 12 (by decide) (hkk.use kw_301 rfl) (fun _ h => h) rfl d_Mo_add_57 ?_
  refine lv_aload_n hx hb d_Mo_add_60 rfl (lv_at hl 0 rfl) ?_
  refine va_get (ci := 2) hx hb (h_Mo hkk) (fun _ h => h) hown hK hP 0 rfl rfl 2 (by decide) (hkk.use kw_291 rfl) (fun _ h => h) rfl d_Mo_add_61 ?_
  refine lv_iload_n hx hb d_Mo_add_64 rfl (lv_at hl 3 rfl) ?_
  refine cf_iast hx hb hK hP hD hS 3 0 rfl rfl (k := n) (by omega) (by decide) d_Mo_add_65 (fun H locs hP hD hS => ?_)
  have hP : va_P D cf_cl (MW m0 m1 m2 m3 cI 0 r (nI n) cl gr lg lf ll la op (upd kd n kind) (upd sz n size) (upd al n a)) H := hP
  have hD : va_D A (MW m0 m1 m2 m3 cI 0 r (nI n) cl gr lg lf ll la op (upd kd n kind) (upd sz n size) (upd al n a)) := hD
  refine lv_aload_n hx hb d_Mo_add_66 rfl (lv_at hl 0 rfl) ?_
  refine lv_dup hx hb d_Mo_add_67 rfl ?_
  refine va_get (ci := 2) hx hb (h_Mo hkk) (fun _ h => h) hown hK hP 0 rfl rfl 2 (by decide) (hkk.use kw_291 rfl) (fun _ h => h) rfl d_Mo_add_68 ?_
  refine lv_iconst (v := 1) hx hb d_Mo_add_71 (by decide) ?_
  refine lv_iadd hx hb d_Mo_add_72 ?_
  refine cf_top (y := nI (n + 1)) (nI_1 n) ?_
  refine va_put (ci := 2) (v := .int (nI (n + 1))) (ty := .int) hx hb (h_Mo hkk) (fun _ h => h) t_Mo t_Mo_ok n_Mo hown hK hP hD hS 0 rfl rfl 2 (by decide) (hkk.use kw_291 rfl) (fun _ h => h) rfl (by decide +kernel) rfl rfl (Nat.le_of_ble_eq_true rfl) d_Mo_add_73 (fun H locs hP hD hS => ?_)
  have hP : va_P D cf_cl (MW m0 m1 m2 m3 cI 0 r (nI (n + 1)) cl gr lg lf ll la op (upd kd n kind) (upd sz n size) (upd al n a)) H := hP
  have hD : va_D A (MW m0 m1 m2 m3 cI 0 r (nI (n + 1)) cl gr lg lf ll la op (upd kd n kind) (upd sz n size) (upd al n a)) := hD
  refine lv_aload_n hx hb d_Mo_add_76 rfl (lv_at hl 0 rfl) ?_
  refine lv_aload_n hx hb d_Mo_add_77 rfl (lv_at hl 0 rfl) ?_
  refine va_get (ci := 2) hx hb (h_Mo hkk) (fun _ h => h) hown hK hP 0 rfl rfl 2 (by decide) (hkk.use kw_291 rfl) (fun _ h => h) rfl d_Mo_add_78 ?_
  refine lv_iconst (v := 1) hx hb d_Mo_add_81 (by decide) ?_
  refine lv_isub hx hb d_Mo_add_82 ?_
  refine cf_top (y := nI n) (nI_pred n) ?_
  refine cf_pcV (q0 := 0) (ci := 2) (As := [.int (nI n)]) (rest := []) hx hb hml hown hkk (c_Mo_home l D m0 m1 m2 m3 cI 0 r cl gr lg lf ll la op (upd kd n kind) (upd sz n size) (upd al n a) (n + 1) n (by omega) (by omega) (p_upd_ok hok kind size) (by rw [p_upd_at]; exact hat)) ce_Mo_home cv_Mo_home kw_349 hK hP rfl rfl rfl ⟨rfl, rfl⟩ (by decide) rfl hl.1 rfl (Nat.le_of_ble_eq_true rfl) d_Mo_add_83 ⟨Nat.zero_le _, Nat.zero_le _⟩ ?_
  refine cf_top (y := nI (p_nh (p_at r kd sz al n) kind a)) (by rw [if_pos (Nat.lt_succ_self n), p_upd_h]) ?_
  refine lv_istore (lv' := [(4, .int (nI (p_nh (p_at r kd sz al n) kind a))), (0, .ref m0), (1, .int kind), (2, .int size), (3, .int a)]) hx hb d_Mo_add_86 hl (by decide) rfl (fun ls hl => ?_)
  refine lv_iload hx hb d_Mo_add_88 (lv_at hl 0 rfl) ?_
  refine lv_aload_n hx hb d_Mo_add_90 rfl (lv_at hl 1 rfl) ?_
  refine lv_aload_n hx hb d_Mo_add_91 rfl (lv_at hl 1 rfl) ?_
  refine va_get (ci := 2) hx hb (h_Mo hkk) (fun _ h => h) hown hK hP 0 rfl rfl 2 (by decide) (hkk.use kw_291 rfl) (fun _ h => h) rfl d_Mo_add_92 ?_
  refine lv_iconst (v := 1) hx hb d_Mo_add_95 (by decide) ?_
  refine lv_isub hx hb d_Mo_add_96 ?_
  refine cf_top (y := nI n) (nI_pred n) ?_
  refine cf_pcV (q0 := 0) (ci := 2) (As := [.int (nI n)]) (rest := [.int (nI (p_nh (p_at r kd sz al n) kind a))]) hx hb hml hown hkk (c_Mo_bytes l D m0 m1 m2 m3 cI 0 r (nI (n + 1)) cl gr lg lf ll la op (upd kd n kind) (upd sz n size) (upd al n a) n (by omega)) ce_Mo_bytes cv_Mo_bytes kw_360 hK hP rfl rfl rfl ⟨rfl, rfl⟩ (by decide) rfl hl.1 rfl (Nat.le_of_ble_eq_true rfl) d_Mo_add_97 ⟨Nat.zero_le _, Nat.zero_le _⟩ ?_
  refine cf_top (y := nI (p_b kind size)) (by rw [pk_us, pk_us]; exact p_bI (p_good_ok hg)) ?_
  refine lv_iconst (v := 4) hx hb d_Mo_add_100 (by decide) ?_
  refine cf_pcS (As := [.int (nI (p_b kind size)), .int 4]) (rest := [.int (nI (p_nh (p_at r kd sz al n) kind a))]) hx hb hml hown hkk (c_Mo_filled l D (nI (p_b kind size)) 4 (by decide)) ce_Mo_filled cs_Mo_filled kw_357 (cf_K0 hK) cf_P0 ⟨rfl, rfl⟩ (by decide) rfl hl.1 rfl (Nat.le_of_ble_eq_true rfl) d_Mo_add_101 ⟨Nat.zero_le _, Nat.zero_le _⟩ ?_
  refine cf_top (y := nI (p_u (p_b kind size) 4)) (p_fi4 (by have := p_ok_b (p_good_ok hg); omega)) ?_
  refine lv_iadd hx hb d_Mo_add_104 ?_
  refine cf_top (y := nI (p_ne (p_at r kd sz al n) kind size a)) (by rw [nI_add]; rfl) ?_
  refine lv_ldc (v := 1000000) hx hb hown (hkk.use kw_364 rfl) d_Mo_add_105 ?_
  refine lv_icmp_le (tgt := 126) hx hb d_Mo_add_107 (by decide) (fun c_107 => ?_) (fun c_107 => False.elim (c_107 (nI_le (b := 1000000) hne (by omega))))
  refine lv_iload hx hb d_Mo_add_126 (lv_at hl 0 rfl) ?_
  exact cf_iretI hx hb hr hlocks hP hS (Nat.zero_le _) (Nat.zero_le _) (rfl) d_Mo_add_128

set_option maxHeartbeats 4000000 in
set_option maxRecDepth 100000 in
/-- add: too far -/
theorem c_Mo_add_far (l : Launch) (D : va_G) (m0 m1 m2 m3 : Nat) (cI : ClassId) (th r cl gr lg lf ll la op : Int32) (kd sz al : Nat → Int32) (kind size a : Int32) (n : Nat) (hn : n ≤ 60) (hg : p_good kind 3 size a = true) (h60 : ¬ n = 60) (hok : ∀ i, i < n → p_ok (kd i) (sz i)) (hat : p_at r kd sz al n ≤ 1000000) (hne : ¬ p_ne (p_at r kd sz al n) kind size a ≤ 1000000) (hD0 : va_D (fun _ => True) (MW m0 m1 m2 m3 cI th r (nI n) cl gr lg lf ll la op kd sz al)) : cf_IM l y_Mo_add b_Mo_add 5 (some FieldType.int) ({ frames := 2, cells := 0, slots := 0, locals := 44 }) [.ref m0, .int kind, .int size, .int a] D (MW m0 m1 m2 m3 cI th r (nI n) cl gr lg lf ll la op kd sz al) [(cI, .int)] (some (.int 0)) (MW m0 m1 m2 m3 cI 2 r (nI n) cl gr lg lf ll la op (upd kd n kind) (upd sz n size) (upd al n a)) := by
  refine cf_IM_of (by decide) (Nat.le_of_ble_eq_true rfl) hD0 ?_
  intro p e s m args below meth c A hx hb hr hkk hown hlocks hml hin hP hK hD hS hA hAe ls hl
  have hl : lv_has ls 5 [(0, .ref m0), (1, .int kind), (2, .int size), (3, .int a)] := hl
  refine lv_aload_n hx hb d_Mo_add_0 rfl (lv_at hl 0 rfl) ?_
  refine lv_iconst (v := 0) hx hb d_Mo_add_1 (by decide) ?_
  refine va_put (ci := 2) (v := .int 0) (ty := .int) hx hb (h_Mo hkk) (fun _ h => h) t_Mo t_Mo_ok n_Mo hown hK hP hD hS 0 rfl rfl 0 (by decide) (hkk.use kw_289 rfl) (fun _ h => h) rfl (by decide +kernel) rfl rfl (Nat.le_of_ble_eq_true rfl) d_Mo_add_2 (fun H locs hP hD hS => ?_)
  have hP : va_P D cf_cl (MW m0 m1 m2 m3 cI 0 r (nI n) cl gr lg lf ll la op kd sz al) H := hP
  have hD : va_D A (MW m0 m1 m2 m3 cI 0 r (nI n) cl gr lg lf ll la op kd sz al) := hD
  refine lv_iload_n hx hb d_Mo_add_5 rfl (lv_at hl 1 rfl) ?_
  refine lv_iconst (v := 3) hx hb d_Mo_add_6 (by decide) ?_
  refine lv_iload_n hx hb d_Mo_add_7 rfl (lv_at hl 2 rfl) ?_
  refine lv_iload_n hx hb d_Mo_add_8 rfl (lv_at hl 3 rfl) ?_
  refine cf_pcS (As := [.int kind, .int 3, .int size, .int a]) (rest := []) hx hb hml hown hkk (c_Mo_isGood l D kind 3 size a) ce_Mo_isGood cs_Mo_isGood kw_337 (cf_K0 hK) cf_P0 ⟨rfl, rfl⟩ (by decide) rfl hl.1 rfl (Nat.le_of_ble_eq_true rfl) d_Mo_add_9 ⟨Nat.zero_le _, Nat.zero_le _⟩ ?_
  refine lv_if_ne (tgt := 21) hx hb d_Mo_add_12 (by decide) (fun c_12 => ?_) (fun c_12 => False.elim (p_bit0 rfl c_12 hg))
  refine lv_aload_n hx hb d_Mo_add_21 rfl (lv_at hl 0 rfl) ?_
  refine va_get (ci := 2) hx hb (h_Mo hkk) (fun _ h => h) hown hK hP 0 rfl rfl 2 (by decide) (hkk.use kw_291 rfl) (fun _ h => h) rfl d_Mo_add_22 ?_
  refine lv_bipush (v := 60) hx hb d_Mo_add_25 (by decide) ?_
  refine lv_icmp_ne (tgt := 36) hx hb d_Mo_add_27 (by decide) (fun c_27 => ?_) (fun c_27 => False.elim (absurd (p_lit c_27 (by omega) (show (60 : Int32) = nI 60 from rfl) (by omega)) (by omega)))
  refine lv_aload_n hx hb d_Mo_add_36 rfl (lv_at hl 0 rfl) ?_
  refine va_get (ci := 2) hx hb (h_Mo hkk) (fun _ h => h) hown hK hP 0 rfl rfl 10 (by decide) (hkk.use kw_299 rfl) (fun _ h => h) rfl d_Mo_add_37 ?_
  refine lv_aload_n hx hb d_Mo_add_40 rfl (lv_at hl 0 rfl) ?_
  refine va_get (ci := 2) hx hb (h_Mo hkk) (fun _ h => h) hown hK hP 0 rfl rfl 2 (by decide) (hkk.use kw_291 rfl) (fun _ h => h) rfl d_Mo_add_41 ?_
  refine lv_iload_n hx hb d_Mo_add_44 rfl (lv_at hl 1 rfl) ?_
  refine cf_iast hx hb hK hP hD hS 1 0 rfl rfl (k := n) (by omega) (by decide) d_Mo_add_45 (fun H locs hP hD hS => ?_)
  have hP : va_P D cf_cl (MW m0 m1 m2 m3 cI 0 r (nI n) cl gr lg lf ll la op (upd kd n kind) sz al) H := hP
  have hD : va_D A (MW m0 m1 m2 m3 cI 0 r (nI n) cl gr lg lf ll la op (upd kd n kind) sz al) := hD
  refine lv_aload_n hx hb d_Mo_add_46 rfl (lv_at hl 0 rfl) ?_
  refine va_get (ci := 2) hx hb (h_Mo hkk) (fun _ h => h) hown hK hP 0 rfl rfl 11 (by decide) (hkk.use kw_300 rfl) (fun _ h => h) rfl d_Mo_add_47 ?_
  refine lv_aload_n hx hb d_Mo_add_50 rfl (lv_at hl 0 rfl) ?_
  refine va_get (ci := 2) hx hb (h_Mo hkk) (fun _ h => h) hown hK hP 0 rfl rfl 2 (by decide) (hkk.use kw_291 rfl) (fun _ h => h) rfl d_Mo_add_51 ?_
  refine lv_iload_n hx hb d_Mo_add_54 rfl (lv_at hl 2 rfl) ?_
  refine cf_iast hx hb hK hP hD hS 2 0 rfl rfl (k := n) (by omega) (by decide) d_Mo_add_55 (fun H locs hP hD hS => ?_)
  have hP : va_P D cf_cl (MW m0 m1 m2 m3 cI 0 r (nI n) cl gr lg lf ll la op (upd kd n kind) (upd sz n size) al) H := hP
  have hD : va_D A (MW m0 m1 m2 m3 cI 0 r (nI n) cl gr lg lf ll la op (upd kd n kind) (upd sz n size) al) := hD
  refine lv_aload_n hx hb d_Mo_add_56 rfl (lv_at hl 0 rfl) ?_
  refine va_get (ci := 2) hx hb (h_Mo hkk) (fun _ h => h) hown hK hP 0 rfl rfl 12 (by decide) (hkk.use kw_301 rfl) (fun _ h => h) rfl d_Mo_add_57 ?_
  refine lv_aload_n hx hb d_Mo_add_60 rfl (lv_at hl 0 rfl) ?_
  refine va_get (ci := 2) hx hb (h_Mo hkk) (fun _ h => h) hown hK hP 0 rfl rfl 2 (by decide) (hkk.use kw_291 rfl) (fun _ h => h) rfl d_Mo_add_61 ?_
  refine lv_iload_n hx hb d_Mo_add_64 rfl (lv_at hl 3 rfl) ?_
  refine cf_iast hx hb hK hP hD hS 3 0 rfl rfl (k := n) (by omega) (by decide) d_Mo_add_65 (fun H locs hP hD hS => ?_)
  have hP : va_P D cf_cl (MW m0 m1 m2 m3 cI 0 r (nI n) cl gr lg lf ll la op (upd kd n kind) (upd sz n size) (upd al n a)) H := hP
  have hD : va_D A (MW m0 m1 m2 m3 cI 0 r (nI n) cl gr lg lf ll la op (upd kd n kind) (upd sz n size) (upd al n a)) := hD
  refine lv_aload_n hx hb d_Mo_add_66 rfl (lv_at hl 0 rfl) ?_
  refine lv_dup hx hb d_Mo_add_67 rfl ?_
  refine va_get (ci := 2) hx hb (h_Mo hkk) (fun _ h => h) hown hK hP 0 rfl rfl 2 (by decide) (hkk.use kw_291 rfl) (fun _ h => h) rfl d_Mo_add_68 ?_
  refine lv_iconst (v := 1) hx hb d_Mo_add_71 (by decide) ?_
  refine lv_iadd hx hb d_Mo_add_72 ?_
  refine cf_top (y := nI (n + 1)) (nI_1 n) ?_
  refine va_put (ci := 2) (v := .int (nI (n + 1))) (ty := .int) hx hb (h_Mo hkk) (fun _ h => h) t_Mo t_Mo_ok n_Mo hown hK hP hD hS 0 rfl rfl 2 (by decide) (hkk.use kw_291 rfl) (fun _ h => h) rfl (by decide +kernel) rfl rfl (Nat.le_of_ble_eq_true rfl) d_Mo_add_73 (fun H locs hP hD hS => ?_)
  have hP : va_P D cf_cl (MW m0 m1 m2 m3 cI 0 r (nI (n + 1)) cl gr lg lf ll la op (upd kd n kind) (upd sz n size) (upd al n a)) H := hP
  have hD : va_D A (MW m0 m1 m2 m3 cI 0 r (nI (n + 1)) cl gr lg lf ll la op (upd kd n kind) (upd sz n size) (upd al n a)) := hD
  refine lv_aload_n hx hb d_Mo_add_76 rfl (lv_at hl 0 rfl) ?_
  refine lv_aload_n hx hb d_Mo_add_77 rfl (lv_at hl 0 rfl) ?_
  refine va_get (ci := 2) hx hb (h_Mo hkk) (fun _ h => h) hown hK hP 0 rfl rfl 2 (by decide) (hkk.use kw_291 rfl) (fun _ h => h) rfl d_Mo_add_78 ?_
  refine lv_iconst (v := 1) hx hb d_Mo_add_81 (by decide) ?_
  refine lv_isub hx hb d_Mo_add_82 ?_
  refine cf_top (y := nI n) (nI_pred n) ?_
  refine cf_pcV (q0 := 0) (ci := 2) (As := [.int (nI n)]) (rest := []) hx hb hml hown hkk (c_Mo_home l D m0 m1 m2 m3 cI 0 r cl gr lg lf ll la op (upd kd n kind) (upd sz n size) (upd al n a) (n + 1) n (by omega) (by omega) (p_upd_ok hok kind size) (by rw [p_upd_at]; exact hat)) ce_Mo_home cv_Mo_home kw_349 hK hP rfl rfl rfl ⟨rfl, rfl⟩ (by decide) rfl hl.1 rfl (Nat.le_of_ble_eq_true rfl) d_Mo_add_83 ⟨Nat.zero_le _, Nat.zero_le _⟩ ?_
  refine cf_top (y := nI (p_nh (p_at r kd sz al n) kind a)) (by rw [if_pos (Nat.lt_succ_self n), p_upd_h]) ?_
  refine lv_istore (lv' := [(4, .int (nI (p_nh (p_at r kd sz al n) kind a))), (0, .ref m0), (1, .int kind), (2, .int size), (3, .int a)]) hx hb d_Mo_add_86 hl (by decide) rfl (fun ls hl => ?_)
  refine lv_iload hx hb d_Mo_add_88 (lv_at hl 0 rfl) ?_
  refine lv_aload_n hx hb d_Mo_add_90 rfl (lv_at hl 1 rfl) ?_
  refine lv_aload_n hx hb d_Mo_add_91 rfl (lv_at hl 1 rfl) ?_
  refine va_get (ci := 2) hx hb (h_Mo hkk) (fun _ h => h) hown hK hP 0 rfl rfl 2 (by decide) (hkk.use kw_291 rfl) (fun _ h => h) rfl d_Mo_add_92 ?_
  refine lv_iconst (v := 1) hx hb d_Mo_add_95 (by decide) ?_
  refine lv_isub hx hb d_Mo_add_96 ?_
  refine cf_top (y := nI n) (nI_pred n) ?_
  refine cf_pcV (q0 := 0) (ci := 2) (As := [.int (nI n)]) (rest := [.int (nI (p_nh (p_at r kd sz al n) kind a))]) hx hb hml hown hkk (c_Mo_bytes l D m0 m1 m2 m3 cI 0 r (nI (n + 1)) cl gr lg lf ll la op (upd kd n kind) (upd sz n size) (upd al n a) n (by omega)) ce_Mo_bytes cv_Mo_bytes kw_360 hK hP rfl rfl rfl ⟨rfl, rfl⟩ (by decide) rfl hl.1 rfl (Nat.le_of_ble_eq_true rfl) d_Mo_add_97 ⟨Nat.zero_le _, Nat.zero_le _⟩ ?_
  refine cf_top (y := nI (p_b kind size)) (by rw [pk_us, pk_us]; exact p_bI (p_good_ok hg)) ?_
  refine lv_iconst (v := 4) hx hb d_Mo_add_100 (by decide) ?_
  refine cf_pcS (As := [.int (nI (p_b kind size)), .int 4]) (rest := [.int (nI (p_nh (p_at r kd sz al n) kind a))]) hx hb hml hown hkk (c_Mo_filled l D (nI (p_b kind size)) 4 (by decide)) ce_Mo_filled cs_Mo_filled kw_357 (cf_K0 hK) cf_P0 ⟨rfl, rfl⟩ (by decide) rfl hl.1 rfl (Nat.le_of_ble_eq_true rfl) d_Mo_add_101 ⟨Nat.zero_le _, Nat.zero_le _⟩ ?_
  refine cf_top (y := nI (p_u (p_b kind size) 4)) (p_fi4 (by have := p_ok_b (p_good_ok hg); omega)) ?_
  refine lv_iadd hx hb d_Mo_add_104 ?_
  refine cf_top (y := nI (p_ne (p_at r kd sz al n) kind size a)) (by rw [nI_add]; rfl) ?_
  refine lv_ldc (v := 1000000) hx hb hown (hkk.use kw_364 rfl) d_Mo_add_105 ?_
  refine lv_icmp_le (tgt := 126) hx hb d_Mo_add_107 (by decide) (fun c_107 => False.elim (hne ((nI_leI (b := 1000000) (by have := p_ne_b (p_at r kd sz al n) a (p_good_ok hg); omega) (by omega)).mp c_107))) (fun c_107 => ?_)
  refine lv_aload_n hx hb d_Mo_add_110 rfl (lv_at hl 1 rfl) ?_
  refine lv_dup hx hb d_Mo_add_111 rfl ?_
  refine va_get (ci := 2) hx hb (h_Mo hkk) (fun _ h => h) hown hK hP 0 rfl rfl 2 (by decide) (hkk.use kw_291 rfl) (fun _ h => h) rfl d_Mo_add_112 ?_
  refine lv_iconst (v := 1) hx hb d_Mo_add_115 (by decide) ?_
  refine lv_isub hx hb d_Mo_add_116 ?_
  refine cf_top (y := nI n) (nI_pred n) ?_
  refine va_put (ci := 2) (v := .int (nI n)) (ty := .int) hx hb (h_Mo hkk) (fun _ h => h) t_Mo t_Mo_ok n_Mo hown hK hP hD hS 0 rfl rfl 2 (by decide) (hkk.use kw_291 rfl) (fun _ h => h) rfl (by decide +kernel) rfl rfl (Nat.le_of_ble_eq_true rfl) d_Mo_add_117 (fun H locs hP hD hS => ?_)
  have hP : va_P D cf_cl (MW m0 m1 m2 m3 cI 0 r (nI n) cl gr lg lf ll la op (upd kd n kind) (upd sz n size) (upd al n a)) H := hP
  have hD : va_D A (MW m0 m1 m2 m3 cI 0 r (nI n) cl gr lg lf ll la op (upd kd n kind) (upd sz n size) (upd al n a)) := hD
  refine lv_aload_n hx hb d_Mo_add_120 rfl (lv_at hl 1 rfl) ?_
  refine lv_iconst (v := 2) hx hb d_Mo_add_121 (by decide) ?_
  refine cf_icV (q0 := 0) (ci := 2) (As := [.int 2]) (rest := []) hx hb hml hown hkk (c_Mo_fail l D m0 m1 m2 m3 cI 0 r (nI n) cl gr lg lf ll la op (upd kd n kind) (upd sz n size) (upd al n a) 2 (cf_Dt hD rfl)) ce_Mo_fail cv_Mo_fail kw_345 hK hP rfl rfl rfl hS (va_free hD hS hA [0, 1, 2, 3] rfl) (by decide) rfl hl.1 rfl (Nat.le_of_ble_eq_true rfl) d_Mo_add_122 ⟨Nat.zero_le _, Nat.zero_le _⟩ (fun H locs hP hzI hkI hS => ?_)
  have hP : va_P D cf_cl (MW m0 m1 m2 m3 cI 2 r (nI n) cl gr lg lf ll la op (upd kd n kind) (upd sz n size) (upd al n a)) H := hP
  have hD : va_D A (MW m0 m1 m2 m3 cI 2 r (nI n) cl gr lg lf ll la op (upd kd n kind) (upd sz n size) (upd al n a)) := cf_Dm hD rfl
  exact cf_iretI hx hb hr hlocks hP hS (Nat.zero_le _) (Nat.zero_le _) (rfl) d_Mo_add_125
end
section
/-! THE MODEL: where, about, signature (printed by gen/modelI.py) -/
set_option maxHeartbeats 4000000 in
set_option maxRecDepth 100000 in
/-- where: no such argument -/
theorem c_Mo_where_no (l : Launch) (D : va_G) (m0 m1 m2 m3 : Nat) (cI : ClassId) (th r cl gr lg lf ll la op : Int32) (kd sz al : Nat → Int32) (x k : Int32) (n : Nat) (hn : n ≤ 60) (hno : ¬ ((¬ x < 0 ∧ x < nI n) ∨ (x = -1 ∧ r = 3))) (hD0 : va_D (fun _ => True) (MW m0 m1 m2 m3 cI th r (nI n) cl gr lg lf ll la op kd sz al)) : cf_IM l y_Mo_where b_Mo_where 5 (some FieldType.int) ({ frames := 1, cells := 0, slots := 0, locals := 21 }) [.ref m0, .int x, .int k] D (MW m0 m1 m2 m3 cI th r (nI n) cl gr lg lf ll la op kd sz al) [(cI, .int)] (some (.int 0)) (MW m0 m1 m2 m3 cI 1 r (nI n) cl gr lg lf ll la op kd sz al) := by
  refine cf_IM_of (by decide) (Nat.le_of_ble_eq_true rfl) hD0 ?_
  intro p e s m args below meth c A hx hb hr hkk hown hlocks hml hin hP hK hD hS hA hAe ls hl
  have hl : lv_has ls 5 [(0, .ref m0), (1, .int x), (2, .int k)] := hl
  refine lv_aload_n hx hb d_Mo_where_0 rfl (lv_at hl 0 rfl) ?_
  refine lv_iconst (v := 0) hx hb d_Mo_where_1 (by decide) ?_
  refine va_put (ci := 2) (v := .int 0) (ty := .int) hx hb (h_Mo hkk) (fun _ h => h) t_Mo t_Mo_ok n_Mo hown hK hP hD hS 0 rfl rfl 0 (by decide) (hkk.use kw_289 rfl) (fun _ h => h) rfl (by decide +kernel) rfl rfl (Nat.le_of_ble_eq_true rfl) d_Mo_where_2 (fun H locs hP hD hS => ?_)
  have hP : va_P D cf_cl (MW m0 m1 m2 m3 cI 0 r (nI n) cl gr lg lf ll la op kd sz al) H := hP
  have hD : va_D A (MW m0 m1 m2 m3 cI 0 r (nI n) cl gr lg lf ll la op kd sz al) := hD
  refine lv_aload_n hx hb d_Mo_where_5 rfl (lv_at hl 0 rfl) ?_
  refine lv_iload_n hx hb d_Mo_where_6 rfl (lv_at hl 1 rfl) ?_
  refine cf_pcV (q0 := 0) (ci := 2) (As := [.int x]) (rest := []) hx hb hml hown hkk (c_Mo_isThere l D m0 m1 m2 m3 cI 0 r (nI n) cl gr lg lf ll la op kd sz al x) ce_Mo_isThere cv_Mo_isThere kw_369 hK hP rfl rfl rfl ⟨rfl, rfl⟩ (by decide) rfl hl.1 rfl (Nat.le_of_ble_eq_true rfl) d_Mo_where_7 ⟨Nat.zero_le _, Nat.zero_le _⟩ ?_
  refine lv_if_eq (tgt := 26) hx hb d_Mo_where_10 (by decide) (fun c_10 => ?_) (fun c_10 => False.elim (hno (p_bit1 rfl c_10)))
  refine lv_aload_n hx hb d_Mo_where_26 rfl (lv_at hl 0 rfl) ?_
  refine lv_iconst (v := 1) hx hb d_Mo_where_27 (by decide) ?_
  refine cf_icV (q0 := 0) (ci := 2) (As := [.int 1]) (rest := []) hx hb hml hown hkk (c_Mo_fail l D m0 m1 m2 m3 cI 0 r (nI n) cl gr lg lf ll la op kd sz al 1 (cf_Dt hD rfl)) ce_Mo_fail cv_Mo_fail kw_345 hK hP rfl rfl rfl hS (va_free hD hS hA [0, 1, 2, 3] rfl) (by decide) rfl hl.1 rfl (Nat.le_of_ble_eq_true rfl) d_Mo_where_28 ⟨Nat.zero_le _, Nat.zero_le _⟩ (fun H locs hP hzI hkI hS => ?_)
  have hP : va_P D cf_cl (MW m0 m1 m2 m3 cI 1 r (nI n) cl gr lg lf ll la op kd sz al) H := hP
  have hD : va_D A (MW m0 m1 m2 m3 cI 1 r (nI n) cl gr lg lf ll la op kd sz al) := cf_Dm hD rfl
  exact cf_iretI hx hb hr hlocks hP hS (Nat.zero_le _) (Nat.zero_le _) (rfl) d_Mo_where_31

set_option maxHeartbeats 4000000 in
set_option maxRecDepth 100000 in
/-- where(-1, 0) -/
theorem c_Mo_where1_ok (l : Launch) (D : va_G) (m0 m1 m2 m3 : Nat) (cI : ClassId) (th cl gr lg lf ll la op : Int32) (kd sz al : Nat → Int32) (k : Int32) (n : Nat) (hn : n ≤ 60) (hk : k = 0) (hD0 : va_D (fun _ => True) (MW m0 m1 m2 m3 cI th 3 (nI n) cl gr lg lf ll la op kd sz al)) : cf_IM l y_Mo_where b_Mo_where 5 (some FieldType.int) ({ frames := 1, cells := 0, slots := 0, locals := 21 }) [.ref m0, .int (-1), .int k] D (MW m0 m1 m2 m3 cI th 3 (nI n) cl gr lg lf ll la op kd sz al) [(cI, .int)] (some (.int 4)) (MW m0 m1 m2 m3 cI 0 3 (nI n) cl gr lg lf ll la op kd sz al) := by
  refine cf_IM_of (by decide) (Nat.le_of_ble_eq_true rfl) hD0 ?_
  intro p e s m args below meth c A hx hb hr hkk hown hlocks hml hin hP hK hD hS hA hAe ls hl
  have hl : lv_has ls 5 [(0, .ref m0), (1, .int (-1)), (2, .int k)] := hl
  refine lv_aload_n hx hb d_Mo_where_0 rfl (lv_at hl 0 rfl) ?_
  refine lv_iconst (v := 0) hx hb d_Mo_where_1 (by decide) ?_
  refine va_put (ci := 2) (v := .int 0) (ty := .int) hx hb (h_Mo hkk) (fun _ h => h) t_Mo t_Mo_ok n_Mo hown hK hP hD hS 0 rfl rfl 0 (by decide) (hkk.use kw_289 rfl) (fun _ h => h) rfl (by decide +kernel) rfl rfl (Nat.le_of_ble_eq_true rfl) d_Mo_where_2 (fun H locs hP hD hS => ?_)
  have hP : va_P D cf_cl (MW m0 m1 m2 m3 cI 0 3 (nI n) cl gr lg lf ll la op kd sz al) H := hP
  have hD : va_D A (MW m0 m1 m2 m3 cI 0 3 (nI n) cl gr lg lf ll la op kd sz al) := hD
  refine lv_aload_n hx hb d_Mo_where_5 rfl (lv_at hl 0 rfl) ?_
  refine lv_iload_n hx hb d_Mo_where_6 rfl (lv_at hl 1 rfl) ?_
  refine cf_pcV (q0 := 0) (ci := 2) (As := [.int (-1)]) (rest := []) hx hb hml hown hkk (c_Mo_isThere l D m0 m1 m2 m3 cI 0 3 (nI n) cl gr lg lf ll la op kd sz al (-1)) ce_Mo_isThere cv_Mo_isThere kw_369 hK hP rfl rfl rfl ⟨rfl, rfl⟩ (by decide) rfl hl.1 rfl (Nat.le_of_ble_eq_true rfl) d_Mo_where_7 ⟨Nat.zero_le _, Nat.zero_le _⟩ ?_
  refine lv_if_eq (tgt := 26) hx hb d_Mo_where_10 (by decide) (fun c_10 => False.elim (p_bit0 rfl c_10 (Or.inr ⟨rfl, rfl⟩))) (fun c_10 => ?_)
  refine lv_iload_n hx hb d_Mo_where_13 rfl (lv_at hl 2 rfl) ?_
  refine lv_if_lt (tgt := 26) hx hb d_Mo_where_14 (by decide) (fun c_14 => False.elim (by rw [hk] at c_14; exact absurd c_14 (by decide))) (fun c_14 => ?_)
  refine lv_iload_n hx hb d_Mo_where_17 rfl (lv_at hl 2 rfl) ?_
  refine lv_aload_n hx hb d_Mo_where_18 rfl (lv_at hl 0 rfl) ?_
  refine lv_iload_n hx hb d_Mo_where_19 rfl (lv_at hl 1 rfl) ?_
  refine cf_pcV (q0 := 0) (ci := 2) (As := [.int (-1)]) (rest := [.int k]) hx hb hml hown hkk (c_Mo_words1 l D m0 m1 m2 m3 cI 0 3 (nI n) cl gr lg lf ll la op kd sz al) ce_Mo_words cv_Mo_words kw_373 hK hP rfl rfl rfl ⟨rfl, rfl⟩ (by decide) rfl hl.1 rfl (Nat.le_of_ble_eq_true rfl) d_Mo_where_20 ⟨Nat.zero_le _, Nat.zero_le _⟩ ?_
  refine lv_icmp_lt (tgt := 32) hx hb d_Mo_where_23 (by decide) (fun c_23 => ?_) (fun c_23 => False.elim (by rw [hk] at c_23; exact absurd (by decide) c_23))
  refine lv_iload_n hx hb d_Mo_where_32 rfl (lv_at hl 1 rfl) ?_
  refine lv_iconst (v := (-1)) hx hb d_Mo_where_33 (by decide) ?_
  refine lv_icmp_ne (tgt := 39) hx hb d_Mo_where_34 (by decide) (fun c_34 => False.elim (absurd c_34 (by decide))) (fun c_34 => ?_)
  refine lv_iconst (v := 4) hx hb d_Mo_where_37 (by decide) ?_
  exact cf_iretI hx hb hr hlocks hP hS (Nat.zero_le _) (Nat.zero_le _) (rfl) d_Mo_where_38

set_option maxHeartbeats 4000000 in
set_option maxRecDepth 100000 in
/-- where(-1, k): no such word -/
theorem c_Mo_where1_no (l : Launch) (D : va_G) (m0 m1 m2 m3 : Nat) (cI : ClassId) (th cl gr lg lf ll la op : Int32) (kd sz al : Nat → Int32) (k : Int32) (n : Nat) (hn : n ≤ 60) (hk : k < 0 ∨ ¬ k < 1) (hD0 : va_D (fun _ => True) (MW m0 m1 m2 m3 cI th 3 (nI n) cl gr lg lf ll la op kd sz al)) : cf_IM l y_Mo_where b_Mo_where 5 (some FieldType.int) ({ frames := 1, cells := 0, slots := 0, locals := 21 }) [.ref m0, .int (-1), .int k] D (MW m0 m1 m2 m3 cI th 3 (nI n) cl gr lg lf ll la op kd sz al) [(cI, .int)] (some (.int 0)) (MW m0 m1 m2 m3 cI 1 3 (nI n) cl gr lg lf ll la op kd sz al) := by
  refine cf_IM_of (by decide) (Nat.le_of_ble_eq_true rfl) hD0 ?_
  intro p e s m args below meth c A hx hb hr hkk hown hlocks hml hin hP hK hD hS hA hAe ls hl
  have hl : lv_has ls 5 [(0, .ref m0), (1, .int (-1)), (2, .int k)] := hl
  refine lv_aload_n hx hb d_Mo_where_0 rfl (lv_at hl 0 rfl) ?_
  refine lv_iconst (v := 0) hx hb d_Mo_where_1 (by decide) ?_
  refine va_put (ci := 2) (v := .int 0) (ty := .int) hx hb (h_Mo hkk) (fun _ h => h) t_Mo t_Mo_ok n_Mo hown hK hP hD hS 0 rfl rfl 0 (by decide) (hkk.use kw_289 rfl) (fun _ h => h) rfl (by decide +kernel) rfl rfl (Nat.le_of_ble_eq_true rfl) d_Mo_where_2 (fun H locs hP hD hS => ?_)
  have hP : va_P D cf_cl (MW m0 m1 m2 m3 cI 0 3 (nI n) cl gr lg lf ll la op kd sz al) H := hP
  have hD : va_D A (MW m0 m1 m2 m3 cI 0 3 (nI n) cl gr lg lf ll la op kd sz al) := hD
  refine lv_aload_n hx hb d_Mo_where_5 rfl (lv_at hl 0 rfl) ?_
  refine lv_iload_n hx hb d_Mo_where_6 rfl (lv_at hl 1 rfl) ?_
  refine cf_pcV (q0 := 0) (ci := 2) (As := [.int (-1)]) (rest := []) hx hb hml hown hkk (c_Mo_isThere l D m0 m1 m2 m3 cI 0 3 (nI n) cl gr lg lf ll la op kd sz al (-1)) ce_Mo_isThere cv_Mo_isThere kw_369 hK hP rfl rfl rfl ⟨rfl, rfl⟩ (by decide) rfl hl.1 rfl (Nat.le_of_ble_eq_true rfl) d_Mo_where_7 ⟨Nat.zero_le _, Nat.zero_le _⟩ ?_
  refine lv_if_eq (tgt := 26) hx hb d_Mo_where_10 (by decide) (fun c_10 => False.elim (p_bit0 rfl c_10 (Or.inr ⟨rfl, rfl⟩))) (fun c_10 => ?_)
  refine lv_iload_n hx hb d_Mo_where_13 rfl (lv_at hl 2 rfl) ?_
  refine lv_if_lt (tgt := 26) hx hb d_Mo_where_14 (by decide) (fun c_14 => ?_) (fun c_14 => ?_)
  · refine lv_aload_n hx hb d_Mo_where_26 rfl (lv_at hl 0 rfl) ?_
    refine lv_iconst (v := 1) hx hb d_Mo_where_27 (by decide) ?_
    refine cf_icV (q0 := 0) (ci := 2) (As := [.int 1]) (rest := []) hx hb hml hown hkk (c_Mo_fail l D m0 m1 m2 m3 cI 0 3 (nI n) cl gr lg lf ll la op kd sz al 1 (cf_Dt hD rfl)) ce_Mo_fail cv_Mo_fail kw_345 hK hP rfl rfl rfl hS (va_free hD hS hA [0, 1, 2, 3] rfl) (by decide) rfl hl.1 rfl (Nat.le_of_ble_eq_true rfl) d_Mo_where_28 ⟨Nat.zero_le _, Nat.zero_le _⟩ (fun H locs hP hzI hkI hS => ?_)
    have hP : va_P D cf_cl (MW m0 m1 m2 m3 cI 1 3 (nI n) cl gr lg lf ll la op kd sz al) H := hP
    have hD : va_D A (MW m0 m1 m2 m3 cI 1 3 (nI n) cl gr lg lf ll la op kd sz al) := cf_Dm hD rfl
    exact cf_iretI hx hb hr hlocks hP hS (Nat.zero_le _) (Nat.zero_le _) (rfl) d_Mo_where_31
  · refine lv_iload_n hx hb d_Mo_where_17 rfl (lv_at hl 2 rfl) ?_
    refine lv_aload_n hx hb d_Mo_where_18 rfl (lv_at hl 0 rfl) ?_
    refine lv_iload_n hx hb d_Mo_where_19 rfl (lv_at hl 1 rfl) ?_
    refine cf_pcV (q0 := 0) (ci := 2) (As := [.int (-1)]) (rest := [.int k]) hx hb hml hown hkk (c_Mo_words1 l D m0 m1 m2 m3 cI 0 3 (nI n) cl gr lg lf ll la op kd sz al) ce_Mo_words cv_Mo_words kw_373 hK hP rfl rfl rfl ⟨rfl, rfl⟩ (by decide) rfl hl.1 rfl (Nat.le_of_ble_eq_true rfl) d_Mo_where_20 ⟨Nat.zero_le _, Nat.zero_le _⟩ ?_
    refine lv_icmp_lt (tgt := 32) hx hb d_Mo_where_23 (by decide) (fun c_23 => False.elim (hk.elim c_14 (fun h => h c_23))) (fun c_23 => ?_)
    refine lv_aload_n hx hb d_Mo_where_26 rfl (lv_at hl 0 rfl) ?_
    refine lv_iconst (v := 1) hx hb d_Mo_where_27 (by decide) ?_
    refine cf_icV (q0 := 0) (ci := 2) (As := [.int 1]) (rest := []) hx hb hml hown hkk (c_Mo_fail l D m0 m1 m2 m3 cI 0 3 (nI n) cl gr lg lf ll la op kd sz al 1 (cf_Dt hD rfl)) ce_Mo_fail cv_Mo_fail kw_345 hK hP rfl rfl rfl hS (va_free hD hS hA [0, 1, 2, 3] rfl) (by decide) rfl hl.1 rfl (Nat.le_of_ble_eq_true rfl) d_Mo_where_28 ⟨Nat.zero_le _, Nat.zero_le _⟩ (fun H locs hP hzI hkI hS => ?_)
    have hP : va_P D cf_cl (MW m0 m1 m2 m3 cI 1 3 (nI n) cl gr lg lf ll la op kd sz al) H := hP
    have hD : va_D A (MW m0 m1 m2 m3 cI 1 3 (nI n) cl gr lg lf ll la op kd sz al) := cf_Dm hD rfl
    exact cf_iretI hx hb hr hlocks hP hS (Nat.zero_le _) (Nat.zero_le _) (rfl) d_Mo_where_31

set_option maxHeartbeats 4000000 in
set_option maxRecDepth 100000 in
/-- where(j, k): no such word -/
theorem c_Mo_whereJ_no (l : Launch) (D : va_G) (m0 m1 m2 m3 : Nat) (cI : ClassId) (th r cl gr lg lf ll la op : Int32) (kd sz al : Nat → Int32) (j : Nat) (k : Int32) (n : Nat) (hn : n ≤ 60) (hj : j < n) (hok : ∀ i, i < n → p_ok (kd i) (sz i)) (hk : k < 0 ∨ ¬ k < nI ((p_b (kd j) (sz j) + 3) / 4)) (hD0 : va_D (fun _ => True) (MW m0 m1 m2 m3 cI th r (nI n) cl gr lg lf ll la op kd sz al)) : cf_IM l y_Mo_where b_Mo_where 5 (some FieldType.int) ({ frames := 2, cells := 0, slots := 0, locals := 42 }) [.ref m0, .int (nI j), .int k] D (MW m0 m1 m2 m3 cI th r (nI n) cl gr lg lf ll la op kd sz al) [(cI, .int)] (some (.int 0)) (MW m0 m1 m2 m3 cI 1 r (nI n) cl gr lg lf ll la op kd sz al) := by
  refine cf_IM_of (by decide) (Nat.le_of_ble_eq_true rfl) hD0 ?_
  intro p e s m args below meth c A hx hb hr hkk hown hlocks hml hin hP hK hD hS hA hAe ls hl
  have hl : lv_has ls 5 [(0, .ref m0), (1, .int (nI j)), (2, .int k)] := hl
  refine lv_aload_n hx hb d_Mo_where_0 rfl (lv_at hl 0 rfl) ?_
  refine lv_iconst (v := 0) hx hb d_Mo_where_1 (by decide) ?_
  refine va_put (ci := 2) (v := .int 0) (ty := .int) hx hb (h_Mo hkk) (fun _ h => h) t_Mo t_Mo_ok n_Mo hown hK hP hD hS 0 rfl rfl 0 (by decide) (hkk.use kw_289 rfl) (fun _ h => h) rfl (by decide +kernel) rfl rfl (Nat.le_of_ble_eq_true rfl) d_Mo_where_2 (fun H locs hP hD hS => ?_)
  have hP : va_P D cf_cl (MW m0 m1 m2 m3 cI 0 r (nI n) cl gr lg lf ll la op kd sz al) H := hP
  have hD : va_D A (MW m0 m1 m2 m3 cI 0 r (nI n) cl gr lg lf ll la op kd sz al) := hD
  refine lv_aload_n hx hb d_Mo_where_5 rfl (lv_at hl 0 rfl) ?_
  refine lv_iload_n hx hb d_Mo_where_6 rfl (lv_at hl 1 rfl) ?_
  refine cf_pcV (q0 := 0) (ci := 2) (As := [.int (nI j)]) (rest := []) hx hb hml hown hkk (c_Mo_isThere l D m0 m1 m2 m3 cI 0 r (nI n) cl gr lg lf ll la op kd sz al (nI j)) ce_Mo_isThere cv_Mo_isThere kw_369 hK hP rfl rfl rfl ⟨rfl, rfl⟩ (by decide) rfl hl.1 rfl (Nat.le_of_ble_eq_true rfl) d_Mo_where_7 ⟨Nat.zero_le _, Nat.zero_le _⟩ ?_
  refine lv_if_eq (tgt := 26) hx hb d_Mo_where_10 (by decide) (fun c_10 => False.elim (p_bit0 rfl c_10 (Or.inl ⟨nI_pos (by omega), nI_lt hj (by omega)⟩))) (fun c_10 => ?_)
  refine lv_iload_n hx hb d_Mo_where_13 rfl (lv_at hl 2 rfl) ?_
  refine lv_if_lt (tgt := 26) hx hb d_Mo_where_14 (by decide) (fun c_14 => ?_) (fun c_14 => ?_)
  · refine lv_aload_n hx hb d_Mo_where_26 rfl (lv_at hl 0 rfl) ?_
    refine lv_iconst (v := 1) hx hb d_Mo_where_27 (by decide) ?_
    refine cf_icV (q0 := 0) (ci := 2) (As := [.int 1]) (rest := []) hx hb hml hown hkk (c_Mo_fail l D m0 m1 m2 m3 cI 0 r (nI n) cl gr lg lf ll la op kd sz al 1 (cf_Dt hD rfl)) ce_Mo_fail cv_Mo_fail kw_345 hK hP rfl rfl rfl hS (va_free hD hS hA [0, 1, 2, 3] rfl) (by decide) rfl hl.1 rfl (Nat.le_of_ble_eq_true rfl) d_Mo_where_28 ⟨Nat.zero_le _, Nat.zero_le _⟩ (fun H locs hP hzI hkI hS => ?_)
    have hP : va_P D cf_cl (MW m0 m1 m2 m3 cI 1 r (nI n) cl gr lg lf ll la op kd sz al) H := hP
    have hD : va_D A (MW m0 m1 m2 m3 cI 1 r (nI n) cl gr lg lf ll la op kd sz al) := cf_Dm hD rfl
    exact cf_iretI hx hb hr hlocks hP hS (Nat.zero_le _) (Nat.zero_le _) (rfl) d_Mo_where_31
  · refine lv_iload_n hx hb d_Mo_where_17 rfl (lv_at hl 2 rfl) ?_
    refine lv_aload_n hx hb d_Mo_where_18 rfl (lv_at hl 0 rfl) ?_
    refine lv_iload_n hx hb d_Mo_where_19 rfl (lv_at hl 1 rfl) ?_
    refine cf_pcV (q0 := 0) (ci := 2) (As := [.int (nI j)]) (rest := [.int k]) hx hb hml hown hkk (c_Mo_words l D m0 m1 m2 m3 cI 0 r (nI n) cl gr lg lf ll la op kd sz al j (by omega) (hok j hj)) ce_Mo_words cv_Mo_words kw_373 hK hP rfl rfl rfl ⟨rfl, rfl⟩ (by decide) rfl hl.1 rfl (Nat.le_of_ble_eq_true rfl) d_Mo_where_20 ⟨Nat.zero_le _, Nat.zero_le _⟩ ?_
    refine lv_icmp_lt (tgt := 32) hx hb d_Mo_where_23 (by decide) (fun c_23 => False.elim (hk.elim c_14 (fun h => h c_23))) (fun c_23 => ?_)
    refine lv_aload_n hx hb d_Mo_where_26 rfl (lv_at hl 0 rfl) ?_
    refine lv_iconst (v := 1) hx hb d_Mo_where_27 (by decide) ?_
    refine cf_icV (q0 := 0) (ci := 2) (As := [.int 1]) (rest := []) hx hb hml hown hkk (c_Mo_fail l D m0 m1 m2 m3 cI 0 r (nI n) cl gr lg lf ll la op kd sz al 1 (cf_Dt hD rfl)) ce_Mo_fail cv_Mo_fail kw_345 hK hP rfl rfl rfl hS (va_free hD hS hA [0, 1, 2, 3] rfl) (by decide) rfl hl.1 rfl (Nat.le_of_ble_eq_true rfl) d_Mo_where_28 ⟨Nat.zero_le _, Nat.zero_le _⟩ (fun H locs hP hzI hkI hS => ?_)
    have hP : va_P D cf_cl (MW m0 m1 m2 m3 cI 1 r (nI n) cl gr lg lf ll la op kd sz al) H := hP
    have hD : va_D A (MW m0 m1 m2 m3 cI 1 r (nI n) cl gr lg lf ll la op kd sz al) := cf_Dm hD rfl
    exact cf_iretI hx hb hr hlocks hP hS (Nat.zero_le _) (Nat.zero_le _) (rfl) d_Mo_where_31

set_option maxHeartbeats 4000000 in
set_option maxRecDepth 100000 in
/-- where(j, w) in a register of fractions -/
theorem c_Mo_whereJ_F (l : Launch) (D : va_G) (m0 m1 m2 m3 : Nat) (cI : ClassId) (th r cl gr lg lf ll la op : Int32) (kd sz al : Nat → Int32) (j w : Nat) (n : Nat) (hn : n ≤ 60) (hj : j < n) (hok : ∀ i, i < n → p_ok (kd i) (sz i)) (hat : p_at r kd sz al n ≤ 1000000) (hw : w < ((p_b (kd j) (sz j) + 3) / 4)) (hf : p_fra r op kd j) (hD0 : va_D (fun _ => True) (MW m0 m1 m2 m3 cI th r (nI n) cl gr lg lf ll la op kd sz al)) : cf_IM l y_Mo_where b_Mo_where 5 (some FieldType.int) ({ frames := 2, cells := 0, slots := 0, locals := 42 }) [.ref m0, .int (nI j), .int (nI w)] D (MW m0 m1 m2 m3 cI th r (nI n) cl gr lg lf ll la op kd sz al) [(cI, .int)] (some (.int (p_whF kd j w))) (MW m0 m1 m2 m3 cI 0 r (nI n) cl gr lg lf ll la op kd sz al) := by
  refine cf_IM_of (by decide) (Nat.le_of_ble_eq_true rfl) hD0 ?_
  intro p e s m args below meth c A hx hb hr hkk hown hlocks hml hin hP hK hD hS hA hAe ls hl
  have hl : lv_has ls 5 [(0, .ref m0), (1, .int (nI j)), (2, .int (nI w))] := hl
  refine lv_aload_n hx hb d_Mo_where_0 rfl (lv_at hl 0 rfl) ?_
  refine lv_iconst (v := 0) hx hb d_Mo_where_1 (by decide) ?_
  refine va_put (ci := 2) (v := .int 0) (ty := .int) hx hb (h_Mo hkk) (fun _ h => h) t_Mo t_Mo_ok n_Mo hown hK hP hD hS 0 rfl rfl 0 (by decide) (hkk.use kw_289 rfl) (fun _ h => h) rfl (by decide +kernel) rfl rfl (Nat.le_of_ble_eq_true rfl) d_Mo_where_2 (fun H locs hP hD hS => ?_)
  have hP : va_P D cf_cl (MW m0 m1 m2 m3 cI 0 r (nI n) cl gr lg lf ll la op kd sz al) H := hP
  have hD : va_D A (MW m0 m1 m2 m3 cI 0 r (nI n) cl gr lg lf ll la op kd sz al) := hD
  refine lv_aload_n hx hb d_Mo_where_5 rfl (lv_at hl 0 rfl) ?_
  refine lv_iload_n hx hb d_Mo_where_6 rfl (lv_at hl 1 rfl) ?_
  refine cf_pcV (q0 := 0) (ci := 2) (As := [.int (nI j)]) (rest := []) hx hb hml hown hkk (c_Mo_isThere l D m0 m1 m2 m3 cI 0 r (nI n) cl gr lg lf ll la op kd sz al (nI j)) ce_Mo_isThere cv_Mo_isThere kw_369 hK hP rfl rfl rfl ⟨rfl, rfl⟩ (by decide) rfl hl.1 rfl (Nat.le_of_ble_eq_true rfl) d_Mo_where_7 ⟨Nat.zero_le _, Nat.zero_le _⟩ ?_
  refine lv_if_eq (tgt := 26) hx hb d_Mo_where_10 (by decide) (fun c_10 => False.elim (p_bit0 rfl c_10 (Or.inl ⟨nI_pos (by omega), nI_lt hj (by omega)⟩))) (fun c_10 => ?_)
  refine lv_iload_n hx hb d_Mo_where_13 rfl (lv_at hl 2 rfl) ?_
  refine lv_if_lt (tgt := 26) hx hb d_Mo_where_14 (by decide) (fun c_14 => False.elim (nI_pos (by have := p_ok_b (hok j hj); omega) c_14)) (fun c_14 => ?_)
  refine lv_iload_n hx hb d_Mo_where_17 rfl (lv_at hl 2 rfl) ?_
  refine lv_aload_n hx hb d_Mo_where_18 rfl (lv_at hl 0 rfl) ?_
  refine lv_iload_n hx hb d_Mo_where_19 rfl (lv_at hl 1 rfl) ?_
  refine cf_pcV (q0 := 0) (ci := 2) (As := [.int (nI j)]) (rest := [.int (nI w)]) hx hb hml hown hkk (c_Mo_words l D m0 m1 m2 m3 cI 0 r (nI n) cl gr lg lf ll la op kd sz al j (by omega) (hok j hj)) ce_Mo_words cv_Mo_words kw_373 hK hP rfl rfl rfl ⟨rfl, rfl⟩ (by decide) rfl hl.1 rfl (Nat.le_of_ble_eq_true rfl) d_Mo_where_20 ⟨Nat.zero_le _, Nat.zero_le _⟩ ?_
  refine lv_icmp_lt (tgt := 32) hx hb d_Mo_where_23 (by decide) (fun c_23 => ?_) (fun c_23 => False.elim (c_23 (nI_lt hw (by have := p_ok_b (hok j hj); omega))))
  refine lv_iload_n hx hb d_Mo_where_32 rfl (lv_at hl 1 rfl) ?_
  refine lv_iconst (v := (-1)) hx hb d_Mo_where_33 (by decide) ?_
  refine lv_icmp_ne (tgt := 39) hx hb d_Mo_where_34 (by decide) (fun c_34 => ?_) (fun c_34 => False.elim (p_m1 j (by omega) c_34))
  refine lv_aload_n hx hb d_Mo_where_39 rfl (lv_at hl 0 rfl) ?_
  refine va_get (ci := 2) hx hb (h_Mo hkk) (fun _ h => h) hown hK hP 0 rfl rfl 9 (by decide) (hkk.use kw_298 rfl) (fun _ h => h) rfl d_Mo_where_40 ?_
  refine lv_if_ne (tgt := 79) hx hb d_Mo_where_43 (by decide) (fun c_43 => False.elim (c_43 hf.1)) (fun c_43 => ?_)
  refine lv_aload_n hx hb d_Mo_where_46 rfl (lv_at hl 0 rfl) ?_
  refine va_get (ci := 2) hx hb (h_Mo hkk) (fun _ h => h) hown hK hP 0 rfl rfl 1 (by decide) (hkk.use kw_290 rfl) (fun _ h => h) rfl d_Mo_where_47 ?_
  refine lv_iconst (v := 3) hx hb d_Mo_where_50 (by decide) ?_
  refine lv_icmp_eq (tgt := 79) hx hb d_Mo_where_51 (by decide) (fun c_51 => False.elim (hf.2.1 c_51)) (fun c_51 => ?_)
  refine lv_iload_n hx hb d_Mo_where_54 rfl (lv_at hl 1 rfl) ?_
  refine lv_iconst (v := 2) hx hb d_Mo_where_55 (by decide) ?_
  refine lv_icmp_ge (tgt := 79) hx hb d_Mo_where_56 (by decide) (fun c_56 => False.elim (absurd ((nI_leI (a := 2) (by omega) (by omega)).mp c_56) (by have := hf.2.2.1; omega))) (fun c_56 => ?_)
  refine lv_aload_n hx hb d_Mo_where_59 rfl (lv_at hl 0 rfl) ?_
  refine lv_iconst (v := 0) hx hb d_Mo_where_60 (by decide) ?_
  refine cf_pcV (q0 := 0) (ci := 2) (As := [.int 0]) (rest := []) hx hb hml hown hkk (c_Mo_isFraction l D m0 m1 m2 m3 cI 0 r (nI n) cl gr lg lf ll la op kd sz al 0 (by omega)) ce_Mo_isFraction cv_Mo_isFraction kw_377 hK hP rfl rfl rfl ⟨rfl, rfl⟩ (by decide) rfl hl.1 rfl (Nat.le_of_ble_eq_true rfl) d_Mo_where_61 ⟨Nat.zero_le _, Nat.zero_le _⟩ ?_
  refine lv_if_eq (tgt := 79) hx hb d_Mo_where_64 (by decide) (fun c_64 => False.elim (p_bit0 rfl c_64 hf.2.2.2.1)) (fun c_64 => ?_)
  refine lv_aload_n hx hb d_Mo_where_67 rfl (lv_at hl 0 rfl) ?_
  refine lv_iload_n hx hb d_Mo_where_68 rfl (lv_at hl 1 rfl) ?_
  refine cf_pcV (q0 := 0) (ci := 2) (As := [.int (nI j)]) (rest := []) hx hb hml hown hkk (c_Mo_isFraction l D m0 m1 m2 m3 cI 0 r (nI n) cl gr lg lf ll la op kd sz al j (by omega)) ce_Mo_isFraction cv_Mo_isFraction kw_377 hK hP rfl rfl rfl ⟨rfl, rfl⟩ (by decide) rfl hl.1 rfl (Nat.le_of_ble_eq_true rfl) d_Mo_where_69 ⟨Nat.zero_le _, Nat.zero_le _⟩ ?_
  refine lv_if_eq (tgt := 79) hx hb d_Mo_where_72 (by decide) (fun c_72 => False.elim (p_bit0 rfl c_72 hf.2.2.2.2)) (fun c_72 => ?_)
  refine lv_iconst (v := 1) hx hb d_Mo_where_75 (by decide) ?_
  refine lv_goto (tgt := 80) hx hb d_Mo_where_76 (by decide) ?_
  refine lv_istore_n (lv' := [(3, .int 1), (0, .ref m0), (1, .int (nI j)), (2, .int (nI w))]) hx hb d_Mo_where_80 rfl hl (by decide) rfl (fun ls hl => ?_)
  refine lv_iload_n hx hb d_Mo_where_81 rfl (lv_at hl 0 rfl) ?_
  refine lv_if_eq (tgt := 117) hx hb d_Mo_where_82 (by decide) (fun c_82 => False.elim (absurd c_82 (by decide))) (fun c_82 => ?_)
  refine lv_bipush (v := 44) hx hb d_Mo_where_85 (by decide) ?_
  refine lv_iconst (v := 2) hx hb d_Mo_where_87 (by decide) ?_
  refine lv_iload_n hx hb d_Mo_where_88 rfl (lv_at hl 2 rfl) ?_
  refine lv_imul hx hb d_Mo_where_89 ?_
  refine lv_iadd hx hb d_Mo_where_90 ?_
  refine cf_top (y := nI (44 + 2 * j)) (by show nI 44 + nI 2 * nI j = _; rw [pk_mul, nI_add]) ?_
  refine lv_istore (lv' := [(4, .int (nI (44 + 2 * j))), (3, .int 1), (0, .ref m0), (1, .int (nI j)), (2, .int (nI w))]) hx hb d_Mo_where_91 hl (by decide) rfl (fun ls hl => ?_)
  refine lv_aload_n hx hb d_Mo_where_93 rfl (lv_at hl 2 rfl) ?_
  refine va_get (ci := 2) hx hb (h_Mo hkk) (fun _ h => h) hown hK hP 0 rfl rfl 10 (by decide) (hkk.use kw_299 rfl) (fun _ h => h) rfl d_Mo_where_94 ?_
  refine lv_iload_n hx hb d_Mo_where_97 rfl (lv_at hl 3 rfl) ?_
  refine cf_iald hx hb hK hP 1 0 rfl rfl (k := j) (by omega) (by decide) d_Mo_where_98 ?_
  refine lv_iconst (v := 2) hx hb d_Mo_where_99 (by decide) ?_
  refine lv_icmp_ne (tgt := 114) hx hb d_Mo_where_100 (by decide) (fun c_100 => ?_) (fun c_100 => ?_)
  · refine lv_iload hx hb d_Mo_where_114 (lv_at hl 0 rfl) ?_
    exact cf_iretI hx hb hr hlocks hP hS (Nat.zero_le _) (Nat.zero_le _) (by unfold p_whF; rw [if_neg (fun h => c_100 h.1)]) d_Mo_where_116
  · refine lv_iload_n hx hb d_Mo_where_103 rfl (lv_at hl 4 rfl) ?_
    refine lv_if_ne (tgt := 114) hx hb d_Mo_where_104 (by decide) (fun c_104 => ?_) (fun c_104 => ?_)
    · refine lv_iload hx hb d_Mo_where_114 (lv_at hl 0 rfl) ?_
      exact cf_iretI hx hb hr hlocks hP hS (Nat.zero_le _) (Nat.zero_le _) (by unfold p_whF; rw [if_neg (fun h => c_104 (by rw [h.2]; rfl))]) d_Mo_where_116
    · refine lv_iload hx hb d_Mo_where_107 (lv_at hl 0 rfl) ?_
      refine lv_iconst (v := 1) hx hb d_Mo_where_109 (by decide) ?_
      refine lv_iadd hx hb d_Mo_where_110 ?_
      refine cf_top (y := nI (44 + 2 * j + 1)) (nI_1 _) ?_
      refine lv_goto (tgt := 116) hx hb d_Mo_where_111 (by decide) ?_
      exact cf_iretI hx hb hr hlocks hP hS (Nat.zero_le _) (Nat.zero_le _) (by unfold p_whF; rw [if_pos ⟨c_100, p_lit c_104 (by have := p_ok_b (hok j hj); omega) (show (0 : Int32) = nI 0 from rfl) (by omega)⟩]) d_Mo_where_116

set_option maxHeartbeats 4000000 in
set_option maxRecDepth 100000 in
/-- where(j, w) by its home -/
theorem c_Mo_whereJ_G (l : Launch) (D : va_G) (m0 m1 m2 m3 : Nat) (cI : ClassId) (th r cl gr lg lf ll la op : Int32) (kd sz al : Nat → Int32) (j w : Nat) (n : Nat) (hn : n ≤ 60) (hj : j < n) (hok : ∀ i, i < n → p_ok (kd i) (sz i)) (hat : p_at r kd sz al n ≤ 1000000) (hw : w < ((p_b (kd j) (sz j) + 3) / 4)) (hf : ¬ p_fra r op kd j) (hD0 : va_D (fun _ => True) (MW m0 m1 m2 m3 cI th r (nI n) cl gr lg lf ll la op kd sz al)) : cf_IM l y_Mo_where b_Mo_where 5 (some FieldType.int) ({ frames := 2, cells := 0, slots := 0, locals := 44 }) [.ref m0, .int (nI j), .int (nI w)] D (MW m0 m1 m2 m3 cI th r (nI n) cl gr lg lf ll la op kd sz al) [(cI, .int)] (some (.int (p_whG (p_h r kd sz al j) w))) (MW m0 m1 m2 m3 cI 0 r (nI n) cl gr lg lf ll la op kd sz al) := by
  refine cf_IM_of (by decide) (Nat.le_of_ble_eq_true rfl) hD0 ?_
  intro p e s m args below meth c A hx hb hr hkk hown hlocks hml hin hP hK hD hS hA hAe ls hl
  have hl : lv_has ls 5 [(0, .ref m0), (1, .int (nI j)), (2, .int (nI w))] := hl
  refine lv_aload_n hx hb d_Mo_where_0 rfl (lv_at hl 0 rfl) ?_
  refine lv_iconst (v := 0) hx hb d_Mo_where_1 (by decide) ?_
  refine va_put (ci := 2) (v := .int 0) (ty := .int) hx hb (h_Mo hkk) (fun _ h => h) t_Mo t_Mo_ok n_Mo hown hK hP hD hS 0 rfl rfl 0 (by decide) (hkk.use kw_289 rfl) (fun _ h => h) rfl (by decide +kernel) rfl rfl (Nat.le_of_ble_eq_true rfl) d_Mo_where_2 (fun H locs hP hD hS => ?_)
  have hP : va_P D cf_cl (MW m0 m1 m2 m3 cI 0 r (nI n) cl gr lg lf ll la op kd sz al) H := hP
  have hD : va_D A (MW m0 m1 m2 m3 cI 0 r (nI n) cl gr lg lf ll la op kd sz al) := hD
  refine lv_aload_n hx hb d_Mo_where_5 rfl (lv_at hl 0 rfl) ?_
  refine lv_iload_n hx hb d_Mo_where_6 rfl (lv_at hl 1 rfl) ?_
  refine cf_pcV (q0 := 0) (ci := 2) (As := [.int (nI j)]) (rest := []) hx hb hml hown hkk (c_Mo_isThere l D m0 m1 m2 m3 cI 0 r (nI n) cl gr lg lf ll la op kd sz al (nI j)) ce_Mo_isThere cv_Mo_isThere kw_369 hK hP rfl rfl rfl ⟨rfl, rfl⟩ (by decide) rfl hl.1 rfl (Nat.le_of_ble_eq_true rfl) d_Mo_where_7 ⟨Nat.zero_le _, Nat.zero_le _⟩ ?_
  refine lv_if_eq (tgt := 26) hx hb d_Mo_where_10 (by decide) (fun c_10 => False.elim (p_bit0 rfl c_10 (Or.inl ⟨nI_pos (by omega), nI_lt hj (by omega)⟩))) (fun c_10 => ?_)
  refine lv_iload_n hx hb d_Mo_where_13 rfl (lv_at hl 2 rfl) ?_
  refine lv_if_lt (tgt := 26) hx hb d_Mo_where_14 (by decide) (fun c_14 => False.elim (nI_pos (by have := p_ok_b (hok j hj); omega) c_14)) (fun c_14 => ?_)
  refine lv_iload_n hx hb d_Mo_where_17 rfl (lv_at hl 2 rfl) ?_
  refine lv_aload_n hx hb d_Mo_where_18 rfl (lv_at hl 0 rfl) ?_
  refine lv_iload_n hx hb d_Mo_where_19 rfl (lv_at hl 1 rfl) ?_
  refine cf_pcV (q0 := 0) (ci := 2) (As := [.int (nI j)]) (rest := [.int (nI w)]) hx hb hml hown hkk (c_Mo_words l D m0 m1 m2 m3 cI 0 r (nI n) cl gr lg lf ll la op kd sz al j (by omega) (hok j hj)) ce_Mo_words cv_Mo_words kw_373 hK hP rfl rfl rfl ⟨rfl, rfl⟩ (by decide) rfl hl.1 rfl (Nat.le_of_ble_eq_true rfl) d_Mo_where_20 ⟨Nat.zero_le _, Nat.zero_le _⟩ ?_
  refine lv_icmp_lt (tgt := 32) hx hb d_Mo_where_23 (by decide) (fun c_23 => ?_) (fun c_23 => False.elim (c_23 (nI_lt hw (by have := p_ok_b (hok j hj); omega))))
  refine lv_iload_n hx hb d_Mo_where_32 rfl (lv_at hl 1 rfl) ?_
  refine lv_iconst (v := (-1)) hx hb d_Mo_where_33 (by decide) ?_
  refine lv_icmp_ne (tgt := 39) hx hb d_Mo_where_34 (by decide) (fun c_34 => ?_) (fun c_34 => False.elim (p_m1 j (by omega) c_34))
  refine cf_join 80 ls [] (fun v => v = 0) (fun v_80 e_80 => ?_) (fun J_80 => ?_)
  · refine lv_istore_n (lv' := [(3, .int v_80), (0, .ref m0), (1, .int (nI j)), (2, .int (nI w))]) hx hb d_Mo_where_80 rfl hl (by decide) rfl (fun ls hl => ?_)
    refine lv_iload_n hx hb d_Mo_where_81 rfl (lv_at hl 0 rfl) ?_
    refine lv_if_eq (tgt := 117) hx hb d_Mo_where_82 (by decide) (fun c_82 => ?_) (fun c_82 => False.elim (c_82 e_80))
    refine lv_aload_n hx hb d_Mo_where_117 rfl (lv_at hl 1 rfl) ?_
    refine lv_iload_n hx hb d_Mo_where_118 rfl (lv_at hl 2 rfl) ?_
    refine cf_pcV (q0 := 0) (ci := 2) (As := [.int (nI j)]) (rest := []) hx hb hml hown hkk (c_Mo_home l D m0 m1 m2 m3 cI 0 r cl gr lg lf ll la op kd sz al n j hn (by omega) (fun i hi => hok i (by omega)) (Nat.le_trans (p_at_mono r kd sz al (by omega)) hat)) ce_Mo_home cv_Mo_home kw_349 hK hP rfl rfl rfl ⟨rfl, rfl⟩ (by decide) rfl hl.1 rfl (Nat.le_of_ble_eq_true rfl) d_Mo_where_119 ⟨Nat.zero_le _, Nat.zero_le _⟩ ?_
    refine cf_top (y := nI (p_h r kd sz al j)) (by rw [if_pos hj]) ?_
    refine lv_iconst (v := 4) hx hb d_Mo_where_122 (by decide) ?_
    refine lv_idiv hx hb d_Mo_where_123 (by decide) ?_
    refine cf_top (y := nI (p_h r kd sz al j / 4)) (by show nI _ / nI 4 = _; rw [pk_div (by have := p_ok_b (hok j hj); have := p_h_ge r kd sz al j; have := p_at_mono r kd sz al (Nat.le_of_lt hj); omega) (by omega) (by omega)]) ?_
    refine lv_iload_n hx hb d_Mo_where_124 rfl (lv_at hl 3 rfl) ?_
    refine lv_iadd hx hb d_Mo_where_125 ?_
    refine cf_top (y := nI (p_h r kd sz al j / 4 + w)) (nI_add _ _) ?_
    refine lv_istore (lv' := [(4, .int (nI (p_h r kd sz al j / 4 + w))), (3, .int v_80), (0, .ref m0), (1, .int (nI j)), (2, .int (nI w))]) hx hb d_Mo_where_126 hl (by decide) rfl (fun ls hl => ?_)
    refine lv_iload hx hb d_Mo_where_128 (lv_at hl 0 rfl) ?_
    refine lv_iconst (v := 4) hx hb d_Mo_where_130 (by decide) ?_
    refine lv_icmp_ge (tgt := 141) hx hb d_Mo_where_131 (by decide) (fun c_131 => ?_) (fun c_131 => ?_)
    · refine lv_iconst (v := (-1)) hx hb d_Mo_where_141 (by decide) ?_
      exact cf_iretI hx hb hr hlocks hP hS (Nat.zero_le _) (Nat.zero_le _) (by unfold p_whG; rw [if_neg (by have := (nI_leI (a := 4) (by omega) (by have := p_ok_b (hok j hj); have := p_h_ge r kd sz al j; have := p_at_mono r kd sz al (Nat.le_of_lt hj); omega)).mp c_131; omega)]) d_Mo_where_142
    · refine lv_iconst (v := 4) hx hb d_Mo_where_134 (by decide) ?_
      refine lv_iload hx hb d_Mo_where_135 (lv_at hl 0 rfl) ?_
      refine lv_iadd hx hb d_Mo_where_137 ?_
      refine cf_top (y := nI (4 + (p_h r kd sz al j / 4 + w))) (by show nI 4 + _ = _; rw [nI_add]) ?_
      refine lv_goto (tgt := 142) hx hb d_Mo_where_138 (by decide) ?_
      exact cf_iretI hx hb hr hlocks hP hS (Nat.zero_le _) (Nat.zero_le _) (by unfold p_whG; rw [if_pos (Nat.lt_of_not_le (fun h => c_131 (nI_le (a := 4) h (by have := p_ok_b (hok j hj); have := p_h_ge r kd sz al j; have := p_at_mono r kd sz al (Nat.le_of_lt hj); omega))))]) d_Mo_where_142
  · refine lv_aload_n hx hb d_Mo_where_39 rfl (lv_at hl 0 rfl) ?_
    refine va_get (ci := 2) hx hb (h_Mo hkk) (fun _ h => h) hown hK hP 0 rfl rfl 9 (by decide) (hkk.use kw_298 rfl) (fun _ h => h) rfl d_Mo_where_40 ?_
    refine lv_if_ne (tgt := 79) hx hb d_Mo_where_43 (by decide) (fun c_43 => ?_) (fun c_43 => ?_)
    · refine lv_iconst (v := 0) hx hb d_Mo_where_79 (by decide) ?_
      exact J_80 _ rfl
    · refine lv_aload_n hx hb d_Mo_where_46 rfl (lv_at hl 0 rfl) ?_
      refine va_get (ci := 2) hx hb (h_Mo hkk) (fun _ h => h) hown hK hP 0 rfl rfl 1 (by decide) (hkk.use kw_290 rfl) (fun _ h => h) rfl d_Mo_where_47 ?_
      refine lv_iconst (v := 3) hx hb d_Mo_where_50 (by decide) ?_
      refine lv_icmp_eq (tgt := 79) hx hb d_Mo_where_51 (by decide) (fun c_51 => ?_) (fun c_51 => ?_)
      · refine lv_iconst (v := 0) hx hb d_Mo_where_79 (by decide) ?_
        exact J_80 _ rfl
      · refine lv_iload_n hx hb d_Mo_where_54 rfl (lv_at hl 1 rfl) ?_
        refine lv_iconst (v := 2) hx hb d_Mo_where_55 (by decide) ?_
        refine lv_icmp_ge (tgt := 79) hx hb d_Mo_where_56 (by decide) (fun c_56 => ?_) (fun c_56 => ?_)
        · refine lv_iconst (v := 0) hx hb d_Mo_where_79 (by decide) ?_
          exact J_80 _ rfl
        · refine lv_aload_n hx hb d_Mo_where_59 rfl (lv_at hl 0 rfl) ?_
          refine lv_iconst (v := 0) hx hb d_Mo_where_60 (by decide) ?_
          refine cf_pcV (q0 := 0) (ci := 2) (As := [.int 0]) (rest := []) hx hb hml hown hkk (c_Mo_isFraction l D m0 m1 m2 m3 cI 0 r (nI n) cl gr lg lf ll la op kd sz al 0 (by omega)) ce_Mo_isFraction cv_Mo_isFraction kw_377 hK hP rfl rfl rfl ⟨rfl, rfl⟩ (by decide) rfl hl.1 rfl (Nat.le_of_ble_eq_true rfl) d_Mo_where_61 ⟨Nat.zero_le _, Nat.zero_le _⟩ ?_
          refine lv_if_eq (tgt := 79) hx hb d_Mo_where_64 (by decide) (fun c_64 => ?_) (fun c_64 => ?_)
          · refine lv_iconst (v := 0) hx hb d_Mo_where_79 (by decide) ?_
            exact J_80 _ rfl
          · refine lv_aload_n hx hb d_Mo_where_67 rfl (lv_at hl 0 rfl) ?_
            refine lv_iload_n hx hb d_Mo_where_68 rfl (lv_at hl 1 rfl) ?_
            refine cf_pcV (q0 := 0) (ci := 2) (As := [.int (nI j)]) (rest := []) hx hb hml hown hkk (c_Mo_isFraction l D m0 m1 m2 m3 cI 0 r (nI n) cl gr lg lf ll la op kd sz al j (by omega)) ce_Mo_isFraction cv_Mo_isFraction kw_377 hK hP rfl rfl rfl ⟨rfl, rfl⟩ (by decide) rfl hl.1 rfl (Nat.le_of_ble_eq_true rfl) d_Mo_where_69 ⟨Nat.zero_le _, Nat.zero_le _⟩ ?_
            refine lv_if_eq (tgt := 79) hx hb d_Mo_where_72 (by decide) (fun c_72 => ?_) (fun c_72 => False.elim (hf ⟨c_43, c_51, Nat.lt_of_not_le (fun h => c_56 (nI_le (a := 2) h (by omega))), p_bit1 rfl c_64, p_bit1 rfl c_72⟩))
            refine lv_iconst (v := 0) hx hb d_Mo_where_79 (by decide) ?_
            exact J_80 _ rfl

set_option maxHeartbeats 4000000 in
set_option maxRecDepth 100000 in
/-- about: refused -/
theorem c_Mo_about_no (l : Launch) (D : va_G) (m0 m1 m2 m3 : Nat) (cI : ClassId) (th r cl gr lg lf ll la op : Int32) (kd sz al : Nat → Int32) (x w : Int32) (n : Nat) (hn : n ≤ 60) (hno : ¬ ((¬ x < 0 ∧ x < nI n) ∨ (x = -1 ∧ r = 3)) ∨ w < 0 ∨ ¬ w ≤ 2) (hD0 : va_D (fun _ => True) (MW m0 m1 m2 m3 cI th r (nI n) cl gr lg lf ll la op kd sz al)) : cf_IM l y_Mo_about b_Mo_about 3 (some FieldType.int) ({ frames := 1, cells := 0, slots := 0, locals := 21 }) [.ref m0, .int x, .int w] D (MW m0 m1 m2 m3 cI th r (nI n) cl gr lg lf ll la op kd sz al) [(cI, .int)] (some (.int 0)) (MW m0 m1 m2 m3 cI 1 r (nI n) cl gr lg lf ll la op kd sz al) := by
  refine cf_IM_of (by decide) (Nat.le_of_ble_eq_true rfl) hD0 ?_
  intro p e s m args below meth c A hx hb hr hkk hown hlocks hml hin hP hK hD hS hA hAe ls hl
  have hl : lv_has ls 3 [(0, .ref m0), (1, .int x), (2, .int w)] := hl
  refine lv_aload_n hx hb d_Mo_about_0 rfl (lv_at hl 0 rfl) ?_
  refine lv_iconst (v := 0) hx hb d_Mo_about_1 (by decide) ?_
  refine va_put (ci := 2) (v := .int 0) (ty := .int) hx hb (h_Mo hkk) (fun _ h => h) t_Mo t_Mo_ok n_Mo hown hK hP hD hS 0 rfl rfl 0 (by decide) (hkk.use kw_289 rfl) (fun _ h => h) rfl (by decide +kernel) rfl rfl (Nat.le_of_ble_eq_true rfl) d_Mo_about_2 (fun H locs hP hD hS => ?_)
  have hP : va_P D cf_cl (MW m0 m1 m2 m3 cI 0 r (nI n) cl gr lg lf ll la op kd sz al) H := hP
  have hD : va_D A (MW m0 m1 m2 m3 cI 0 r (nI n) cl gr lg lf ll la op kd sz al) := hD
  refine lv_aload_n hx hb d_Mo_about_5 rfl (lv_at hl 0 rfl) ?_
  refine lv_iload_n hx hb d_Mo_about_6 rfl (lv_at hl 1 rfl) ?_
  refine cf_pcV (q0 := 0) (ci := 2) (As := [.int x]) (rest := []) hx hb hml hown hkk (c_Mo_isThere l D m0 m1 m2 m3 cI 0 r (nI n) cl gr lg lf ll la op kd sz al x) ce_Mo_isThere cv_Mo_isThere kw_369 hK hP rfl rfl rfl ⟨rfl, rfl⟩ (by decide) rfl hl.1 rfl (Nat.le_of_ble_eq_true rfl) d_Mo_about_7 ⟨Nat.zero_le _, Nat.zero_le _⟩ ?_
  refine lv_if_eq (tgt := 22) hx hb d_Mo_about_10 (by decide) (fun c_10 => ?_) (fun c_10 => ?_)
  · refine lv_aload_n hx hb d_Mo_about_22 rfl (lv_at hl 0 rfl) ?_
    refine lv_iconst (v := 1) hx hb d_Mo_about_23 (by decide) ?_
    refine cf_icV (q0 := 0) (ci := 2) (As := [.int 1]) (rest := []) hx hb hml hown hkk (c_Mo_fail l D m0 m1 m2 m3 cI 0 r (nI n) cl gr lg lf ll la op kd sz al 1 (cf_Dt hD rfl)) ce_Mo_fail cv_Mo_fail kw_345 hK hP rfl rfl rfl hS (va_free hD hS hA [0, 1, 2, 3] rfl) (by decide) rfl hl.1 rfl (Nat.le_of_ble_eq_true rfl) d_Mo_about_24 ⟨Nat.zero_le _, Nat.zero_le _⟩ (fun H locs hP hzI hkI hS => ?_)
    have hP : va_P D cf_cl (MW m0 m1 m2 m3 cI 1 r (nI n) cl gr lg lf ll la op kd sz al) H := hP
    have hD : va_D A (MW m0 m1 m2 m3 cI 1 r (nI n) cl gr lg lf ll la op kd sz al) := cf_Dm hD rfl
    exact cf_iretI hx hb hr hlocks hP hS (Nat.zero_le _) (Nat.zero_le _) (rfl) d_Mo_about_27
  · refine lv_iload_n hx hb d_Mo_about_13 rfl (lv_at hl 2 rfl) ?_
    refine lv_if_lt (tgt := 22) hx hb d_Mo_about_14 (by decide) (fun c_14 => ?_) (fun c_14 => ?_)
    · refine lv_aload_n hx hb d_Mo_about_22 rfl (lv_at hl 0 rfl) ?_
      refine lv_iconst (v := 1) hx hb d_Mo_about_23 (by decide) ?_
      refine cf_icV (q0 := 0) (ci := 2) (As := [.int 1]) (rest := []) hx hb hml hown hkk (c_Mo_fail l D m0 m1 m2 m3 cI 0 r (nI n) cl gr lg lf ll la op kd sz al 1 (cf_Dt hD rfl)) ce_Mo_fail cv_Mo_fail kw_345 hK hP rfl rfl rfl hS (va_free hD hS hA [0, 1, 2, 3] rfl) (by decide) rfl hl.1 rfl (Nat.le_of_ble_eq_true rfl) d_Mo_about_24 ⟨Nat.zero_le _, Nat.zero_le _⟩ (fun H locs hP hzI hkI hS => ?_)
      have hP : va_P D cf_cl (MW m0 m1 m2 m3 cI 1 r (nI n) cl gr lg lf ll la op kd sz al) H := hP
      have hD : va_D A (MW m0 m1 m2 m3 cI 1 r (nI n) cl gr lg lf ll la op kd sz al) := cf_Dm hD rfl
      exact cf_iretI hx hb hr hlocks hP hS (Nat.zero_le _) (Nat.zero_le _) (rfl) d_Mo_about_27
    · refine lv_iload_n hx hb d_Mo_about_17 rfl (lv_at hl 2 rfl) ?_
      refine lv_iconst (v := 2) hx hb d_Mo_about_18 (by decide) ?_
      refine lv_icmp_le (tgt := 28) hx hb d_Mo_about_19 (by decide) (fun c_19 => False.elim (hno.elim (fun h => h (p_bit1 rfl c_10)) (fun h => h.elim c_14 (fun h => h c_19)))) (fun c_19 => ?_)
      refine lv_aload_n hx hb d_Mo_about_22 rfl (lv_at hl 0 rfl) ?_
      refine lv_iconst (v := 1) hx hb d_Mo_about_23 (by decide) ?_
      refine cf_icV (q0 := 0) (ci := 2) (As := [.int 1]) (rest := []) hx hb hml hown hkk (c_Mo_fail l D m0 m1 m2 m3 cI 0 r (nI n) cl gr lg lf ll la op kd sz al 1 (cf_Dt hD rfl)) ce_Mo_fail cv_Mo_fail kw_345 hK hP rfl rfl rfl hS (va_free hD hS hA [0, 1, 2, 3] rfl) (by decide) rfl hl.1 rfl (Nat.le_of_ble_eq_true rfl) d_Mo_about_24 ⟨Nat.zero_le _, Nat.zero_le _⟩ (fun H locs hP hzI hkI hS => ?_)
      have hP : va_P D cf_cl (MW m0 m1 m2 m3 cI 1 r (nI n) cl gr lg lf ll la op kd sz al) H := hP
      have hD : va_D A (MW m0 m1 m2 m3 cI 1 r (nI n) cl gr lg lf ll la op kd sz al) := cf_Dm hD rfl
      exact cf_iretI hx hb hr hlocks hP hS (Nat.zero_le _) (Nat.zero_le _) (rfl) d_Mo_about_27

set_option maxHeartbeats 4000000 in
set_option maxRecDepth 100000 in
/-- about(-1, w) -/
theorem c_Mo_about1_ok (l : Launch) (D : va_G) (m0 m1 m2 m3 : Nat) (cI : ClassId) (th cl gr lg lf ll la op : Int32) (kd sz al : Nat → Int32) (w : Int32) (n : Nat) (hn : n ≤ 60) (h0 : ¬ w < 0) (h2 : w ≤ 2) (hD0 : va_D (fun _ => True) (MW m0 m1 m2 m3 cI th 3 (nI n) cl gr lg lf ll la op kd sz al)) : cf_IM l y_Mo_about b_Mo_about 3 (some FieldType.int) ({ frames := 1, cells := 0, slots := 0, locals := 21 }) [.ref m0, .int (-1), .int w] D (MW m0 m1 m2 m3 cI th 3 (nI n) cl gr lg lf ll la op kd sz al) [(cI, .int)] (some (.int (if w = 0 then 0 else if w = 1 then 4 else 1))) (MW m0 m1 m2 m3 cI 0 3 (nI n) cl gr lg lf ll la op kd sz al) := by
  refine cf_IM_of (by decide) (Nat.le_of_ble_eq_true rfl) hD0 ?_
  intro p e s m args below meth c A hx hb hr hkk hown hlocks hml hin hP hK hD hS hA hAe ls hl
  have hl : lv_has ls 3 [(0, .ref m0), (1, .int (-1)), (2, .int w)] := hl
  refine lv_aload_n hx hb d_Mo_about_0 rfl (lv_at hl 0 rfl) ?_
  refine lv_iconst (v := 0) hx hb d_Mo_about_1 (by decide) ?_
  refine va_put (ci := 2) (v := .int 0) (ty := .int) hx hb (h_Mo hkk) (fun _ h => h) t_Mo t_Mo_ok n_Mo hown hK hP hD hS 0 rfl rfl 0 (by decide) (hkk.use kw_289 rfl) (fun _ h => h) rfl (by decide +kernel) rfl rfl (Nat.le_of_ble_eq_true rfl) d_Mo_about_2 (fun H locs hP hD hS => ?_)
  have hP : va_P D cf_cl (MW m0 m1 m2 m3 cI 0 3 (nI n) cl gr lg lf ll la op kd sz al) H := hP
  have hD : va_D A (MW m0 m1 m2 m3 cI 0 3 (nI n) cl gr lg lf ll la op kd sz al) := hD
  refine lv_aload_n hx hb d_Mo_about_5 rfl (lv_at hl 0 rfl) ?_
  refine lv_iload_n hx hb d_Mo_about_6 rfl (lv_at hl 1 rfl) ?_
  refine cf_pcV (q0 := 0) (ci := 2) (As := [.int (-1)]) (rest := []) hx hb hml hown hkk (c_Mo_isThere l D m0 m1 m2 m3 cI 0 3 (nI n) cl gr lg lf ll la op kd sz al (-1)) ce_Mo_isThere cv_Mo_isThere kw_369 hK hP rfl rfl rfl ⟨rfl, rfl⟩ (by decide) rfl hl.1 rfl (Nat.le_of_ble_eq_true rfl) d_Mo_about_7 ⟨Nat.zero_le _, Nat.zero_le _⟩ ?_
  refine lv_if_eq (tgt := 22) hx hb d_Mo_about_10 (by decide) (fun c_10 => False.elim (p_bit0 rfl c_10 (Or.inr ⟨rfl, rfl⟩))) (fun c_10 => ?_)
  refine lv_iload_n hx hb d_Mo_about_13 rfl (lv_at hl 2 rfl) ?_
  refine lv_if_lt (tgt := 22) hx hb d_Mo_about_14 (by decide) (fun c_14 => False.elim (h0 c_14)) (fun c_14 => ?_)
  refine lv_iload_n hx hb d_Mo_about_17 rfl (lv_at hl 2 rfl) ?_
  refine lv_iconst (v := 2) hx hb d_Mo_about_18 (by decide) ?_
  refine lv_icmp_le (tgt := 28) hx hb d_Mo_about_19 (by decide) (fun c_19 => ?_) (fun c_19 => False.elim (c_19 h2))
  refine lv_iload_n hx hb d_Mo_about_28 rfl (lv_at hl 1 rfl) ?_
  refine lv_iconst (v := (-1)) hx hb d_Mo_about_29 (by decide) ?_
  refine lv_icmp_ne (tgt := 52) hx hb d_Mo_about_30 (by decide) (fun c_30 => False.elim (absurd c_30 (by decide))) (fun c_30 => ?_)
  refine lv_iload_n hx hb d_Mo_about_33 rfl (lv_at hl 2 rfl) ?_
  refine lv_if_ne (tgt := 41) hx hb d_Mo_about_34 (by decide) (fun c_34 => ?_) (fun c_34 => ?_)
  · refine lv_iload_n hx hb d_Mo_about_41 rfl (lv_at hl 2 rfl) ?_
    refine lv_iconst (v := 1) hx hb d_Mo_about_42 (by decide) ?_
    refine lv_icmp_ne (tgt := 50) hx hb d_Mo_about_43 (by decide) (fun c_43 => ?_) (fun c_43 => ?_)
    · refine lv_iconst (v := 1) hx hb d_Mo_about_50 (by decide) ?_
      exact cf_iretI hx hb hr hlocks hP hS (Nat.zero_le _) (Nat.zero_le _) (by simp [c_10, c_14, c_19, c_30, c_34, c_43]) d_Mo_about_51
    · refine lv_iconst (v := 4) hx hb d_Mo_about_46 (by decide) ?_
      refine lv_goto (tgt := 51) hx hb d_Mo_about_47 (by decide) ?_
      exact cf_iretI hx hb hr hlocks hP hS (Nat.zero_le _) (Nat.zero_le _) (by simp [c_10, c_14, c_19, c_30, c_34, c_43]) d_Mo_about_51
  · refine lv_iconst (v := 0) hx hb d_Mo_about_37 (by decide) ?_
    refine lv_goto (tgt := 51) hx hb d_Mo_about_38 (by decide) ?_
    exact cf_iretI hx hb hr hlocks hP hS (Nat.zero_le _) (Nat.zero_le _) (by simp [c_10, c_14, c_19, c_30, c_34]) d_Mo_about_51

set_option maxHeartbeats 4000000 in
set_option maxRecDepth 100000 in
/-- about(j, w) -/
theorem c_Mo_aboutJ_ok (l : Launch) (D : va_G) (m0 m1 m2 m3 : Nat) (cI : ClassId) (th r cl gr lg lf ll la op : Int32) (kd sz al : Nat → Int32) (j : Nat) (w : Int32) (n : Nat) (hn : n ≤ 60) (hj : j < n) (hok : ∀ i, i < n → p_ok (kd i) (sz i)) (hat : p_at r kd sz al n ≤ 1000000) (h0 : ¬ w < 0) (h2 : w ≤ 2) (hD0 : va_D (fun _ => True) (MW m0 m1 m2 m3 cI th r (nI n) cl gr lg lf ll la op kd sz al)) : cf_IM l y_Mo_about b_Mo_about 3 (some FieldType.int) ({ frames := 2, cells := 0, slots := 0, locals := 44 }) [.ref m0, .int (nI j), .int w] D (MW m0 m1 m2 m3 cI th r (nI n) cl gr lg lf ll la op kd sz al) [(cI, .int)] (some (.int (if w = 0 then nI (p_h r kd sz al j) else if w = 1 then nI (p_b (kd j) (sz j)) else nI ((p_b (kd j) (sz j) + 3) / 4)))) (MW m0 m1 m2 m3 cI 0 r (nI n) cl gr lg lf ll la op kd sz al) := by
  refine cf_IM_of (by decide) (Nat.le_of_ble_eq_true rfl) hD0 ?_
  intro p e s m args below meth c A hx hb hr hkk hown hlocks hml hin hP hK hD hS hA hAe ls hl
  have hl : lv_has ls 3 [(0, .ref m0), (1, .int (nI j)), (2, .int w)] := hl
  refine lv_aload_n hx hb d_Mo_about_0 rfl (lv_at hl 0 rfl) ?_
  refine lv_iconst (v := 0) hx hb d_Mo_about_1 (by decide) ?_
  refine va_put (ci := 2) (v := .int 0) (ty := .int) hx hb (h_Mo hkk) (fun _ h => h) t_Mo t_Mo_ok n_Mo hown hK hP hD hS 0 rfl rfl 0 (by decide) (hkk.use kw_289 rfl) (fun _ h => h) rfl (by decide +kernel) rfl rfl (Nat.le_of_ble_eq_true rfl) d_Mo_about_2 (fun H locs hP hD hS => ?_)
  have hP : va_P D cf_cl (MW m0 m1 m2 m3 cI 0 r (nI n) cl gr lg lf ll la op kd sz al) H := hP
  have hD : va_D A (MW m0 m1 m2 m3 cI 0 r (nI n) cl gr lg lf ll la op kd sz al) := hD
  refine lv_aload_n hx hb d_Mo_about_5 rfl (lv_at hl 0 rfl) ?_
  refine lv_iload_n hx hb d_Mo_about_6 rfl (lv_at hl 1 rfl) ?_
  refine cf_pcV (q0 := 0) (ci := 2) (As := [.int (nI j)]) (rest := []) hx hb hml hown hkk (c_Mo_isThere l D m0 m1 m2 m3 cI 0 r (nI n) cl gr lg lf ll la op kd sz al (nI j)) ce_Mo_isThere cv_Mo_isThere kw_369 hK hP rfl rfl rfl ⟨rfl, rfl⟩ (by decide) rfl hl.1 rfl (Nat.le_of_ble_eq_true rfl) d_Mo_about_7 ⟨Nat.zero_le _, Nat.zero_le _⟩ ?_
  refine lv_if_eq (tgt := 22) hx hb d_Mo_about_10 (by decide) (fun c_10 => False.elim (p_bit0 rfl c_10 (Or.inl ⟨nI_pos (by omega), nI_lt hj (by omega)⟩))) (fun c_10 => ?_)
  refine lv_iload_n hx hb d_Mo_about_13 rfl (lv_at hl 2 rfl) ?_
  refine lv_if_lt (tgt := 22) hx hb d_Mo_about_14 (by decide) (fun c_14 => False.elim (h0 c_14)) (fun c_14 => ?_)
  refine lv_iload_n hx hb d_Mo_about_17 rfl (lv_at hl 2 rfl) ?_
  refine lv_iconst (v := 2) hx hb d_Mo_about_18 (by decide) ?_
  refine lv_icmp_le (tgt := 28) hx hb d_Mo_about_19 (by decide) (fun c_19 => ?_) (fun c_19 => False.elim (c_19 h2))
  refine lv_iload_n hx hb d_Mo_about_28 rfl (lv_at hl 1 rfl) ?_
  refine lv_iconst (v := (-1)) hx hb d_Mo_about_29 (by decide) ?_
  refine lv_icmp_ne (tgt := 52) hx hb d_Mo_about_30 (by decide) (fun c_30 => ?_) (fun c_30 => False.elim (p_m1 j (by omega) c_30))
  refine lv_iload_n hx hb d_Mo_about_52 rfl (lv_at hl 2 rfl) ?_
  refine lv_if_ne (tgt := 64) hx hb d_Mo_about_53 (by decide) (fun c_53 => ?_) (fun c_53 => ?_)
  · refine lv_iload_n hx hb d_Mo_about_64 rfl (lv_at hl 2 rfl) ?_
    refine lv_iconst (v := 1) hx hb d_Mo_about_65 (by decide) ?_
    refine lv_icmp_ne (tgt := 77) hx hb d_Mo_about_66 (by decide) (fun c_66 => ?_) (fun c_66 => ?_)
    · refine lv_aload_n hx hb d_Mo_about_77 rfl (lv_at hl 0 rfl) ?_
      refine lv_iload_n hx hb d_Mo_about_78 rfl (lv_at hl 1 rfl) ?_
      refine cf_pcV (q0 := 0) (ci := 2) (As := [.int (nI j)]) (rest := []) hx hb hml hown hkk (c_Mo_words l D m0 m1 m2 m3 cI 0 r (nI n) cl gr lg lf ll la op kd sz al j (by omega) (hok j hj)) ce_Mo_words cv_Mo_words kw_373 hK hP rfl rfl rfl ⟨rfl, rfl⟩ (by decide) rfl hl.1 rfl (Nat.le_of_ble_eq_true rfl) d_Mo_about_79 ⟨Nat.zero_le _, Nat.zero_le _⟩ ?_
      exact cf_iretI hx hb hr hlocks hP hS (Nat.zero_le _) (Nat.zero_le _) (by simp [c_10, c_14, c_19, c_30, c_53, c_66]) d_Mo_about_82
    · refine lv_aload_n hx hb d_Mo_about_69 rfl (lv_at hl 0 rfl) ?_
      refine lv_iload_n hx hb d_Mo_about_70 rfl (lv_at hl 1 rfl) ?_
      refine cf_pcV (q0 := 0) (ci := 2) (As := [.int (nI j)]) (rest := []) hx hb hml hown hkk (c_Mo_bytes l D m0 m1 m2 m3 cI 0 r (nI n) cl gr lg lf ll la op kd sz al j (by omega)) ce_Mo_bytes cv_Mo_bytes kw_360 hK hP rfl rfl rfl ⟨rfl, rfl⟩ (by decide) rfl hl.1 rfl (Nat.le_of_ble_eq_true rfl) d_Mo_about_71 ⟨Nat.zero_le _, Nat.zero_le _⟩ ?_
      refine cf_top (y := nI (p_b (kd j) (sz j))) (p_bI (hok j hj)) ?_
      refine lv_goto (tgt := 82) hx hb d_Mo_about_74 (by decide) ?_
      exact cf_iretI hx hb hr hlocks hP hS (Nat.zero_le _) (Nat.zero_le _) (by simp [c_10, c_14, c_19, c_30, c_53, c_66]) d_Mo_about_82
  · refine lv_aload_n hx hb d_Mo_about_56 rfl (lv_at hl 0 rfl) ?_
    refine lv_iload_n hx hb d_Mo_about_57 rfl (lv_at hl 1 rfl) ?_
    refine cf_pcV (q0 := 0) (ci := 2) (As := [.int (nI j)]) (rest := []) hx hb hml hown hkk (c_Mo_home l D m0 m1 m2 m3 cI 0 r cl gr lg lf ll la op kd sz al n j hn (by omega) (fun i hi => hok i (by omega)) (Nat.le_trans (p_at_mono r kd sz al (by omega)) hat)) ce_Mo_home cv_Mo_home kw_349 hK hP rfl rfl rfl ⟨rfl, rfl⟩ (by decide) rfl hl.1 rfl (Nat.le_of_ble_eq_true rfl) d_Mo_about_58 ⟨Nat.zero_le _, Nat.zero_le _⟩ ?_
    refine cf_top (y := nI (p_h r kd sz al j)) (by rw [if_pos hj]) ?_
    refine lv_goto (tgt := 82) hx hb d_Mo_about_61 (by decide) ?_
    exact cf_iretI hx hb hr hlocks hP hS (Nat.zero_le _) (Nat.zero_le _) (by simp [c_10, c_14, c_19, c_30, c_53]) d_Mo_about_82

set_option maxHeartbeats 4000000 in
set_option maxRecDepth 100000 in
/-- signature: refused -/
theorem c_Mo_signature_no (l : Launch) (D : va_G) (m0 m1 m2 m3 : Nat) (cI : ClassId) (th r cl gr lg lf ll la op : Int32) (kd sz al : Nat → Int32) (w : Int32) (n : Nat) (hno : w < 0 ∨ ¬ w ≤ 3) (hD0 : va_D (fun _ => True) (MW m0 m1 m2 m3 cI th r (nI n) cl gr lg lf ll la op kd sz al)) : cf_IM l y_Mo_signature b_Mo_signature 3 (some FieldType.int) ({ frames := 1, cells := 0, slots := 0, locals := 21 }) [.ref m0, .int w] D (MW m0 m1 m2 m3 cI th r (nI n) cl gr lg lf ll la op kd sz al) [(cI, .int)] (some (.int 0)) (MW m0 m1 m2 m3 cI 1 r (nI n) cl gr lg lf ll la op kd sz al) := by
  refine cf_IM_of (by decide) (Nat.le_of_ble_eq_true rfl) hD0 ?_
  intro p e s m args below meth c A hx hb hr hkk hown hlocks hml hin hP hK hD hS hA hAe ls hl
  have hl : lv_has ls 3 [(0, .ref m0), (1, .int w)] := hl
  refine lv_aload_n hx hb d_Mo_signature_0 rfl (lv_at hl 0 rfl) ?_
  refine lv_iconst (v := 0) hx hb d_Mo_signature_1 (by decide) ?_
  refine va_put (ci := 2) (v := .int 0) (ty := .int) hx hb (h_Mo hkk) (fun _ h => h) t_Mo t_Mo_ok n_Mo hown hK hP hD hS 0 rfl rfl 0 (by decide) (hkk.use kw_289 rfl) (fun _ h => h) rfl (by decide +kernel) rfl rfl (Nat.le_of_ble_eq_true rfl) d_Mo_signature_2 (fun H locs hP hD hS => ?_)
  have hP : va_P D cf_cl (MW m0 m1 m2 m3 cI 0 r (nI n) cl gr lg lf ll la op kd sz al) H := hP
  have hD : va_D A (MW m0 m1 m2 m3 cI 0 r (nI n) cl gr lg lf ll la op kd sz al) := hD
  refine lv_iload_n hx hb d_Mo_signature_5 rfl (lv_at hl 1 rfl) ?_
  refine lv_if_lt (tgt := 14) hx hb d_Mo_signature_6 (by decide) (fun c_6 => ?_) (fun c_6 => ?_)
  · refine lv_aload_n hx hb d_Mo_signature_14 rfl (lv_at hl 0 rfl) ?_
    refine lv_iconst (v := 1) hx hb d_Mo_signature_15 (by decide) ?_
    refine cf_icV (q0 := 0) (ci := 2) (As := [.int 1]) (rest := []) hx hb hml hown hkk (c_Mo_fail l D m0 m1 m2 m3 cI 0 r (nI n) cl gr lg lf ll la op kd sz al 1 (cf_Dt hD rfl)) ce_Mo_fail cv_Mo_fail kw_345 hK hP rfl rfl rfl hS (va_free hD hS hA [0, 1, 2, 3] rfl) (by decide) rfl hl.1 rfl (Nat.le_of_ble_eq_true rfl) d_Mo_signature_16 ⟨Nat.zero_le _, Nat.zero_le _⟩ (fun H locs hP hzI hkI hS => ?_)
    have hP : va_P D cf_cl (MW m0 m1 m2 m3 cI 1 r (nI n) cl gr lg lf ll la op kd sz al) H := hP
    have hD : va_D A (MW m0 m1 m2 m3 cI 1 r (nI n) cl gr lg lf ll la op kd sz al) := cf_Dm hD rfl
    exact cf_iretI hx hb hr hlocks hP hS (Nat.zero_le _) (Nat.zero_le _) (rfl) d_Mo_signature_19
  · refine lv_iload_n hx hb d_Mo_signature_9 rfl (lv_at hl 1 rfl) ?_
    refine lv_iconst (v := 3) hx hb d_Mo_signature_10 (by decide) ?_
    refine lv_icmp_le (tgt := 20) hx hb d_Mo_signature_11 (by decide) (fun c_11 => False.elim (hno.elim c_6 (fun h => h c_11))) (fun c_11 => ?_)
    refine lv_aload_n hx hb d_Mo_signature_14 rfl (lv_at hl 0 rfl) ?_
    refine lv_iconst (v := 1) hx hb d_Mo_signature_15 (by decide) ?_
    refine cf_icV (q0 := 0) (ci := 2) (As := [.int 1]) (rest := []) hx hb hml hown hkk (c_Mo_fail l D m0 m1 m2 m3 cI 0 r (nI n) cl gr lg lf ll la op kd sz al 1 (cf_Dt hD rfl)) ce_Mo_fail cv_Mo_fail kw_345 hK hP rfl rfl rfl hS (va_free hD hS hA [0, 1, 2, 3] rfl) (by decide) rfl hl.1 rfl (Nat.le_of_ble_eq_true rfl) d_Mo_signature_16 ⟨Nat.zero_le _, Nat.zero_le _⟩ (fun H locs hP hzI hkI hS => ?_)
    have hP : va_P D cf_cl (MW m0 m1 m2 m3 cI 1 r (nI n) cl gr lg lf ll la op kd sz al) H := hP
    have hD : va_D A (MW m0 m1 m2 m3 cI 1 r (nI n) cl gr lg lf ll la op kd sz al) := cf_Dm hD rfl
    exact cf_iretI hx hb hr hlocks hP hS (Nat.zero_le _) (Nat.zero_le _) (rfl) d_Mo_signature_19

set_option maxHeartbeats 4000000 in
set_option maxRecDepth 100000 in
/-- signature(w) -/
theorem c_Mo_signature_ok (l : Launch) (D : va_G) (m0 m1 m2 m3 : Nat) (cI : ClassId) (th r cl gr lg lf ll la op : Int32) (kd sz al : Nat → Int32) (w : Int32) (n : Nat) (hn : n ≤ 60) (hok : ∀ i, i < n → p_ok (kd i) (sz i)) (hat : p_at r kd sz al n ≤ 1000000) (h0 : ¬ w < 0) (h3 : w ≤ 3) (hD0 : va_D (fun _ => True) (MW m0 m1 m2 m3 cI th r (nI n) cl gr lg lf ll la op kd sz al)) : cf_IM l y_Mo_signature b_Mo_signature 3 (some FieldType.int) ({ frames := 3, cells := 0, slots := 0, locals := 65 }) [.ref m0, .int w] D (MW m0 m1 m2 m3 cI th r (nI n) cl gr lg lf ll la op kd sz al) [(cI, .int)] (some (.int (p_sig r kd sz al n (p_area r kd sz al n) w))) (MW m0 m1 m2 m3 cI 0 r (nI n) cl gr lg lf ll la op kd sz al) := by
  refine cf_IM_of (by decide) (Nat.le_of_ble_eq_true rfl) hD0 ?_
  intro p e s m args below meth c A hx hb hr hkk hown hlocks hml hin hP hK hD hS hA hAe ls hl
  have hl : lv_has ls 3 [(0, .ref m0), (1, .int w)] := hl
  refine lv_aload_n hx hb d_Mo_signature_0 rfl (lv_at hl 0 rfl) ?_
  refine lv_iconst (v := 0) hx hb d_Mo_signature_1 (by decide) ?_
  refine va_put (ci := 2) (v := .int 0) (ty := .int) hx hb (h_Mo hkk) (fun _ h => h) t_Mo t_Mo_ok n_Mo hown hK hP hD hS 0 rfl rfl 0 (by decide) (hkk.use kw_289 rfl) (fun _ h => h) rfl (by decide +kernel) rfl rfl (Nat.le_of_ble_eq_true rfl) d_Mo_signature_2 (fun H locs hP hD hS => ?_)
  have hP : va_P D cf_cl (MW m0 m1 m2 m3 cI 0 r (nI n) cl gr lg lf ll la op kd sz al) H := hP
  have hD : va_D A (MW m0 m1 m2 m3 cI 0 r (nI n) cl gr lg lf ll la op kd sz al) := hD
  refine lv_iload_n hx hb d_Mo_signature_5 rfl (lv_at hl 1 rfl) ?_
  refine lv_if_lt (tgt := 14) hx hb d_Mo_signature_6 (by decide) (fun c_6 => False.elim (h0 c_6)) (fun c_6 => ?_)
  refine lv_iload_n hx hb d_Mo_signature_9 rfl (lv_at hl 1 rfl) ?_
  refine lv_iconst (v := 3) hx hb d_Mo_signature_10 (by decide) ?_
  refine lv_icmp_le (tgt := 20) hx hb d_Mo_signature_11 (by decide) (fun c_11 => ?_) (fun c_11 => False.elim (c_11 h3))
  refine cf_join 53 ls [] (fun v => v = (if r = 4 then -1 else if r = 0 ∨ r = 3 then 2 else 32)) (fun v_53 e_53 => ?_) (fun J_53 => ?_)
  · refine lv_istore_n (lv' := [(2, .int v_53), (0, .ref m0), (1, .int w)]) hx hb d_Mo_signature_53 rfl hl (by decide) rfl (fun ls hl => ?_)
    refine lv_iload_n hx hb d_Mo_signature_54 rfl (lv_at hl 2 rfl) ?_
    refine lv_if_ne (tgt := 65) hx hb d_Mo_signature_55 (by decide) (fun c_55 => ?_) (fun c_55 => ?_)
    · refine lv_iload_n hx hb d_Mo_signature_65 rfl (lv_at hl 2 rfl) ?_
      refine lv_iconst (v := 1) hx hb d_Mo_signature_66 (by decide) ?_
      refine lv_icmp_ne (tgt := 77) hx hb d_Mo_signature_67 (by decide) (fun c_67 => ?_) (fun c_67 => ?_)
      · refine lv_iload_n hx hb d_Mo_signature_77 rfl (lv_at hl 2 rfl) ?_
        refine lv_iconst (v := 2) hx hb d_Mo_signature_78 (by decide) ?_
        refine lv_icmp_ne (tgt := 86) hx hb d_Mo_signature_79 (by decide) (fun c_79 => ?_) (fun c_79 => ?_)
        · refine lv_aload_n hx hb d_Mo_signature_86 rfl (lv_at hl 1 rfl) ?_
          refine lv_aload_n hx hb d_Mo_signature_87 rfl (lv_at hl 1 rfl) ?_
          refine va_get (ci := 2) hx hb (h_Mo hkk) (fun _ h => h) hown hK hP 0 rfl rfl 2 (by decide) (hkk.use kw_291 rfl) (fun _ h => h) rfl d_Mo_signature_88 ?_
          refine cf_pcV (q0 := 0) (ci := 2) (As := [.int (nI n)]) (rest := []) hx hb hml hown hkk (c_Mo_home l D m0 m1 m2 m3 cI 0 r cl gr lg lf ll la op kd sz al n n hn (Nat.le_refl n) hok hat) ce_Mo_home cv_Mo_home kw_349 hK hP rfl rfl rfl ⟨rfl, rfl⟩ (by decide) rfl hl.1 rfl (Nat.le_of_ble_eq_true rfl) d_Mo_signature_91 ⟨Nat.zero_le _, Nat.zero_le _⟩ ?_
          refine cf_top (y := nI (p_at r kd sz al n)) (by rw [if_neg (Nat.lt_irrefl n)]) ?_
          exact cf_iretI hx hb hr hlocks hP hS (Nat.zero_le _) (Nat.zero_le _) (by unfold p_sig; simp [c_55, c_67, c_79]) d_Mo_signature_94
        · refine lv_iload_n hx hb d_Mo_signature_82 rfl (lv_at hl 0 rfl) ?_
          refine lv_goto (tgt := 94) hx hb d_Mo_signature_83 (by decide) ?_
          exact cf_iretI hx hb hr hlocks hP hS (Nat.zero_le _) (Nat.zero_le _) (by unfold p_sig; simp [c_55, c_67, c_79, e_53]) d_Mo_signature_94
      · refine lv_aload_n hx hb d_Mo_signature_70 rfl (lv_at hl 1 rfl) ?_
        refine va_get (ci := 2) hx hb (h_Mo hkk) (fun _ h => h) hown hK hP 0 rfl rfl 2 (by decide) (hkk.use kw_291 rfl) (fun _ h => h) rfl d_Mo_signature_71 ?_
        refine lv_goto (tgt := 94) hx hb d_Mo_signature_74 (by decide) ?_
        exact cf_iretI hx hb hr hlocks hP hS (Nat.zero_le _) (Nat.zero_le _) (by unfold p_sig; simp [c_55, c_67]) d_Mo_signature_94
    · refine lv_aload_n hx hb d_Mo_signature_58 rfl (lv_at hl 1 rfl) ?_
      refine cf_pcV (q0 := 0) (ci := 2) (As := []) (rest := []) hx hb hml hown hkk (c_Mo_area l D m0 m1 m2 m3 cI 0 r cl gr lg lf ll la op kd sz al n hn hok hat) ce_Mo_area cv_Mo_area kw_389 hK hP rfl rfl rfl ⟨rfl, rfl⟩ (by decide) rfl hl.1 rfl (Nat.le_of_ble_eq_true rfl) d_Mo_signature_59 ⟨Nat.zero_le _, Nat.zero_le _⟩ ?_
      refine lv_goto (tgt := 94) hx hb d_Mo_signature_62 (by decide) ?_
      exact cf_iretI hx hb hr hlocks hP hS (Nat.zero_le _) (Nat.zero_le _) (by unfold p_sig; simp [c_55]) d_Mo_signature_94
  · refine lv_aload_n hx hb d_Mo_signature_20 rfl (lv_at hl 0 rfl) ?_
    refine va_get (ci := 2) hx hb (h_Mo hkk) (fun _ h => h) hown hK hP 0 rfl rfl 1 (by decide) (hkk.use kw_290 rfl) (fun _ h => h) rfl d_Mo_signature_21 ?_
    refine lv_iconst (v := 4) hx hb d_Mo_signature_24 (by decide) ?_
    refine lv_icmp_ne (tgt := 32) hx hb d_Mo_signature_25 (by decide) (fun c_25 => ?_) (fun c_25 => ?_)
    · refine lv_aload_n hx hb d_Mo_signature_32 rfl (lv_at hl 0 rfl) ?_
      refine va_get (ci := 2) hx hb (h_Mo hkk) (fun _ h => h) hown hK hP 0 rfl rfl 1 (by decide) (hkk.use kw_290 rfl) (fun _ h => h) rfl d_Mo_signature_33 ?_
      refine lv_if_eq (tgt := 47) hx hb d_Mo_signature_36 (by decide) (fun c_36 => ?_) (fun c_36 => ?_)
      · refine lv_iconst (v := 2) hx hb d_Mo_signature_47 (by decide) ?_
        refine lv_goto (tgt := 53) hx hb d_Mo_signature_48 (by decide) ?_
        exact J_53 _ (by simp [c_25, c_36])
      · refine lv_aload_n hx hb d_Mo_signature_39 rfl (lv_at hl 0 rfl) ?_
        refine va_get (ci := 2) hx hb (h_Mo hkk) (fun _ h => h) hown hK hP 0 rfl rfl 1 (by decide) (hkk.use kw_290 rfl) (fun _ h => h) rfl d_Mo_signature_40 ?_
        refine lv_iconst (v := 3) hx hb d_Mo_signature_43 (by decide) ?_
        refine lv_icmp_ne (tgt := 51) hx hb d_Mo_signature_44 (by decide) (fun c_44 => ?_) (fun c_44 => ?_)
        · refine lv_bipush (v := 32) hx hb d_Mo_signature_51 (by decide) ?_
          exact J_53 _ (by simp [c_25, c_36, c_44])
        · refine lv_iconst (v := 2) hx hb d_Mo_signature_47 (by decide) ?_
          refine lv_goto (tgt := 53) hx hb d_Mo_signature_48 (by decide) ?_
          exact J_53 _ (by simp [c_25, c_36, c_44])
    · refine lv_iconst (v := (-1)) hx hb d_Mo_signature_28 (by decide) ?_
      refine lv_goto (tgt := 53) hx hb d_Mo_signature_29 (by decide) ?_
      exact J_53 _ (by simp [c_25])
end
section
/-! THE MODEL: call, frame, place, clear (printed by gen/modelK.py) -/
set_option maxHeartbeats 4000000 in
set_option maxRecDepth 100000 in
/-- call() -/
theorem c_Mo_call (l : Launch) (D : va_G) (m0 m1 m2 m3 : Nat) (cI : ClassId) (th r cl lg lf ll la op : Int32) (kd sz al : Nat → Int32) (n g : Nat) (hn : n ≤ 60) (hg : g ≤ 1000000) (hok : ∀ i, i < n → p_ok (kd i) (sz i)) (hat : p_at r kd sz al n ≤ 1000000) (hD0 : va_D (fun _ => True) (MW m0 m1 m2 m3 cI th r (nI n) cl (nI g) lg lf ll la op kd sz al)) : cf_IM l y_Mo_call b_Mo_call 1 (some FieldType.int) ({ frames := 3, cells := 0, slots := 0, locals := 65 }) [.ref m0] D (MW m0 m1 m2 m3 cI th r (nI n) cl (nI g) lg lf ll la op kd sz al) [(cI, .int)] (some (.int (nI (p_mx g (p_area r kd sz al n))))) (MW m0 m1 m2 m3 cI 0 r (nI n) (cl + 1) (nI (p_mx g (p_area r kd sz al n))) lg lf ll la op kd sz al) := by
  refine cf_IM_of (by decide) (Nat.le_of_ble_eq_true rfl) hD0 ?_
  intro p e s m args below meth c A hx hb hr hkk hown hlocks hml hin hP hK hD hS hA hAe ls hl
  have hl : lv_has ls 1 [(0, .ref m0)] := hl
  refine lv_aload_n hx hb d_Mo_call_0 rfl (lv_at hl 0 rfl) ?_
  refine lv_iconst (v := 0) hx hb d_Mo_call_1 (by decide) ?_
  refine va_put (ci := 2) (v := .int 0) (ty := .int) hx hb (h_Mo hkk) (fun _ h => h) t_Mo t_Mo_ok n_Mo hown hK hP hD hS 0 rfl rfl 0 (by decide) (hkk.use kw_289 rfl) (fun _ h => h) rfl (by decide +kernel) rfl rfl (Nat.le_of_ble_eq_true rfl) d_Mo_call_2 (fun H locs hP hD hS => ?_)
  have hP : va_P D cf_cl (MW m0 m1 m2 m3 cI 0 r (nI n) cl (nI g) lg lf ll la op kd sz al) H := hP
  have hD : va_D A (MW m0 m1 m2 m3 cI 0 r (nI n) cl (nI g) lg lf ll la op kd sz al) := hD
  refine lv_aload_n hx hb d_Mo_call_5 rfl (lv_at hl 0 rfl) ?_
  refine lv_dup hx hb d_Mo_call_6 rfl ?_
  refine va_get (ci := 2) hx hb (h_Mo hkk) (fun _ h => h) hown hK hP 0 rfl rfl 3 (by decide) (hkk.use kw_292 rfl) (fun _ h => h) rfl d_Mo_call_7 ?_
  refine lv_iconst (v := 1) hx hb d_Mo_call_10 (by decide) ?_
  refine lv_iadd hx hb d_Mo_call_11 ?_
  refine va_put (ci := 2) (v := .int (cl + 1)) (ty := .int) hx hb (h_Mo hkk) (fun _ h => h) t_Mo t_Mo_ok n_Mo hown hK hP hD hS 0 rfl rfl 3 (by decide) (hkk.use kw_292 rfl) (fun _ h => h) rfl (by decide +kernel) rfl rfl (Nat.le_of_ble_eq_true rfl) d_Mo_call_12 (fun H locs hP hD hS => ?_)
  have hP : va_P D cf_cl (MW m0 m1 m2 m3 cI 0 r (nI n) (cl + 1) (nI g) lg lf ll la op kd sz al) H := hP
  have hD : va_D A (MW m0 m1 m2 m3 cI 0 r (nI n) (cl + 1) (nI g) lg lf ll la op kd sz al) := hD
  refine lv_aload_n hx hb d_Mo_call_15 rfl (lv_at hl 0 rfl) ?_
  refine cf_pcV (q0 := 0) (ci := 2) (As := []) (rest := []) hx hb hml hown hkk (c_Mo_area l D m0 m1 m2 m3 cI 0 r (cl + 1) (nI g) lg lf ll la op kd sz al n hn hok hat) ce_Mo_area cv_Mo_area kw_389 hK hP rfl rfl rfl ⟨rfl, rfl⟩ (by decide) rfl hl.1 rfl (Nat.le_of_ble_eq_true rfl) d_Mo_call_16 ⟨Nat.zero_le _, Nat.zero_le _⟩ ?_
  refine lv_aload_n hx hb d_Mo_call_19 rfl (lv_at hl 0 rfl) ?_
  refine va_get (ci := 2) hx hb (h_Mo hkk) (fun _ h => h) hown hK hP 0 rfl rfl 4 (by decide) (hkk.use kw_293 rfl) (fun _ h => h) rfl d_Mo_call_20 ?_
  refine lv_icmp_le (tgt := 34) hx hb d_Mo_call_23 (by decide) (fun c_23 => ?_) (fun c_23 => ?_)
  · refine lv_aload_n hx hb d_Mo_call_34 rfl (lv_at hl 0 rfl) ?_
    refine va_get (ci := 2) hx hb (h_Mo hkk) (fun _ h => h) hown hK hP 0 rfl rfl 4 (by decide) (hkk.use kw_293 rfl) (fun _ h => h) rfl d_Mo_call_35 ?_
    rw [show p_mx g (p_area r kd sz al n) = g from if_neg (by have : p_area r kd sz al n ≤ 1000000 := p_ar_b hat; have := (nI_leI (by omega) (by omega)).mp c_23; omega)]
    exact cf_iretI hx hb hr hlocks hP hS (Nat.zero_le _) (Nat.zero_le _) (rfl) d_Mo_call_38
  · refine lv_aload_n hx hb d_Mo_call_26 rfl (lv_at hl 0 rfl) ?_
    refine lv_aload_n hx hb d_Mo_call_27 rfl (lv_at hl 0 rfl) ?_
    refine cf_pcV (q0 := 0) (ci := 2) (As := []) (rest := [.ref m0]) hx hb hml hown hkk (c_Mo_area l D m0 m1 m2 m3 cI 0 r (cl + 1) (nI g) lg lf ll la op kd sz al n hn hok hat) ce_Mo_area cv_Mo_area kw_389 hK hP rfl rfl rfl ⟨rfl, rfl⟩ (by decide) rfl hl.1 rfl (Nat.le_of_ble_eq_true rfl) d_Mo_call_28 ⟨Nat.zero_le _, Nat.zero_le _⟩ ?_
    refine va_put (ci := 2) (v := .int (nI (p_area r kd sz al n))) (ty := .int) hx hb (h_Mo hkk) (fun _ h => h) t_Mo t_Mo_ok n_Mo hown hK hP hD hS 0 rfl rfl 4 (by decide) (hkk.use kw_293 rfl) (fun _ h => h) rfl (by decide +kernel) rfl rfl (Nat.le_of_ble_eq_true rfl) d_Mo_call_31 (fun H locs hP hD hS => ?_)
    have hP : va_P D cf_cl (MW m0 m1 m2 m3 cI 0 r (nI n) (cl + 1) (nI (p_area r kd sz al n)) lg lf ll la op kd sz al) H := hP
    have hD : va_D A (MW m0 m1 m2 m3 cI 0 r (nI n) (cl + 1) (nI (p_area r kd sz al n)) lg lf ll la op kd sz al) := hD
    refine lv_aload_n hx hb d_Mo_call_34 rfl (lv_at hl 0 rfl) ?_
    refine va_get (ci := 2) hx hb (h_Mo hkk) (fun _ h => h) hown hK hP 0 rfl rfl 4 (by decide) (hkk.use kw_293 rfl) (fun _ h => h) rfl d_Mo_call_35 ?_
    rw [show p_mx g (p_area r kd sz al n) = (p_area r kd sz al n) from if_pos (Nat.lt_of_not_le (fun h => c_23 (nI_le h (by omega))))]
    exact cf_iretI hx hb hr hlocks hP hS (Nat.zero_le _) (Nat.zero_le _) (rfl) d_Mo_call_38

set_option maxHeartbeats 4000000 in
set_option maxRecDepth 100000 in
/-- frame: refused -/
theorem c_Mo_frame_no (l : Launch) (D : va_G) (m0 m1 m2 m3 : Nat) (cI : ClassId) (th r nn cl gr lg lf ll la op : Int32) (kd sz al : Nat → Int32) (lo gm fm : Int32) (hno : ¬ p_frok lo gm fm) (hD0 : va_D (fun _ => True) (MW m0 m1 m2 m3 cI th r nn cl gr lg lf ll la op kd sz al)) : cf_IM l y_Mo_frame b_Mo_frame 6 (some FieldType.int) ({ frames := 1, cells := 0, slots := 0, locals := 21 }) [.ref m0, .int lo, .int gm, .int fm] D (MW m0 m1 m2 m3 cI th r nn cl gr lg lf ll la op kd sz al) [(cI, .int)] (some (.int 0)) (MW m0 m1 m2 m3 cI 1 r nn cl gr lg lf ll la op kd sz al) := by
  refine cf_IM_of (by decide) (Nat.le_of_ble_eq_true rfl) hD0 ?_
  intro p e s m args below meth c A hx hb hr hkk hown hlocks hml hin hP hK hD hS hA hAe ls hl
  have hl : lv_has ls 6 [(0, .ref m0), (1, .int lo), (2, .int gm), (3, .int fm)] := hl
  refine lv_aload_n hx hb d_Mo_frame_0 rfl (lv_at hl 0 rfl) ?_
  refine lv_iconst (v := 0) hx hb d_Mo_frame_1 (by decide) ?_
  refine va_put (ci := 2) (v := .int 0) (ty := .int) hx hb (h_Mo hkk) (fun _ h => h) t_Mo t_Mo_ok n_Mo hown hK hP hD hS 0 rfl rfl 0 (by decide) (hkk.use kw_289 rfl) (fun _ h => h) rfl (by decide +kernel) rfl rfl (Nat.le_of_ble_eq_true rfl) d_Mo_frame_2 (fun H locs hP hD hS => ?_)
  have hP : va_P D cf_cl (MW m0 m1 m2 m3 cI 0 r nn cl gr lg lf ll la op kd sz al) H := hP
  have hD : va_D A (MW m0 m1 m2 m3 cI 0 r nn cl gr lg lf ll la op kd sz al) := hD
  refine lv_ldc (v := (-1057030144)) hx hb hown (hkk.use kw_401 rfl) d_Mo_frame_5 ?_
  refine lv_istore (lv' := [(4, .int (-1057030144)), (0, .ref m0), (1, .int lo), (2, .int gm), (3, .int fm)]) hx hb d_Mo_frame_7 hl (by decide) rfl (fun ls hl => ?_)
  refine lv_ldc (v := 1431306240) hx hb hown (hkk.use kw_402 rfl) d_Mo_frame_9 ?_
  refine lv_istore (lv' := [(5, .int 1431306240), (4, .int (-1057030144)), (0, .ref m0), (1, .int lo), (2, .int gm), (3, .int fm)]) hx hb d_Mo_frame_11 hl (by decide) rfl (fun ls hl => ?_)
  refine lv_iload_n hx hb d_Mo_frame_13 rfl (lv_at hl 3 rfl) ?_
  refine lv_if_lt (tgt := 41) hx hb d_Mo_frame_14 (by decide) (fun c_14 => ?_) (fun c_14 => ?_)
  · refine lv_aload_n hx hb d_Mo_frame_41 rfl (lv_at hl 2 rfl) ?_
    refine lv_iconst (v := 1) hx hb d_Mo_frame_42 (by decide) ?_
    refine cf_icV (q0 := 0) (ci := 2) (As := [.int 1]) (rest := []) hx hb hml hown hkk (c_Mo_fail l D m0 m1 m2 m3 cI 0 r nn cl gr lg lf ll la op kd sz al 1 (cf_Dt hD rfl)) ce_Mo_fail cv_Mo_fail kw_345 hK hP rfl rfl rfl hS (va_free hD hS hA [0, 1, 2, 3] rfl) (by decide) rfl hl.1 rfl (Nat.le_of_ble_eq_true rfl) d_Mo_frame_43 ⟨Nat.zero_le _, Nat.zero_le _⟩ (fun H locs hP hzI hkI hS => ?_)
    have hP : va_P D cf_cl (MW m0 m1 m2 m3 cI 1 r nn cl gr lg lf ll la op kd sz al) H := hP
    have hD : va_D A (MW m0 m1 m2 m3 cI 1 r nn cl gr lg lf ll la op kd sz al) := cf_Dm hD rfl
    exact cf_iretI hx hb hr hlocks hP hS (Nat.zero_le _) (Nat.zero_le _) (rfl) d_Mo_frame_46
  · refine lv_iload_n hx hb d_Mo_frame_17 rfl (lv_at hl 3 rfl) ?_
    refine lv_ldc (v := 1000000) hx hb hown (hkk.use kw_364 rfl) d_Mo_frame_18 ?_
    refine lv_icmp_gt (tgt := 41) hx hb d_Mo_frame_20 (by decide) (fun c_20 => ?_) (fun c_20 => ?_)
    · refine lv_aload_n hx hb d_Mo_frame_41 rfl (lv_at hl 2 rfl) ?_
      refine lv_iconst (v := 1) hx hb d_Mo_frame_42 (by decide) ?_
      refine cf_icV (q0 := 0) (ci := 2) (As := [.int 1]) (rest := []) hx hb hml hown hkk (c_Mo_fail l D m0 m1 m2 m3 cI 0 r nn cl gr lg lf ll la op kd sz al 1 (cf_Dt hD rfl)) ce_Mo_fail cv_Mo_fail kw_345 hK hP rfl rfl rfl hS (va_free hD hS hA [0, 1, 2, 3] rfl) (by decide) rfl hl.1 rfl (Nat.le_of_ble_eq_true rfl) d_Mo_frame_43 ⟨Nat.zero_le _, Nat.zero_le _⟩ (fun H locs hP hzI hkI hS => ?_)
      have hP : va_P D cf_cl (MW m0 m1 m2 m3 cI 1 r nn cl gr lg lf ll la op kd sz al) H := hP
      have hD : va_D A (MW m0 m1 m2 m3 cI 1 r nn cl gr lg lf ll la op kd sz al) := cf_Dm hD rfl
      exact cf_iretI hx hb hr hlocks hP hS (Nat.zero_le _) (Nat.zero_le _) (rfl) d_Mo_frame_46
    · refine lv_iload_n hx hb d_Mo_frame_23 rfl (lv_at hl 4 rfl) ?_
      refine lv_iload hx hb d_Mo_frame_24 (lv_at hl 1 rfl) ?_
      refine lv_iconst (v := (-1)) hx hb d_Mo_frame_26 (by decide) ?_
      refine lv_ixor hx hb d_Mo_frame_27 ?_
      refine cf_top (y := 1057030143) (by decide) ?_
      refine lv_iand hx hb d_Mo_frame_28 ?_
      refine lv_if_ne (tgt := 41) hx hb d_Mo_frame_29 (by decide) (fun c_29 => ?_) (fun c_29 => ?_)
      · refine lv_aload_n hx hb d_Mo_frame_41 rfl (lv_at hl 2 rfl) ?_
        refine lv_iconst (v := 1) hx hb d_Mo_frame_42 (by decide) ?_
        refine cf_icV (q0 := 0) (ci := 2) (As := [.int 1]) (rest := []) hx hb hml hown hkk (c_Mo_fail l D m0 m1 m2 m3 cI 0 r nn cl gr lg lf ll la op kd sz al 1 (cf_Dt hD rfl)) ce_Mo_fail cv_Mo_fail kw_345 hK hP rfl rfl rfl hS (va_free hD hS hA [0, 1, 2, 3] rfl) (by decide) rfl hl.1 rfl (Nat.le_of_ble_eq_true rfl) d_Mo_frame_43 ⟨Nat.zero_le _, Nat.zero_le _⟩ (fun H locs hP hzI hkI hS => ?_)
        have hP : va_P D cf_cl (MW m0 m1 m2 m3 cI 1 r nn cl gr lg lf ll la op kd sz al) H := hP
        have hD : va_D A (MW m0 m1 m2 m3 cI 1 r nn cl gr lg lf ll la op kd sz al) := cf_Dm hD rfl
        exact cf_iretI hx hb hr hlocks hP hS (Nat.zero_le _) (Nat.zero_le _) (rfl) d_Mo_frame_46
      · refine lv_iload_n hx hb d_Mo_frame_32 rfl (lv_at hl 5 rfl) ?_
        refine lv_iload hx hb d_Mo_frame_33 (lv_at hl 0 rfl) ?_
        refine lv_iconst (v := (-1)) hx hb d_Mo_frame_35 (by decide) ?_
        refine lv_ixor hx hb d_Mo_frame_36 ?_
        refine cf_top (y := (-1431306241)) (by decide) ?_
        refine lv_iand hx hb d_Mo_frame_37 ?_
        refine lv_if_eq (tgt := 47) hx hb d_Mo_frame_38 (by decide) (fun c_38 => False.elim (hno ⟨c_14, c_20, c_29, c_38⟩)) (fun c_38 => ?_)
        refine lv_aload_n hx hb d_Mo_frame_41 rfl (lv_at hl 2 rfl) ?_
        refine lv_iconst (v := 1) hx hb d_Mo_frame_42 (by decide) ?_
        refine cf_icV (q0 := 0) (ci := 2) (As := [.int 1]) (rest := []) hx hb hml hown hkk (c_Mo_fail l D m0 m1 m2 m3 cI 0 r nn cl gr lg lf ll la op kd sz al 1 (cf_Dt hD rfl)) ce_Mo_fail cv_Mo_fail kw_345 hK hP rfl rfl rfl hS (va_free hD hS hA [0, 1, 2, 3] rfl) (by decide) rfl hl.1 rfl (Nat.le_of_ble_eq_true rfl) d_Mo_frame_43 ⟨Nat.zero_le _, Nat.zero_le _⟩ (fun H locs hP hzI hkI hS => ?_)
        have hP : va_P D cf_cl (MW m0 m1 m2 m3 cI 1 r nn cl gr lg lf ll la op kd sz al) H := hP
        have hD : va_D A (MW m0 m1 m2 m3 cI 1 r nn cl gr lg lf ll la op kd sz al) := cf_Dm hD rfl
        exact cf_iretI hx hb hr hlocks hP hS (Nat.zero_le _) (Nat.zero_le _) (rfl) d_Mo_frame_46

set_option maxHeartbeats 4000000 in
set_option maxRecDepth 100000 in
/-- frame(lb, gm, fm) -/
theorem c_Mo_frame_ok (l : Launch) (D : va_G) (m0 m1 m2 m3 : Nat) (cI : ClassId) (th r nn cl lg lf ll la op : Int32) (kd sz al : Nat → Int32) (lb g : Nat) (gm fm : Int32) (hlb : lb ≤ 1000000) (hg : g ≤ 1000000) (hcg : cl ≤ 0 → g = 0) (hgm : gm &&& 1057030143 = 0) (hfm : fm &&& (-1431306241) = 0) (hD0 : va_D (fun _ => True) (MW m0 m1 m2 m3 cI th r nn cl (nI g) lg lf ll la op kd sz al)) : cf_IM l y_Mo_frame b_Mo_frame 6 (some FieldType.int) ({ frames := 3, cells := 0, slots := 0, locals := 61 }) [.ref m0, .int (nI lb), .int gm, .int fm] D (MW m0 m1 m2 m3 cI th r nn cl (nI g) lg lf ll la op kd sz al) [(cI, .int)] (some (.int (nI (p_fr g lb (p_lg cl gm) fm)))) (MW m0 m1 m2 m3 cI 0 r nn cl (nI g) (p_lg cl gm) fm (nI lb) (nI g) op kd sz al) := by
  refine cf_IM_of (by decide) (Nat.le_of_ble_eq_true rfl) hD0 ?_
  intro p e s m args below meth c A hx hb hr hkk hown hlocks hml hin hP hK hD hS hA hAe ls hl
  have hl : lv_has ls 6 [(0, .ref m0), (1, .int (nI lb)), (2, .int gm), (3, .int fm)] := hl
  refine lv_aload_n hx hb d_Mo_frame_0 rfl (lv_at hl 0 rfl) ?_
  refine lv_iconst (v := 0) hx hb d_Mo_frame_1 (by decide) ?_
  refine va_put (ci := 2) (v := .int 0) (ty := .int) hx hb (h_Mo hkk) (fun _ h => h) t_Mo t_Mo_ok n_Mo hown hK hP hD hS 0 rfl rfl 0 (by decide) (hkk.use kw_289 rfl) (fun _ h => h) rfl (by decide +kernel) rfl rfl (Nat.le_of_ble_eq_true rfl) d_Mo_frame_2 (fun H locs hP hD hS => ?_)
  have hP : va_P D cf_cl (MW m0 m1 m2 m3 cI 0 r nn cl (nI g) lg lf ll la op kd sz al) H := hP
  have hD : va_D A (MW m0 m1 m2 m3 cI 0 r nn cl (nI g) lg lf ll la op kd sz al) := hD
  refine lv_ldc (v := (-1057030144)) hx hb hown (hkk.use kw_401 rfl) d_Mo_frame_5 ?_
  refine lv_istore (lv' := [(4, .int (-1057030144)), (0, .ref m0), (1, .int (nI lb)), (2, .int gm), (3, .int fm)]) hx hb d_Mo_frame_7 hl (by decide) rfl (fun ls hl => ?_)
  refine lv_ldc (v := 1431306240) hx hb hown (hkk.use kw_402 rfl) d_Mo_frame_9 ?_
  refine lv_istore (lv' := [(5, .int 1431306240), (4, .int (-1057030144)), (0, .ref m0), (1, .int (nI lb)), (2, .int gm), (3, .int fm)]) hx hb d_Mo_frame_11 hl (by decide) rfl (fun ls hl => ?_)
  refine lv_iload_n hx hb d_Mo_frame_13 rfl (lv_at hl 3 rfl) ?_
  refine lv_if_lt (tgt := 41) hx hb d_Mo_frame_14 (by decide) (fun c_14 => False.elim (nI_pos (by omega) c_14)) (fun c_14 => ?_)
  refine lv_iload_n hx hb d_Mo_frame_17 rfl (lv_at hl 3 rfl) ?_
  refine lv_ldc (v := 1000000) hx hb hown (hkk.use kw_364 rfl) d_Mo_frame_18 ?_
  refine lv_icmp_gt (tgt := 41) hx hb d_Mo_frame_20 (by decide) (fun c_20 => False.elim (absurd ((nI_ltI (a := 1000000) (by omega) (by omega)).mp c_20) (by omega))) (fun c_20 => ?_)
  refine lv_iload_n hx hb d_Mo_frame_23 rfl (lv_at hl 4 rfl) ?_
  refine lv_iload hx hb d_Mo_frame_24 (lv_at hl 1 rfl) ?_
  refine lv_iconst (v := (-1)) hx hb d_Mo_frame_26 (by decide) ?_
  refine lv_ixor hx hb d_Mo_frame_27 ?_
  refine cf_top (y := 1057030143) (by decide) ?_
  refine lv_iand hx hb d_Mo_frame_28 ?_
  refine lv_if_ne (tgt := 41) hx hb d_Mo_frame_29 (by decide) (fun c_29 => False.elim (c_29 hgm)) (fun c_29 => ?_)
  refine lv_iload_n hx hb d_Mo_frame_32 rfl (lv_at hl 5 rfl) ?_
  refine lv_iload hx hb d_Mo_frame_33 (lv_at hl 0 rfl) ?_
  refine lv_iconst (v := (-1)) hx hb d_Mo_frame_35 (by decide) ?_
  refine lv_ixor hx hb d_Mo_frame_36 ?_
  refine cf_top (y := (-1431306241)) (by decide) ?_
  refine lv_iand hx hb d_Mo_frame_37 ?_
  refine lv_if_eq (tgt := 47) hx hb d_Mo_frame_38 (by decide) (fun c_38 => ?_) (fun c_38 => False.elim (c_38 hfm))
  refine lv_aload_n hx hb d_Mo_frame_47 rfl (lv_at hl 2 rfl) ?_
  refine cf_join 63 ls [.ref m0] (fun v => v = nI g) (fun v_63 e_63 => ?_) (fun J_63 => ?_)
  · subst e_63
    refine va_put (ci := 2) (v := .int (nI g)) (ty := .int) hx hb (h_Mo hkk) (fun _ h => h) t_Mo t_Mo_ok n_Mo hown hK hP hD hS 0 rfl rfl 8 (by decide) (hkk.use kw_297 rfl) (fun _ h => h) rfl (by decide +kernel) rfl rfl (Nat.le_of_ble_eq_true rfl) d_Mo_frame_63 (fun H locs hP hD hS => ?_)
    have hP : va_P D cf_cl (MW m0 m1 m2 m3 cI 0 r nn cl (nI g) lg lf ll (nI g) op kd sz al) H := hP
    have hD : va_D A (MW m0 m1 m2 m3 cI 0 r nn cl (nI g) lg lf ll (nI g) op kd sz al) := hD
    refine lv_aload_n hx hb d_Mo_frame_66 rfl (lv_at hl 2 rfl) ?_
    refine lv_iload_n hx hb d_Mo_frame_67 rfl (lv_at hl 3 rfl) ?_
    refine va_put (ci := 2) (v := .int (nI lb)) (ty := .int) hx hb (h_Mo hkk) (fun _ h => h) t_Mo t_Mo_ok n_Mo hown hK hP hD hS 0 rfl rfl 7 (by decide) (hkk.use kw_296 rfl) (fun _ h => h) rfl (by decide +kernel) rfl rfl (Nat.le_of_ble_eq_true rfl) d_Mo_frame_68 (fun H locs hP hD hS => ?_)
    have hP : va_P D cf_cl (MW m0 m1 m2 m3 cI 0 r nn cl (nI g) lg lf (nI lb) (nI g) op kd sz al) H := hP
    have hD : va_D A (MW m0 m1 m2 m3 cI 0 r nn cl (nI g) lg lf (nI lb) (nI g) op kd sz al) := hD
    refine lv_aload_n hx hb d_Mo_frame_71 rfl (lv_at hl 2 rfl) ?_
    refine cf_join 87 ls [.ref m0] (fun v => v = p_lg cl gm) (fun v_87 e_87 => ?_) (fun J_87 => ?_)
    · subst e_87
      refine va_put (ci := 2) (v := .int (p_lg cl gm)) (ty := .int) hx hb (h_Mo hkk) (fun _ h => h) t_Mo t_Mo_ok n_Mo hown hK hP hD hS 0 rfl rfl 5 (by decide) (hkk.use kw_294 rfl) (fun _ h => h) rfl (by decide +kernel) rfl rfl (Nat.le_of_ble_eq_true rfl) d_Mo_frame_87 (fun H locs hP hD hS => ?_)
      have hP : va_P D cf_cl (MW m0 m1 m2 m3 cI 0 r nn cl (nI g) (p_lg cl gm) lf (nI lb) (nI g) op kd sz al) H := hP
      have hD : va_D A (MW m0 m1 m2 m3 cI 0 r nn cl (nI g) (p_lg cl gm) lf (nI lb) (nI g) op kd sz al) := hD
      refine lv_aload_n hx hb d_Mo_frame_90 rfl (lv_at hl 2 rfl) ?_
      refine lv_iload_n hx hb d_Mo_frame_91 rfl (lv_at hl 5 rfl) ?_
      refine va_put (ci := 2) (v := .int fm) (ty := .int) hx hb (h_Mo hkk) (fun _ h => h) t_Mo t_Mo_ok n_Mo hown hK hP hD hS 0 rfl rfl 6 (by decide) (hkk.use kw_295 rfl) (fun _ h => h) rfl (by decide +kernel) rfl rfl (Nat.le_of_ble_eq_true rfl) d_Mo_frame_92 (fun H locs hP hD hS => ?_)
      have hP : va_P D cf_cl (MW m0 m1 m2 m3 cI 0 r nn cl (nI g) (p_lg cl gm) fm (nI lb) (nI g) op kd sz al) H := hP
      have hD : va_D A (MW m0 m1 m2 m3 cI 0 r nn cl (nI g) (p_lg cl gm) fm (nI lb) (nI g) op kd sz al) := hD
      refine lv_aload_n hx hb d_Mo_frame_95 rfl (lv_at hl 2 rfl) ?_
      refine cf_pcV (q0 := 0) (ci := 2) (As := []) (rest := []) hx hb hml hown hkk (c_Mo_generalAt l D m0 m1 m2 m3 cI 0 r nn cl (nI g) (p_lg cl gm) fm op kd sz al lb g hlb hg) ce_Mo_generalAt cv_Mo_generalAt kw_404 hK hP rfl rfl rfl ⟨rfl, rfl⟩ (by decide) rfl hl.1 rfl (Nat.le_of_ble_eq_true rfl) d_Mo_frame_96 ⟨Nat.zero_le _, Nat.zero_le _⟩ ?_
      refine cf_top (y := nI (p_ga g lb fm)) (rfl) ?_
      refine lv_aload_n hx hb d_Mo_frame_99 rfl (lv_at hl 2 rfl) ?_
      refine va_get (ci := 2) hx hb (h_Mo hkk) (fun _ h => h) hown hK hP 0 rfl rfl 5 (by decide) (hkk.use kw_294 rfl) (fun _ h => h) rfl d_Mo_frame_100 ?_
      refine lv_bipush (v := 32) hx hb d_Mo_frame_103 (by decide) ?_
      refine lv_iconst (v := 4) hx hb d_Mo_frame_105 (by decide) ?_
      refine cf_pcS (As := [.int (p_lg cl gm), .int 32, .int 4]) (rest := [.int (nI (p_ga g lb fm))]) hx hb hml hown hkk (c_Mo_saved l D (p_lg cl gm) 32 4 (by omega)) ce_Mo_saved cs_Mo_saved kw_412 (cf_K0 hK) cf_P0 ⟨rfl, rfl⟩ (by decide) rfl hl.1 rfl (Nat.le_of_ble_eq_true rfl) d_Mo_frame_106 ⟨Nat.zero_le _, Nat.zero_le _⟩ ?_
      refine lv_iadd hx hb d_Mo_frame_109 ?_
      refine cf_top (y := nI (p_ga g lb fm + 4 * p_c (p_lg cl gm) 32)) (nI_add _ _) ?_
      refine lv_bipush (v := 8) hx hb d_Mo_frame_110 (by decide) ?_
      refine cf_pcS (As := [.int (nI (p_ga g lb fm + 4 * p_c (p_lg cl gm) 32)), .int 8]) (rest := []) hx hb hml hown hkk (c_Mo_filled l D (nI (p_ga g lb fm + 4 * p_c (p_lg cl gm) 32)) 8 (by decide)) ce_Mo_filled cs_Mo_filled kw_357 (cf_K0 hK) cf_P0 ⟨rfl, rfl⟩ (by decide) rfl hl.1 rfl (Nat.le_of_ble_eq_true rfl) d_Mo_frame_112 ⟨Nat.zero_le _, Nat.zero_le _⟩ ?_
      refine cf_top (y := nI (p_fr g lb (p_lg cl gm) fm)) (p_fi8 (by have := p_ga_b fm hg hlb; have := p_c_le (p_lg cl gm) 32; omega)) ?_
      exact cf_iretI hx hb hr hlocks hP hS (Nat.zero_le _) (Nat.zero_le _) (rfl) d_Mo_frame_115
    · refine lv_aload_n hx hb d_Mo_frame_72 rfl (lv_at hl 2 rfl) ?_
      refine va_get (ci := 2) hx hb (h_Mo hkk) (fun _ h => h) hown hK hP 0 rfl rfl 3 (by decide) (hkk.use kw_292 rfl) (fun _ h => h) rfl d_Mo_frame_73 ?_
      refine lv_if_le (tgt := 86) hx hb d_Mo_frame_76 (by decide) (fun c_76 => ?_) (fun c_76 => ?_)
      · refine lv_iload_n hx hb d_Mo_frame_86 rfl (lv_at hl 4 rfl) ?_
        exact J_87 _ (by unfold p_lg; rw [if_pos c_76])
      · refine lv_iload_n hx hb d_Mo_frame_79 rfl (lv_at hl 4 rfl) ?_
        refine lv_ldc (v := (-2147483648)) hx hb hown (hkk.use kw_403 rfl) d_Mo_frame_80 ?_
        refine lv_ior hx hb d_Mo_frame_82 ?_
        refine lv_goto (tgt := 87) hx hb d_Mo_frame_83 (by decide) ?_
        exact J_87 _ (by unfold p_lg; rw [if_neg c_76])
  · refine lv_aload_n hx hb d_Mo_frame_48 rfl (lv_at hl 2 rfl) ?_
    refine va_get (ci := 2) hx hb (h_Mo hkk) (fun _ h => h) hown hK hP 0 rfl rfl 3 (by decide) (hkk.use kw_292 rfl) (fun _ h => h) rfl d_Mo_frame_49 ?_
    refine lv_if_le (tgt := 62) hx hb d_Mo_frame_52 (by decide) (fun c_52 => ?_) (fun c_52 => ?_)
    · refine lv_iconst (v := 0) hx hb d_Mo_frame_62 (by decide) ?_
      exact J_63 _ (by rw [hcg c_52]; rfl)
    · refine lv_aload_n hx hb d_Mo_frame_55 rfl (lv_at hl 2 rfl) ?_
      refine va_get (ci := 2) hx hb (h_Mo hkk) (fun _ h => h) hown hK hP 0 rfl rfl 4 (by decide) (hkk.use kw_293 rfl) (fun _ h => h) rfl d_Mo_frame_56 ?_
      refine lv_goto (tgt := 63) hx hb d_Mo_frame_59 (by decide) ?_
      exact J_63 _ (rfl)

set_option maxHeartbeats 4000000 in
set_option maxRecDepth 100000 in
/-- place: refused -/
theorem c_Mo_place_no (l : Launch) (D : va_G) (m0 m1 m2 m3 : Nat) (cI : ClassId) (th r nn cl gr lg lf ll la op : Int32) (kd sz al : Nat → Int32) (w x : Int32) (hno : w < 0 ∨ 2 < w ∨ x < 0 ∨ ¬ x ≤ 31) (hD0 : va_D (fun _ => True) (MW m0 m1 m2 m3 cI th r nn cl gr lg lf ll la op kd sz al)) : cf_IM l y_Mo_place b_Mo_place 4 (some FieldType.int) ({ frames := 1, cells := 0, slots := 0, locals := 21 }) [.ref m0, .int w, .int x] D (MW m0 m1 m2 m3 cI th r nn cl gr lg lf ll la op kd sz al) [(cI, .int)] (some (.int 0)) (MW m0 m1 m2 m3 cI 1 r nn cl gr lg lf ll la op kd sz al) := by
  refine cf_IM_of (by decide) (Nat.le_of_ble_eq_true rfl) hD0 ?_
  intro p e s m args below meth c A hx hb hr hkk hown hlocks hml hin hP hK hD hS hA hAe ls hl
  have hl : lv_has ls 4 [(0, .ref m0), (1, .int w), (2, .int x)] := hl
  refine lv_aload_n hx hb d_Mo_place_0 rfl (lv_at hl 0 rfl) ?_
  refine lv_iconst (v := 0) hx hb d_Mo_place_1 (by decide) ?_
  refine va_put (ci := 2) (v := .int 0) (ty := .int) hx hb (h_Mo hkk) (fun _ h => h) t_Mo t_Mo_ok n_Mo hown hK hP hD hS 0 rfl rfl 0 (by decide) (hkk.use kw_289 rfl) (fun _ h => h) rfl (by decide +kernel) rfl rfl (Nat.le_of_ble_eq_true rfl) d_Mo_place_2 (fun H locs hP hD hS => ?_)
  have hP : va_P D cf_cl (MW m0 m1 m2 m3 cI 0 r nn cl gr lg lf ll la op kd sz al) H := hP
  have hD : va_D A (MW m0 m1 m2 m3 cI 0 r nn cl gr lg lf ll la op kd sz al) := hD
  refine lv_iload_n hx hb d_Mo_place_5 rfl (lv_at hl 1 rfl) ?_
  refine lv_if_lt (tgt := 24) hx hb d_Mo_place_6 (by decide) (fun c_6 => ?_) (fun c_6 => ?_)
  · refine lv_aload_n hx hb d_Mo_place_24 rfl (lv_at hl 0 rfl) ?_
    refine lv_iconst (v := 1) hx hb d_Mo_place_25 (by decide) ?_
    refine cf_icV (q0 := 0) (ci := 2) (As := [.int 1]) (rest := []) hx hb hml hown hkk (c_Mo_fail l D m0 m1 m2 m3 cI 0 r nn cl gr lg lf ll la op kd sz al 1 (cf_Dt hD rfl)) ce_Mo_fail cv_Mo_fail kw_345 hK hP rfl rfl rfl hS (va_free hD hS hA [0, 1, 2, 3] rfl) (by decide) rfl hl.1 rfl (Nat.le_of_ble_eq_true rfl) d_Mo_place_26 ⟨Nat.zero_le _, Nat.zero_le _⟩ (fun H locs hP hzI hkI hS => ?_)
    have hP : va_P D cf_cl (MW m0 m1 m2 m3 cI 1 r nn cl gr lg lf ll la op kd sz al) H := hP
    have hD : va_D A (MW m0 m1 m2 m3 cI 1 r nn cl gr lg lf ll la op kd sz al) := cf_Dm hD rfl
    exact cf_iretI hx hb hr hlocks hP hS (Nat.zero_le _) (Nat.zero_le _) (rfl) d_Mo_place_29
  · refine lv_iload_n hx hb d_Mo_place_9 rfl (lv_at hl 1 rfl) ?_
    refine lv_iconst (v := 2) hx hb d_Mo_place_10 (by decide) ?_
    refine lv_icmp_gt (tgt := 24) hx hb d_Mo_place_11 (by decide) (fun c_11 => ?_) (fun c_11 => ?_)
    · refine lv_aload_n hx hb d_Mo_place_24 rfl (lv_at hl 0 rfl) ?_
      refine lv_iconst (v := 1) hx hb d_Mo_place_25 (by decide) ?_
      refine cf_icV (q0 := 0) (ci := 2) (As := [.int 1]) (rest := []) hx hb hml hown hkk (c_Mo_fail l D m0 m1 m2 m3 cI 0 r nn cl gr lg lf ll la op kd sz al 1 (cf_Dt hD rfl)) ce_Mo_fail cv_Mo_fail kw_345 hK hP rfl rfl rfl hS (va_free hD hS hA [0, 1, 2, 3] rfl) (by decide) rfl hl.1 rfl (Nat.le_of_ble_eq_true rfl) d_Mo_place_26 ⟨Nat.zero_le _, Nat.zero_le _⟩ (fun H locs hP hzI hkI hS => ?_)
      have hP : va_P D cf_cl (MW m0 m1 m2 m3 cI 1 r nn cl gr lg lf ll la op kd sz al) H := hP
      have hD : va_D A (MW m0 m1 m2 m3 cI 1 r nn cl gr lg lf ll la op kd sz al) := cf_Dm hD rfl
      exact cf_iretI hx hb hr hlocks hP hS (Nat.zero_le _) (Nat.zero_le _) (rfl) d_Mo_place_29
    · refine lv_iload_n hx hb d_Mo_place_14 rfl (lv_at hl 2 rfl) ?_
      refine lv_if_lt (tgt := 24) hx hb d_Mo_place_15 (by decide) (fun c_15 => ?_) (fun c_15 => ?_)
      · refine lv_aload_n hx hb d_Mo_place_24 rfl (lv_at hl 0 rfl) ?_
        refine lv_iconst (v := 1) hx hb d_Mo_place_25 (by decide) ?_
        refine cf_icV (q0 := 0) (ci := 2) (As := [.int 1]) (rest := []) hx hb hml hown hkk (c_Mo_fail l D m0 m1 m2 m3 cI 0 r nn cl gr lg lf ll la op kd sz al 1 (cf_Dt hD rfl)) ce_Mo_fail cv_Mo_fail kw_345 hK hP rfl rfl rfl hS (va_free hD hS hA [0, 1, 2, 3] rfl) (by decide) rfl hl.1 rfl (Nat.le_of_ble_eq_true rfl) d_Mo_place_26 ⟨Nat.zero_le _, Nat.zero_le _⟩ (fun H locs hP hzI hkI hS => ?_)
        have hP : va_P D cf_cl (MW m0 m1 m2 m3 cI 1 r nn cl gr lg lf ll la op kd sz al) H := hP
        have hD : va_D A (MW m0 m1 m2 m3 cI 1 r nn cl gr lg lf ll la op kd sz al) := cf_Dm hD rfl
        exact cf_iretI hx hb hr hlocks hP hS (Nat.zero_le _) (Nat.zero_le _) (rfl) d_Mo_place_29
      · refine lv_iload_n hx hb d_Mo_place_18 rfl (lv_at hl 2 rfl) ?_
        refine lv_bipush (v := 31) hx hb d_Mo_place_19 (by decide) ?_
        refine lv_icmp_le (tgt := 30) hx hb d_Mo_place_21 (by decide) (fun c_21 => False.elim (hno.elim c_6 (fun h => h.elim c_11 (fun h => h.elim c_15 (fun h => h c_21))))) (fun c_21 => ?_)
        refine lv_aload_n hx hb d_Mo_place_24 rfl (lv_at hl 0 rfl) ?_
        refine lv_iconst (v := 1) hx hb d_Mo_place_25 (by decide) ?_
        refine cf_icV (q0 := 0) (ci := 2) (As := [.int 1]) (rest := []) hx hb hml hown hkk (c_Mo_fail l D m0 m1 m2 m3 cI 0 r nn cl gr lg lf ll la op kd sz al 1 (cf_Dt hD rfl)) ce_Mo_fail cv_Mo_fail kw_345 hK hP rfl rfl rfl hS (va_free hD hS hA [0, 1, 2, 3] rfl) (by decide) rfl hl.1 rfl (Nat.le_of_ble_eq_true rfl) d_Mo_place_26 ⟨Nat.zero_le _, Nat.zero_le _⟩ (fun H locs hP hzI hkI hS => ?_)
        have hP : va_P D cf_cl (MW m0 m1 m2 m3 cI 1 r nn cl gr lg lf ll la op kd sz al) H := hP
        have hD : va_D A (MW m0 m1 m2 m3 cI 1 r nn cl gr lg lf ll la op kd sz al) := cf_Dm hD rfl
        exact cf_iretI hx hb hr hlocks hP hS (Nat.zero_le _) (Nat.zero_le _) (rfl) d_Mo_place_29

set_option maxHeartbeats 4000000 in
set_option maxRecDepth 100000 in
/-- place(w, k) -/
theorem c_Mo_place_ok (l : Launch) (D : va_G) (m0 m1 m2 m3 : Nat) (cI : ClassId) (th r nn cl gr lg lf op : Int32) (kd sz al : Nat → Int32) (w : Int32) (k lb lc : Nat) (hk : k < 32) (hlb : lb ≤ 1000000) (hlc : lc ≤ 1000000) (h0 : ¬ w < 0) (h2 : ¬ 2 < w) (hD0 : va_D (fun _ => True) (MW m0 m1 m2 m3 cI th r nn cl gr lg lf (nI lb) (nI lc) op kd sz al)) : cf_IM l y_Mo_place b_Mo_place 4 (some FieldType.int) ({ frames := 3, cells := 0, slots := 0, locals := 61 }) [.ref m0, .int w, .int (nI k)] D (MW m0 m1 m2 m3 cI th r nn cl gr lg lf (nI lb) (nI lc) op kd sz al) [(cI, .int)] (some (.int (p_pl lc lb lg lf w k))) (MW m0 m1 m2 m3 cI 0 r nn cl gr lg lf (nI lb) (nI lc) op kd sz al) := by
  refine cf_IM_of (by decide) (Nat.le_of_ble_eq_true rfl) hD0 ?_
  intro p e s m args below meth c A hx hb hr hkk hown hlocks hml hin hP hK hD hS hA hAe ls hl
  have hl : lv_has ls 4 [(0, .ref m0), (1, .int w), (2, .int (nI k))] := hl
  refine lv_aload_n hx hb d_Mo_place_0 rfl (lv_at hl 0 rfl) ?_
  refine lv_iconst (v := 0) hx hb d_Mo_place_1 (by decide) ?_
  refine va_put (ci := 2) (v := .int 0) (ty := .int) hx hb (h_Mo hkk) (fun _ h => h) t_Mo t_Mo_ok n_Mo hown hK hP hD hS 0 rfl rfl 0 (by decide) (hkk.use kw_289 rfl) (fun _ h => h) rfl (by decide +kernel) rfl rfl (Nat.le_of_ble_eq_true rfl) d_Mo_place_2 (fun H locs hP hD hS => ?_)
  have hP : va_P D cf_cl (MW m0 m1 m2 m3 cI 0 r nn cl gr lg lf (nI lb) (nI lc) op kd sz al) H := hP
  have hD : va_D A (MW m0 m1 m2 m3 cI 0 r nn cl gr lg lf (nI lb) (nI lc) op kd sz al) := hD
  refine lv_iload_n hx hb d_Mo_place_5 rfl (lv_at hl 1 rfl) ?_
  refine lv_if_lt (tgt := 24) hx hb d_Mo_place_6 (by decide) (fun c_6 => False.elim (h0 c_6)) (fun c_6 => ?_)
  refine lv_iload_n hx hb d_Mo_place_9 rfl (lv_at hl 1 rfl) ?_
  refine lv_iconst (v := 2) hx hb d_Mo_place_10 (by decide) ?_
  refine lv_icmp_gt (tgt := 24) hx hb d_Mo_place_11 (by decide) (fun c_11 => False.elim (h2 c_11)) (fun c_11 => ?_)
  refine lv_iload_n hx hb d_Mo_place_14 rfl (lv_at hl 2 rfl) ?_
  refine lv_if_lt (tgt := 24) hx hb d_Mo_place_15 (by decide) (fun c_15 => False.elim (nI_pos (by omega) c_15)) (fun c_15 => ?_)
  refine lv_iload_n hx hb d_Mo_place_18 rfl (lv_at hl 2 rfl) ?_
  refine lv_bipush (v := 31) hx hb d_Mo_place_19 (by decide) ?_
  refine lv_icmp_le (tgt := 30) hx hb d_Mo_place_21 (by decide) (fun c_21 => ?_) (fun c_21 => False.elim (c_21 (nI_le (b := 31) (by omega) (by omega))))
  refine lv_iload_n hx hb d_Mo_place_30 rfl (lv_at hl 1 rfl) ?_
  refine lv_if_ne (tgt := 39) hx hb d_Mo_place_31 (by decide) (fun c_31 => ?_) (fun c_31 => ?_)
  · refine lv_iload_n hx hb d_Mo_place_39 rfl (lv_at hl 1 rfl) ?_
    refine lv_iconst (v := 1) hx hb d_Mo_place_40 (by decide) ?_
    refine lv_icmp_ne (tgt := 51) hx hb d_Mo_place_41 (by decide) (fun c_41 => ?_) (fun c_41 => ?_)
    · refine lv_aload_n hx hb d_Mo_place_51 rfl (lv_at hl 0 rfl) ?_
      refine va_get (ci := 2) hx hb (h_Mo hkk) (fun _ h => h) hown hK hP 0 rfl rfl 6 (by decide) (hkk.use kw_295 rfl) (fun _ h => h) rfl d_Mo_place_52 ?_
      refine lv_istore_n (lv' := [(3, .int lf), (0, .ref m0), (1, .int w), (2, .int (nI k))]) hx hb d_Mo_place_55 rfl hl (by decide) rfl (fun ls hl => ?_)
      refine lv_iload_n hx hb d_Mo_place_56 rfl (lv_at hl 0 rfl) ?_
      refine lv_iload_n hx hb d_Mo_place_57 rfl (lv_at hl 3 rfl) ?_
      refine lv_ishr hx hb d_Mo_place_58 ?_
      refine lv_iconst (v := 1) hx hb d_Mo_place_59 (by decide) ?_
      refine lv_iand hx hb d_Mo_place_60 ?_
      refine lv_if_ne (tgt := 66) hx hb d_Mo_place_61 (by decide) (fun c_61 => ?_) (fun c_61 => ?_)
      · refine lv_iload_n hx hb d_Mo_place_66 rfl (lv_at hl 2 rfl) ?_
        refine lv_iconst (v := 1) hx hb d_Mo_place_67 (by decide) ?_
        refine lv_icmp_ne (tgt := 85) hx hb d_Mo_place_68 (by decide) (fun c_68 => ?_) (fun c_68 => False.elim (c_41 c_68))
        refine lv_aload_n hx hb d_Mo_place_85 rfl (lv_at hl 1 rfl) ?_
        refine cf_pcV (q0 := 0) (ci := 2) (As := []) (rest := []) hx hb hml hown hkk (c_Mo_fractionsAt l D m0 m1 m2 m3 cI 0 r nn cl gr lg lf op kd sz al lb lc hlb hlc) ce_Mo_fractionsAt cv_Mo_fractionsAt kw_408 hK hP rfl rfl rfl ⟨rfl, rfl⟩ (by decide) rfl hl.1 rfl (Nat.le_of_ble_eq_true rfl) d_Mo_place_86 ⟨Nat.zero_le _, Nat.zero_le _⟩ ?_
        refine lv_iload_n hx hb d_Mo_place_89 rfl (lv_at hl 0 rfl) ?_
        refine lv_iload_n hx hb d_Mo_place_90 rfl (lv_at hl 3 rfl) ?_
        refine lv_bipush (v := 8) hx hb d_Mo_place_91 (by decide) ?_
        refine cf_pcS (As := [.int lf, .int (nI k), .int 8]) (rest := [.int (nI (p_u (lc + lb) 8))]) hx hb hml hown hkk (c_Mo_saved l D lf k 8 (by omega)) ce_Mo_saved cs_Mo_saved kw_412 (cf_K0 hK) cf_P0 ⟨rfl, rfl⟩ (by decide) rfl hl.1 rfl (Nat.le_of_ble_eq_true rfl) d_Mo_place_93 ⟨Nat.zero_le _, Nat.zero_le _⟩ ?_
        refine lv_iadd hx hb d_Mo_place_96 ?_
        refine cf_top (y := nI (p_u (lc + lb) 8 + 8 * p_c lf k)) (nI_add _ _) ?_
        exact cf_iretI hx hb hr hlocks hP hS (Nat.zero_le _) (Nat.zero_le _) (by unfold p_pl; rw [if_neg c_31, if_neg c_41]; unfold p_pf; rw [if_neg c_61]) d_Mo_place_97
      · refine lv_iconst (v := (-1)) hx hb d_Mo_place_64 (by decide) ?_
        exact cf_iretI hx hb hr hlocks hP hS (Nat.zero_le _) (Nat.zero_le _) (by unfold p_pl; rw [if_neg c_31, if_neg c_41]; unfold p_pf; rw [if_pos c_61]) d_Mo_place_65
    · refine lv_aload_n hx hb d_Mo_place_44 rfl (lv_at hl 0 rfl) ?_
      refine va_get (ci := 2) hx hb (h_Mo hkk) (fun _ h => h) hown hK hP 0 rfl rfl 5 (by decide) (hkk.use kw_294 rfl) (fun _ h => h) rfl d_Mo_place_45 ?_
      refine lv_goto (tgt := 55) hx hb d_Mo_place_48 (by decide) ?_
      refine lv_istore_n (lv' := [(3, .int lg), (0, .ref m0), (1, .int w), (2, .int (nI k))]) hx hb d_Mo_place_55 rfl hl (by decide) rfl (fun ls hl => ?_)
      refine lv_iload_n hx hb d_Mo_place_56 rfl (lv_at hl 0 rfl) ?_
      refine lv_iload_n hx hb d_Mo_place_57 rfl (lv_at hl 3 rfl) ?_
      refine lv_ishr hx hb d_Mo_place_58 ?_
      refine lv_iconst (v := 1) hx hb d_Mo_place_59 (by decide) ?_
      refine lv_iand hx hb d_Mo_place_60 ?_
      refine lv_if_ne (tgt := 66) hx hb d_Mo_place_61 (by decide) (fun c_61 => ?_) (fun c_61 => ?_)
      · refine lv_iload_n hx hb d_Mo_place_66 rfl (lv_at hl 2 rfl) ?_
        refine lv_iconst (v := 1) hx hb d_Mo_place_67 (by decide) ?_
        refine lv_icmp_ne (tgt := 85) hx hb d_Mo_place_68 (by decide) (fun c_68 => False.elim (c_68 c_41)) (fun c_68 => ?_)
        refine lv_aload_n hx hb d_Mo_place_71 rfl (lv_at hl 1 rfl) ?_
        refine cf_pcV (q0 := 0) (ci := 2) (As := []) (rest := []) hx hb hml hown hkk (c_Mo_generalAt l D m0 m1 m2 m3 cI 0 r nn cl gr lg lf op kd sz al lb lc hlb hlc) ce_Mo_generalAt cv_Mo_generalAt kw_404 hK hP rfl rfl rfl ⟨rfl, rfl⟩ (by decide) rfl hl.1 rfl (Nat.le_of_ble_eq_true rfl) d_Mo_place_72 ⟨Nat.zero_le _, Nat.zero_le _⟩ ?_
        refine cf_top (y := nI (p_ga lc lb lf)) (rfl) ?_
        refine lv_iload_n hx hb d_Mo_place_75 rfl (lv_at hl 0 rfl) ?_
        refine lv_iload_n hx hb d_Mo_place_76 rfl (lv_at hl 3 rfl) ?_
        refine lv_iconst (v := 4) hx hb d_Mo_place_77 (by decide) ?_
        refine cf_pcS (As := [.int lg, .int (nI k), .int 4]) (rest := [.int (nI (p_ga lc lb lf))]) hx hb hml hown hkk (c_Mo_saved l D lg k 4 (by omega)) ce_Mo_saved cs_Mo_saved kw_412 (cf_K0 hK) cf_P0 ⟨rfl, rfl⟩ (by decide) rfl hl.1 rfl (Nat.le_of_ble_eq_true rfl) d_Mo_place_78 ⟨Nat.zero_le _, Nat.zero_le _⟩ ?_
        refine lv_iadd hx hb d_Mo_place_81 ?_
        refine cf_top (y := nI (p_ga lc lb lf + 4 * p_c lg k)) (nI_add _ _) ?_
        refine lv_goto (tgt := 97) hx hb d_Mo_place_82 (by decide) ?_
        exact cf_iretI hx hb hr hlocks hP hS (Nat.zero_le _) (Nat.zero_le _) (by unfold p_pl; rw [if_neg c_31, if_pos c_41]; unfold p_pg; rw [if_neg c_61]) d_Mo_place_97
      · refine lv_iconst (v := (-1)) hx hb d_Mo_place_64 (by decide) ?_
        exact cf_iretI hx hb hr hlocks hP hS (Nat.zero_le _) (Nat.zero_le _) (by unfold p_pl; rw [if_neg c_31, if_pos c_41]; unfold p_pg; rw [if_pos c_61]) d_Mo_place_65
  · refine lv_aload_n hx hb d_Mo_place_34 rfl (lv_at hl 0 rfl) ?_
    refine va_get (ci := 2) hx hb (h_Mo hkk) (fun _ h => h) hown hK hP 0 rfl rfl 8 (by decide) (hkk.use kw_297 rfl) (fun _ h => h) rfl d_Mo_place_35 ?_
    exact cf_iretI hx hb hr hlocks hP hS (Nat.zero_le _) (Nat.zero_le _) (by unfold p_pl; rw [if_pos c_31]) d_Mo_place_38

set_option maxHeartbeats 4000000 in
set_option maxRecDepth 100000 in
/-- clear() -/
theorem c_Mo_clear (l : Launch) (D : va_G) (m0 m1 m2 m3 : Nat) (cI : ClassId) (th r nn cl gr lg lf ll la op : Int32) (kd sz al : Nat → Int32) (hD0 : va_D (fun _ => True) (MW m0 m1 m2 m3 cI th r nn cl gr lg lf ll la op kd sz al)) : cf_IM l y_Mo_clear b_Mo_clear 2 (some FieldType.int) ({ frames := 0, cells := 0, slots := 0, locals := 0 }) [.ref m0] D (MW m0 m1 m2 m3 cI th r nn cl gr lg lf ll la op kd sz al) [(cI, .int)] (some (.int cl)) (MW m0 m1 m2 m3 cI 0 r nn 0 0 0 0 0 0 op kd sz al) := by
  refine cf_IM_of (by decide) (Nat.le_of_ble_eq_true rfl) hD0 ?_
  intro p e s m args below meth c A hx hb hr hkk hown hlocks hml hin hP hK hD hS hA hAe ls hl
  have hl : lv_has ls 2 [(0, .ref m0)] := hl
  refine lv_aload_n hx hb d_Mo_clear_0 rfl (lv_at hl 0 rfl) ?_
  refine lv_iconst (v := 0) hx hb d_Mo_clear_1 (by decide) ?_
  refine va_put (ci := 2) (v := .int 0) (ty := .int) hx hb (h_Mo hkk) (fun _ h => h) t_Mo t_Mo_ok n_Mo hown hK hP hD hS 0 rfl rfl 0 (by decide) (hkk.use kw_289 rfl) (fun _ h => h) rfl (by decide +kernel) rfl rfl (Nat.le_of_ble_eq_true rfl) d_Mo_clear_2 (fun H locs hP hD hS => ?_)
  have hP : va_P D cf_cl (MW m0 m1 m2 m3 cI 0 r nn cl gr lg lf ll la op kd sz al) H := hP
  have hD : va_D A (MW m0 m1 m2 m3 cI 0 r nn cl gr lg lf ll la op kd sz al) := hD
  refine lv_aload_n hx hb d_Mo_clear_5 rfl (lv_at hl 0 rfl) ?_
  refine va_get (ci := 2) hx hb (h_Mo hkk) (fun _ h => h) hown hK hP 0 rfl rfl 3 (by decide) (hkk.use kw_292 rfl) (fun _ h => h) rfl d_Mo_clear_6 ?_
  refine lv_istore_n (lv' := [(1, .int cl), (0, .ref m0)]) hx hb d_Mo_clear_9 rfl hl (by decide) rfl (fun ls hl => ?_)
  refine lv_aload_n hx hb d_Mo_clear_10 rfl (lv_at hl 1 rfl) ?_
  refine lv_iconst (v := 0) hx hb d_Mo_clear_11 (by decide) ?_
  refine va_put (ci := 2) (v := .int 0) (ty := .int) hx hb (h_Mo hkk) (fun _ h => h) t_Mo t_Mo_ok n_Mo hown hK hP hD hS 0 rfl rfl 3 (by decide) (hkk.use kw_292 rfl) (fun _ h => h) rfl (by decide +kernel) rfl rfl (Nat.le_of_ble_eq_true rfl) d_Mo_clear_12 (fun H locs hP hD hS => ?_)
  have hP : va_P D cf_cl (MW m0 m1 m2 m3 cI 0 r nn 0 gr lg lf ll la op kd sz al) H := hP
  have hD : va_D A (MW m0 m1 m2 m3 cI 0 r nn 0 gr lg lf ll la op kd sz al) := hD
  refine lv_aload_n hx hb d_Mo_clear_15 rfl (lv_at hl 1 rfl) ?_
  refine lv_iconst (v := 0) hx hb d_Mo_clear_16 (by decide) ?_
  refine va_put (ci := 2) (v := .int 0) (ty := .int) hx hb (h_Mo hkk) (fun _ h => h) t_Mo t_Mo_ok n_Mo hown hK hP hD hS 0 rfl rfl 4 (by decide) (hkk.use kw_293 rfl) (fun _ h => h) rfl (by decide +kernel) rfl rfl (Nat.le_of_ble_eq_true rfl) d_Mo_clear_17 (fun H locs hP hD hS => ?_)
  have hP : va_P D cf_cl (MW m0 m1 m2 m3 cI 0 r nn 0 0 lg lf ll la op kd sz al) H := hP
  have hD : va_D A (MW m0 m1 m2 m3 cI 0 r nn 0 0 lg lf ll la op kd sz al) := hD
  refine lv_aload_n hx hb d_Mo_clear_20 rfl (lv_at hl 1 rfl) ?_
  refine lv_iconst (v := 0) hx hb d_Mo_clear_21 (by decide) ?_
  refine va_put (ci := 2) (v := .int 0) (ty := .int) hx hb (h_Mo hkk) (fun _ h => h) t_Mo t_Mo_ok n_Mo hown hK hP hD hS 0 rfl rfl 8 (by decide) (hkk.use kw_297 rfl) (fun _ h => h) rfl (by decide +kernel) rfl rfl (Nat.le_of_ble_eq_true rfl) d_Mo_clear_22 (fun H locs hP hD hS => ?_)
  have hP : va_P D cf_cl (MW m0 m1 m2 m3 cI 0 r nn 0 0 lg lf ll 0 op kd sz al) H := hP
  have hD : va_D A (MW m0 m1 m2 m3 cI 0 r nn 0 0 lg lf ll 0 op kd sz al) := hD
  refine lv_aload_n hx hb d_Mo_clear_25 rfl (lv_at hl 1 rfl) ?_
  refine lv_iconst (v := 0) hx hb d_Mo_clear_26 (by decide) ?_
  refine va_put (ci := 2) (v := .int 0) (ty := .int) hx hb (h_Mo hkk) (fun _ h => h) t_Mo t_Mo_ok n_Mo hown hK hP hD hS 0 rfl rfl 7 (by decide) (hkk.use kw_296 rfl) (fun _ h => h) rfl (by decide +kernel) rfl rfl (Nat.le_of_ble_eq_true rfl) d_Mo_clear_27 (fun H locs hP hD hS => ?_)
  have hP : va_P D cf_cl (MW m0 m1 m2 m3 cI 0 r nn 0 0 lg lf 0 0 op kd sz al) H := hP
  have hD : va_D A (MW m0 m1 m2 m3 cI 0 r nn 0 0 lg lf 0 0 op kd sz al) := hD
  refine lv_aload_n hx hb d_Mo_clear_30 rfl (lv_at hl 1 rfl) ?_
  refine lv_iconst (v := 0) hx hb d_Mo_clear_31 (by decide) ?_
  refine va_put (ci := 2) (v := .int 0) (ty := .int) hx hb (h_Mo hkk) (fun _ h => h) t_Mo t_Mo_ok n_Mo hown hK hP hD hS 0 rfl rfl 5 (by decide) (hkk.use kw_294 rfl) (fun _ h => h) rfl (by decide +kernel) rfl rfl (Nat.le_of_ble_eq_true rfl) d_Mo_clear_32 (fun H locs hP hD hS => ?_)
  have hP : va_P D cf_cl (MW m0 m1 m2 m3 cI 0 r nn 0 0 0 lf 0 0 op kd sz al) H := hP
  have hD : va_D A (MW m0 m1 m2 m3 cI 0 r nn 0 0 0 lf 0 0 op kd sz al) := hD
  refine lv_aload_n hx hb d_Mo_clear_35 rfl (lv_at hl 1 rfl) ?_
  refine lv_iconst (v := 0) hx hb d_Mo_clear_36 (by decide) ?_
  refine va_put (ci := 2) (v := .int 0) (ty := .int) hx hb (h_Mo hkk) (fun _ h => h) t_Mo t_Mo_ok n_Mo hown hK hP hD hS 0 rfl rfl 6 (by decide) (hkk.use kw_295 rfl) (fun _ h => h) rfl (by decide +kernel) rfl rfl (Nat.le_of_ble_eq_true rfl) d_Mo_clear_37 (fun H locs hP hD hS => ?_)
  have hP : va_P D cf_cl (MW m0 m1 m2 m3 cI 0 r nn 0 0 0 0 0 0 op kd sz al) H := hP
  have hD : va_D A (MW m0 m1 m2 m3 cI 0 r nn 0 0 0 0 0 0 op kd sz al) := hD
  refine lv_iload_n hx hb d_Mo_clear_40 rfl (lv_at hl 0 rfl) ?_
  exact cf_iretI hx hb hr hlocks hP hS (Nat.zero_le _) (Nat.zero_le _) (rfl) d_Mo_clear_41
end
section
/-! THE COMPONENT: Argument (printed by gen/comp.py) -/
set_option maxHeartbeats 4000000 in
set_option maxRecDepth 100000 in
/-- words() -/
theorem c_Ar_words (l : Launch) (D : va_G) (h : Nat) (k ho rg f : Int32) (bb : Nat) (hbb : bb < 2 ^ 30) : cf_PM l y_Ar_words b_Ar_words 1 (some FieldType.int) ({ frames := 0, cells := 0, slots := 0, locals := 0 }) [.ref h] D [(h, .inr (0, [.int k, .int ho, .int (nI bb), .int rg, .int f]))] [] (.int (nI ((bb + 3) / 4))) := by
  refine cf_PM_of (by decide) (Nat.le_of_ble_eq_true rfl) ?_
  intro p e s m args below meth c hx hb hr hkk hown hlocks hml hP hK ls hl
  have hl : lv_has ls 1 [(0, .ref h)] := hl
  refine lv_aload_n hx hb d_Ar_words_0 rfl (lv_at hl 0 rfl) ?_
  refine va_get (ci := 0) hx hb (h_Arg hkk) (fun _ h => h) hown hK hP 0 rfl rfl 2 (by decide) (hkk.use kw_29 rfl) (fun _ h => h) rfl d_Ar_words_1 ?_
  refine lv_iconst (v := 3) hx hb d_Ar_words_4 (by decide) ?_
  refine lv_iadd hx hb d_Ar_words_5 ?_
  refine lv_iconst (v := 2) hx hb d_Ar_words_6 (by decide) ?_
  refine lv_ishr hx hb d_Ar_words_7 ?_
  refine cf_top (y := nI ((bb + 3) / 4)) (p_words hbb) ?_
  exact cf_iret hx hb hr hlocks (rfl) d_Ar_words_8

set_option maxHeartbeats 4000000 in
set_option maxRecDepth 100000 in
/-- end() -/
theorem c_Ar_end (l : Launch) (D : va_G) (h : Nat) (k rg f : Int32) (hh bb : Nat) (hbb : bb < 2 ^ 30) : cf_PM l y_Ar_end b_Ar_end 1 (some FieldType.int) ({ frames := 1, cells := 0, slots := 0, locals := 20 }) [.ref h] D [(h, .inr (0, [.int k, .int (nI hh), .int (nI bb), .int rg, .int f]))] [] (.int (nI (hh + p_u bb 4))) := by
  refine cf_PM_of (by decide) (Nat.le_of_ble_eq_true rfl) ?_
  intro p e s m args below meth c hx hb hr hkk hown hlocks hml hP hK ls hl
  have hl : lv_has ls 1 [(0, .ref h)] := hl
  refine lv_aload_n hx hb d_Ar_end_0 rfl (lv_at hl 0 rfl) ?_
  refine va_get (ci := 0) hx hb (h_Arg hkk) (fun _ h => h) hown hK hP 0 rfl rfl 1 (by decide) (hkk.use kw_27 rfl) (fun _ h => h) rfl d_Ar_end_1 ?_
  refine lv_iconst (v := 4) hx hb d_Ar_end_4 (by decide) ?_
  refine lv_aload_n hx hb d_Ar_end_5 rfl (lv_at hl 0 rfl) ?_
  refine cf_pcV (q0 := 0) (ci := 0) (As := []) (rest := [.int 4, .int (nI hh)]) hx hb hml hown hkk (c_Ar_words l D h k (nI hh) rg f bb (hbb)) ce_Ar_words cv_Ar_words kw_103 hK hP rfl rfl rfl ⟨rfl, rfl⟩ (by decide) rfl hl.1 rfl (Nat.le_of_ble_eq_true rfl) d_Ar_end_6 ⟨Nat.zero_le _, Nat.zero_le _⟩ ?_
  refine lv_imul hx hb d_Ar_end_9 ?_
  refine cf_top (y := nI (p_u bb 4)) (by show nI 4 * _ = _; rw [pk_mul, p_u4]) ?_
  refine lv_iadd hx hb d_Ar_end_10 ?_
  refine cf_top (y := nI (hh + p_u bb 4)) (nI_add _ _) ?_
  exact cf_iret hx hb hr hlocks (rfl) d_Ar_end_11

set_option maxHeartbeats 4000000 in
set_option maxRecDepth 100000 in
/-- whereWord in a register of fractions -/
theorem c_Ar_where_F (l : Launch) (D : va_G) (h : Nat) (k ho b : Int32) (i w : Nat) (hw : w < 2 ^ 31) : cf_PM l y_Ar_whereWord b_Ar_whereWord 3 (some FieldType.int) ({ frames := 0, cells := 0, slots := 0, locals := 0 }) [.ref h, .int (nI w)] D [(h, .inr (0, [.int k, .int ho, .int b, .int (nI (12 + 2 * i)), .int 1]))] [] (.int (if k = 2 ∧ w = 0 then nI (44 + 2 * i + 1) else nI (44 + 2 * i))) := by
  refine cf_PM_of (by decide) (Nat.le_of_ble_eq_true rfl) ?_
  intro p e s m args below meth c hx hb hr hkk hown hlocks hml hP hK ls hl
  have hl : lv_has ls 3 [(0, .ref h), (1, .int (nI w))] := hl
  refine lv_aload_n hx hb d_Ar_whereWord_0 rfl (lv_at hl 0 rfl) ?_
  refine va_get (ci := 0) hx hb (h_Arg hkk) (fun _ h => h) hown hK hP 0 rfl rfl 4 (by decide) (hkk.use kw_33 rfl) (fun _ h => h) rfl d_Ar_whereWord_1 ?_
  refine lv_if_eq (tgt := 33) hx hb d_Ar_whereWord_4 (by decide) (fun c_4 => False.elim (absurd c_4 (by decide))) (fun c_4 => ?_)
  refine lv_bipush (v := 32) hx hb d_Ar_whereWord_7 (by decide) ?_
  refine lv_aload_n hx hb d_Ar_whereWord_9 rfl (lv_at hl 0 rfl) ?_
  refine va_get (ci := 0) hx hb (h_Arg hkk) (fun _ h => h) hown hK hP 0 rfl rfl 3 (by decide) (hkk.use kw_31 rfl) (fun _ h => h) rfl d_Ar_whereWord_10 ?_
  refine lv_iadd hx hb d_Ar_whereWord_13 ?_
  refine cf_top (y := nI (44 + 2 * i)) (by show nI 32 + _ = _; rw [nI_add]; congr 1; omega) ?_
  refine lv_aload_n hx hb d_Ar_whereWord_14 rfl (lv_at hl 0 rfl) ?_
  refine va_get (ci := 0) hx hb (h_Arg hkk) (fun _ h => h) hown hK hP 0 rfl rfl 0 (by decide) (hkk.use kw_25 rfl) (fun _ h => h) rfl d_Ar_whereWord_15 ?_
  refine lv_iconst (v := 2) hx hb d_Ar_whereWord_18 (by decide) ?_
  refine lv_icmp_ne (tgt := 30) hx hb d_Ar_whereWord_19 (by decide) (fun c_19 => ?_) (fun c_19 => ?_)
  · refine lv_iconst (v := 0) hx hb d_Ar_whereWord_30 (by decide) ?_
    refine lv_iadd hx hb d_Ar_whereWord_31 ?_
    refine cf_top (y := nI (44 + 2 * i)) (by show _ + nI 0 = _; rw [nI_add, Nat.add_zero]) ?_
    exact cf_iret hx hb hr hlocks (by rw [if_neg (fun h => c_19 h.1)]) d_Ar_whereWord_32
  · refine lv_iload_n hx hb d_Ar_whereWord_22 rfl (lv_at hl 1 rfl) ?_
    refine lv_if_ne (tgt := 30) hx hb d_Ar_whereWord_23 (by decide) (fun c_23 => ?_) (fun c_23 => ?_)
    · refine lv_iconst (v := 0) hx hb d_Ar_whereWord_30 (by decide) ?_
      refine lv_iadd hx hb d_Ar_whereWord_31 ?_
      refine cf_top (y := nI (44 + 2 * i)) (by show _ + nI 0 = _; rw [nI_add, Nat.add_zero]) ?_
      exact cf_iret hx hb hr hlocks (by rw [if_neg (fun h => c_23 (by rw [h.2]; rfl))]) d_Ar_whereWord_32
    · refine lv_iconst (v := 1) hx hb d_Ar_whereWord_26 (by decide) ?_
      refine lv_goto (tgt := 31) hx hb d_Ar_whereWord_27 (by decide) ?_
      refine lv_iadd hx hb d_Ar_whereWord_31 ?_
      refine cf_top (y := nI (44 + 2 * i + 1)) (nI_1 _) ?_
      exact cf_iret hx hb hr hlocks (by rw [if_pos ⟨c_19, p_lit c_23 hw (show (0 : Int32) = nI 0 from rfl) (by omega)⟩]) d_Ar_whereWord_32

set_option maxHeartbeats 4000000 in
set_option maxRecDepth 100000 in
/-- whereWord by its home -/
theorem c_Ar_where_G (l : Launch) (D : va_G) (h : Nat) (k b rg : Int32) (hh w : Nat) (h4 : hh % 4 = 0) (hb2 : hh + 4 * w < 2 ^ 30) : cf_PM l y_Ar_whereWord b_Ar_whereWord 3 (some FieldType.int) ({ frames := 0, cells := 0, slots := 0, locals := 0 }) [.ref h, .int (nI w)] D [(h, .inr (0, [.int k, .int (nI hh), .int b, .int rg, .int 0]))] [] (.int (p_whG hh w)) := by
  refine cf_PM_of (by decide) (Nat.le_of_ble_eq_true rfl) ?_
  intro p e s m args below meth c hx hb hr hkk hown hlocks hml hP hK ls hl
  have hl : lv_has ls 3 [(0, .ref h), (1, .int (nI w))] := hl
  refine lv_aload_n hx hb d_Ar_whereWord_0 rfl (lv_at hl 0 rfl) ?_
  refine va_get (ci := 0) hx hb (h_Arg hkk) (fun _ h => h) hown hK hP 0 rfl rfl 4 (by decide) (hkk.use kw_33 rfl) (fun _ h => h) rfl d_Ar_whereWord_1 ?_
  refine lv_if_eq (tgt := 33) hx hb d_Ar_whereWord_4 (by decide) (fun c_4 => ?_) (fun c_4 => False.elim (absurd c_4 (by decide)))
  refine lv_aload_n hx hb d_Ar_whereWord_33 rfl (lv_at hl 0 rfl) ?_
  refine va_get (ci := 0) hx hb (h_Arg hkk) (fun _ h => h) hown hK hP 0 rfl rfl 1 (by decide) (hkk.use kw_27 rfl) (fun _ h => h) rfl d_Ar_whereWord_34 ?_
  refine lv_iconst (v := 4) hx hb d_Ar_whereWord_37 (by decide) ?_
  refine lv_iload_n hx hb d_Ar_whereWord_38 rfl (lv_at hl 1 rfl) ?_
  refine lv_imul hx hb d_Ar_whereWord_39 ?_
  refine lv_iadd hx hb d_Ar_whereWord_40 ?_
  refine cf_top (y := nI (hh + 4 * w)) (by show _ + nI 4 * _ = _; rw [pk_mul, nI_add]) ?_
  refine lv_istore_n (lv' := [(2, .int (nI (hh + 4 * w))), (0, .ref h), (1, .int (nI w))]) hx hb d_Ar_whereWord_41 rfl hl (by decide) rfl (fun ls hl => ?_)
  refine lv_iload_n hx hb d_Ar_whereWord_42 rfl (lv_at hl 0 rfl) ?_
  refine lv_bipush (v := 16) hx hb d_Ar_whereWord_43 (by decide) ?_
  refine lv_icmp_ge (tgt := 56) hx hb d_Ar_whereWord_45 (by decide) (fun c_45 => ?_) (fun c_45 => ?_)
  · refine lv_iconst (v := (-1)) hx hb d_Ar_whereWord_56 (by decide) ?_
    exact cf_iret hx hb hr hlocks (by unfold p_whG; rw [if_neg (by have := (nI_leI (a := 16) (by omega) (by omega)).mp c_45; omega)]) d_Ar_whereWord_57
  · refine lv_iconst (v := 4) hx hb d_Ar_whereWord_48 (by decide) ?_
    refine lv_iload_n hx hb d_Ar_whereWord_49 rfl (lv_at hl 0 rfl) ?_
    refine lv_iconst (v := 2) hx hb d_Ar_whereWord_50 (by decide) ?_
    refine lv_ishr hx hb d_Ar_whereWord_51 ?_
    refine cf_top (y := nI (hh / 4 + w)) (by rw [p_at4 hb2]; congr 1; omega) ?_
    refine lv_iadd hx hb d_Ar_whereWord_52 ?_
    refine cf_top (y := nI (4 + (hh / 4 + w))) (by show nI 4 + _ = _; rw [nI_add]) ?_
    refine lv_goto (tgt := 57) hx hb d_Ar_whereWord_53 (by decide) ?_
    exact cf_iret hx hb hr hlocks (by unfold p_whG; rw [if_pos (by have := Nat.lt_of_not_le (fun h => c_45 (nI_le (a := 16) h (by omega))); omega)]) d_Ar_whereWord_57

set_option maxHeartbeats 4000000 in
set_option maxRecDepth 100000 in
/-- become -/
theorem c_Ar_become (l : Launch) (D : va_G) (h : Nat) (k ho b rg f k2 ho2 b2 : Int32) (hD0 : va_D (fun _ => True) [(h, .inr (0, [.int k, .int ho, .int b, .int rg, .int f]))]) : cf_IM l y_Ar_become b_Ar_become 4 none ({ frames := 0, cells := 0, slots := 0, locals := 0 }) [.ref h, .int k2, .int ho2, .int b2] D [(h, .inr (0, [.int k, .int ho, .int b, .int rg, .int f]))] [] (none) [(h, .inr (0, [.int k2, .int ho2, .int b2, .int (-1), .int 0]))] := by
  refine cf_IM_of (by decide) (Nat.le_of_ble_eq_true rfl) hD0 ?_
  intro p e s m args below meth c A hx hb hr hkk hown hlocks hml hin hP hK hD hS hA hAe ls hl
  have hl : lv_has ls 4 [(0, .ref h), (1, .int k2), (2, .int ho2), (3, .int b2)] := hl
  refine lv_aload_n hx hb d_Ar_become_0 rfl (lv_at hl 0 rfl) ?_
  refine lv_iload_n hx hb d_Ar_become_1 rfl (lv_at hl 1 rfl) ?_
  refine va_put (ci := 0) (v := .int k2) (ty := .int) hx hb (h_Arg hkk) (fun _ h => h) t_Arg t_Arg_ok n_Arg hown hK hP hD hS 0 rfl rfl 0 (by decide) (hkk.use kw_25 rfl) (fun _ h => h) rfl (by decide +kernel) rfl rfl (Nat.le_of_ble_eq_true rfl) d_Ar_become_2 (fun H locs hP hD hS => ?_)
  have hP : va_P D cf_cl [(h, .inr (0, [.int k2, .int ho, .int b, .int rg, .int f]))] H := hP
  have hD : va_D A [(h, .inr (0, [.int k2, .int ho, .int b, .int rg, .int f]))] := hD
  refine lv_aload_n hx hb d_Ar_become_5 rfl (lv_at hl 0 rfl) ?_
  refine lv_iload_n hx hb d_Ar_become_6 rfl (lv_at hl 2 rfl) ?_
  refine va_put (ci := 0) (v := .int ho2) (ty := .int) hx hb (h_Arg hkk) (fun _ h => h) t_Arg t_Arg_ok n_Arg hown hK hP hD hS 0 rfl rfl 1 (by decide) (hkk.use kw_27 rfl) (fun _ h => h) rfl (by decide +kernel) rfl rfl (Nat.le_of_ble_eq_true rfl) d_Ar_become_7 (fun H locs hP hD hS => ?_)
  have hP : va_P D cf_cl [(h, .inr (0, [.int k2, .int ho2, .int b, .int rg, .int f]))] H := hP
  have hD : va_D A [(h, .inr (0, [.int k2, .int ho2, .int b, .int rg, .int f]))] := hD
  refine lv_aload_n hx hb d_Ar_become_10 rfl (lv_at hl 0 rfl) ?_
  refine lv_iload_n hx hb d_Ar_become_11 rfl (lv_at hl 3 rfl) ?_
  refine va_put (ci := 0) (v := .int b2) (ty := .int) hx hb (h_Arg hkk) (fun _ h => h) t_Arg t_Arg_ok n_Arg hown hK hP hD hS 0 rfl rfl 2 (by decide) (hkk.use kw_29 rfl) (fun _ h => h) rfl (by decide +kernel) rfl rfl (Nat.le_of_ble_eq_true rfl) d_Ar_become_12 (fun H locs hP hD hS => ?_)
  have hP : va_P D cf_cl [(h, .inr (0, [.int k2, .int ho2, .int b2, .int rg, .int f]))] H := hP
  have hD : va_D A [(h, .inr (0, [.int k2, .int ho2, .int b2, .int rg, .int f]))] := hD
  refine lv_aload_n hx hb d_Ar_become_15 rfl (lv_at hl 0 rfl) ?_
  refine lv_iconst (v := 0) hx hb d_Ar_become_16 (by decide) ?_
  refine va_put (ci := 0) (v := .int 0) (ty := .boolean) hx hb (h_Arg hkk) (fun _ h => h) t_Arg t_Arg_ok n_Arg hown hK hP hD hS 0 rfl rfl 4 (by decide) (hkk.use kw_33 rfl) (fun _ h => h) rfl (by decide +kernel) rfl rfl (Nat.le_of_ble_eq_true rfl) d_Ar_become_17 (fun H locs hP hD hS => ?_)
  have hP : va_P D cf_cl [(h, .inr (0, [.int k2, .int ho2, .int b2, .int rg, .int 0]))] H := hP
  have hD : va_D A [(h, .inr (0, [.int k2, .int ho2, .int b2, .int rg, .int 0]))] := hD
  refine lv_aload_n hx hb d_Ar_become_20 rfl (lv_at hl 0 rfl) ?_
  refine lv_iconst (v := (-1)) hx hb d_Ar_become_21 (by decide) ?_
  refine va_put (ci := 0) (v := .int (-1)) (ty := .int) hx hb (h_Arg hkk) (fun _ h => h) t_Arg t_Arg_ok n_Arg hown hK hP hD hS 0 rfl rfl 3 (by decide) (hkk.use kw_31 rfl) (fun _ h => h) rfl (by decide +kernel) rfl rfl (Nat.le_of_ble_eq_true rfl) d_Ar_become_22 (fun H locs hP hD hS => ?_)
  have hP : va_P D cf_cl [(h, .inr (0, [.int k2, .int ho2, .int b2, .int (-1), .int 0]))] H := hP
  have hD : va_D A [(h, .inr (0, [.int k2, .int ho2, .int b2, .int (-1), .int 0]))] := hD
  exact cf_vretI hx hb hr hlocks hP hS (Nat.zero_le _) (Nat.zero_le _) d_Ar_become_25

abbrev CW (c0 c1 c2 c3 c4 : Nat) (cR cI : ClassId) (ad : Nat → Nat) (rf : Nat → Option Nat) (mn rs op gr cl lo : Int32) (gA fA : Nat → Int32) (pa : Nat → cf_T) : va_W :=
  [(c0, .inr (1, [.ref c1, .ref c2, .int mn, .int rs, .int op, .int gr, .int cl, .ref c3, .ref c4, .int lo])), (c1, .inr (0, [.int 0, .int 0, .int 4, .int (-1), .int 0])), (c2, .inl (cR, 60, .inr (.inr (.inr (.inr rf))))), (c3, .inl (cI, 32, .inl gA)), (c4, .inl (cI, 32, .inl fA))] ++ va_pl ((List.range 60).map ad) (fun q => .inr (0, cf_av (pa q)))
theorem cf_pgetX {X : va_W} {N : Nat} {ad : Nat → Nat} {F : Nat → va_E} {j : Nat} (hj : j < N) : (X ++ va_pl ((List.range N).map ad) F)[X.length + j]? = some (ad j, F (ad j)) := by
  rw [List.getElem?_append_right (Nat.le_add_right _ _), Nat.add_sub_cancel_left]
  simp [va_pl, hj]
section CWP
variable {c0 c1 c2 c3 c4 : Nat} {cR cI : ClassId} {ad : Nat → Nat} {rf : Nat → Option Nat} {mn rs op gr cl lo : Int32} {gA fA : Nat → Int32} {pa : Nat → cf_T}
theorem cf_pget {j : Nat} (hj : j < 60) : (CW c0 c1 c2 c3 c4 cR cI ad rf mn rs op gr cl lo gA fA pa)[5 + j]? = some (ad j, .inr (0, cf_av (pa (ad j)))) := cf_pgetX hj
theorem cf_pgetA {j : Nat} {t : cf_T} (hj : j < 60) (hp : pa (ad j) = t) : (CW c0 c1 c2 c3 c4 cR cI ad rf mn rs op gr cl lo gA fA pa)[5 + j]? = some (ad j, .inr (0, cf_av t)) := by
  rw [← hp]; exact cf_pget hj
end CWP
end
section
/-! THE COMPONENT: what changes nothing (printed by gen/comp.py) -/
set_option maxHeartbeats 4000000 in
set_option maxRecDepth 100000 in
/-- up(a, t) -/
theorem c_Cf_up (l : Launch) (D : va_G) (a t : Int32) : cf_PM l y_Cf_up b_Cf_up 2 (some FieldType.int) ({ frames := 0, cells := 0, slots := 0, locals := 0 }) [.int a, .int t] D [] [] (.int ((a + t - 1) &&& (-t))) := by
  refine cf_PM_of (by decide) (Nat.le_of_ble_eq_true rfl) ?_
  intro p e s m args below meth c hx hb hr hkk hown hlocks hml hP hK ls hl
  have hl : lv_has ls 2 [(0, .int a), (1, .int t)] := hl
  refine lv_iload_n hx hb d_Cf_up_0 rfl (lv_at hl 0 rfl) ?_
  refine lv_iload_n hx hb d_Cf_up_1 rfl (lv_at hl 1 rfl) ?_
  refine lv_iadd hx hb d_Cf_up_2 ?_
  refine lv_iconst (v := 1) hx hb d_Cf_up_3 (by decide) ?_
  refine lv_isub hx hb d_Cf_up_4 ?_
  refine lv_iload_n hx hb d_Cf_up_5 rfl (lv_at hl 1 rfl) ?_
  refine lv_ineg hx hb d_Cf_up_6 ?_
  refine lv_iand hx hb d_Cf_up_7 ?_
  exact cf_iret hx hb hr hlocks (rfl) d_Cf_up_8

set_option maxHeartbeats 4000000 in
set_option maxRecDepth 100000 in
/-- canBe(size, a) -/
theorem c_Cf_canBe (l : Launch) (D : va_G) (size a : Int32) : cf_PM l y_Cf_canBe b_Cf_canBe 2 (some FieldType.boolean) ({ frames := 0, cells := 0, slots := 0, locals := 0 }) [.int size, .int a] D [] [] (.int (if p_can size a = true then 1 else 0)) := by
  refine cf_PM_of (by decide) (Nat.le_of_ble_eq_true rfl) ?_
  intro p e s m args below meth c hx hb hr hkk hown hlocks hml hP hK ls hl
  have hl : lv_has ls 2 [(0, .int size), (1, .int a)] := hl
  refine lv_iload_n hx hb d_Cf_canBe_0 rfl (lv_at hl 1 rfl) ?_
  refine lv_if_le (tgt := 38) hx hb d_Cf_canBe_1 (by decide) (fun c_1 => ?_) (fun c_1 => ?_)
  · refine lv_iconst (v := 0) hx hb d_Cf_canBe_38 (by decide) ?_
    exact cf_zret hx hb hr hlocks (by decide) (by simp [p_can, c_1]) d_Cf_canBe_39
  · refine lv_iload_n hx hb d_Cf_canBe_4 rfl (lv_at hl 1 rfl) ?_
    refine lv_bipush (v := 8) hx hb d_Cf_canBe_5 (by decide) ?_
    refine lv_icmp_gt (tgt := 38) hx hb d_Cf_canBe_7 (by decide) (fun c_7 => ?_) (fun c_7 => ?_)
    · refine lv_iconst (v := 0) hx hb d_Cf_canBe_38 (by decide) ?_
      exact cf_zret hx hb hr hlocks (by decide) (by simp [p_can, c_1, c_7]) d_Cf_canBe_39
    · refine lv_iload_n hx hb d_Cf_canBe_10 rfl (lv_at hl 1 rfl) ?_
      refine lv_iload_n hx hb d_Cf_canBe_11 rfl (lv_at hl 1 rfl) ?_
      refine lv_iconst (v := 1) hx hb d_Cf_canBe_12 (by decide) ?_
      refine lv_isub hx hb d_Cf_canBe_13 ?_
      refine lv_iand hx hb d_Cf_canBe_14 ?_
      refine lv_if_ne (tgt := 38) hx hb d_Cf_canBe_15 (by decide) (fun c_15 => ?_) (fun c_15 => ?_)
      · refine lv_iconst (v := 0) hx hb d_Cf_canBe_38 (by decide) ?_
        exact cf_zret hx hb hr hlocks (by decide) (by simp [p_can, c_1, c_7, c_15]) d_Cf_canBe_39
      · refine lv_iload_n hx hb d_Cf_canBe_18 rfl (lv_at hl 0 rfl) ?_
        refine lv_if_le (tgt := 38) hx hb d_Cf_canBe_19 (by decide) (fun c_19 => ?_) (fun c_19 => ?_)
        · refine lv_iconst (v := 0) hx hb d_Cf_canBe_38 (by decide) ?_
          exact cf_zret hx hb hr hlocks (by decide) (by simp [p_can, c_1, c_7, c_15, c_19]) d_Cf_canBe_39
        · refine lv_iload_n hx hb d_Cf_canBe_22 rfl (lv_at hl 0 rfl) ?_
          refine lv_ldc (v := 65536) hx hb hown (hkk.use kw_128 rfl) d_Cf_canBe_23 ?_
          refine lv_icmp_gt (tgt := 38) hx hb d_Cf_canBe_25 (by decide) (fun c_25 => ?_) (fun c_25 => ?_)
          · refine lv_iconst (v := 0) hx hb d_Cf_canBe_38 (by decide) ?_
            exact cf_zret hx hb hr hlocks (by decide) (by simp [p_can, c_1, c_7, c_15, c_19, c_25]) d_Cf_canBe_39
          · refine lv_iload_n hx hb d_Cf_canBe_28 rfl (lv_at hl 0 rfl) ?_
            refine lv_iload_n hx hb d_Cf_canBe_29 rfl (lv_at hl 1 rfl) ?_
            refine lv_irem hx hb d_Cf_canBe_30 (fun h => c_1 (by rw [h]; decide)) ?_
            refine lv_if_ne (tgt := 38) hx hb d_Cf_canBe_31 (by decide) (fun c_31 => ?_) (fun c_31 => ?_)
            · refine lv_iconst (v := 0) hx hb d_Cf_canBe_38 (by decide) ?_
              exact cf_zret hx hb hr hlocks (by decide) (by simp [p_can, c_1, c_7, c_15, c_19, c_25, c_31]) d_Cf_canBe_39
            · refine lv_iconst (v := 1) hx hb d_Cf_canBe_34 (by decide) ?_
              refine lv_goto (tgt := 39) hx hb d_Cf_canBe_35 (by decide) ?_
              exact cf_zret hx hb hr hlocks (by decide) (by simp [p_can, c_1, c_7, c_15, c_19, c_25, c_31]) d_Cf_canBe_39

set_option maxHeartbeats 4000000 in
set_option maxRecDepth 100000 in
/-- isReal(j) -/
theorem c_Cf_isReal (l : Launch) (D : va_G) (c0 c1 c2 c3 c4 : Nat) (cR cI : ClassId) (ad : Nat → Nat) (rf : Nat → Option Nat) (mn rs op gr cl lo : Int32) (gA fA : Nat → Int32) (pa : Nat → cf_T) (j : Nat) (hj : j < 60) (hrf : ∀ i, i < 60 → rf i = some (ad i)) : cf_PM l y_Cf_isReal b_Cf_isReal 2 (some FieldType.boolean) ({ frames := 0, cells := 0, slots := 0, locals := 0 }) [.ref c0, .int (nI j)] D (CW c0 c1 c2 c3 c4 cR cI ad rf mn rs op gr cl lo gA fA pa) [(cR, .object "CallFrames$Argument"), (cI, .int)] (.int (if (pa (ad j)).1 = 1 ∨ (pa (ad j)).1 = 2 then 1 else 0)) := by
  refine cf_PM_of (by decide) (Nat.le_of_ble_eq_true rfl) ?_
  intro p e s m args below meth c hx hb hr hkk hown hlocks hml hP hK ls hl
  have hl : lv_has ls 2 [(0, .ref c0), (1, .int (nI j))] := hl
  refine lv_aload_n hx hb d_Cf_isReal_0 rfl (lv_at hl 0 rfl) ?_
  refine va_get (ci := 1) hx hb (h_Cf hkk) (fun _ h => h) hown hK hP 0 rfl rfl 1 (by decide) (hkk.use kw_56 rfl) (fun _ h => h) rfl d_Cf_isReal_1 ?_
  refine lv_iload_n hx hb d_Cf_isReal_4 rfl (lv_at hl 1 rfl) ?_
  refine cf_aald hx hb hK hP 2 0 rfl rfl (k := j) (b := ad j) (hrf j (by omega)) (by omega) (by decide) d_Cf_isReal_5 ?_
  refine va_getN (ci := 0) hx hb (h_Arg hkk) (fun _ h => h) hown hK hP (5 + j) (cf_pget (by omega)) rfl 0 (by decide) (hkk.use kw_26 rfl) (fun _ h => h) rfl d_Cf_isReal_6 ?_
  refine lv_iconst (v := 1) hx hb d_Cf_isReal_9 (by decide) ?_
  refine lv_icmp_eq (tgt := 26) hx hb d_Cf_isReal_10 (by decide) (fun c_10 => ?_) (fun c_10 => ?_)
  · refine lv_iconst (v := 1) hx hb d_Cf_isReal_26 (by decide) ?_
    refine lv_goto (tgt := 31) hx hb d_Cf_isReal_27 (by decide) ?_
    exact cf_zret hx hb hr hlocks (by decide) (by simp [c_10]) d_Cf_isReal_31
  · refine lv_aload_n hx hb d_Cf_isReal_13 rfl (lv_at hl 0 rfl) ?_
    refine va_get (ci := 1) hx hb (h_Cf hkk) (fun _ h => h) hown hK hP 0 rfl rfl 1 (by decide) (hkk.use kw_56 rfl) (fun _ h => h) rfl d_Cf_isReal_14 ?_
    refine lv_iload_n hx hb d_Cf_isReal_17 rfl (lv_at hl 1 rfl) ?_
    refine cf_aald hx hb hK hP 2 0 rfl rfl (k := j) (b := ad j) (hrf j (by omega)) (by omega) (by decide) d_Cf_isReal_18 ?_
    refine va_getN (ci := 0) hx hb (h_Arg hkk) (fun _ h => h) hown hK hP (5 + j) (cf_pget (by omega)) rfl 0 (by decide) (hkk.use kw_26 rfl) (fun _ h => h) rfl d_Cf_isReal_19 ?_
    refine lv_iconst (v := 2) hx hb d_Cf_isReal_22 (by decide) ?_
    refine lv_icmp_ne (tgt := 30) hx hb d_Cf_isReal_23 (by decide) (fun c_23 => ?_) (fun c_23 => ?_)
    · refine lv_iconst (v := 0) hx hb d_Cf_isReal_30 (by decide) ?_
      exact cf_zret hx hb hr hlocks (by decide) (by simp [c_10, c_23]) d_Cf_isReal_31
    · refine lv_iconst (v := 1) hx hb d_Cf_isReal_26 (by decide) ?_
      refine lv_goto (tgt := 31) hx hb d_Cf_isReal_27 (by decide) ?_
      exact cf_zret hx hb hr hlocks (by decide) (by simp [c_10, c_23]) d_Cf_isReal_31

set_option maxHeartbeats 4000000 in
set_option maxRecDepth 100000 in
/-- end() -/
theorem c_Cf_end (l : Launch) (D : va_G) (c0 c1 c2 c3 c4 : Nat) (cR cI : ClassId) (ad : Nat → Nat) (rf : Nat → Option Nat) (op gr cl lo : Int32) (gA fA : Nat → Int32) (pa : Nat → cf_T) (r : Int32) (kd sz al : Nat → Int32) (n : Nat) (hn : n ≤ 60) (hrf : ∀ i, i < 60 → rf i = some (ad i)) (hpa : ∀ i, i < n → pa (ad i) = p_arg r op kd sz al i) (hok : ∀ i, i < n → p_ok (kd i) (sz i)) (hat : p_at r kd sz al n ≤ 1000000) : cf_PM l y_Cf_end b_Cf_end 1 (some FieldType.int) ({ frames := 2, cells := 0, slots := 0, locals := 40 }) [.ref c0] D (CW c0 c1 c2 c3 c4 cR cI ad rf (nI n) r op gr cl lo gA fA pa) [(cR, .object "CallFrames$Argument"), (cI, .int)] (.int (nI (p_at r kd sz al n))) := by
  refine cf_PM_of (by decide) (Nat.le_of_ble_eq_true rfl) ?_
  intro p e s m args below meth c hx hb hr hkk hown hlocks hml hP hK ls hl
  have hl : lv_has ls 1 [(0, .ref c0)] := hl
  refine lv_aload_n hx hb d_Cf_end_0 rfl (lv_at hl 0 rfl) ?_
  refine va_get (ci := 1) hx hb (h_Cf hkk) (fun _ h => h) hown hK hP 0 rfl rfl 2 (by decide) (hkk.use kw_57 rfl) (fun _ h => h) rfl d_Cf_end_1 ?_
  refine lv_if_le (tgt := 24) hx hb d_Cf_end_4 (by decide) (fun c_4 => ?_) (fun c_4 => ?_)
  · refine lv_aload_n hx hb d_Cf_end_24 rfl (lv_at hl 0 rfl) ?_
    refine va_get (ci := 1) hx hb (h_Cf hkk) (fun _ h => h) hown hK hP 0 rfl rfl 3 (by decide) (hkk.use kw_58 rfl) (fun _ h => h) rfl d_Cf_end_25 ?_
    refine lv_iconst (v := 3) hx hb d_Cf_end_28 (by decide) ?_
    refine lv_icmp_ne (tgt := 36) hx hb d_Cf_end_29 (by decide) (fun c_29 => ?_) (fun c_29 => ?_)
    · refine lv_iconst (v := 0) hx hb d_Cf_end_36 (by decide) ?_
      exact cf_iret hx hb hr hlocks (by rw [show n = 0 by have := (nI_leI (b := 0) (by omega) (by omega)).mp c_4; omega, show p_at r kd sz al 0 = if r = 3 then 4 else 0 from rfl, if_neg c_29]; rfl) d_Cf_end_37
    · refine lv_iconst (v := 4) hx hb d_Cf_end_32 (by decide) ?_
      refine lv_goto (tgt := 37) hx hb d_Cf_end_33 (by decide) ?_
      exact cf_iret hx hb hr hlocks (by rw [show n = 0 by have := (nI_leI (b := 0) (by omega) (by omega)).mp c_4; omega, show p_at r kd sz al 0 = if r = 3 then 4 else 0 from rfl, if_pos c_29]; rfl) d_Cf_end_37
  · have hn0 : 0 < n := Nat.lt_of_not_le (fun h => c_4 (nI_le (b := 0) h (by omega)))
    refine lv_aload_n hx hb d_Cf_end_7 rfl (lv_at hl 0 rfl) ?_
    refine va_get (ci := 1) hx hb (h_Cf hkk) (fun _ h => h) hown hK hP 0 rfl rfl 1 (by decide) (hkk.use kw_56 rfl) (fun _ h => h) rfl d_Cf_end_8 ?_
    refine lv_aload_n hx hb d_Cf_end_11 rfl (lv_at hl 0 rfl) ?_
    refine va_get (ci := 1) hx hb (h_Cf hkk) (fun _ h => h) hown hK hP 0 rfl rfl 2 (by decide) (hkk.use kw_57 rfl) (fun _ h => h) rfl d_Cf_end_12 ?_
    refine lv_iconst (v := 1) hx hb d_Cf_end_15 (by decide) ?_
    refine lv_isub hx hb d_Cf_end_16 ?_
    refine cf_top (y := nI (n - 1)) (by show nI n - nI 1 = _; exact pk_sub (by omega)) ?_
    refine cf_aald hx hb hK hP 2 0 rfl rfl (k := (n - 1)) (b := ad (n - 1)) (hrf (n - 1) (by omega)) (by omega) (by decide) d_Cf_end_17 ?_
    refine cf_pcV (q0 := 0) (ci := 0) (As := []) (rest := []) hx hb hml hown hkk (c_Ar_end l D (ad (n - 1)) (kd (n - 1)) (if p_fra r op kd (n - 1) then nI (12 + 2 * (n - 1)) else -1) (if p_fra r op kd (n - 1) then 1 else 0) (p_h r kd sz al (n - 1)) (p_b (kd (n - 1)) (sz (n - 1))) (by have := p_ok_b (hok (n - 1) (by omega)); omega)) ce_Ar_end cv_Ar_end kw_99 (cf_K0 hK) (cf_P1 hP (cf_pgetA (by omega) (hpa (n - 1) (by omega)))) rfl rfl rfl ⟨rfl, rfl⟩ (by decide) rfl hl.1 rfl (Nat.le_of_ble_eq_true rfl) d_Cf_end_18 ⟨Nat.zero_le _, Nat.zero_le _⟩ ?_
    refine cf_top (y := nI (p_at r kd sz al n)) (by rw [← p_at_s, Nat.sub_add_cancel (by omega)]) ?_
    refine lv_goto (tgt := 37) hx hb d_Cf_end_21 (by decide) ?_
    exact cf_iret hx hb hr hlocks (rfl) d_Cf_end_37

theorem p_areaI {r : Int32} {kd sz al : Nat → Int32} {n : Nat} (h : p_at r kd sz al n ≤ 1000000) : (if (16 : Int32) < nI (p_u (p_at r kd sz al n) 8) then nI (p_u (p_at r kd sz al n) 8) else 16) = nI (p_area r kd sz al n) := by
  have h1 := p_ub8 (p_at r kd sz al n)
  unfold p_area p_ar
  by_cases h2 : p_u (p_at r kd sz al n) 8 < 16
  · rw [if_pos h2, if_neg (fun q => by have := (nI_ltI (a := 16) (by omega) (by omega)).mp q; omega)]; rfl
  · rw [if_neg h2]
    by_cases h3 : p_u (p_at r kd sz al n) 8 = 16
    · rw [h3]; rfl
    · exact if_pos (show (16 : Int32) < nI (p_u (p_at r kd sz al n) 8) from nI_lt (a := 16) (by omega) (by omega))
set_option maxHeartbeats 4000000 in
set_option maxRecDepth 100000 in
/-- area() -/
theorem c_Cf_area (l : Launch) (D : va_G) (c0 c1 c2 c3 c4 : Nat) (cR cI : ClassId) (ad : Nat → Nat) (rf : Nat → Option Nat) (op gr cl lo : Int32) (gA fA : Nat → Int32) (pa : Nat → cf_T) (r : Int32) (kd sz al : Nat → Int32) (n : Nat) (hn : n ≤ 60) (hrf : ∀ i, i < 60 → rf i = some (ad i)) (hpa : ∀ i, i < n → pa (ad i) = p_arg r op kd sz al i) (hok : ∀ i, i < n → p_ok (kd i) (sz i)) (hat : p_at r kd sz al n ≤ 1000000) : cf_PM l y_Cf_area b_Cf_area 1 (some FieldType.int) ({ frames := 3, cells := 0, slots := 0, locals := 60 }) [.ref c0] D (CW c0 c1 c2 c3 c4 cR cI ad rf (nI n) r op gr cl lo gA fA pa) [(cR, .object "CallFrames$Argument"), (cI, .int)] (.int (nI (p_area r kd sz al n))) := by
  refine cf_PM_of (by decide) (Nat.le_of_ble_eq_true rfl) ?_
  intro p e s m args below meth c hx hb hr hkk hown hlocks hml hP hK ls hl
  have hl : lv_has ls 1 [(0, .ref c0)] := hl
  refine lv_bipush (v := 16) hx hb d_Cf_area_0 (by decide) ?_
  refine lv_aload_n hx hb d_Cf_area_2 rfl (lv_at hl 0 rfl) ?_
  refine cf_pcV (q0 := 0) (ci := 1) (As := []) (rest := [.int 16]) hx hb hml hown hkk (c_Cf_end l D c0 c1 c2 c3 c4 cR cI ad rf op gr cl lo gA fA pa r kd sz al n hn hrf hpa hok hat) ce_Cf_end cv_Cf_end kw_95 hK hP rfl rfl rfl ⟨rfl, rfl⟩ (by decide) rfl hl.1 rfl (Nat.le_of_ble_eq_true rfl) d_Cf_area_3 ⟨Nat.zero_le _, Nat.zero_le _⟩ ?_
  refine lv_bipush (v := 8) hx hb d_Cf_area_6 (by decide) ?_
  refine cf_pcS (As := [.int (nI (p_at r kd sz al n)), .int 8]) (rest := [.int 16]) hx hb hml hown hkk (c_Cf_up l D (nI (p_at r kd sz al n)) 8) ce_Cf_up cs_Cf_up kw_107 (cf_K0 hK) cf_P0 ⟨rfl, rfl⟩ (by decide) rfl hl.1 rfl (Nat.le_of_ble_eq_true rfl) d_Cf_area_8 ⟨Nat.zero_le _, Nat.zero_le _⟩ ?_
  refine cf_top (y := nI (p_u (p_at r kd sz al n) 8)) (p_up8 (by omega)) ?_
  refine va_mmax hx hb (hml.trans hl.1.symm) hown (hkk.use kw_110 rfl) (hkk.use kw_111 rfl) (hkk.use kw_10 rfl) (hkk.use kw_112 rfl) (by decide) (Nat.le_of_ble_eq_true rfl) (Nat.zero_le _) (Nat.zero_le _) d_Cf_area_11 ?_
  refine cf_top (y := nI (p_area r kd sz al n)) (p_areaI hat) ?_
  exact cf_iret hx hb hr hlocks (rfl) d_Cf_area_14

set_option maxHeartbeats 4000000 in
set_option maxRecDepth 100000 in
/-- of(-1) -/
theorem c_Cf_of1 (l : Launch) (D : va_G) (c0 c1 c2 c3 c4 : Nat) (cR cI : ClassId) (ad : Nat → Nat) (rf : Nat → Option Nat) (op gr cl lo : Int32) (gA fA : Nat → Int32) (pa : Nat → cf_T) (n : Nat) (hn : n ≤ 60) : cf_PM l y_Cf_of b_Cf_of 2 (Option.some (FieldType.object "CallFrames$Argument")) ({ frames := 0, cells := 0, slots := 0, locals := 0 }) [.ref c0, .int (-1)] D (CW c0 c1 c2 c3 c4 cR cI ad rf (nI n) 3 op gr cl lo gA fA pa) [(cR, .object "CallFrames$Argument"), (cI, .int)] (.ref c1) := by
  refine cf_PM_of (by decide) (Nat.le_of_ble_eq_true rfl) ?_
  intro p e s m args below meth c hx hb hr hkk hown hlocks hml hP hK ls hl
  have hl : lv_has ls 2 [(0, .ref c0), (1, .int (-1))] := hl
  refine lv_iload_n hx hb d_Cf_of_0 rfl (lv_at hl 1 rfl) ?_
  refine lv_iconst (v := (-1)) hx hb d_Cf_of_1 (by decide) ?_
  refine lv_icmp_lt (tgt := 26) hx hb d_Cf_of_2 (by decide) (fun c_2 => False.elim (absurd c_2 (by decide))) (fun c_2 => ?_)
  refine lv_iload_n hx hb d_Cf_of_5 rfl (lv_at hl 1 rfl) ?_
  refine lv_aload_n hx hb d_Cf_of_6 rfl (lv_at hl 0 rfl) ?_
  refine va_get (ci := 1) hx hb (h_Cf hkk) (fun _ h => h) hown hK hP 0 rfl rfl 2 (by decide) (hkk.use kw_57 rfl) (fun _ h => h) rfl d_Cf_of_7 ?_
  refine lv_icmp_ge (tgt := 26) hx hb d_Cf_of_10 (by decide) (fun c_10 => False.elim (absurd (Int32.le_iff_toInt_le.mp c_10) (by rw [nI_toInt (by omega)]; show ¬ ((n : Int) ≤ -1); omega))) (fun c_10 => ?_)
  refine lv_iload_n hx hb d_Cf_of_13 rfl (lv_at hl 1 rfl) ?_
  refine lv_iconst (v := (-1)) hx hb d_Cf_of_14 (by decide) ?_
  refine lv_icmp_ne (tgt := 34) hx hb d_Cf_of_15 (by decide) (fun c_15 => False.elim (absurd c_15 (by decide))) (fun c_15 => ?_)
  refine lv_aload_n hx hb d_Cf_of_18 rfl (lv_at hl 0 rfl) ?_
  refine va_get (ci := 1) hx hb (h_Cf hkk) (fun _ h => h) hown hK hP 0 rfl rfl 3 (by decide) (hkk.use kw_58 rfl) (fun _ h => h) rfl d_Cf_of_19 ?_
  refine lv_iconst (v := 3) hx hb d_Cf_of_22 (by decide) ?_
  refine lv_icmp_eq (tgt := 34) hx hb d_Cf_of_23 (by decide) (fun c_23 => ?_) (fun c_23 => False.elim (absurd c_23 (by decide)))
  refine lv_iload_n hx hb d_Cf_of_34 rfl (lv_at hl 1 rfl) ?_
  refine lv_iconst (v := (-1)) hx hb d_Cf_of_35 (by decide) ?_
  refine lv_icmp_ne (tgt := 46) hx hb d_Cf_of_36 (by decide) (fun c_36 => False.elim (absurd c_36 (by decide))) (fun c_36 => ?_)
  refine lv_aload_n hx hb d_Cf_of_39 rfl (lv_at hl 0 rfl) ?_
  refine va_get (ci := 1) hx hb (h_Cf hkk) (fun _ h => h) hown hK hP 0 rfl rfl 0 (by decide) (hkk.use kw_55 rfl) (fun _ h => h) rfl d_Cf_of_40 ?_
  refine lv_goto (tgt := 52) hx hb d_Cf_of_43 (by decide) ?_
  exact cf_aret hx hb hr hlocks (rfl) d_Cf_of_52

set_option maxHeartbeats 4000000 in
set_option maxRecDepth 100000 in
/-- of(j) -/
theorem c_Cf_ofJ (l : Launch) (D : va_G) (c0 c1 c2 c3 c4 : Nat) (cR cI : ClassId) (ad : Nat → Nat) (rf : Nat → Option Nat) (rs op gr cl lo : Int32) (gA fA : Nat → Int32) (pa : Nat → cf_T) (n j : Nat) (hn : n ≤ 60) (hj : j < n) (hrf : ∀ i, i < 60 → rf i = some (ad i)) : cf_PM l y_Cf_of b_Cf_of 2 (Option.some (FieldType.object "CallFrames$Argument")) ({ frames := 0, cells := 0, slots := 0, locals := 0 }) [.ref c0, .int (nI j)] D (CW c0 c1 c2 c3 c4 cR cI ad rf (nI n) rs op gr cl lo gA fA pa) [(cR, .object "CallFrames$Argument"), (cI, .int)] (.ref (ad j)) := by
  refine cf_PM_of (by decide) (Nat.le_of_ble_eq_true rfl) ?_
  intro p e s m args below meth c hx hb hr hkk hown hlocks hml hP hK ls hl
  have hl : lv_has ls 2 [(0, .ref c0), (1, .int (nI j))] := hl
  refine lv_iload_n hx hb d_Cf_of_0 rfl (lv_at hl 1 rfl) ?_
  refine lv_iconst (v := (-1)) hx hb d_Cf_of_1 (by decide) ?_
  refine lv_icmp_lt (tgt := 26) hx hb d_Cf_of_2 (by decide) (fun c_2 => False.elim (absurd (Int32.lt_iff_toInt_lt.mp c_2) (by rw [nI_toInt (by omega)]; show ¬ ((j : Int) < -1); omega))) (fun c_2 => ?_)
  refine lv_iload_n hx hb d_Cf_of_5 rfl (lv_at hl 1 rfl) ?_
  refine lv_aload_n hx hb d_Cf_of_6 rfl (lv_at hl 0 rfl) ?_
  refine va_get (ci := 1) hx hb (h_Cf hkk) (fun _ h => h) hown hK hP 0 rfl rfl 2 (by decide) (hkk.use kw_57 rfl) (fun _ h => h) rfl d_Cf_of_7 ?_
  refine lv_icmp_ge (tgt := 26) hx hb d_Cf_of_10 (by decide) (fun c_10 => False.elim (absurd ((nI_leI (by omega) (by omega)).mp c_10) (by omega))) (fun c_10 => ?_)
  refine lv_iload_n hx hb d_Cf_of_13 rfl (lv_at hl 1 rfl) ?_
  refine lv_iconst (v := (-1)) hx hb d_Cf_of_14 (by decide) ?_
  refine lv_icmp_ne (tgt := 34) hx hb d_Cf_of_15 (by decide) (fun c_15 => ?_) (fun c_15 => False.elim (p_m1 j (by omega) c_15))
  refine lv_iload_n hx hb d_Cf_of_34 rfl (lv_at hl 1 rfl) ?_
  refine lv_iconst (v := (-1)) hx hb d_Cf_of_35 (by decide) ?_
  refine lv_icmp_ne (tgt := 46) hx hb d_Cf_of_36 (by decide) (fun c_36 => ?_) (fun c_36 => False.elim (p_m1 j (by omega) c_36))
  refine lv_aload_n hx hb d_Cf_of_46 rfl (lv_at hl 0 rfl) ?_
  refine va_get (ci := 1) hx hb (h_Cf hkk) (fun _ h => h) hown hK hP 0 rfl rfl 1 (by decide) (hkk.use kw_56 rfl) (fun _ h => h) rfl d_Cf_of_47 ?_
  refine lv_iload_n hx hb d_Cf_of_50 rfl (lv_at hl 1 rfl) ?_
  refine cf_aald hx hb hK hP 2 0 rfl rfl (k := j) (b := ad j) (hrf j (by omega)) (by omega) (by decide) d_Cf_of_51 ?_
  exact cf_aret hx hb hr hlocks (rfl) d_Cf_of_52

set_option maxHeartbeats 4000000 in
set_option maxRecDepth 100000 in
/-- where(-1, 0) -/
theorem c_Cf_where1 (l : Launch) (D : va_G) (c0 c1 c2 c3 c4 : Nat) (cR cI : ClassId) (ad : Nat → Nat) (rf : Nat → Option Nat) (op gr cl lo : Int32) (gA fA : Nat → Int32) (pa : Nat → cf_T) (n : Nat) (hn : n ≤ 60) : cf_PM l y_Cf_where b_Cf_where 4 (some FieldType.int) ({ frames := 1, cells := 0, slots := 0, locals := 22 }) [.ref c0, .int (-1), .int 0] D (CW c0 c1 c2 c3 c4 cR cI ad rf (nI n) 3 op gr cl lo gA fA pa) [(cR, .object "CallFrames$Argument"), (cI, .int)] (.int 4) := by
  refine cf_PM_of (by decide) (Nat.le_of_ble_eq_true rfl) ?_
  intro p e s m args below meth c hx hb hr hkk hown hlocks hml hP hK ls hl
  have hl : lv_has ls 4 [(0, .ref c0), (1, .int (-1)), (2, .int 0)] := hl
  refine lv_aload_n hx hb d_Cf_where_0 rfl (lv_at hl 0 rfl) ?_
  refine lv_iload_n hx hb d_Cf_where_1 rfl (lv_at hl 1 rfl) ?_
  refine cf_pcV (q0 := 0) (ci := 1) (As := [.int (-1)]) (rest := []) hx hb hml hown hkk (c_Cf_of1 l D c0 c1 c2 c3 c4 cR cI ad rf op gr cl lo gA fA pa n hn) ce_Cf_of cv_Cf_of kw_228 hK hP rfl rfl rfl ⟨rfl, rfl⟩ (by decide) rfl hl.1 rfl (Nat.le_of_ble_eq_true rfl) d_Cf_where_2 ⟨Nat.zero_le _, Nat.zero_le _⟩ ?_
  refine lv_astore_n (lv' := [(3, .ref c1), (0, .ref c0), (1, .int (-1)), (2, .int 0)]) hx hb d_Cf_where_5 rfl hl (by decide) rfl (fun ls hl => ?_)
  refine lv_iload_n hx hb d_Cf_where_6 rfl (lv_at hl 3 rfl) ?_
  refine lv_if_lt (tgt := 18) hx hb d_Cf_where_7 (by decide) (fun c_7 => False.elim (absurd c_7 (by decide))) (fun c_7 => ?_)
  refine lv_iload_n hx hb d_Cf_where_10 rfl (lv_at hl 3 rfl) ?_
  refine lv_aload_n hx hb d_Cf_where_11 rfl (lv_at hl 0 rfl) ?_
  refine cf_pcV (q0 := 0) (ci := 0) (As := []) (rest := [.int 0]) hx hb hml hown hkk (c_Ar_words l D c1 0 0 (-1) 0 4 (by omega)) ce_Ar_words cv_Ar_words kw_247 (cf_K0 hK) (cf_P1 (k := 1) hP rfl) rfl rfl rfl ⟨rfl, rfl⟩ (by decide) rfl hl.1 rfl (Nat.le_of_ble_eq_true rfl) d_Cf_where_12 ⟨Nat.zero_le _, Nat.zero_le _⟩ ?_
  refine lv_icmp_lt (tgt := 26) hx hb d_Cf_where_15 (by decide) (fun c_15 => ?_) (fun c_15 => False.elim (absurd c_15 (by decide)))
  refine lv_aload_n hx hb d_Cf_where_26 rfl (lv_at hl 0 rfl) ?_
  refine lv_iload_n hx hb d_Cf_where_27 rfl (lv_at hl 3 rfl) ?_
  refine cf_pcV (q0 := 0) (ci := 0) (As := [.int 0]) (rest := []) hx hb hml hown hkk (c_Ar_where_G l D c1 0 4 (-1) 0 0 rfl (by omega)) ce_Ar_whereWord cv_Ar_whereWord kw_248 (cf_K0 hK) (cf_P1 (k := 1) hP rfl) rfl rfl rfl ⟨rfl, rfl⟩ (by decide) rfl hl.1 rfl (Nat.le_of_ble_eq_true rfl) d_Cf_where_28 ⟨Nat.zero_le _, Nat.zero_le _⟩ ?_
  exact cf_iret hx hb hr hlocks (rfl) d_Cf_where_31

set_option maxHeartbeats 4000000 in
set_option maxRecDepth 100000 in
/-- where(j, w) in a register of fractions -/
theorem c_Cf_whereF (l : Launch) (D : va_G) (c0 c1 c2 c3 c4 : Nat) (cR cI : ClassId) (ad : Nat → Nat) (rf : Nat → Option Nat) (op gr cl lo : Int32) (gA fA : Nat → Int32) (pa : Nat → cf_T) (r : Int32) (kd sz al : Nat → Int32) (n : Nat) (hn : n ≤ 60) (hrf : ∀ i, i < 60 → rf i = some (ad i)) (hpa : ∀ i, i < n → pa (ad i) = p_arg r op kd sz al i) (hok : ∀ i, i < n → p_ok (kd i) (sz i)) (hat : p_at r kd sz al n ≤ 1000000) (j w : Nat) (hj : j < n) (hw : w < ((p_b (kd j) (sz j) + 3) / 4)) (hf : p_fra r op kd j) : cf_PM l y_Cf_where b_Cf_where 4 (some FieldType.int) ({ frames := 1, cells := 0, slots := 0, locals := 22 }) [.ref c0, .int (nI j), .int (nI w)] D (CW c0 c1 c2 c3 c4 cR cI ad rf (nI n) r op gr cl lo gA fA pa) [(cR, .object "CallFrames$Argument"), (cI, .int)] (.int (p_whF kd j w)) := by
  refine cf_PM_of (by decide) (Nat.le_of_ble_eq_true rfl) ?_
  intro p e s m args below meth c hx hb hr hkk hown hlocks hml hP hK ls hl
  have hl : lv_has ls 4 [(0, .ref c0), (1, .int (nI j)), (2, .int (nI w))] := hl
  refine lv_aload_n hx hb d_Cf_where_0 rfl (lv_at hl 0 rfl) ?_
  refine lv_iload_n hx hb d_Cf_where_1 rfl (lv_at hl 1 rfl) ?_
  refine cf_pcV (q0 := 0) (ci := 1) (As := [.int (nI j)]) (rest := []) hx hb hml hown hkk (c_Cf_ofJ l D c0 c1 c2 c3 c4 cR cI ad rf r op gr cl lo gA fA pa n j hn hj hrf) ce_Cf_of cv_Cf_of kw_228 hK hP rfl rfl rfl ⟨rfl, rfl⟩ (by decide) rfl hl.1 rfl (Nat.le_of_ble_eq_true rfl) d_Cf_where_2 ⟨Nat.zero_le _, Nat.zero_le _⟩ ?_
  refine lv_astore_n (lv' := [(3, .ref (ad j)), (0, .ref c0), (1, .int (nI j)), (2, .int (nI w))]) hx hb d_Cf_where_5 rfl hl (by decide) rfl (fun ls hl => ?_)
  refine lv_iload_n hx hb d_Cf_where_6 rfl (lv_at hl 3 rfl) ?_
  refine lv_if_lt (tgt := 18) hx hb d_Cf_where_7 (by decide) (fun c_7 => False.elim (nI_pos (by have := p_ok_b (hok j hj); omega) c_7)) (fun c_7 => ?_)
  refine lv_iload_n hx hb d_Cf_where_10 rfl (lv_at hl 3 rfl) ?_
  refine lv_aload_n hx hb d_Cf_where_11 rfl (lv_at hl 0 rfl) ?_
  refine cf_pcV (q0 := 0) (ci := 0) (As := []) (rest := [.int (nI w)]) hx hb hml hown hkk (c_Ar_words l D (ad j) (kd j) (nI (p_h r kd sz al j)) (if p_fra r op kd j then nI (12 + 2 * j) else -1) (if p_fra r op kd j then 1 else 0) (p_b (kd j) (sz j)) (by have := p_ok_b (hok j (by omega)); omega)) ce_Ar_words cv_Ar_words kw_247 (cf_K0 hK) (cf_P1 hP (cf_pgetA (by omega) (hpa j (by omega)))) rfl rfl rfl ⟨rfl, rfl⟩ (by decide) rfl hl.1 rfl (Nat.le_of_ble_eq_true rfl) d_Cf_where_12 ⟨Nat.zero_le _, Nat.zero_le _⟩ ?_
  refine lv_icmp_lt (tgt := 26) hx hb d_Cf_where_15 (by decide) (fun c_15 => ?_) (fun c_15 => False.elim (c_15 (nI_lt hw (by have := p_ok_b (hok j hj); omega))))
  refine lv_aload_n hx hb d_Cf_where_26 rfl (lv_at hl 0 rfl) ?_
  refine lv_iload_n hx hb d_Cf_where_27 rfl (lv_at hl 3 rfl) ?_
  refine cf_pcV (q0 := 0) (ci := 0) (As := [.int (nI w)]) (rest := []) hx hb hml hown hkk (c_Ar_where_F l D (ad j) (kd j) (nI (p_h r kd sz al j)) (nI (p_b (kd j) (sz j))) j w (by have := p_ok_b (hok j hj); omega)) ce_Ar_whereWord cv_Ar_whereWord kw_248 (cf_K0 hK) (cf_P1 hP (cf_pgetA (t := (kd j, nI (p_h r kd sz al j), nI (p_b (kd j) (sz j)), nI (12 + 2 * j), 1)) (by omega) (by rw [hpa j hj]; unfold p_arg; rw [if_pos hf, if_pos hf]))) rfl rfl rfl ⟨rfl, rfl⟩ (by decide) rfl hl.1 rfl (Nat.le_of_ble_eq_true rfl) d_Cf_where_28 ⟨Nat.zero_le _, Nat.zero_le _⟩ ?_
  exact cf_iret hx hb hr hlocks (rfl) d_Cf_where_31

set_option maxHeartbeats 4000000 in
set_option maxRecDepth 100000 in
/-- where(j, w) by its home -/
theorem c_Cf_whereG (l : Launch) (D : va_G) (c0 c1 c2 c3 c4 : Nat) (cR cI : ClassId) (ad : Nat → Nat) (rf : Nat → Option Nat) (op gr cl lo : Int32) (gA fA : Nat → Int32) (pa : Nat → cf_T) (r : Int32) (kd sz al : Nat → Int32) (n : Nat) (hn : n ≤ 60) (hrf : ∀ i, i < 60 → rf i = some (ad i)) (hpa : ∀ i, i < n → pa (ad i) = p_arg r op kd sz al i) (hok : ∀ i, i < n → p_ok (kd i) (sz i)) (hat : p_at r kd sz al n ≤ 1000000) (j w : Nat) (hj : j < n) (hw : w < ((p_b (kd j) (sz j) + 3) / 4)) (hf : ¬ p_fra r op kd j) : cf_PM l y_Cf_where b_Cf_where 4 (some FieldType.int) ({ frames := 1, cells := 0, slots := 0, locals := 22 }) [.ref c0, .int (nI j), .int (nI w)] D (CW c0 c1 c2 c3 c4 cR cI ad rf (nI n) r op gr cl lo gA fA pa) [(cR, .object "CallFrames$Argument"), (cI, .int)] (.int (p_whG (p_h r kd sz al j) w)) := by
  refine cf_PM_of (by decide) (Nat.le_of_ble_eq_true rfl) ?_
  intro p e s m args below meth c hx hb hr hkk hown hlocks hml hP hK ls hl
  have hl : lv_has ls 4 [(0, .ref c0), (1, .int (nI j)), (2, .int (nI w))] := hl
  refine lv_aload_n hx hb d_Cf_where_0 rfl (lv_at hl 0 rfl) ?_
  refine lv_iload_n hx hb d_Cf_where_1 rfl (lv_at hl 1 rfl) ?_
  refine cf_pcV (q0 := 0) (ci := 1) (As := [.int (nI j)]) (rest := []) hx hb hml hown hkk (c_Cf_ofJ l D c0 c1 c2 c3 c4 cR cI ad rf r op gr cl lo gA fA pa n j hn hj hrf) ce_Cf_of cv_Cf_of kw_228 hK hP rfl rfl rfl ⟨rfl, rfl⟩ (by decide) rfl hl.1 rfl (Nat.le_of_ble_eq_true rfl) d_Cf_where_2 ⟨Nat.zero_le _, Nat.zero_le _⟩ ?_
  refine lv_astore_n (lv' := [(3, .ref (ad j)), (0, .ref c0), (1, .int (nI j)), (2, .int (nI w))]) hx hb d_Cf_where_5 rfl hl (by decide) rfl (fun ls hl => ?_)
  refine lv_iload_n hx hb d_Cf_where_6 rfl (lv_at hl 3 rfl) ?_
  refine lv_if_lt (tgt := 18) hx hb d_Cf_where_7 (by decide) (fun c_7 => False.elim (nI_pos (by have := p_ok_b (hok j hj); omega) c_7)) (fun c_7 => ?_)
  refine lv_iload_n hx hb d_Cf_where_10 rfl (lv_at hl 3 rfl) ?_
  refine lv_aload_n hx hb d_Cf_where_11 rfl (lv_at hl 0 rfl) ?_
  refine cf_pcV (q0 := 0) (ci := 0) (As := []) (rest := [.int (nI w)]) hx hb hml hown hkk (c_Ar_words l D (ad j) (kd j) (nI (p_h r kd sz al j)) (if p_fra r op kd j then nI (12 + 2 * j) else -1) (if p_fra r op kd j then 1 else 0) (p_b (kd j) (sz j)) (by have := p_ok_b (hok j (by omega)); omega)) ce_Ar_words cv_Ar_words kw_247 (cf_K0 hK) (cf_P1 hP (cf_pgetA (by omega) (hpa j (by omega)))) rfl rfl rfl ⟨rfl, rfl⟩ (by decide) rfl hl.1 rfl (Nat.le_of_ble_eq_true rfl) d_Cf_where_12 ⟨Nat.zero_le _, Nat.zero_le _⟩ ?_
  refine lv_icmp_lt (tgt := 26) hx hb d_Cf_where_15 (by decide) (fun c_15 => ?_) (fun c_15 => False.elim (c_15 (nI_lt hw (by have := p_ok_b (hok j hj); omega))))
  refine lv_aload_n hx hb d_Cf_where_26 rfl (lv_at hl 0 rfl) ?_
  refine lv_iload_n hx hb d_Cf_where_27 rfl (lv_at hl 3 rfl) ?_
  refine cf_pcV (q0 := 0) (ci := 0) (As := [.int (nI w)]) (rest := []) hx hb hml hown hkk (c_Ar_where_G l D (ad j) (kd j) (nI (p_b (kd j) (sz j))) (-1) (p_h r kd sz al j) w (p_h_4 r kd sz al j) (by have := p_ok_b (hok j hj); have := p_h_ge r kd sz al j; have := p_at_mono r kd sz al (Nat.le_of_lt hj); omega)) ce_Ar_whereWord cv_Ar_whereWord kw_248 (cf_K0 hK) (cf_P1 hP (cf_pgetA (t := (kd j, nI (p_h r kd sz al j), nI (p_b (kd j) (sz j)), -1, 0)) (by omega) (by rw [hpa j hj]; unfold p_arg; rw [if_neg hf, if_neg hf]))) rfl rfl rfl ⟨rfl, rfl⟩ (by decide) rfl hl.1 rfl (Nat.le_of_ble_eq_true rfl) d_Cf_where_28 ⟨Nat.zero_le _, Nat.zero_le _⟩ ?_
  exact cf_iret hx hb hr hlocks (rfl) d_Cf_where_31

set_option maxHeartbeats 4000000 in
set_option maxRecDepth 100000 in
/-- about(-1, w) -/
theorem c_Cf_about1 (l : Launch) (D : va_G) (c0 c1 c2 c3 c4 : Nat) (cR cI : ClassId) (ad : Nat → Nat) (rf : Nat → Option Nat) (op gr cl lo : Int32) (gA fA : Nat → Int32) (pa : Nat → cf_T) (n : Nat) (hn : n ≤ 60) (w : Int32) (h0 : ¬ w < 0) (h2 : w ≤ 2) : cf_PM l y_Cf_about b_Cf_about 4 (some FieldType.int) ({ frames := 1, cells := 0, slots := 0, locals := 21 }) [.ref c0, .int (-1), .int w] D (CW c0 c1 c2 c3 c4 cR cI ad rf (nI n) 3 op gr cl lo gA fA pa) [(cR, .object "CallFrames$Argument"), (cI, .int)] (.int (if w = 0 then 0 else if w = 1 then 4 else 1)) := by
  refine cf_PM_of (by decide) (Nat.le_of_ble_eq_true rfl) ?_
  intro p e s m args below meth c hx hb hr hkk hown hlocks hml hP hK ls hl
  have hl : lv_has ls 4 [(0, .ref c0), (1, .int (-1)), (2, .int w)] := hl
  refine lv_aload_n hx hb d_Cf_about_0 rfl (lv_at hl 0 rfl) ?_
  refine lv_iload_n hx hb d_Cf_about_1 rfl (lv_at hl 1 rfl) ?_
  refine cf_pcV (q0 := 0) (ci := 1) (As := [.int (-1)]) (rest := []) hx hb hml hown hkk (c_Cf_of1 l D c0 c1 c2 c3 c4 cR cI ad rf op gr cl lo gA fA pa n hn) ce_Cf_of cv_Cf_of kw_228 hK hP rfl rfl rfl ⟨rfl, rfl⟩ (by decide) rfl hl.1 rfl (Nat.le_of_ble_eq_true rfl) d_Cf_about_2 ⟨Nat.zero_le _, Nat.zero_le _⟩ ?_
  refine lv_astore_n (lv' := [(3, .ref c1), (0, .ref c0), (1, .int (-1)), (2, .int w)]) hx hb d_Cf_about_5 rfl hl (by decide) rfl (fun ls hl => ?_)
  refine lv_iload_n hx hb d_Cf_about_6 rfl (lv_at hl 3 rfl) ?_
  refine lv_if_lt (tgt := 15) hx hb d_Cf_about_7 (by decide) (fun c_7 => False.elim (h0 c_7)) (fun c_7 => ?_)
  refine lv_iload_n hx hb d_Cf_about_10 rfl (lv_at hl 3 rfl) ?_
  refine lv_iconst (v := 2) hx hb d_Cf_about_11 (by decide) ?_
  refine lv_icmp_le (tgt := 23) hx hb d_Cf_about_12 (by decide) (fun c_12 => ?_) (fun c_12 => False.elim (c_12 h2))
  refine lv_iload_n hx hb d_Cf_about_23 rfl (lv_at hl 3 rfl) ?_
  refine lv_if_ne (tgt := 34) hx hb d_Cf_about_24 (by decide) (fun c_24 => ?_) (fun c_24 => ?_)
  · refine lv_iload_n hx hb d_Cf_about_34 rfl (lv_at hl 3 rfl) ?_
    refine lv_iconst (v := 1) hx hb d_Cf_about_35 (by decide) ?_
    refine lv_icmp_ne (tgt := 46) hx hb d_Cf_about_36 (by decide) (fun c_36 => ?_) (fun c_36 => ?_)
    · refine lv_aload_n hx hb d_Cf_about_46 rfl (lv_at hl 0 rfl) ?_
      refine cf_pcV (q0 := 0) (ci := 0) (As := []) (rest := []) hx hb hml hown hkk (c_Ar_words l D c1 0 0 (-1) 0 4 (by omega)) ce_Ar_words cv_Ar_words kw_247 (cf_K0 hK) (cf_P1 (k := 1) hP rfl) rfl rfl rfl ⟨rfl, rfl⟩ (by decide) rfl hl.1 rfl (Nat.le_of_ble_eq_true rfl) d_Cf_about_47 ⟨Nat.zero_le _, Nat.zero_le _⟩ ?_
      exact cf_iret hx hb hr hlocks (by simp [c_7, c_12, c_24, c_36] <;> rfl) d_Cf_about_50
    · refine lv_aload_n hx hb d_Cf_about_39 rfl (lv_at hl 0 rfl) ?_
      refine va_getN (ci := 0) hx hb (h_Arg hkk) (fun _ h => h) hown hK hP 1 rfl rfl 2 (by decide) (hkk.use kw_30 rfl) (fun _ h => h) rfl d_Cf_about_40 ?_
      refine lv_goto (tgt := 50) hx hb d_Cf_about_43 (by decide) ?_
      exact cf_iret hx hb hr hlocks (by simp [c_7, c_12, c_24, c_36] <;> rfl) d_Cf_about_50
  · refine lv_aload_n hx hb d_Cf_about_27 rfl (lv_at hl 0 rfl) ?_
    refine va_getN (ci := 0) hx hb (h_Arg hkk) (fun _ h => h) hown hK hP 1 rfl rfl 1 (by decide) (hkk.use kw_28 rfl) (fun _ h => h) rfl d_Cf_about_28 ?_
    refine lv_goto (tgt := 50) hx hb d_Cf_about_31 (by decide) ?_
    exact cf_iret hx hb hr hlocks (by simp [c_7, c_12, c_24] <;> rfl) d_Cf_about_50

set_option maxHeartbeats 4000000 in
set_option maxRecDepth 100000 in
/-- about(j, w) -/
theorem c_Cf_aboutJ (l : Launch) (D : va_G) (c0 c1 c2 c3 c4 : Nat) (cR cI : ClassId) (ad : Nat → Nat) (rf : Nat → Option Nat) (op gr cl lo : Int32) (gA fA : Nat → Int32) (pa : Nat → cf_T) (r : Int32) (kd sz al : Nat → Int32) (n : Nat) (hn : n ≤ 60) (hrf : ∀ i, i < 60 → rf i = some (ad i)) (hpa : ∀ i, i < n → pa (ad i) = p_arg r op kd sz al i) (hok : ∀ i, i < n → p_ok (kd i) (sz i)) (hat : p_at r kd sz al n ≤ 1000000) (j : Nat) (w : Int32) (hj : j < n) (h0 : ¬ w < 0) (h2 : w ≤ 2) : cf_PM l y_Cf_about b_Cf_about 4 (some FieldType.int) ({ frames := 1, cells := 0, slots := 0, locals := 21 }) [.ref c0, .int (nI j), .int w] D (CW c0 c1 c2 c3 c4 cR cI ad rf (nI n) r op gr cl lo gA fA pa) [(cR, .object "CallFrames$Argument"), (cI, .int)] (.int (if w = 0 then nI (p_h r kd sz al j) else if w = 1 then nI (p_b (kd j) (sz j)) else nI ((p_b (kd j) (sz j) + 3) / 4))) := by
  refine cf_PM_of (by decide) (Nat.le_of_ble_eq_true rfl) ?_
  intro p e s m args below meth c hx hb hr hkk hown hlocks hml hP hK ls hl
  have hl : lv_has ls 4 [(0, .ref c0), (1, .int (nI j)), (2, .int w)] := hl
  refine lv_aload_n hx hb d_Cf_about_0 rfl (lv_at hl 0 rfl) ?_
  refine lv_iload_n hx hb d_Cf_about_1 rfl (lv_at hl 1 rfl) ?_
  refine cf_pcV (q0 := 0) (ci := 1) (As := [.int (nI j)]) (rest := []) hx hb hml hown hkk (c_Cf_ofJ l D c0 c1 c2 c3 c4 cR cI ad rf r op gr cl lo gA fA pa n j hn hj hrf) ce_Cf_of cv_Cf_of kw_228 hK hP rfl rfl rfl ⟨rfl, rfl⟩ (by decide) rfl hl.1 rfl (Nat.le_of_ble_eq_true rfl) d_Cf_about_2 ⟨Nat.zero_le _, Nat.zero_le _⟩ ?_
  refine lv_astore_n (lv' := [(3, .ref (ad j)), (0, .ref c0), (1, .int (nI j)), (2, .int w)]) hx hb d_Cf_about_5 rfl hl (by decide) rfl (fun ls hl => ?_)
  refine lv_iload_n hx hb d_Cf_about_6 rfl (lv_at hl 3 rfl) ?_
  refine lv_if_lt (tgt := 15) hx hb d_Cf_about_7 (by decide) (fun c_7 => False.elim (h0 c_7)) (fun c_7 => ?_)
  refine lv_iload_n hx hb d_Cf_about_10 rfl (lv_at hl 3 rfl) ?_
  refine lv_iconst (v := 2) hx hb d_Cf_about_11 (by decide) ?_
  refine lv_icmp_le (tgt := 23) hx hb d_Cf_about_12 (by decide) (fun c_12 => ?_) (fun c_12 => False.elim (c_12 h2))
  refine lv_iload_n hx hb d_Cf_about_23 rfl (lv_at hl 3 rfl) ?_
  refine lv_if_ne (tgt := 34) hx hb d_Cf_about_24 (by decide) (fun c_24 => ?_) (fun c_24 => ?_)
  · refine lv_iload_n hx hb d_Cf_about_34 rfl (lv_at hl 3 rfl) ?_
    refine lv_iconst (v := 1) hx hb d_Cf_about_35 (by decide) ?_
    refine lv_icmp_ne (tgt := 46) hx hb d_Cf_about_36 (by decide) (fun c_36 => ?_) (fun c_36 => ?_)
    · refine lv_aload_n hx hb d_Cf_about_46 rfl (lv_at hl 0 rfl) ?_
      refine cf_pcV (q0 := 0) (ci := 0) (As := []) (rest := []) hx hb hml hown hkk (c_Ar_words l D (ad j) (kd j) (nI (p_h r kd sz al j)) (if p_fra r op kd j then nI (12 + 2 * j) else -1) (if p_fra r op kd j then 1 else 0) (p_b (kd j) (sz j)) (by have := p_ok_b (hok j (by omega)); omega)) ce_Ar_words cv_Ar_words kw_247 (cf_K0 hK) (cf_P1 hP (cf_pgetA (by omega) (hpa j (by omega)))) rfl rfl rfl ⟨rfl, rfl⟩ (by decide) rfl hl.1 rfl (Nat.le_of_ble_eq_true rfl) d_Cf_about_47 ⟨Nat.zero_le _, Nat.zero_le _⟩ ?_
      exact cf_iret hx hb hr hlocks (by simp [p_arg, c_7, c_12, c_24, c_36]) d_Cf_about_50
    · refine lv_aload_n hx hb d_Cf_about_39 rfl (lv_at hl 0 rfl) ?_
      refine va_getN (ci := 0) hx hb (h_Arg hkk) (fun _ h => h) hown hK hP (5 + j) (cf_pgetA (by omega) (hpa j (by omega))) rfl 2 (by decide) (hkk.use kw_30 rfl) (fun _ h => h) rfl d_Cf_about_40 ?_
      refine lv_goto (tgt := 50) hx hb d_Cf_about_43 (by decide) ?_
      exact cf_iret hx hb hr hlocks (by simp [p_arg, c_7, c_12, c_24, c_36]) d_Cf_about_50
  · refine lv_aload_n hx hb d_Cf_about_27 rfl (lv_at hl 0 rfl) ?_
    refine va_getN (ci := 0) hx hb (h_Arg hkk) (fun _ h => h) hown hK hP (5 + j) (cf_pgetA (by omega) (hpa j (by omega))) rfl 1 (by decide) (hkk.use kw_28 rfl) (fun _ h => h) rfl d_Cf_about_28 ?_
    refine lv_goto (tgt := 50) hx hb d_Cf_about_31 (by decide) ?_
    exact cf_iret hx hb hr hlocks (by simp [p_arg, c_7, c_12, c_24]) d_Cf_about_50

set_option maxHeartbeats 4000000 in
set_option maxRecDepth 100000 in
/-- signature(0) -/
theorem c_Cf_sig0 (l : Launch) (D : va_G) (c0 c1 c2 c3 c4 : Nat) (cR cI : ClassId) (ad : Nat → Nat) (rf : Nat → Option Nat) (op gr cl lo : Int32) (gA fA : Nat → Int32) (pa : Nat → cf_T) (r : Int32) (kd sz al : Nat → Int32) (n : Nat) (hn : n ≤ 60) (hrf : ∀ i, i < 60 → rf i = some (ad i)) (hpa : ∀ i, i < n → pa (ad i) = p_arg r op kd sz al i) (hok : ∀ i, i < n → p_ok (kd i) (sz i)) (hat : p_at r kd sz al n ≤ 1000000) : cf_PM l y_Cf_signature b_Cf_signature 2 (some FieldType.int) ({ frames := 4, cells := 0, slots := 0, locals := 80 }) [.ref c0, .int 0] D (CW c0 c1 c2 c3 c4 cR cI ad rf (nI n) r op gr cl lo gA fA pa) [(cR, .object "CallFrames$Argument"), (cI, .int)] (.int (p_sig r kd sz al n (p_area r kd sz al n) 0)) := by
  refine cf_PM_of (by decide) (Nat.le_of_ble_eq_true rfl) ?_
  intro p e s m args below meth c hx hb hr hkk hown hlocks hml hP hK ls hl
  have hl : lv_has ls 2 [(0, .ref c0), (1, .int 0)] := hl
  refine lv_iload_n hx hb d_Cf_signature_0 rfl (lv_at hl 1 rfl) ?_
  refine lv_tableIn (tgt := 32) hx hb d_Cf_signature_1 (by decide) (by decide) (off := 31) (by decide) (by decide) ?_
  refine lv_aload_n hx hb d_Cf_signature_32 rfl (lv_at hl 0 rfl) ?_
  refine cf_pcV (q0 := 0) (ci := 1) (As := []) (rest := []) hx hb hml hown hkk (c_Cf_area l D c0 c1 c2 c3 c4 cR cI ad rf op gr cl lo gA fA pa r kd sz al n hn hrf hpa hok hat) ce_Cf_area cv_Cf_area kw_91 hK hP rfl rfl rfl ⟨rfl, rfl⟩ (by decide) rfl hl.1 rfl (Nat.le_of_ble_eq_true rfl) d_Cf_signature_33 ⟨Nat.zero_le _, Nat.zero_le _⟩ ?_
  exact cf_iret hx hb hr hlocks (rfl) d_Cf_signature_36

set_option maxHeartbeats 4000000 in
set_option maxRecDepth 100000 in
/-- signature(1) -/
theorem c_Cf_sig1 (l : Launch) (D : va_G) (c0 c1 c2 c3 c4 : Nat) (cR cI : ClassId) (ad : Nat → Nat) (rf : Nat → Option Nat) (op gr cl lo : Int32) (gA fA : Nat → Int32) (pa : Nat → cf_T) (r : Int32) (kd sz al : Nat → Int32) (n : Nat) (hn : n ≤ 60) (hrf : ∀ i, i < 60 → rf i = some (ad i)) (hpa : ∀ i, i < n → pa (ad i) = p_arg r op kd sz al i) (hok : ∀ i, i < n → p_ok (kd i) (sz i)) (hat : p_at r kd sz al n ≤ 1000000) : cf_PM l y_Cf_signature b_Cf_signature 2 (some FieldType.int) ({ frames := 0, cells := 0, slots := 0, locals := 0 }) [.ref c0, .int 1] D (CW c0 c1 c2 c3 c4 cR cI ad rf (nI n) r op gr cl lo gA fA pa) [(cR, .object "CallFrames$Argument"), (cI, .int)] (.int (p_sig r kd sz al n (p_area r kd sz al n) 1)) := by
  refine cf_PM_of (by decide) (Nat.le_of_ble_eq_true rfl) ?_
  intro p e s m args below meth c hx hb hr hkk hown hlocks hml hP hK ls hl
  have hl : lv_has ls 2 [(0, .ref c0), (1, .int 1)] := hl
  refine lv_iload_n hx hb d_Cf_signature_0 rfl (lv_at hl 1 rfl) ?_
  refine lv_tableIn (tgt := 37) hx hb d_Cf_signature_1 (by decide) (by decide) (off := 36) (by decide) (by decide) ?_
  refine lv_aload_n hx hb d_Cf_signature_37 rfl (lv_at hl 0 rfl) ?_
  refine va_get (ci := 1) hx hb (h_Cf hkk) (fun _ h => h) hown hK hP 0 rfl rfl 2 (by decide) (hkk.use kw_57 rfl) (fun _ h => h) rfl d_Cf_signature_38 ?_
  exact cf_iret hx hb hr hlocks (rfl) d_Cf_signature_41

set_option maxHeartbeats 4000000 in
set_option maxRecDepth 100000 in
/-- signature(2) -/
theorem c_Cf_sig2 (l : Launch) (D : va_G) (c0 c1 c2 c3 c4 : Nat) (cR cI : ClassId) (ad : Nat → Nat) (rf : Nat → Option Nat) (op gr cl lo : Int32) (gA fA : Nat → Int32) (pa : Nat → cf_T) (r : Int32) (kd sz al : Nat → Int32) (n : Nat) (hn : n ≤ 60) (hrf : ∀ i, i < 60 → rf i = some (ad i)) (hpa : ∀ i, i < n → pa (ad i) = p_arg r op kd sz al i) (hok : ∀ i, i < n → p_ok (kd i) (sz i)) (hat : p_at r kd sz al n ≤ 1000000) (hr4 : r = 0 ∨ r = 1 ∨ r = 2 ∨ r = 3 ∨ r = 4) : cf_PM l y_Cf_signature b_Cf_signature 2 (some FieldType.int) ({ frames := 0, cells := 0, slots := 0, locals := 0 }) [.ref c0, .int 2] D (CW c0 c1 c2 c3 c4 cR cI ad rf (nI n) r op gr cl lo gA fA pa) [(cR, .object "CallFrames$Argument"), (cI, .int)] (.int (p_sig r kd sz al n (p_area r kd sz al n) 2)) := by
  refine cf_PM_of (by decide) (Nat.le_of_ble_eq_true rfl) ?_
  intro p e s m args below meth c hx hb hr hkk hown hlocks hml hP hK ls hl
  have hl : lv_has ls 2 [(0, .ref c0), (1, .int 2)] := hl
  refine lv_iload_n hx hb d_Cf_signature_0 rfl (lv_at hl 1 rfl) ?_
  refine lv_tableIn (tgt := 42) hx hb d_Cf_signature_1 (by decide) (by decide) (off := 41) (by decide) (by decide) ?_
  refine lv_aload_n hx hb d_Cf_signature_42 rfl (lv_at hl 0 rfl) ?_
  refine va_get (ci := 1) hx hb (h_Cf hkk) (fun _ h => h) hown hK hP 0 rfl rfl 3 (by decide) (hkk.use kw_58 rfl) (fun _ h => h) rfl d_Cf_signature_43 ?_
  refine lv_iconst (v := 4) hx hb d_Cf_signature_46 (by decide) ?_
  refine lv_icmp_ne (tgt := 54) hx hb d_Cf_signature_47 (by decide) (fun c_47 => ?_) (fun c_47 => ?_)
  · refine lv_aload_n hx hb d_Cf_signature_54 rfl (lv_at hl 0 rfl) ?_
    refine va_get (ci := 1) hx hb (h_Cf hkk) (fun _ h => h) hown hK hP 0 rfl rfl 3 (by decide) (hkk.use kw_58 rfl) (fun _ h => h) rfl d_Cf_signature_55 ?_
    refine lv_iconst (v := 1) hx hb d_Cf_signature_58 (by decide) ?_
    refine lv_icmp_eq (tgt := 70) hx hb d_Cf_signature_59 (by decide) (fun c_59 => ?_) (fun c_59 => ?_)
    · refine lv_bipush (v := 32) hx hb d_Cf_signature_70 (by decide) ?_
      refine lv_goto (tgt := 76) hx hb d_Cf_signature_72 (by decide) ?_
      exact cf_iret hx hb hr hlocks (by rcases hr4 with h | h | h | h | h <;> subst h <;> first | rfl | simp_all) d_Cf_signature_76
    · refine lv_aload_n hx hb d_Cf_signature_62 rfl (lv_at hl 0 rfl) ?_
      refine va_get (ci := 1) hx hb (h_Cf hkk) (fun _ h => h) hown hK hP 0 rfl rfl 3 (by decide) (hkk.use kw_58 rfl) (fun _ h => h) rfl d_Cf_signature_63 ?_
      refine lv_iconst (v := 2) hx hb d_Cf_signature_66 (by decide) ?_
      refine lv_icmp_ne (tgt := 75) hx hb d_Cf_signature_67 (by decide) (fun c_67 => ?_) (fun c_67 => ?_)
      · refine lv_iconst (v := 2) hx hb d_Cf_signature_75 (by decide) ?_
        exact cf_iret hx hb hr hlocks (by rcases hr4 with h | h | h | h | h <;> subst h <;> first | rfl | simp_all) d_Cf_signature_76
      · refine lv_bipush (v := 32) hx hb d_Cf_signature_70 (by decide) ?_
        refine lv_goto (tgt := 76) hx hb d_Cf_signature_72 (by decide) ?_
        exact cf_iret hx hb hr hlocks (by rcases hr4 with h | h | h | h | h <;> subst h <;> first | rfl | simp_all) d_Cf_signature_76
  · refine lv_iconst (v := (-1)) hx hb d_Cf_signature_50 (by decide) ?_
    refine lv_goto (tgt := 76) hx hb d_Cf_signature_51 (by decide) ?_
    exact cf_iret hx hb hr hlocks (by rcases hr4 with h | h | h | h | h <;> subst h <;> first | rfl | simp_all) d_Cf_signature_76

set_option maxHeartbeats 4000000 in
set_option maxRecDepth 100000 in
/-- signature(3) -/
theorem c_Cf_sig3 (l : Launch) (D : va_G) (c0 c1 c2 c3 c4 : Nat) (cR cI : ClassId) (ad : Nat → Nat) (rf : Nat → Option Nat) (op gr cl lo : Int32) (gA fA : Nat → Int32) (pa : Nat → cf_T) (r : Int32) (kd sz al : Nat → Int32) (n : Nat) (hn : n ≤ 60) (hrf : ∀ i, i < 60 → rf i = some (ad i)) (hpa : ∀ i, i < n → pa (ad i) = p_arg r op kd sz al i) (hok : ∀ i, i < n → p_ok (kd i) (sz i)) (hat : p_at r kd sz al n ≤ 1000000) : cf_PM l y_Cf_signature b_Cf_signature 2 (some FieldType.int) ({ frames := 3, cells := 0, slots := 0, locals := 60 }) [.ref c0, .int 3] D (CW c0 c1 c2 c3 c4 cR cI ad rf (nI n) r op gr cl lo gA fA pa) [(cR, .object "CallFrames$Argument"), (cI, .int)] (.int (p_sig r kd sz al n (p_area r kd sz al n) 3)) := by
  refine cf_PM_of (by decide) (Nat.le_of_ble_eq_true rfl) ?_
  intro p e s m args below meth c hx hb hr hkk hown hlocks hml hP hK ls hl
  have hl : lv_has ls 2 [(0, .ref c0), (1, .int 3)] := hl
  refine lv_iload_n hx hb d_Cf_signature_0 rfl (lv_at hl 1 rfl) ?_
  refine lv_tableIn (tgt := 77) hx hb d_Cf_signature_1 (by decide) (by decide) (off := 76) (by decide) (by decide) ?_
  refine lv_aload_n hx hb d_Cf_signature_77 rfl (lv_at hl 0 rfl) ?_
  refine cf_pcV (q0 := 0) (ci := 1) (As := []) (rest := []) hx hb hml hown hkk (c_Cf_end l D c0 c1 c2 c3 c4 cR cI ad rf op gr cl lo gA fA pa r kd sz al n hn hrf hpa hok hat) ce_Cf_end cv_Cf_end kw_95 hK hP rfl rfl rfl ⟨rfl, rfl⟩ (by decide) rfl hl.1 rfl (Nat.le_of_ble_eq_true rfl) d_Cf_signature_78 ⟨Nat.zero_le _, Nat.zero_le _⟩ ?_
  exact cf_iret hx hb hr hlocks (rfl) d_Cf_signature_81

set_option maxHeartbeats 4000000 in
set_option maxRecDepth 100000 in
/-- place(w, k) -/
theorem c_Cf_place (l : Launch) (D : va_G) (c0 c1 c2 c3 c4 : Nat) (cR cI : ClassId) (ad : Nat → Nat) (rf : Nat → Option Nat) (mn rs op gr cl : Int32) (gA fA : Nat → Int32) (pa : Nat → cf_T) (lc : Nat) (w : Int32) (k : Nat) (hk : k < 32) (h0 : ¬ w < 0) (h2 : ¬ 2 < w) : cf_PM l y_Cf_place b_Cf_place 3 (some FieldType.int) ({ frames := 0, cells := 0, slots := 0, locals := 0 }) [.ref c0, .int w, .int (nI k)] D (CW c0 c1 c2 c3 c4 cR cI ad rf mn rs op gr cl (nI lc) gA fA pa) [(cR, .object "CallFrames$Argument"), (cI, .int)] (.int (if w = 0 then nI lc else if w = 1 then gA k else fA k)) := by
  refine cf_PM_of (by decide) (Nat.le_of_ble_eq_true rfl) ?_
  intro p e s m args below meth c hx hb hr hkk hown hlocks hml hP hK ls hl
  have hl : lv_has ls 3 [(0, .ref c0), (1, .int w), (2, .int (nI k))] := hl
  refine lv_iload_n hx hb d_Cf_place_0 rfl (lv_at hl 1 rfl) ?_
  refine lv_if_lt (tgt := 19) hx hb d_Cf_place_1 (by decide) (fun c_1 => False.elim (h0 c_1)) (fun c_1 => ?_)
  refine lv_iload_n hx hb d_Cf_place_4 rfl (lv_at hl 1 rfl) ?_
  refine lv_iconst (v := 2) hx hb d_Cf_place_5 (by decide) ?_
  refine lv_icmp_gt (tgt := 19) hx hb d_Cf_place_6 (by decide) (fun c_6 => False.elim (h2 c_6)) (fun c_6 => ?_)
  refine lv_iload_n hx hb d_Cf_place_9 rfl (lv_at hl 2 rfl) ?_
  refine lv_if_lt (tgt := 19) hx hb d_Cf_place_10 (by decide) (fun c_10 => False.elim (nI_pos (by omega) c_10)) (fun c_10 => ?_)
  refine lv_iload_n hx hb d_Cf_place_13 rfl (lv_at hl 2 rfl) ?_
  refine lv_bipush (v := 32) hx hb d_Cf_place_14 (by decide) ?_
  refine lv_icmp_lt (tgt := 27) hx hb d_Cf_place_16 (by decide) (fun c_16 => ?_) (fun c_16 => False.elim (c_16 (nI_lt (b := 32) hk (by omega))))
  refine lv_iload_n hx hb d_Cf_place_27 rfl (lv_at hl 1 rfl) ?_
  refine lv_if_ne (tgt := 38) hx hb d_Cf_place_28 (by decide) (fun c_28 => ?_) (fun c_28 => ?_)
  · refine lv_iload_n hx hb d_Cf_place_38 rfl (lv_at hl 1 rfl) ?_
    refine lv_iconst (v := 1) hx hb d_Cf_place_39 (by decide) ?_
    refine lv_icmp_ne (tgt := 52) hx hb d_Cf_place_40 (by decide) (fun c_40 => ?_) (fun c_40 => ?_)
    · refine lv_aload_n hx hb d_Cf_place_52 rfl (lv_at hl 0 rfl) ?_
      refine va_get (ci := 1) hx hb (h_Cf hkk) (fun _ h => h) hown hK hP 0 rfl rfl 8 (by decide) (hkk.use kw_63 rfl) (fun _ h => h) rfl d_Cf_place_53 ?_
      refine lv_iload_n hx hb d_Cf_place_56 rfl (lv_at hl 2 rfl) ?_
      refine cf_iald hx hb hK hP 4 1 rfl rfl (k := k) (by omega) (by decide) d_Cf_place_57 ?_
      exact cf_iret hx hb hr hlocks (by simp [c_1, c_6, c_10, c_16, c_28, c_40]) d_Cf_place_58
    · refine lv_aload_n hx hb d_Cf_place_43 rfl (lv_at hl 0 rfl) ?_
      refine va_get (ci := 1) hx hb (h_Cf hkk) (fun _ h => h) hown hK hP 0 rfl rfl 7 (by decide) (hkk.use kw_62 rfl) (fun _ h => h) rfl d_Cf_place_44 ?_
      refine lv_iload_n hx hb d_Cf_place_47 rfl (lv_at hl 2 rfl) ?_
      refine cf_iald hx hb hK hP 3 1 rfl rfl (k := k) (by omega) (by decide) d_Cf_place_48 ?_
      refine lv_goto (tgt := 58) hx hb d_Cf_place_49 (by decide) ?_
      exact cf_iret hx hb hr hlocks (by simp [c_1, c_6, c_10, c_16, c_28, c_40]) d_Cf_place_58
  · refine lv_aload_n hx hb d_Cf_place_31 rfl (lv_at hl 0 rfl) ?_
    refine va_get (ci := 1) hx hb (h_Cf hkk) (fun _ h => h) hown hK hP 0 rfl rfl 9 (by decide) (hkk.use kw_64 rfl) (fun _ h => h) rfl d_Cf_place_32 ?_
    refine lv_goto (tgt := 58) hx hb d_Cf_place_35 (by decide) ?_
    exact cf_iret hx hb hr hlocks (by simp [c_1, c_6, c_10, c_16, c_28]) d_Cf_place_58
end
section
/-! ROWS for the component's world: an array's contents where they count, one argument of the pool -/
theorem cf_arrc {cA : ClassId} {n : Nat} {f g : Nat → Int32} (h : ∀ i, i < n → f i = g i) : vp_cell cA (n, .inl f) = vp_cell cA (n, .inl g) := by
  rw [vp_cell_i, vp_cell_i]
  unfold arrV
  congr 2
  funext j
  show Value.int (f j.val) = Value.int (g j.val)
  rw [h j.val j.isLt]
theorem cf_setA {D : va_G} {ws : va_W} {H : Heap} {k a : Nat} {cA : ClassId} {n : Nat} {f g : Nat → Int32} (hP : va_P D cf_cl ws H) (hk : ws[k]? = some (a, .inl (cA, n, .inl f))) (h : ∀ i, i < n → f i = g i) : va_P D cf_cl (ws.set k (a, .inl (cA, n, .inl g))) H := by
  intro j q hj
  rw [List.getElem?_set] at hj
  by_cases hjk : k = j
  · subst hjk
    rw [if_pos rfl, if_pos (List.getElem?_eq_some_iff.mp hk).1] at hj
    cases hj
    show H[a]? = some (vp_cell cA (n, .inl g))
    rw [← cf_arrc h]
    exact hP k _ hk
  · rw [if_neg hjk] at hj
    exact hP j q hj
/-- one cell of a world has come back changed, the others are as they were -/
theorem cf_set1 {D : va_G} {A : Nat → Prop} {ws : va_W} {H H1 : Heap} {k a : Nat} {e0 e : va_E} (hP : va_P D cf_cl ws H) (hD : va_D A ws) (hk : ws[k]? = some (a, e0)) (h1 : va_P D cf_cl [(a, e)] H1) (hf : ∀ q : Nat, q < H.size → ¬ va_A [(a, e0)] H.size q → H1[q]? = H[q]?) : va_P D cf_cl (ws.set k (a, e)) H1 := by
  intro j q hj
  rw [List.getElem?_set] at hj
  by_cases hjk : k = j
  · subst hjk
    rw [if_pos rfl, if_pos (List.getElem?_eq_some_iff.mp hk).1] at hj
    cases hj
    exact h1 0 _ rfl
  · rw [if_neg hjk] at hj
    have hlt := (hP j q hj).lt
    refine (hP j q hj).kept (hf q.1 hlt (fun h => ?_))
    rcases h with ⟨i, x, hi⟩ | h
    · have hz : i < 1 := (List.getElem?_eq_some_iff.mp hi).1
      rw [show i = 0 by omega] at hi
      have : a = q.1 := by
        have := Option.some.inj hi
        exact congrArg Prod.fst this
      exact hjk (hD.1 k j _ _ hk hj this)
    · omega
theorem cf_avup (pa : Nat → cf_T) (a : Nat) (t : cf_T) : ∀ q, va_up (fun q => (.inr (0, cf_av (pa q)) : va_E)) a (.inr (0, cf_av t)) q = .inr (0, cf_av (va_up pa a t q)) := by
  intro q
  unfold va_up
  split <;> rfl
section CWQ
variable {c0 c1 c2 c3 c4 : Nat} {cR cI : ClassId} {ad : Nat → Nat} {rf : Nat → Option Nat} {mn rs op gr cl lo : Int32} {gA fA : Nat → Int32} {pa : Nat → cf_T}
theorem cf_pset {A : Nat → Prop} (hD : va_D A (CW c0 c1 c2 c3 c4 cR cI ad rf mn rs op gr cl lo gA fA pa)) {j : Nat} (hj : j < 60) (t : cf_T) : (CW c0 c1 c2 c3 c4 cR cI ad rf mn rs op gr cl lo gA fA pa).set (5 + j) (ad j, .inr (0, cf_av t)) = CW c0 c1 c2 c3 c4 cR cI ad rf mn rs op gr cl lo gA fA (va_up pa (ad j) t) := by
  have h := va_pl_set (e := .inr (0, cf_av t)) hD (a := ad j) (k := 5 + j) (List.mem_map.mpr ⟨j, List.mem_range.mpr hj, rfl⟩) (cf_pget hj)
  rw [h, va_pl_congr (cf_avup pa (ad j) t)]
/-- the pool's addresses are apart -/
theorem cf_inj {A : Nat → Prop} (hD : va_D A (CW c0 c1 c2 c3 c4 cR cI ad rf mn rs op gr cl lo gA fA pa)) {i j : Nat} (hi : i < 60) (hj : j < 60) (h : ad i = ad j) : i = j := by
  have := hD.1 (5 + i) (5 + j) _ _ (cf_pget hi) (cf_pget hj) h
  omega
theorem cf_upne {A : Nat → Prop} (hD : va_D A (CW c0 c1 c2 c3 c4 cR cI ad rf mn rs op gr cl lo gA fA pa)) {i j : Nat} (hi : i < 60) (hj : j < 60) (hne : i ≠ j) (t : cf_T) : va_up pa (ad j) t (ad i) = pa (ad i) := va_up_ne _ _ (fun h => hne (cf_inj hD hi hj h))
theorem cf_addr {mn' rs' op' gr' cl' lo' : Int32} {gA' fA' : Nat → Int32} {pa' : Nat → cf_T} : (CW c0 c1 c2 c3 c4 cR cI ad rf mn rs op gr cl lo gA fA pa).map (fun q => q.1) = (CW c0 c1 c2 c3 c4 cR cI ad rf mn' rs' op' gr' cl' lo' gA' fA' pa').map (fun q => q.1) := by
  simp [CW, va_pl]
end CWQ
/-! numbers of add -/
theorem p_upw {x : Nat} {kind a v : Int32} (hx : x < 2 ^ 30) (h4 : x % 4 = 0) (e : v = if p_w kind a then 8 else 4) : (nI x + v - 1) &&& (-v) = nI (p_nh x kind a) := by
  unfold p_nh
  by_cases h : p_w kind a
  · rw [if_pos h] at e ⊢
    subst e
    exact p_up8 hx
  · rw [if_neg h] at e ⊢
    subst e
    rw [p_up4 hx]
    congr 1
    have := p_ub4 x
    omega
theorem p_nh4 {x : Nat} (kind a : Int32) (h4 : x % 4 = 0) : p_nh x kind a % 4 = 0 := by
  have := p_ub8 x
  unfold p_nh
  split <;> omega
theorem p_neI {x : Nat} {kind size : Int32} (a : Int32) (h4 : x % 4 = 0) : p_u (p_nh x kind a + p_b kind size) 4 = p_ne x kind size a := by
  have h1 := p_nh4 kind a h4
  have h2 := p_ub4 (p_b kind size)
  have h3 := p_ub4 (p_nh x kind a + p_b kind size)
  unfold p_ne
  omega
theorem p_ldI {cl gm v : Int32} (e : v = if cl ≤ 0 then 0 else (-2147483648)) : gm ||| v = p_lg cl gm := by
  unfold p_lg
  by_cases h : cl ≤ 0
  · rw [if_pos h] at e ⊢
    subst e
    apply b_ext
    intro i _
    rw [b_or, b_0]
    simp
  · rw [if_neg h] at e ⊢
    rw [e]
theorem p_u8id {g : Nat} (h : g % 8 = 0) : p_u g 8 = g := by
  have := p_ub8 g
  omega
/-- the masks' bits -/
theorem p_fm_z {fm : Int32} (h : fm &&& (-1431306241) = 0) {k : Nat} (hk : k < 32) (hz : k < 20 ∨ k % 2 = 1) : p_z fm k :=
  p_off h hk ((by decide +kernel : ∀ k, k < 32 → (k < 20 ∨ k % 2 = 1) → bt (-1431306241) k = true) k hk hz)
theorem p_lg_z {cl gm : Int32} (h : gm &&& 1057030143 = 0) {k : Nat} (hk : k < 16) : p_z (p_lg cl gm) k := by
  have h1 : p_z gm k := p_off h (by omega) ((by decide +kernel : ∀ k, k < 16 → bt 1057030143 k = true) k hk)
  unfold p_lg
  split
  · exact h1
  · rw [p_zb _ (by omega)] at h1 ⊢
    rw [b_or, h1, (by decide +kernel : ∀ k, k < 16 → bt (-2147483648) k = false) k hk]
    rfl
theorem p_c2 {m : Int32} {k : Nat} (h : p_z m (k + 1)) : p_c m (k + 2) = p_c m k + (if p_z m k then 0 else 1) := by
  show p_c m k + _ + (if p_z m (k + 1) then 0 else 1) = _
  rw [if_pos h]
  rfl
/-- the row of fractions behind the registers below k -/
def p_row (m : Int32) (st e k j : Nat) : Int32 := if j < k ∧ ¬ p_z m j then nI (st + e * p_c m j) else -1
theorem p_row_0 {m : Int32} {st e k : Nat} (h : ∀ i, i < k → p_z m i) (j : Nat) : p_row m st e k j = -1 := by
  unfold p_row
  rw [if_neg (fun q => q.2 (h j q.1))]
theorem p_row_s {m : Int32} {st e k : Nat} (hz : ¬ p_z m k) (j : Nat) : upd (p_row m st e k) k (nI (st + e * p_c m k)) j = p_row m st e (k + 1) j := by
  by_cases h : j = k
  · subst h
    rw [pk_us]
    unfold p_row
    rw [if_pos ⟨Nat.lt_succ_self j, hz⟩]
  · rw [pk_un h]
    unfold p_row
    by_cases h2 : j < k ∧ ¬ p_z m j
    · rw [if_pos h2, if_pos ⟨by omega, h2.2⟩]
    · rw [if_neg h2, if_neg (fun q => h2 ⟨by omega, q.2⟩)]
theorem p_row_z {m : Int32} {st e k : Nat} (hz : p_z m k) (j : Nat) : p_row m st e k j = p_row m st e (k + 1) j := by
  unfold p_row
  by_cases h2 : j < k ∧ ¬ p_z m j
  · rw [if_pos h2, if_pos ⟨by omega, h2.2⟩]
  · rw [if_neg h2, if_neg (fun q => h2 ⟨by
      rcases Nat.lt_or_ge j k with h | h
      · exact h
      · exact absurd (show p_z m j by rw [show j = k by omega]; exact hz) q.2, q.2⟩)]
theorem p_row_f {la lb : Nat} {lf : Int32} {j : Nat} (hj : j < 32) : p_row lf (p_u (la + lb) 8) 8 32 j = p_pf la lb lf j := by
  unfold p_row p_pf
  by_cases h : p_z lf j
  · rw [if_pos h, if_neg (fun q => q.2 h)]
  · rw [if_neg h, if_pos ⟨hj, h⟩]
theorem p_row_g {la lb : Nat} {lg lf : Int32} {j : Nat} (hj : j < 32) : p_row lg (p_ga la lb lf) 4 32 j = p_pg la lb lg lf j := by
  unfold p_row p_pg
  by_cases h : p_z lg j
  · rw [if_pos h, if_neg (fun q => q.2 h)]
  · rw [if_neg h, if_pos ⟨hj, h⟩]
theorem p_mxI {g a : Nat} (hg : g < 2 ^ 31) (ha : a < 2 ^ 31) : (if nI g < nI a then nI a else nI g) = nI (p_mx g a) := by
  unfold p_mx
  by_cases h : g < a
  · rw [if_pos h, if_pos (nI_lt h ha)]
  · rw [if_neg h, if_neg (fun q => h ((nI_ltI hg ha).mp q))]
theorem p_upc {f g : Nat → Int32} {N : Nat} (h : ∀ j, j < N → f j = g j) (k : Nat) (v : Int32) {j : Nat} (hj : j < N) : upd f k v j = upd g k v j := by
  by_cases hk : j = k
  · subst hk; rw [pk_us, pk_us]
  · rw [pk_un hk, pk_un hk, h j hj]
end
section
/-! THE COMPONENT: what writes (printed by gen/compI.py) -/
theorem cf_freeC {A0 : Nat → Prop} {ws : va_W} {H0 H : Heap} {locs : List Loc} (hD : va_D A0 ws) (hS : va_S A0 H0 H locs) (hA : ∀ q, H0.size ≤ q → A0 q) : ∀ q, va_A ws H.size q → A0 q := by
  intro q h
  rcases h with ⟨k, e, h⟩ | h
  · exact hD.2 k _ h
  · exact hA q (Nat.le_trans hS.1 h)
set_option maxHeartbeats 4000000 in
set_option maxRecDepth 100000 in
/-- empty() -/
theorem c_Cf_empty (l : Launch) (D : va_G) (c0 c1 c2 c3 c4 : Nat) (cR cI : ClassId) (ad : Nat → Nat) (rf : Nat → Option Nat) (mn rs op gr cl lo : Int32) (gA fA : Nat → Int32) (pa : Nat → cf_T) (hD0 : va_D (fun _ => True) (CW c0 c1 c2 c3 c4 cR cI ad rf mn rs op gr cl lo gA fA pa)) : cf_IM l y_Cf_empty b_Cf_empty 2 none ({ frames := 0, cells := 0, slots := 0, locals := 0 }) [.ref c0] D (CW c0 c1 c2 c3 c4 cR cI ad rf mn rs op gr cl lo gA fA pa) [(cR, .object "CallFrames$Argument"), (cI, .int)] (none) (CW c0 c1 c2 c3 c4 cR cI ad rf mn rs op gr cl 0 (fun _ => -1) (fun _ => -1) pa) := by
  refine cf_IM_of (by decide) (Nat.le_of_ble_eq_true rfl) hD0 ?_
  intro p e s m args below meth c A hx hb hr hkk hown hlocks hml hin hP hK hD hS hA hAe ls hl
  have hl : lv_has ls 2 [(0, .ref c0)] := hl
  refine lv_aload_n hx hb d_Cf_empty_0 rfl (lv_at hl 0 rfl) ?_
  refine lv_iconst (v := 0) hx hb d_Cf_empty_1 (by decide) ?_
  refine va_put (ci := 1) (v := .int 0) (ty := .int) hx hb (h_Cf hkk) (fun _ h => h) t_Cf t_Cf_ok n_Cf hown hK hP hD hS 0 rfl rfl 9 (by decide) (hkk.use kw_64 rfl) (fun _ h => h) rfl (by decide +kernel) rfl rfl (Nat.le_of_ble_eq_true rfl) d_Cf_empty_2 (fun H locs hP hD hS => ?_)
  have hP : va_P D cf_cl (CW c0 c1 c2 c3 c4 cR cI ad rf mn rs op gr cl 0 gA fA pa) H := hP
  have hD : va_D A (CW c0 c1 c2 c3 c4 cR cI ad rf mn rs op gr cl 0 gA fA pa) := hD
  refine lv_iconst (v := 0) hx hb d_Cf_empty_5 (by decide) ?_
  refine lv_istore_n (lv' := [(1, .int 0), (0, .ref c0)]) hx hb d_Cf_empty_6 rfl hl (by decide) rfl (fun ls hl => ?_)
  refine cf_down 7 (fun n1 H1 locs1 z1 z2 ls => ∃ (k : Nat) (gg ff : Nat → Int32), k + n1 = 32 ∧ z1 = 0 ∧ z2 = 0 ∧ (∀ i, i < k → gg i = -1 ∧ ff i = -1) ∧ va_P D cf_cl (CW c0 c1 c2 c3 c4 cR cI ad rf mn rs op gr cl 0 gg ff pa) H1 ∧ va_D A (CW c0 c1 c2 c3 c4 cR cI ad rf mn rs op gr cl 0 gg ff pa) ∧ va_S A s.heap H1 locs1 ∧ lv_has ls 2 [(1, .int (nI k)), (0, .ref c0)]) (fun n1 H locs z1 z2 ls hI IH => ?_) 32 H locs 0 0 ls ⟨0, gA, fA, by omega, rfl, rfl, fun i hi => absurd hi (Nat.not_lt_zero i), hP, hD, hS, hl⟩
  obtain ⟨k, gg, ff, hk, rfl, rfl, hgf, hP, hD, hS, hl⟩ := hI
  refine lv_iload_n hx hb d_Cf_empty_7 rfl (lv_at hl 0 rfl) ?_
  refine lv_bipush (v := 32) hx hb d_Cf_empty_8 (by decide) ?_
  refine lv_icmp_ge (tgt := 33) hx hb d_Cf_empty_10 (by decide) (fun c_10 => ?_) (fun c_10 => ?_)
  · have hk32 : k = 32 := by have := (nI_leI (a := 32) (by omega) (by omega)).mp c_10; omega
    have hP := cf_setA hP (k := 3) rfl (g := fun _ => -1) (fun i hi => (hgf i (by omega)).1)
    have hP := cf_setA hP (k := 4) rfl (g := fun _ => -1) (fun i hi => (hgf i (by omega)).2)
    have hP : va_P D cf_cl (CW c0 c1 c2 c3 c4 cR cI ad rf mn rs op gr cl 0 (fun _ => -1) (fun _ => -1) pa) H := hP
    exact cf_vretI hx hb hr hlocks hP hS (Nat.zero_le _) (Nat.zero_le _) d_Cf_empty_33
  · have hk32 : k < 32 := Nat.lt_of_not_le (fun h => c_10 (nI_le (a := 32) h (by omega)))
    refine lv_aload_n hx hb d_Cf_empty_13 rfl (lv_at hl 1 rfl) ?_
    refine va_get (ci := 1) hx hb (h_Cf hkk) (fun _ h => h) hown hK hP 0 rfl rfl 7 (by decide) (hkk.use kw_62 rfl) (fun _ h => h) rfl d_Cf_empty_14 ?_
    refine lv_iload_n hx hb d_Cf_empty_17 rfl (lv_at hl 0 rfl) ?_
    refine lv_iconst (v := (-1)) hx hb d_Cf_empty_18 (by decide) ?_
    refine cf_iast hx hb hK hP hD hS 3 1 rfl rfl (k := k) (by omega) (by decide) d_Cf_empty_19 (fun H locs hP hD hS => ?_)
    have hP : va_P D cf_cl (CW c0 c1 c2 c3 c4 cR cI ad rf mn rs op gr cl 0 (upd gg k (-1)) ff pa) H := hP
    have hD : va_D A (CW c0 c1 c2 c3 c4 cR cI ad rf mn rs op gr cl 0 (upd gg k (-1)) ff pa) := hD
    refine lv_aload_n hx hb d_Cf_empty_20 rfl (lv_at hl 1 rfl) ?_
    refine va_get (ci := 1) hx hb (h_Cf hkk) (fun _ h => h) hown hK hP 0 rfl rfl 8 (by decide) (hkk.use kw_63 rfl) (fun _ h => h) rfl d_Cf_empty_21 ?_
    refine lv_iload_n hx hb d_Cf_empty_24 rfl (lv_at hl 0 rfl) ?_
    refine lv_iconst (v := (-1)) hx hb d_Cf_empty_25 (by decide) ?_
    refine cf_iast hx hb hK hP hD hS 4 1 rfl rfl (k := k) (by omega) (by decide) d_Cf_empty_26 (fun H locs hP hD hS => ?_)
    have hP : va_P D cf_cl (CW c0 c1 c2 c3 c4 cR cI ad rf mn rs op gr cl 0 (upd gg k (-1)) (upd ff k (-1)) pa) H := hP
    have hD : va_D A (CW c0 c1 c2 c3 c4 cR cI ad rf mn rs op gr cl 0 (upd gg k (-1)) (upd ff k (-1)) pa) := hD
    refine lv_iinc (v := nI (k + 1)) (lv' := [(1, .int (nI (k + 1))), (0, .ref c0)]) hx hb d_Cf_empty_27 hl (k := 0) rfl (nI_1 k) (by decide) rfl (fun ls hl => ?_)
    refine lv_goto (tgt := 7) hx hb d_Cf_empty_30 (by decide) ?_
    refine IH (n1 - 1) H locs 0 0 ls (by omega) ⟨k + 1, _, _, by omega, rfl, rfl, fun i hi => ⟨?_, ?_⟩, hP, hD, hS, hl⟩
    all_goals
      by_cases hik : i = k
      · subst hik; exact pk_us
      · rw [pk_un hik]; first | exact (hgf i (by omega)).1 | exact (hgf i (by omega)).2

set_option maxHeartbeats 4000000 in
set_option maxRecDepth 100000 in
/-- begin -/
theorem c_Cf_begin_ok (l : Launch) (D : va_G) (c0 c1 c2 c3 c4 : Nat) (cR cI : ClassId) (ad : Nat → Nat) (rf : Nat → Option Nat) (mn rs op gr cl lo : Int32) (gA fA : Nat → Int32) (pa : Nat → cf_T) (kind size a o2 : Int32) (hop : o2 = 0 ∨ o2 = 1) (hg : p_good kind 4 size a = true) (hD0 : va_D (fun _ => True) (CW c0 c1 c2 c3 c4 cR cI ad rf mn rs op gr cl lo gA fA pa)) : cf_IM l y_Cf_begin b_Cf_begin 5 none ({ frames := 1, cells := 0, slots := 0, locals := 21 }) [.ref c0, .int kind, .int size, .int a, .int o2] D (CW c0 c1 c2 c3 c4 cR cI ad rf mn rs op gr cl lo gA fA pa) [(cR, .object "CallFrames$Argument"), (cI, .int)] (none) (CW c0 c1 c2 c3 c4 cR cI ad rf 0 kind o2 gr cl lo gA fA pa) := by
  refine cf_IM_of (by decide) (Nat.le_of_ble_eq_true rfl) hD0 ?_
  intro p e s m args below meth c A hx hb hr hkk hown hlocks hml hin hP hK hD hS hA hAe ls hl
  have hl : lv_has ls 5 [(0, .ref c0), (1, .int kind), (2, .int size), (3, .int a), (4, .int o2)] := hl
  refine lv_iload_n hx hb d_Cf_begin_0 rfl (lv_at hl 1 rfl) ?_
  refine lv_if_lt (tgt := 22) hx hb d_Cf_begin_1 (by decide) (fun c_1 => False.elim ((of_decide_eq_true hg).1 c_1)) (fun c_1 => ?_)
  refine lv_iload_n hx hb d_Cf_begin_4 rfl (lv_at hl 1 rfl) ?_
  refine lv_iconst (v := 4) hx hb d_Cf_begin_5 (by decide) ?_
  refine lv_icmp_gt (tgt := 22) hx hb d_Cf_begin_6 (by decide) (fun c_6 => False.elim ((of_decide_eq_true hg).2.1 c_6)) (fun c_6 => ?_)
  refine lv_iload_n hx hb d_Cf_begin_9 rfl (lv_at hl 1 rfl) ?_
  refine lv_iconst (v := 3) hx hb d_Cf_begin_10 (by decide) ?_
  refine lv_icmp_ne (tgt := 30) hx hb d_Cf_begin_11 (by decide) (fun c_11 => ?_) (fun c_11 => ?_)
  · refine lv_aload_n hx hb d_Cf_begin_30 rfl (lv_at hl 0 rfl) ?_
    refine lv_iload_n hx hb d_Cf_begin_31 rfl (lv_at hl 1 rfl) ?_
    refine va_put (ci := 1) (v := .int kind) (ty := .int) hx hb (h_Cf hkk) (fun _ h => h) t_Cf t_Cf_ok n_Cf hown hK hP hD hS 0 rfl rfl 3 (by decide) (hkk.use kw_58 rfl) (fun _ h => h) rfl (by decide +kernel) rfl rfl (Nat.le_of_ble_eq_true rfl) d_Cf_begin_32 (fun H locs hP hD hS => ?_)
    have hP : va_P D cf_cl (CW c0 c1 c2 c3 c4 cR cI ad rf mn kind op gr cl lo gA fA pa) H := hP
    have hD : va_D A (CW c0 c1 c2 c3 c4 cR cI ad rf mn kind op gr cl lo gA fA pa) := hD
    refine lv_aload_n hx hb d_Cf_begin_35 rfl (lv_at hl 0 rfl) ?_
    refine lv_iload hx hb d_Cf_begin_36 (lv_at hl 4 rfl) ?_
    refine va_put (ci := 1) (v := .int o2) (ty := .boolean) hx hb (h_Cf hkk) (fun _ h => h) t_Cf t_Cf_ok n_Cf hown hK hP hD hS 0 rfl rfl 4 (by decide) (hkk.use kw_59 rfl) (fun _ h => h) rfl (by decide +kernel) (by rcases hop with h | h <;> rw [h] <;> rfl) (by rcases hop with h | h <;> rw [h] <;> rfl) (Nat.le_of_ble_eq_true rfl) d_Cf_begin_38 (fun H locs hP hD hS => ?_)
    have hP : va_P D cf_cl (CW c0 c1 c2 c3 c4 cR cI ad rf mn kind o2 gr cl lo gA fA pa) H := hP
    have hD : va_D A (CW c0 c1 c2 c3 c4 cR cI ad rf mn kind o2 gr cl lo gA fA pa) := hD
    refine lv_aload_n hx hb d_Cf_begin_41 rfl (lv_at hl 0 rfl) ?_
    refine lv_iconst (v := 0) hx hb d_Cf_begin_42 (by decide) ?_
    refine va_put (ci := 1) (v := .int 0) (ty := .int) hx hb (h_Cf hkk) (fun _ h => h) t_Cf t_Cf_ok n_Cf hown hK hP hD hS 0 rfl rfl 2 (by decide) (hkk.use kw_57 rfl) (fun _ h => h) rfl (by decide +kernel) rfl rfl (Nat.le_of_ble_eq_true rfl) d_Cf_begin_43 (fun H locs hP hD hS => ?_)
    have hP : va_P D cf_cl (CW c0 c1 c2 c3 c4 cR cI ad rf 0 kind o2 gr cl lo gA fA pa) H := hP
    have hD : va_D A (CW c0 c1 c2 c3 c4 cR cI ad rf 0 kind o2 gr cl lo gA fA pa) := hD
    exact cf_vretI hx hb hr hlocks hP hS (Nat.zero_le _) (Nat.zero_le _) d_Cf_begin_46
  · refine lv_iload_n hx hb d_Cf_begin_14 rfl (lv_at hl 2 rfl) ?_
    refine lv_iload_n hx hb d_Cf_begin_15 rfl (lv_at hl 3 rfl) ?_
    refine cf_pcS (As := [.int size, .int a]) (rest := []) hx hb hml hown hkk (c_Cf_canBe l D size a) ce_Cf_canBe cs_Cf_canBe kw_125 (cf_K0 hK) cf_P0 ⟨rfl, rfl⟩ (by decide) rfl hl.1 rfl (Nat.le_of_ble_eq_true rfl) d_Cf_begin_16 ⟨Nat.zero_le _, Nat.zero_le _⟩ ?_
    refine lv_if_ne (tgt := 30) hx hb d_Cf_begin_19 (by decide) (fun c_19 => ?_) (fun c_19 => False.elim (p_bit0 rfl c_19 ((of_decide_eq_true hg).2.2 c_11)))
    refine lv_aload_n hx hb d_Cf_begin_30 rfl (lv_at hl 0 rfl) ?_
    refine lv_iload_n hx hb d_Cf_begin_31 rfl (lv_at hl 1 rfl) ?_
    refine va_put (ci := 1) (v := .int kind) (ty := .int) hx hb (h_Cf hkk) (fun _ h => h) t_Cf t_Cf_ok n_Cf hown hK hP hD hS 0 rfl rfl 3 (by decide) (hkk.use kw_58 rfl) (fun _ h => h) rfl (by decide +kernel) rfl rfl (Nat.le_of_ble_eq_true rfl) d_Cf_begin_32 (fun H locs hP hD hS => ?_)
    have hP : va_P D cf_cl (CW c0 c1 c2 c3 c4 cR cI ad rf mn kind op gr cl lo gA fA pa) H := hP
    have hD : va_D A (CW c0 c1 c2 c3 c4 cR cI ad rf mn kind op gr cl lo gA fA pa) := hD
    refine lv_aload_n hx hb d_Cf_begin_35 rfl (lv_at hl 0 rfl) ?_
    refine lv_iload hx hb d_Cf_begin_36 (lv_at hl 4 rfl) ?_
    refine va_put (ci := 1) (v := .int o2) (ty := .boolean) hx hb (h_Cf hkk) (fun _ h => h) t_Cf t_Cf_ok n_Cf hown hK hP hD hS 0 rfl rfl 4 (by decide) (hkk.use kw_59 rfl) (fun _ h => h) rfl (by decide +kernel) (by rcases hop with h | h <;> rw [h] <;> rfl) (by rcases hop with h | h <;> rw [h] <;> rfl) (Nat.le_of_ble_eq_true rfl) d_Cf_begin_38 (fun H locs hP hD hS => ?_)
    have hP : va_P D cf_cl (CW c0 c1 c2 c3 c4 cR cI ad rf mn kind o2 gr cl lo gA fA pa) H := hP
    have hD : va_D A (CW c0 c1 c2 c3 c4 cR cI ad rf mn kind o2 gr cl lo gA fA pa) := hD
    refine lv_aload_n hx hb d_Cf_begin_41 rfl (lv_at hl 0 rfl) ?_
    refine lv_iconst (v := 0) hx hb d_Cf_begin_42 (by decide) ?_
    refine va_put (ci := 1) (v := .int 0) (ty := .int) hx hb (h_Cf hkk) (fun _ h => h) t_Cf t_Cf_ok n_Cf hown hK hP hD hS 0 rfl rfl 2 (by decide) (hkk.use kw_57 rfl) (fun _ h => h) rfl (by decide +kernel) rfl rfl (Nat.le_of_ble_eq_true rfl) d_Cf_begin_43 (fun H locs hP hD hS => ?_)
    have hP : va_P D cf_cl (CW c0 c1 c2 c3 c4 cR cI ad rf 0 kind o2 gr cl lo gA fA pa) H := hP
    have hD : va_D A (CW c0 c1 c2 c3 c4 cR cI ad rf 0 kind o2 gr cl lo gA fA pa) := hD
    exact cf_vretI hx hb hr hlocks hP hS (Nat.zero_le _) (Nat.zero_le _) d_Cf_begin_46

set_option maxHeartbeats 4000000 in
set_option maxRecDepth 100000 in
/-- call() -/
theorem c_Cf_call (l : Launch) (D : va_G) (c0 c1 c2 c3 c4 : Nat) (cR cI : ClassId) (ad : Nat → Nat) (rf : Nat → Option Nat) (op cl lo : Int32) (gA fA : Nat → Int32) (pa : Nat → cf_T) (r : Int32) (kd sz al : Nat → Int32) (n : Nat) (hn : n ≤ 60) (hrf : ∀ i, i < 60 → rf i = some (ad i)) (hpa : ∀ i, i < n → pa (ad i) = p_arg r op kd sz al i) (hok : ∀ i, i < n → p_ok (kd i) (sz i)) (hat : p_at r kd sz al n ≤ 1000000) (g : Nat) (hg : g ≤ 1000000) (hD0 : va_D (fun _ => True) (CW c0 c1 c2 c3 c4 cR cI ad rf (nI n) r op (nI g) cl lo gA fA pa)) : cf_IM l y_Cf_call b_Cf_call 1 (some FieldType.int) ({ frames := 4, cells := 0, slots := 0, locals := 80 }) [.ref c0] D (CW c0 c1 c2 c3 c4 cR cI ad rf (nI n) r op (nI g) cl lo gA fA pa) [(cR, .object "CallFrames$Argument"), (cI, .int)] (some (.int (nI (p_mx g (p_area r kd sz al n))))) (CW c0 c1 c2 c3 c4 cR cI ad rf (nI n) r op (nI (p_mx g (p_area r kd sz al n))) (cl + 1) lo gA fA pa) := by
  refine cf_IM_of (by decide) (Nat.le_of_ble_eq_true rfl) hD0 ?_
  intro p e s m args below meth c A hx hb hr hkk hown hlocks hml hin hP hK hD hS hA hAe ls hl
  have hl : lv_has ls 1 [(0, .ref c0)] := hl
  refine lv_aload_n hx hb d_Cf_call_0 rfl (lv_at hl 0 rfl) ?_
  refine lv_dup hx hb d_Cf_call_1 rfl ?_
  refine va_get (ci := 1) hx hb (h_Cf hkk) (fun _ h => h) hown hK hP 0 rfl rfl 6 (by decide) (hkk.use kw_61 rfl) (fun _ h => h) rfl d_Cf_call_2 ?_
  refine lv_iconst (v := 1) hx hb d_Cf_call_5 (by decide) ?_
  refine lv_iadd hx hb d_Cf_call_6 ?_
  refine va_put (ci := 1) (v := .int (cl + 1)) (ty := .int) hx hb (h_Cf hkk) (fun _ h => h) t_Cf t_Cf_ok n_Cf hown hK hP hD hS 0 rfl rfl 6 (by decide) (hkk.use kw_61 rfl) (fun _ h => h) rfl (by decide +kernel) rfl rfl (Nat.le_of_ble_eq_true rfl) d_Cf_call_7 (fun H locs hP hD hS => ?_)
  have hP : va_P D cf_cl (CW c0 c1 c2 c3 c4 cR cI ad rf (nI n) r op (nI g) (cl + 1) lo gA fA pa) H := hP
  have hD : va_D A (CW c0 c1 c2 c3 c4 cR cI ad rf (nI n) r op (nI g) (cl + 1) lo gA fA pa) := hD
  refine lv_aload_n hx hb d_Cf_call_10 rfl (lv_at hl 0 rfl) ?_
  refine lv_aload_n hx hb d_Cf_call_11 rfl (lv_at hl 0 rfl) ?_
  refine va_get (ci := 1) hx hb (h_Cf hkk) (fun _ h => h) hown hK hP 0 rfl rfl 5 (by decide) (hkk.use kw_60 rfl) (fun _ h => h) rfl d_Cf_call_12 ?_
  refine lv_aload_n hx hb d_Cf_call_15 rfl (lv_at hl 0 rfl) ?_
  refine cf_pcV (q0 := 0) (ci := 1) (As := []) (rest := [.int (nI g), .ref c0]) hx hb hml hown hkk (c_Cf_area l D c0 c1 c2 c3 c4 cR cI ad rf op (nI g) (cl + 1) lo gA fA pa r kd sz al n hn hrf hpa hok hat) ce_Cf_area cv_Cf_area kw_91 hK hP rfl rfl rfl ⟨rfl, rfl⟩ (by decide) rfl hl.1 rfl (Nat.le_of_ble_eq_true rfl) d_Cf_call_16 ⟨Nat.zero_le _, Nat.zero_le _⟩ ?_
  refine va_mmax hx hb (hml.trans hl.1.symm) hown (hkk.use kw_110 rfl) (hkk.use kw_111 rfl) (hkk.use kw_10 rfl) (hkk.use kw_112 rfl) (by decide) (Nat.le_of_ble_eq_true rfl) (Nat.zero_le _) (Nat.zero_le _) d_Cf_call_19 ?_
  refine cf_top (y := nI (p_mx g (p_area r kd sz al n))) (p_mxI (by omega) (by have : p_area r kd sz al n ≤ 1000000 := p_ar_b hat; omega)) ?_
  refine va_put (ci := 1) (v := .int (nI (p_mx g (p_area r kd sz al n)))) (ty := .int) hx hb (h_Cf hkk) (fun _ h => h) t_Cf t_Cf_ok n_Cf hown hK hP hD hS 0 rfl rfl 5 (by decide) (hkk.use kw_60 rfl) (fun _ h => h) rfl (by decide +kernel) rfl rfl (Nat.le_of_ble_eq_true rfl) d_Cf_call_22 (fun H locs hP hD hS => ?_)
  have hP : va_P D cf_cl (CW c0 c1 c2 c3 c4 cR cI ad rf (nI n) r op (nI (p_mx g (p_area r kd sz al n))) (cl + 1) lo gA fA pa) H := hP
  have hD : va_D A (CW c0 c1 c2 c3 c4 cR cI ad rf (nI n) r op (nI (p_mx g (p_area r kd sz al n))) (cl + 1) lo gA fA pa) := hD
  refine lv_aload_n hx hb d_Cf_call_25 rfl (lv_at hl 0 rfl) ?_
  refine va_get (ci := 1) hx hb (h_Cf hkk) (fun _ h => h) hown hK hP 0 rfl rfl 5 (by decide) (hkk.use kw_60 rfl) (fun _ h => h) rfl d_Cf_call_26 ?_
  exact cf_iretI hx hb hr hlocks hP hS (Nat.zero_le _) (Nat.zero_le _) (rfl) d_Cf_call_29

set_option maxHeartbeats 4000000 in
set_option maxRecDepth 100000 in
/-- clear() -/
theorem c_Cf_clear (l : Launch) (D : va_G) (c0 c1 c2 c3 c4 : Nat) (cR cI : ClassId) (ad : Nat → Nat) (rf : Nat → Option Nat) (mn rs op gr cl lo : Int32) (gA fA : Nat → Int32) (pa : Nat → cf_T) (hD0 : va_D (fun _ => True) (CW c0 c1 c2 c3 c4 cR cI ad rf mn rs op gr cl lo gA fA pa)) : cf_IM l y_Cf_clear b_Cf_clear 2 (some FieldType.int) ({ frames := 1, cells := 0, slots := 0, locals := 21 }) [.ref c0] D (CW c0 c1 c2 c3 c4 cR cI ad rf mn rs op gr cl lo gA fA pa) [(cR, .object "CallFrames$Argument"), (cI, .int)] (some (.int cl)) (CW c0 c1 c2 c3 c4 cR cI ad rf mn rs op 0 0 0 (fun _ => -1) (fun _ => -1) pa) := by
  refine cf_IM_of (by decide) (Nat.le_of_ble_eq_true rfl) hD0 ?_
  intro p e s m args below meth c A hx hb hr hkk hown hlocks hml hin hP hK hD hS hA hAe ls hl
  have hl : lv_has ls 2 [(0, .ref c0)] := hl
  refine lv_aload_n hx hb d_Cf_clear_0 rfl (lv_at hl 0 rfl) ?_
  refine va_get (ci := 1) hx hb (h_Cf hkk) (fun _ h => h) hown hK hP 0 rfl rfl 6 (by decide) (hkk.use kw_61 rfl) (fun _ h => h) rfl d_Cf_clear_1 ?_
  refine lv_istore_n (lv' := [(1, .int cl), (0, .ref c0)]) hx hb d_Cf_clear_4 rfl hl (by decide) rfl (fun ls hl => ?_)
  refine lv_aload_n hx hb d_Cf_clear_5 rfl (lv_at hl 1 rfl) ?_
  refine lv_iconst (v := 0) hx hb d_Cf_clear_6 (by decide) ?_
  refine va_put (ci := 1) (v := .int 0) (ty := .int) hx hb (h_Cf hkk) (fun _ h => h) t_Cf t_Cf_ok n_Cf hown hK hP hD hS 0 rfl rfl 6 (by decide) (hkk.use kw_61 rfl) (fun _ h => h) rfl (by decide +kernel) rfl rfl (Nat.le_of_ble_eq_true rfl) d_Cf_clear_7 (fun H locs hP hD hS => ?_)
  have hP : va_P D cf_cl (CW c0 c1 c2 c3 c4 cR cI ad rf mn rs op gr 0 lo gA fA pa) H := hP
  have hD : va_D A (CW c0 c1 c2 c3 c4 cR cI ad rf mn rs op gr 0 lo gA fA pa) := hD
  refine lv_aload_n hx hb d_Cf_clear_10 rfl (lv_at hl 1 rfl) ?_
  refine lv_iconst (v := 0) hx hb d_Cf_clear_11 (by decide) ?_
  refine va_put (ci := 1) (v := .int 0) (ty := .int) hx hb (h_Cf hkk) (fun _ h => h) t_Cf t_Cf_ok n_Cf hown hK hP hD hS 0 rfl rfl 5 (by decide) (hkk.use kw_60 rfl) (fun _ h => h) rfl (by decide +kernel) rfl rfl (Nat.le_of_ble_eq_true rfl) d_Cf_clear_12 (fun H locs hP hD hS => ?_)
  have hP : va_P D cf_cl (CW c0 c1 c2 c3 c4 cR cI ad rf mn rs op 0 0 lo gA fA pa) H := hP
  have hD : va_D A (CW c0 c1 c2 c3 c4 cR cI ad rf mn rs op 0 0 lo gA fA pa) := hD
  refine lv_aload_n hx hb d_Cf_clear_15 rfl (lv_at hl 1 rfl) ?_
  refine cf_icV (q0 := 0) (ci := 1) (As := []) (rest := []) hx hb hml hown hkk (c_Cf_empty l D c0 c1 c2 c3 c4 cR cI ad rf mn rs op 0 0 lo gA fA pa (cf_Dt hD cf_addr)) ce_Cf_empty cv_Cf_empty kw_51 hK hP rfl rfl rfl hS (cf_freeC hD hS hA) (by decide) rfl hl.1 rfl (Nat.le_of_ble_eq_true rfl) d_Cf_clear_16 ⟨Nat.zero_le _, Nat.zero_le _⟩ (fun H locs hP hzI hkI hS => ?_)
  have hP : va_P D cf_cl (CW c0 c1 c2 c3 c4 cR cI ad rf mn rs op 0 0 0 (fun _ => -1) (fun _ => -1) pa) H := hP
  have hD : va_D A (CW c0 c1 c2 c3 c4 cR cI ad rf mn rs op 0 0 0 (fun _ => -1) (fun _ => -1) pa) := cf_Dm hD cf_addr
  refine lv_iload_n hx hb d_Cf_clear_19 rfl (lv_at hl 0 rfl) ?_
  exact cf_iretI hx hb hr hlocks hP hS (Nat.zero_le _) (Nat.zero_le _) (rfl) d_Cf_clear_20
end
section
/-! THE COMPONENT: add (printed by gen/compA.py) -/
theorem cf_D1 {a : Nat} {e : va_E} : va_D (fun _ => True) [(a, e)] := by
  refine ⟨fun i j x y hi hj _ => ?_, fun _ _ _ => trivial⟩
  have h1 : i < 1 := (List.getElem?_eq_some_iff.mp hi).1
  have h2 : j < 1 := (List.getElem?_eq_some_iff.mp hj).1
  omega
theorem cf_free1 {A0 : Nat → Prop} {ws : va_W} {H0 H : Heap} {locs : List Loc} {k a : Nat} {e : va_E} (hD : va_D A0 ws) (hS : va_S A0 H0 H locs) (hA : ∀ q, H0.size ≤ q → A0 q) (hk : ws[k]? = some (a, e)) : ∀ q, va_A [(a, e)] H.size q → A0 q := by
  intro q h
  rcases h with ⟨i, x, h⟩ | h
  · have hz : i < 1 := (List.getElem?_eq_some_iff.mp h).1
    rw [show i = 0 by omega] at h
    have : a = q := congrArg Prod.fst (Option.some.inj h)
    rw [← this]
    exact hD.2 k _ hk
  · exact hA q (Nat.le_trans hS.1 h)
set_option maxHeartbeats 4000000 in
set_option maxRecDepth 100000 in
/-- add: one argument more -/
theorem c_Cf_add_ok (l : Launch) (D : va_G) (c0 c1 c2 c3 c4 : Nat) (cR cI : ClassId) (ad : Nat → Nat) (rf : Nat → Option Nat) (op gr cl lo : Int32) (gA fA : Nat → Int32) (pa : Nat → cf_T) (r : Int32) (kd sz al : Nat → Int32) (n : Nat) (hn : n ≤ 60) (hrf : ∀ i, i < 60 → rf i = some (ad i)) (hpa : ∀ i, i < n → pa (ad i) = p_arg r op kd sz al i) (hok : ∀ i, i < n → p_ok (kd i) (sz i)) (hat : p_at r kd sz al n ≤ 1000000) (kind size a : Int32) (hg : p_good kind 3 size a = true) (h60 : ¬ n = 60) (hne : p_ne (p_at r kd sz al n) kind size a ≤ 1000000) (hD0 : va_D (fun _ => True) (CW c0 c1 c2 c3 c4 cR cI ad rf (nI n) r op gr cl lo gA fA pa)) : cf_IM l y_Cf_add b_Cf_add 7 (some FieldType.int) ({ frames := 3, cells := 0, slots := 0, locals := 60 }) [.ref c0, .int kind, .int size, .int a] D (CW c0 c1 c2 c3 c4 cR cI ad rf (nI n) r op gr cl lo gA fA pa) [(cR, .object "CallFrames$Argument"), (cI, .int)] (some (.int (nI (p_nh (p_at r kd sz al n) kind a)))) (CW c0 c1 c2 c3 c4 cR cI ad rf (nI (n + 1)) r op gr cl lo gA fA (va_up pa (ad n) (kind, nI (p_nh (p_at r kd sz al n) kind a), nI (p_b kind size), (if p_fra r op (upd kd n kind) n then nI (12 + 2 * n) else -1), (if p_fra r op (upd kd n kind) n then 1 else 0)))) := by
  refine cf_IM_of (by decide) (Nat.le_of_ble_eq_true rfl) hD0 ?_
  intro p e s m args below meth c A hx hb hr hkk hown hlocks hml hin hP hK hD hS hA hAe ls hl
  have hl : lv_has ls 7 [(0, .ref c0), (1, .int kind), (2, .int size), (3, .int a)] := hl
  refine lv_iload_n hx hb d_Cf_add_0 rfl (lv_at hl 1 rfl) ?_
  refine lv_if_lt (tgt := 22) hx hb d_Cf_add_1 (by decide) (fun c_1 => False.elim ((of_decide_eq_true hg).1 c_1)) (fun c_1 => ?_)
  refine lv_iload_n hx hb d_Cf_add_4 rfl (lv_at hl 1 rfl) ?_
  refine lv_iconst (v := 3) hx hb d_Cf_add_5 (by decide) ?_
  refine lv_icmp_gt (tgt := 22) hx hb d_Cf_add_6 (by decide) (fun c_6 => False.elim ((of_decide_eq_true hg).2.1 c_6)) (fun c_6 => ?_)
  refine cf_joinL 30 [] (fun ls => lv_has ls 7 [(0, .ref c0), (1, .int kind), (2, .int size), (3, .int a)]) (fun ls hl => ?_) (fun J_30 => ?_)
  · refine lv_aload_n hx hb d_Cf_add_30 rfl (lv_at hl 0 rfl) ?_
    refine cf_pcV (q0 := 0) (ci := 1) (As := []) (rest := []) hx hb hml hown hkk (c_Cf_end l D c0 c1 c2 c3 c4 cR cI ad rf op gr cl lo gA fA pa r kd sz al n hn hrf hpa hok hat) ce_Cf_end cv_Cf_end kw_95 hK hP rfl rfl rfl ⟨rfl, rfl⟩ (by decide) rfl hl.1 rfl (Nat.le_of_ble_eq_true rfl) d_Cf_add_31 ⟨Nat.zero_le _, Nat.zero_le _⟩ ?_
    refine cf_join 56 ls [.int (nI (p_at r kd sz al n))] (fun v => v = if p_w kind a then 8 else 4) (fun v_56 e_56 => ?_) (fun J_56 => ?_)
    · refine cf_pcS (As := [.int (nI (p_at r kd sz al n)), .int v_56]) (rest := []) hx hb hml hown hkk (c_Cf_up l D (nI (p_at r kd sz al n)) v_56) ce_Cf_up cs_Cf_up kw_107 (cf_K0 hK) cf_P0 ⟨rfl, rfl⟩ (by decide) rfl hl.1 rfl (Nat.le_of_ble_eq_true rfl) d_Cf_add_56 ⟨Nat.zero_le _, Nat.zero_le _⟩ ?_
      refine cf_top (y := nI (p_nh (p_at r kd sz al n) kind a)) (p_upw (by omega) (p_at_4 r kd sz al n) e_56) ?_
      refine lv_istore (lv' := [(4, .int (nI (p_nh (p_at r kd sz al n) kind a))), (0, .ref c0), (1, .int kind), (2, .int size), (3, .int a)]) hx hb d_Cf_add_59 hl (by decide) rfl (fun ls hl => ?_)
      refine cf_join 81 ls [] (fun v => v = nI (p_b kind size)) (fun v_81 e_81 => ?_) (fun J_81 => ?_)
      · subst e_81
        refine lv_istore (lv' := [(5, .int (nI (p_b kind size))), (4, .int (nI (p_nh (p_at r kd sz al n) kind a))), (0, .ref c0), (1, .int kind), (2, .int size), (3, .int a)]) hx hb d_Cf_add_81 hl (by decide) rfl (fun ls hl => ?_)
        refine lv_aload_n hx hb d_Cf_add_83 rfl (lv_at hl 2 rfl) ?_
        refine va_get (ci := 1) hx hb (h_Cf hkk) (fun _ h => h) hown hK hP 0 rfl rfl 2 (by decide) (hkk.use kw_57 rfl) (fun _ h => h) rfl d_Cf_add_84 ?_
        refine lv_bipush (v := 60) hx hb d_Cf_add_87 (by decide) ?_
        refine lv_icmp_eq (tgt := 106) hx hb d_Cf_add_89 (by decide) (fun c_89 => False.elim (h60 (p_lit c_89 (by omega) (show (60 : Int32) = nI 60 from rfl) (by omega)))) (fun c_89 => ?_)
        refine lv_iload hx hb d_Cf_add_92 (lv_at hl 1 rfl) ?_
        refine lv_iload hx hb d_Cf_add_94 (lv_at hl 0 rfl) ?_
        refine lv_iadd hx hb d_Cf_add_96 ?_
        refine cf_top (y := nI (p_nh (p_at r kd sz al n) kind a + p_b kind size)) (nI_add _ _) ?_
        refine lv_iconst (v := 4) hx hb d_Cf_add_97 (by decide) ?_
        refine cf_pcS (As := [.int (nI (p_nh (p_at r kd sz al n) kind a + p_b kind size)), .int 4]) (rest := []) hx hb hml hown hkk (c_Cf_up l D (nI (p_nh (p_at r kd sz al n) kind a + p_b kind size)) 4) ce_Cf_up cs_Cf_up kw_107 (cf_K0 hK) cf_P0 ⟨rfl, rfl⟩ (by decide) rfl hl.1 rfl (Nat.le_of_ble_eq_true rfl) d_Cf_add_98 ⟨Nat.zero_le _, Nat.zero_le _⟩ ?_
        refine cf_top (y := nI (p_ne (p_at r kd sz al n) kind size a)) (by rw [p_up4 (by have := p_nh_b (p_at r kd sz al n) kind a; have := p_ok_b (p_good_ok hg); omega), p_neI a (p_at_4 r kd sz al n)]) ?_
        refine lv_ldc (v := 1000000) hx hb hown (hkk.use kw_200 rfl) d_Cf_add_101 ?_
        refine lv_icmp_le (tgt := 114) hx hb d_Cf_add_103 (by decide) (fun c_103 => ?_) (fun c_103 => False.elim (c_103 (nI_le (b := 1000000) hne (by omega))))
        refine lv_aload_n hx hb d_Cf_add_114 rfl (lv_at hl 2 rfl) ?_
        refine va_get (ci := 1) hx hb (h_Cf hkk) (fun _ h => h) hown hK hP 0 rfl rfl 1 (by decide) (hkk.use kw_56 rfl) (fun _ h => h) rfl d_Cf_add_115 ?_
        refine lv_aload_n hx hb d_Cf_add_118 rfl (lv_at hl 2 rfl) ?_
        refine va_get (ci := 1) hx hb (h_Cf hkk) (fun _ h => h) hown hK hP 0 rfl rfl 2 (by decide) (hkk.use kw_57 rfl) (fun _ h => h) rfl d_Cf_add_119 ?_
        refine cf_aald hx hb hK hP 2 0 rfl rfl (k := n) (b := ad n) (hrf n (by omega)) (by omega) (by decide) d_Cf_add_122 ?_
        refine lv_astore (lv' := [(6, .ref (ad n)), (5, .int (nI (p_b kind size))), (4, .int (nI (p_nh (p_at r kd sz al n) kind a))), (0, .ref c0), (1, .int kind), (2, .int size), (3, .int a)]) hx hb d_Cf_add_123 hl (by decide) rfl (fun ls hl => ?_)
        refine lv_aload hx hb d_Cf_add_125 (lv_at hl 0 rfl) ?_
        refine lv_iload_n hx hb d_Cf_add_127 rfl (lv_at hl 4 rfl) ?_
        refine lv_iload hx hb d_Cf_add_128 (lv_at hl 2 rfl) ?_
        refine lv_iload hx hb d_Cf_add_130 (lv_at hl 1 rfl) ?_
        refine cf_icV (q0 := 0) (ci := 0) (As := [.int kind, .int (nI (p_nh (p_at r kd sz al n) kind a)), .int (nI (p_b kind size))]) (rest := []) hx hb hml hown hkk (c_Ar_become l D (ad n) (pa (ad n)).1 (pa (ad n)).2.1 (pa (ad n)).2.2.1 (pa (ad n)).2.2.2.1 (pa (ad n)).2.2.2.2 kind (nI (p_nh (p_at r kd sz al n) kind a)) (nI (p_b kind size)) cf_D1) ce_Ar_become cv_Ar_become kw_47 (cf_K0 hK) (cf_P1 hP (cf_pget (by omega))) rfl rfl rfl hS (cf_free1 hD hS hA (cf_pget (by omega))) (by decide) rfl hl.1 rfl (Nat.le_of_ble_eq_true rfl) d_Cf_add_132 ⟨Nat.zero_le _, Nat.zero_le _⟩ (fun H1 locs1 hP1 hzI hkI hS => ?_)
        have hP : va_P D cf_cl (CW c0 c1 c2 c3 c4 cR cI ad rf (nI n) r op gr cl lo gA fA (va_up pa (ad n) (kind, nI (p_nh (p_at r kd sz al n) kind a), nI (p_b kind size), -1, 0))) H1 := by rw [← cf_pset hD (by omega) (kind, nI (p_nh (p_at r kd sz al n) kind a), nI (p_b kind size), -1, 0)]; exact cf_set1 hP hD (cf_pget (by omega)) hP1 hkI
        have hD : va_D A (CW c0 c1 c2 c3 c4 cR cI ad rf (nI n) r op gr cl lo gA fA (va_up pa (ad n) (kind, nI (p_nh (p_at r kd sz al n) kind a), nI (p_b kind size), -1, 0))) := cf_Dm hD cf_addr
        refine cf_joinL 204 [] (fun ls => ¬ p_fra r op (upd kd n kind) n ∧ lv_has ls 7 [(6, .ref (ad n)), (5, .int (nI (p_b kind size))), (4, .int (nI (p_nh (p_at r kd sz al n) kind a))), (0, .ref c0), (1, .int kind), (2, .int size), (3, .int a)]) (fun ls hl2 => ?_) (fun J_204 => ?_)
        · obtain ⟨hF, hl⟩ := hl2
          refine lv_aload_n hx hb d_Cf_add_204 rfl (lv_at hl 3 rfl) ?_
          refine lv_dup hx hb d_Cf_add_205 rfl ?_
          refine va_get (ci := 1) hx hb (h_Cf hkk) (fun _ h => h) hown hK hP 0 rfl rfl 2 (by decide) (hkk.use kw_57 rfl) (fun _ h => h) rfl d_Cf_add_206 ?_
          refine lv_iconst (v := 1) hx hb d_Cf_add_209 (by decide) ?_
          refine lv_iadd hx hb d_Cf_add_210 ?_
          refine cf_top (y := nI (n + 1)) (nI_1 n) ?_
          refine va_put (ci := 1) (v := .int (nI (n + 1))) (ty := .int) hx hb (h_Cf hkk) (fun _ h => h) t_Cf t_Cf_ok n_Cf hown hK hP hD hS 0 rfl rfl 2 (by decide) (hkk.use kw_57 rfl) (fun _ h => h) rfl (by decide +kernel) rfl rfl (Nat.le_of_ble_eq_true rfl) d_Cf_add_211 (fun H locs hP hD hS => ?_)
          have hP : va_P D cf_cl (CW c0 c1 c2 c3 c4 cR cI ad rf (nI (n + 1)) r op gr cl lo gA fA (va_up pa (ad n) (kind, nI (p_nh (p_at r kd sz al n) kind a), nI (p_b kind size), -1, 0))) H := hP
          have hD : va_D A (CW c0 c1 c2 c3 c4 cR cI ad rf (nI (n + 1)) r op gr cl lo gA fA (va_up pa (ad n) (kind, nI (p_nh (p_at r kd sz al n) kind a), nI (p_b kind size), -1, 0))) := hD
          refine lv_iload hx hb d_Cf_add_214 (lv_at hl 2 rfl) ?_
          rw [if_neg hF, if_neg hF]
          exact cf_iretI hx hb hr hlocks hP hS (Nat.zero_le _) (Nat.zero_le _) (rfl) d_Cf_add_216
        · refine lv_aload_n hx hb d_Cf_add_135 rfl (lv_at hl 3 rfl) ?_
          refine va_get (ci := 1) hx hb (h_Cf hkk) (fun _ h => h) hown hK hP 0 rfl rfl 2 (by decide) (hkk.use kw_57 rfl) (fun _ h => h) rfl d_Cf_add_136 ?_
          refine lv_iconst (v := 2) hx hb d_Cf_add_139 (by decide) ?_
          refine lv_icmp_ge (tgt := 204) hx hb d_Cf_add_140 (by decide) (fun c_140 => ?_) (fun c_140 => ?_)
          · exact J_204 ls ⟨fun h => absurd h.2.2.1 (by have := (nI_leI (a := 2) (by omega) (by omega)).mp c_140; omega), hl⟩
          · refine lv_aload_n hx hb d_Cf_add_143 rfl (lv_at hl 3 rfl) ?_
            refine va_get (ci := 1) hx hb (h_Cf hkk) (fun _ h => h) hown hK hP 0 rfl rfl 4 (by decide) (hkk.use kw_59 rfl) (fun _ h => h) rfl d_Cf_add_144 ?_
            refine lv_if_ne (tgt := 204) hx hb d_Cf_add_147 (by decide) (fun c_147 => ?_) (fun c_147 => ?_)
            · exact J_204 ls ⟨fun h => c_147 h.1, hl⟩
            · refine lv_aload_n hx hb d_Cf_add_150 rfl (lv_at hl 3 rfl) ?_
              refine va_get (ci := 1) hx hb (h_Cf hkk) (fun _ h => h) hown hK hP 0 rfl rfl 3 (by decide) (hkk.use kw_58 rfl) (fun _ h => h) rfl d_Cf_add_151 ?_
              refine lv_iconst (v := 3) hx hb d_Cf_add_154 (by decide) ?_
              refine lv_icmp_eq (tgt := 204) hx hb d_Cf_add_155 (by decide) (fun c_155 => ?_) (fun c_155 => ?_)
              · exact J_204 ls ⟨fun h => h.2.1 c_155, hl⟩
              · refine lv_aload_n hx hb d_Cf_add_158 rfl (lv_at hl 3 rfl) ?_
                refine lv_aload_n hx hb d_Cf_add_159 rfl (lv_at hl 3 rfl) ?_
                refine va_get (ci := 1) hx hb (h_Cf hkk) (fun _ h => h) hown hK hP 0 rfl rfl 2 (by decide) (hkk.use kw_57 rfl) (fun _ h => h) rfl d_Cf_add_160 ?_
                refine cf_pcV (q0 := 0) (ci := 1) (As := [.int (nI n)]) (rest := []) hx hb hml hown hkk (c_Cf_isReal l D c0 c1 c2 c3 c4 cR cI ad rf (nI n) r op gr cl lo gA fA (va_up pa (ad n) (kind, nI (p_nh (p_at r kd sz al n) kind a), nI (p_b kind size), -1, 0)) n (by omega) hrf) ce_Cf_isReal cv_Cf_isReal kw_216 hK hP rfl rfl rfl ⟨rfl, rfl⟩ (by decide) rfl hl.1 rfl (Nat.le_of_ble_eq_true rfl) d_Cf_add_163 ⟨Nat.zero_le _, Nat.zero_le _⟩ ?_
                refine cf_top (y := (if kind = 1 ∨ kind = 2 then 1 else 0)) (by rw [va_up_self]) ?_
                refine lv_if_eq (tgt := 204) hx hb d_Cf_add_166 (by decide) (fun c_166 => ?_) (fun c_166 => ?_)
                · exact J_204 ls ⟨fun h => p_bit0 rfl c_166 (by have := h.2.2.2.2; rw [pk_us] at this; exact this), hl⟩
                · refine lv_aload_n hx hb d_Cf_add_169 rfl (lv_at hl 3 rfl) ?_
                  refine va_get (ci := 1) hx hb (h_Cf hkk) (fun _ h => h) hown hK hP 0 rfl rfl 2 (by decide) (hkk.use kw_57 rfl) (fun _ h => h) rfl d_Cf_add_170 ?_
                  refine lv_if_eq (tgt := 184) hx hb d_Cf_add_173 (by decide) (fun c_173 => ?_) (fun c_173 => ?_)
                  · have hF : p_fra r op (upd kd n kind) n := ⟨c_147, c_155, Nat.lt_of_not_le (fun h => c_140 (nI_le (a := 2) h (by omega))), by rw [show (0 : Nat) = n by have := p_lit c_173 (by omega) (show (0 : Int32) = nI 0 from rfl) (by omega); omega, pk_us]; exact p_bit1 rfl c_166, by rw [pk_us]; exact p_bit1 rfl c_166⟩
                    refine lv_aload hx hb d_Cf_add_184 (lv_at hl 0 rfl) ?_
                    refine lv_iconst (v := 1) hx hb d_Cf_add_186 (by decide) ?_
                    refine va_putN (ci := 0) (v := .int 1) (ty := .boolean) hx hb (h_Arg hkk) (fun _ h => h) t_Arg t_Arg_ok n_Arg hown hK hP hD hS (5 + n) (cf_pgetA (t := (kind, nI (p_nh (p_at r kd sz al n) kind a), nI (p_b kind size), -1, 0)) (by omega) (va_up_self _ _ _)) rfl 4 (by decide) (hkk.use kw_34 rfl) (fun _ h => h) rfl (by decide +kernel) rfl rfl (Nat.le_of_ble_eq_true rfl) d_Cf_add_187 (fun H locs hP hD2 hS => ?_)
                    have hP : va_P D cf_cl ((CW c0 c1 c2 c3 c4 cR cI ad rf (nI n) r op gr cl lo gA fA (va_up pa (ad n) (kind, nI (p_nh (p_at r kd sz al n) kind a), nI (p_b kind size), -1, 0))).set (5 + n) (ad n, .inr (0, cf_av (kind, nI (p_nh (p_at r kd sz al n) kind a), nI (p_b kind size), -1, 1)))) H := hP
                    have hP : va_P D cf_cl (CW c0 c1 c2 c3 c4 cR cI ad rf (nI n) r op gr cl lo gA fA (va_up pa (ad n) (kind, nI (p_nh (p_at r kd sz al n) kind a), nI (p_b kind size), -1, 1))) H := by rw [cf_pset hD (by omega) (kind, nI (p_nh (p_at r kd sz al n) kind a), nI (p_b kind size), -1, 1), bx_uu] at hP; exact hP
                    have hD : va_D A (CW c0 c1 c2 c3 c4 cR cI ad rf (nI n) r op gr cl lo gA fA (va_up pa (ad n) (kind, nI (p_nh (p_at r kd sz al n) kind a), nI (p_b kind size), -1, 1))) := cf_Dm hD cf_addr
                    refine lv_aload hx hb d_Cf_add_190 (lv_at hl 0 rfl) ?_
                    refine lv_bipush (v := 12) hx hb d_Cf_add_192 (by decide) ?_
                    refine lv_iconst (v := 2) hx hb d_Cf_add_194 (by decide) ?_
                    refine lv_aload_n hx hb d_Cf_add_195 rfl (lv_at hl 3 rfl) ?_
                    refine va_get (ci := 1) hx hb (h_Cf hkk) (fun _ h => h) hown hK hP 0 rfl rfl 2 (by decide) (hkk.use kw_57 rfl) (fun _ h => h) rfl d_Cf_add_196 ?_
                    refine lv_imul hx hb d_Cf_add_199 ?_
                    refine lv_iadd hx hb d_Cf_add_200 ?_
                    refine cf_top (y := nI (12 + 2 * n)) (by show nI 12 + nI 2 * nI n = _; rw [pk_mul, nI_add]) ?_
                    refine va_putN (ci := 0) (v := .int (nI (12 + 2 * n))) (ty := .int) hx hb (h_Arg hkk) (fun _ h => h) t_Arg t_Arg_ok n_Arg hown hK hP hD hS (5 + n) (cf_pgetA (t := (kind, nI (p_nh (p_at r kd sz al n) kind a), nI (p_b kind size), -1, 1)) (by omega) (va_up_self _ _ _)) rfl 3 (by decide) (hkk.use kw_32 rfl) (fun _ h => h) rfl (by decide +kernel) rfl rfl (Nat.le_of_ble_eq_true rfl) d_Cf_add_201 (fun H locs hP hD2 hS => ?_)
                    have hP : va_P D cf_cl ((CW c0 c1 c2 c3 c4 cR cI ad rf (nI n) r op gr cl lo gA fA (va_up pa (ad n) (kind, nI (p_nh (p_at r kd sz al n) kind a), nI (p_b kind size), -1, 1))).set (5 + n) (ad n, .inr (0, cf_av (kind, nI (p_nh (p_at r kd sz al n) kind a), nI (p_b kind size), nI (12 + 2 * n), 1)))) H := hP
                    have hP : va_P D cf_cl (CW c0 c1 c2 c3 c4 cR cI ad rf (nI n) r op gr cl lo gA fA (va_up pa (ad n) (kind, nI (p_nh (p_at r kd sz al n) kind a), nI (p_b kind size), nI (12 + 2 * n), 1))) H := by rw [cf_pset hD (by omega) (kind, nI (p_nh (p_at r kd sz al n) kind a), nI (p_b kind size), nI (12 + 2 * n), 1), bx_uu] at hP; exact hP
                    have hD : va_D A (CW c0 c1 c2 c3 c4 cR cI ad rf (nI n) r op gr cl lo gA fA (va_up pa (ad n) (kind, nI (p_nh (p_at r kd sz al n) kind a), nI (p_b kind size), nI (12 + 2 * n), 1))) := cf_Dm hD cf_addr
                    refine lv_aload_n hx hb d_Cf_add_204 rfl (lv_at hl 3 rfl) ?_
                    refine lv_dup hx hb d_Cf_add_205 rfl ?_
                    refine va_get (ci := 1) hx hb (h_Cf hkk) (fun _ h => h) hown hK hP 0 rfl rfl 2 (by decide) (hkk.use kw_57 rfl) (fun _ h => h) rfl d_Cf_add_206 ?_
                    refine lv_iconst (v := 1) hx hb d_Cf_add_209 (by decide) ?_
                    refine lv_iadd hx hb d_Cf_add_210 ?_
                    refine cf_top (y := nI (n + 1)) (nI_1 n) ?_
                    refine va_put (ci := 1) (v := .int (nI (n + 1))) (ty := .int) hx hb (h_Cf hkk) (fun _ h => h) t_Cf t_Cf_ok n_Cf hown hK hP hD hS 0 rfl rfl 2 (by decide) (hkk.use kw_57 rfl) (fun _ h => h) rfl (by decide +kernel) rfl rfl (Nat.le_of_ble_eq_true rfl) d_Cf_add_211 (fun H locs hP hD hS => ?_)
                    have hP : va_P D cf_cl (CW c0 c1 c2 c3 c4 cR cI ad rf (nI (n + 1)) r op gr cl lo gA fA (va_up pa (ad n) (kind, nI (p_nh (p_at r kd sz al n) kind a), nI (p_b kind size), nI (12 + 2 * n), 1))) H := hP
                    have hD : va_D A (CW c0 c1 c2 c3 c4 cR cI ad rf (nI (n + 1)) r op gr cl lo gA fA (va_up pa (ad n) (kind, nI (p_nh (p_at r kd sz al n) kind a), nI (p_b kind size), nI (12 + 2 * n), 1))) := hD
                    refine lv_iload hx hb d_Cf_add_214 (lv_at hl 2 rfl) ?_
                    rw [if_pos hF, if_pos hF]
                    exact cf_iretI hx hb hr hlocks hP hS (Nat.zero_le _) (Nat.zero_le _) (rfl) d_Cf_add_216
                  · have hn0 : ¬ n = 0 := fun h => c_173 (by rw [h]; rfl)
                    refine lv_aload_n hx hb d_Cf_add_176 rfl (lv_at hl 3 rfl) ?_
                    refine lv_iconst (v := 0) hx hb d_Cf_add_177 (by decide) ?_
                    refine cf_pcV (q0 := 0) (ci := 1) (As := [.int 0]) (rest := []) hx hb hml hown hkk (c_Cf_isReal l D c0 c1 c2 c3 c4 cR cI ad rf (nI n) r op gr cl lo gA fA (va_up pa (ad n) (kind, nI (p_nh (p_at r kd sz al n) kind a), nI (p_b kind size), -1, 0)) 0 (by omega) hrf) ce_Cf_isReal cv_Cf_isReal kw_216 hK hP rfl rfl rfl ⟨rfl, rfl⟩ (by decide) rfl hl.1 rfl (Nat.le_of_ble_eq_true rfl) d_Cf_add_178 ⟨Nat.zero_le _, Nat.zero_le _⟩ ?_
                    refine cf_top (y := (if kd 0 = 1 ∨ kd 0 = 2 then 1 else 0)) (by rw [va_up_ne _ _ (fun h => hn0 (cf_inj hD (by omega) (by omega) h).symm), hpa 0 (by omega)]; rfl) ?_
                    refine lv_if_eq (tgt := 204) hx hb d_Cf_add_181 (by decide) (fun c_181 => ?_) (fun c_181 => ?_)
                    · exact J_204 ls ⟨fun h => p_bit0 rfl c_181 (by have := h.2.2.2.1; rw [pk_un (by omega)] at this; exact this), hl⟩
                    · have hF : p_fra r op (upd kd n kind) n := ⟨c_147, c_155, Nat.lt_of_not_le (fun h => c_140 (nI_le (a := 2) h (by omega))), by rw [pk_un (by omega)]; exact p_bit1 rfl c_181, by rw [pk_us]; exact p_bit1 rfl c_166⟩
                      refine lv_aload hx hb d_Cf_add_184 (lv_at hl 0 rfl) ?_
                      refine lv_iconst (v := 1) hx hb d_Cf_add_186 (by decide) ?_
                      refine va_putN (ci := 0) (v := .int 1) (ty := .boolean) hx hb (h_Arg hkk) (fun _ h => h) t_Arg t_Arg_ok n_Arg hown hK hP hD hS (5 + n) (cf_pgetA (t := (kind, nI (p_nh (p_at r kd sz al n) kind a), nI (p_b kind size), -1, 0)) (by omega) (va_up_self _ _ _)) rfl 4 (by decide) (hkk.use kw_34 rfl) (fun _ h => h) rfl (by decide +kernel) rfl rfl (Nat.le_of_ble_eq_true rfl) d_Cf_add_187 (fun H locs hP hD2 hS => ?_)
                      have hP : va_P D cf_cl ((CW c0 c1 c2 c3 c4 cR cI ad rf (nI n) r op gr cl lo gA fA (va_up pa (ad n) (kind, nI (p_nh (p_at r kd sz al n) kind a), nI (p_b kind size), -1, 0))).set (5 + n) (ad n, .inr (0, cf_av (kind, nI (p_nh (p_at r kd sz al n) kind a), nI (p_b kind size), -1, 1)))) H := hP
                      have hP : va_P D cf_cl (CW c0 c1 c2 c3 c4 cR cI ad rf (nI n) r op gr cl lo gA fA (va_up pa (ad n) (kind, nI (p_nh (p_at r kd sz al n) kind a), nI (p_b kind size), -1, 1))) H := by rw [cf_pset hD (by omega) (kind, nI (p_nh (p_at r kd sz al n) kind a), nI (p_b kind size), -1, 1), bx_uu] at hP; exact hP
                      have hD : va_D A (CW c0 c1 c2 c3 c4 cR cI ad rf (nI n) r op gr cl lo gA fA (va_up pa (ad n) (kind, nI (p_nh (p_at r kd sz al n) kind a), nI (p_b kind size), -1, 1))) := cf_Dm hD cf_addr
                      refine lv_aload hx hb d_Cf_add_190 (lv_at hl 0 rfl) ?_
                      refine lv_bipush (v := 12) hx hb d_Cf_add_192 (by decide) ?_
                      refine lv_iconst (v := 2) hx hb d_Cf_add_194 (by decide) ?_
                      refine lv_aload_n hx hb d_Cf_add_195 rfl (lv_at hl 3 rfl) ?_
                      refine va_get (ci := 1) hx hb (h_Cf hkk) (fun _ h => h) hown hK hP 0 rfl rfl 2 (by decide) (hkk.use kw_57 rfl) (fun _ h => h) rfl d_Cf_add_196 ?_
                      refine lv_imul hx hb d_Cf_add_199 ?_
                      refine lv_iadd hx hb d_Cf_add_200 ?_
                      refine cf_top (y := nI (12 + 2 * n)) (by show nI 12 + nI 2 * nI n = _; rw [pk_mul, nI_add]) ?_
                      refine va_putN (ci := 0) (v := .int (nI (12 + 2 * n))) (ty := .int) hx hb (h_Arg hkk) (fun _ h => h) t_Arg t_Arg_ok n_Arg hown hK hP hD hS (5 + n) (cf_pgetA (t := (kind, nI (p_nh (p_at r kd sz al n) kind a), nI (p_b kind size), -1, 1)) (by omega) (va_up_self _ _ _)) rfl 3 (by decide) (hkk.use kw_32 rfl) (fun _ h => h) rfl (by decide +kernel) rfl rfl (Nat.le_of_ble_eq_true rfl) d_Cf_add_201 (fun H locs hP hD2 hS => ?_)
                      have hP : va_P D cf_cl ((CW c0 c1 c2 c3 c4 cR cI ad rf (nI n) r op gr cl lo gA fA (va_up pa (ad n) (kind, nI (p_nh (p_at r kd sz al n) kind a), nI (p_b kind size), -1, 1))).set (5 + n) (ad n, .inr (0, cf_av (kind, nI (p_nh (p_at r kd sz al n) kind a), nI (p_b kind size), nI (12 + 2 * n), 1)))) H := hP
                      have hP : va_P D cf_cl (CW c0 c1 c2 c3 c4 cR cI ad rf (nI n) r op gr cl lo gA fA (va_up pa (ad n) (kind, nI (p_nh (p_at r kd sz al n) kind a), nI (p_b kind size), nI (12 + 2 * n), 1))) H := by rw [cf_pset hD (by omega) (kind, nI (p_nh (p_at r kd sz al n) kind a), nI (p_b kind size), nI (12 + 2 * n), 1), bx_uu] at hP; exact hP
                      have hD : va_D A (CW c0 c1 c2 c3 c4 cR cI ad rf (nI n) r op gr cl lo gA fA (va_up pa (ad n) (kind, nI (p_nh (p_at r kd sz al n) kind a), nI (p_b kind size), nI (12 + 2 * n), 1))) := cf_Dm hD cf_addr
                      refine lv_aload_n hx hb d_Cf_add_204 rfl (lv_at hl 3 rfl) ?_
                      refine lv_dup hx hb d_Cf_add_205 rfl ?_
                      refine va_get (ci := 1) hx hb (h_Cf hkk) (fun _ h => h) hown hK hP 0 rfl rfl 2 (by decide) (hkk.use kw_57 rfl) (fun _ h => h) rfl d_Cf_add_206 ?_
                      refine lv_iconst (v := 1) hx hb d_Cf_add_209 (by decide) ?_
                      refine lv_iadd hx hb d_Cf_add_210 ?_
                      refine cf_top (y := nI (n + 1)) (nI_1 n) ?_
                      refine va_put (ci := 1) (v := .int (nI (n + 1))) (ty := .int) hx hb (h_Cf hkk) (fun _ h => h) t_Cf t_Cf_ok n_Cf hown hK hP hD hS 0 rfl rfl 2 (by decide) (hkk.use kw_57 rfl) (fun _ h => h) rfl (by decide +kernel) rfl rfl (Nat.le_of_ble_eq_true rfl) d_Cf_add_211 (fun H locs hP hD hS => ?_)
                      have hP : va_P D cf_cl (CW c0 c1 c2 c3 c4 cR cI ad rf (nI (n + 1)) r op gr cl lo gA fA (va_up pa (ad n) (kind, nI (p_nh (p_at r kd sz al n) kind a), nI (p_b kind size), nI (12 + 2 * n), 1))) H := hP
                      have hD : va_D A (CW c0 c1 c2 c3 c4 cR cI ad rf (nI (n + 1)) r op gr cl lo gA fA (va_up pa (ad n) (kind, nI (p_nh (p_at r kd sz al n) kind a), nI (p_b kind size), nI (12 + 2 * n), 1))) := hD
                      refine lv_iload hx hb d_Cf_add_214 (lv_at hl 2 rfl) ?_
                      rw [if_pos hF, if_pos hF]
                      exact cf_iretI hx hb hr hlocks hP hS (Nat.zero_le _) (Nat.zero_le _) (rfl) d_Cf_add_216
      · refine lv_iload_n hx hb d_Cf_add_61 rfl (lv_at hl 2 rfl) ?_
        refine lv_iconst (v := 3) hx hb d_Cf_add_62 (by decide) ?_
        refine lv_icmp_ne (tgt := 70) hx hb d_Cf_add_63 (by decide) (fun c_63 => ?_) (fun c_63 => ?_)
        · refine lv_iload_n hx hb d_Cf_add_70 rfl (lv_at hl 2 rfl) ?_
          refine lv_iconst (v := 2) hx hb d_Cf_add_71 (by decide) ?_
          refine lv_icmp_ne (tgt := 80) hx hb d_Cf_add_72 (by decide) (fun c_72 => ?_) (fun c_72 => ?_)
          · refine lv_iconst (v := 4) hx hb d_Cf_add_80 (by decide) ?_
            exact J_81 _ (by unfold p_b; rw [if_neg c_72, if_neg c_63]; rfl)
          · refine lv_bipush (v := 8) hx hb d_Cf_add_75 (by decide) ?_
            refine lv_goto (tgt := 81) hx hb d_Cf_add_77 (by decide) ?_
            exact J_81 _ (by unfold p_b; rw [if_pos c_72]; rfl)
        · refine lv_iload_n hx hb d_Cf_add_66 rfl (lv_at hl 3 rfl) ?_
          refine lv_goto (tgt := 81) hx hb d_Cf_add_67 (by decide) ?_
          exact J_81 _ (p_ok_s (p_good_ok hg) c_63)
    · refine lv_iload_n hx hb d_Cf_add_34 rfl (lv_at hl 1 rfl) ?_
      refine lv_iconst (v := 2) hx hb d_Cf_add_35 (by decide) ?_
      refine lv_icmp_eq (tgt := 50) hx hb d_Cf_add_36 (by decide) (fun c_36 => ?_) (fun c_36 => ?_)
      · refine lv_bipush (v := 8) hx hb d_Cf_add_50 (by decide) ?_
        refine lv_goto (tgt := 56) hx hb d_Cf_add_52 (by decide) ?_
        exact J_56 _ (by simp [c_36])
      · refine lv_iload_n hx hb d_Cf_add_39 rfl (lv_at hl 1 rfl) ?_
        refine lv_iconst (v := 3) hx hb d_Cf_add_40 (by decide) ?_
        refine lv_icmp_ne (tgt := 55) hx hb d_Cf_add_41 (by decide) (fun c_41 => ?_) (fun c_41 => ?_)
        · refine lv_iconst (v := 4) hx hb d_Cf_add_55 (by decide) ?_
          exact J_56 _ (by simp [c_36, c_41])
        · refine lv_iload_n hx hb d_Cf_add_44 rfl (lv_at hl 3 rfl) ?_
          refine lv_bipush (v := 8) hx hb d_Cf_add_45 (by decide) ?_
          refine lv_icmp_ne (tgt := 55) hx hb d_Cf_add_47 (by decide) (fun c_47 => ?_) (fun c_47 => ?_)
          · refine lv_iconst (v := 4) hx hb d_Cf_add_55 (by decide) ?_
            exact J_56 _ (by simp [c_36, c_41, c_47])
          · refine lv_bipush (v := 8) hx hb d_Cf_add_50 (by decide) ?_
            refine lv_goto (tgt := 56) hx hb d_Cf_add_52 (by decide) ?_
            exact J_56 _ (by simp [c_36, c_41, c_47])
  · refine lv_iload_n hx hb d_Cf_add_9 rfl (lv_at hl 1 rfl) ?_
    refine lv_iconst (v := 3) hx hb d_Cf_add_10 (by decide) ?_
    refine lv_icmp_ne (tgt := 30) hx hb d_Cf_add_11 (by decide) (fun c_11 => ?_) (fun c_11 => ?_)
    · exact J_30 ls hl
    · refine lv_iload_n hx hb d_Cf_add_14 rfl (lv_at hl 2 rfl) ?_
      refine lv_iload_n hx hb d_Cf_add_15 rfl (lv_at hl 3 rfl) ?_
      refine cf_pcS (As := [.int size, .int a]) (rest := []) hx hb hml hown hkk (c_Cf_canBe l D size a) ce_Cf_canBe cs_Cf_canBe kw_125 (cf_K0 hK) cf_P0 ⟨rfl, rfl⟩ (by decide) rfl hl.1 rfl (Nat.le_of_ble_eq_true rfl) d_Cf_add_16 ⟨Nat.zero_le _, Nat.zero_le _⟩ ?_
      refine lv_if_ne (tgt := 30) hx hb d_Cf_add_19 (by decide) (fun c_19 => ?_) (fun c_19 => False.elim (p_bit0 rfl c_19 ((of_decide_eq_true hg).2.2 c_11)))
      exact J_30 ls hl
end
section
/-! THE COMPONENT: frame (printed by gen/compF.py) -/
set_option maxHeartbeats 4000000 in
set_option maxRecDepth 100000 in
/-- frame(lb, gm, fm) -/
theorem c_Cf_frame_ok (l : Launch) (D : va_G) (c0 c1 c2 c3 c4 : Nat) (cR cI : ClassId) (ad : Nat → Nat) (rf : Nat → Option Nat) (mn rs op cl lo : Int32) (gA fA : Nat → Int32) (pa : Nat → cf_T) (lb g : Nat) (gm fm : Int32) (hlb : lb ≤ 1000000) (hg : g ≤ 1000000) (hg8 : g % 8 = 0) (hgm : gm &&& 1057030143 = 0) (hfm : fm &&& (-1431306241) = 0) (hD0 : va_D (fun _ => True) (CW c0 c1 c2 c3 c4 cR cI ad rf mn rs op (nI g) cl lo gA fA pa)) : cf_IM l y_Cf_frame b_Cf_frame 8 (some FieldType.int) ({ frames := 1, cells := 0, slots := 0, locals := 21 }) [.ref c0, .int (nI lb), .int gm, .int fm] D (CW c0 c1 c2 c3 c4 cR cI ad rf mn rs op (nI g) cl lo gA fA pa) [(cR, .object "CallFrames$Argument"), (cI, .int)] (some (.int (nI (p_fr g lb (p_lg cl gm) fm)))) (CW c0 c1 c2 c3 c4 cR cI ad rf mn rs op (nI g) cl (nI g) (p_pg g lb (p_lg cl gm) fm) (p_pf g lb fm) pa) := by
  refine cf_IM_of (by decide) (Nat.le_of_ble_eq_true rfl) hD0 ?_
  intro p e s m args below meth c A hx hb hr hkk hown hlocks hml hin hP hK hD hS hA hAe ls hl
  have hl : lv_has ls 8 [(0, .ref c0), (1, .int (nI lb)), (2, .int gm), (3, .int fm)] := hl
  refine lv_iload_n hx hb d_Cf_frame_0 rfl (lv_at hl 1 rfl) ?_
  refine lv_if_lt (tgt := 28) hx hb d_Cf_frame_1 (by decide) (fun c_1 => False.elim (nI_pos (by omega) c_1)) (fun c_1 => ?_)
  refine lv_iload_n hx hb d_Cf_frame_4 rfl (lv_at hl 1 rfl) ?_
  refine lv_ldc (v := 1000000) hx hb hown (hkk.use kw_200 rfl) d_Cf_frame_5 ?_
  refine lv_icmp_gt (tgt := 28) hx hb d_Cf_frame_7 (by decide) (fun c_7 => False.elim (absurd ((nI_ltI (a := 1000000) (by omega) (by omega)).mp c_7) (by omega))) (fun c_7 => ?_)
  refine lv_iload_n hx hb d_Cf_frame_10 rfl (lv_at hl 2 rfl) ?_
  refine lv_ldc (v := 1057030143) hx hb hown (hkk.use kw_273 rfl) d_Cf_frame_11 ?_
  refine lv_iand hx hb d_Cf_frame_13 ?_
  refine lv_if_ne (tgt := 28) hx hb d_Cf_frame_14 (by decide) (fun c_14 => False.elim (c_14 hgm)) (fun c_14 => ?_)
  refine lv_iload_n hx hb d_Cf_frame_17 rfl (lv_at hl 3 rfl) ?_
  refine lv_ldc (v := (-1431306241)) hx hb hown (hkk.use kw_274 rfl) d_Cf_frame_18 ?_
  refine lv_iand hx hb d_Cf_frame_20 ?_
  refine lv_if_ne (tgt := 28) hx hb d_Cf_frame_21 (by decide) (fun c_21 => False.elim (c_21 hfm)) (fun c_21 => ?_)
  refine lv_iconst (v := 1) hx hb d_Cf_frame_24 (by decide) ?_
  refine lv_goto (tgt := 29) hx hb d_Cf_frame_25 (by decide) ?_
  refine lv_istore (lv' := [(4, .int 1), (0, .ref c0), (1, .int (nI lb)), (2, .int gm), (3, .int fm)]) hx hb d_Cf_frame_29 hl (by decide) rfl (fun ls hl => ?_)
  refine lv_iload hx hb d_Cf_frame_31 (lv_at hl 0 rfl) ?_
  refine lv_if_ne (tgt := 44) hx hb d_Cf_frame_33 (by decide) (fun c_33 => ?_) (fun c_33 => False.elim (absurd c_33 (by decide)))
  refine lv_aload_n hx hb d_Cf_frame_44 rfl (lv_at hl 1 rfl) ?_
  refine cf_icV (q0 := 0) (ci := 1) (As := []) (rest := []) hx hb hml hown hkk (c_Cf_empty l D c0 c1 c2 c3 c4 cR cI ad rf mn rs op (nI g) cl lo gA fA pa (cf_Dt hD cf_addr)) ce_Cf_empty cv_Cf_empty kw_51 hK hP rfl rfl rfl hS (cf_freeC hD hS hA) (by decide) rfl hl.1 rfl (Nat.le_of_ble_eq_true rfl) d_Cf_frame_45 ⟨Nat.zero_le _, Nat.zero_le _⟩ (fun H locs hP hzI hkI hS => ?_)
  have hP : va_P D cf_cl (CW c0 c1 c2 c3 c4 cR cI ad rf mn rs op (nI g) cl 0 (fun _ => -1) (fun _ => -1) pa) H := hP
  have hD : va_D A (CW c0 c1 c2 c3 c4 cR cI ad rf mn rs op (nI g) cl 0 (fun _ => -1) (fun _ => -1) pa) := cf_Dm hD cf_addr
  refine lv_aload_n hx hb d_Cf_frame_48 rfl (lv_at hl 1 rfl) ?_
  refine lv_aload_n hx hb d_Cf_frame_49 rfl (lv_at hl 1 rfl) ?_
  refine va_get (ci := 1) hx hb (h_Cf hkk) (fun _ h => h) hown hK hP 0 rfl rfl 5 (by decide) (hkk.use kw_60 rfl) (fun _ h => h) rfl d_Cf_frame_50 ?_
  refine lv_bipush (v := 8) hx hb d_Cf_frame_53 (by decide) ?_
  refine cf_pcS (As := [.int (nI g), .int 8]) (rest := [.ref c0]) hx hb hml hown hkk (c_Cf_up l D (nI g) 8) ce_Cf_up cs_Cf_up kw_107 (cf_K0 hK) cf_P0 ⟨rfl, rfl⟩ (by decide) rfl hl.1 rfl (Nat.le_of_ble_eq_true rfl) d_Cf_frame_55 ⟨Nat.zero_le _, Nat.zero_le _⟩ ?_
  refine cf_top (y := nI g) (by rw [p_up8 (by omega), p_u8id hg8]) ?_
  refine va_put (ci := 1) (v := .int (nI g)) (ty := .int) hx hb (h_Cf hkk) (fun _ h => h) t_Cf t_Cf_ok n_Cf hown hK hP hD hS 0 rfl rfl 9 (by decide) (hkk.use kw_64 rfl) (fun _ h => h) rfl (by decide +kernel) rfl rfl (Nat.le_of_ble_eq_true rfl) d_Cf_frame_58 (fun H locs hP hD hS => ?_)
  have hP : va_P D cf_cl (CW c0 c1 c2 c3 c4 cR cI ad rf mn rs op (nI g) cl (nI g) (fun _ => -1) (fun _ => -1) pa) H := hP
  have hD : va_D A (CW c0 c1 c2 c3 c4 cR cI ad rf mn rs op (nI g) cl (nI g) (fun _ => -1) (fun _ => -1) pa) := hD
  refine lv_aload_n hx hb d_Cf_frame_61 rfl (lv_at hl 1 rfl) ?_
  refine va_get (ci := 1) hx hb (h_Cf hkk) (fun _ h => h) hown hK hP 0 rfl rfl 9 (by decide) (hkk.use kw_64 rfl) (fun _ h => h) rfl d_Cf_frame_62 ?_
  refine lv_iload_n hx hb d_Cf_frame_65 rfl (lv_at hl 2 rfl) ?_
  refine lv_iadd hx hb d_Cf_frame_66 ?_
  refine cf_top (y := nI (g + lb)) (nI_add _ _) ?_
  refine lv_bipush (v := 8) hx hb d_Cf_frame_67 (by decide) ?_
  refine cf_pcS (As := [.int (nI (g + lb)), .int 8]) (rest := []) hx hb hml hown hkk (c_Cf_up l D (nI (g + lb)) 8) ce_Cf_up cs_Cf_up kw_107 (cf_K0 hK) cf_P0 ⟨rfl, rfl⟩ (by decide) rfl hl.1 rfl (Nat.le_of_ble_eq_true rfl) d_Cf_frame_69 ⟨Nat.zero_le _, Nat.zero_le _⟩ ?_
  refine cf_top (y := nI (p_u (g + lb) 8)) (p_up8 (by omega)) ?_
  refine lv_istore (lv' := [(5, .int (nI (p_u (g + lb) 8))), (4, .int 1), (0, .ref c0), (1, .int (nI lb)), (2, .int gm), (3, .int fm)]) hx hb d_Cf_frame_72 hl (by decide) rfl (fun ls hl => ?_)
  refine lv_bipush (v := 20) hx hb d_Cf_frame_74 (by decide) ?_
  refine lv_istore (lv' := [(6, .int 20), (5, .int (nI (p_u (g + lb) 8))), (4, .int 1), (0, .ref c0), (1, .int (nI lb)), (2, .int gm), (3, .int fm)]) hx hb d_Cf_frame_76 hl (by decide) rfl (fun ls hl => ?_)
  have hz0 : ∀ i, i < 20 → p_z fm i := fun i hi => p_fm_z hfm (by omega) (Or.inl hi)
  refine cf_down 78 (fun n1 H1 locs1 z1 z2 ls => ∃ (i : Nat) (ff : Nat → Int32), i + n1 = 6 ∧ z1 = 0 ∧ z2 = 0 ∧ (∀ j, j < 32 → ff j = p_row fm (p_u (g + lb) 8) 8 (20 + 2 * i) j) ∧ va_P D cf_cl (CW c0 c1 c2 c3 c4 cR cI ad rf mn rs op (nI g) cl (nI g) (fun _ => -1) ff pa) H1 ∧ va_D A (CW c0 c1 c2 c3 c4 cR cI ad rf mn rs op (nI g) cl (nI g) (fun _ => -1) ff pa) ∧ va_S A s.heap H1 locs1 ∧ lv_has ls 8 [(6, .int (nI (20 + 2 * i))), (5, .int (nI (p_u (g + lb) 8 + 8 * p_c fm (20 + 2 * i)))), (4, .int 1), (0, .ref c0), (1, .int (nI lb)), (2, .int gm), (3, .int fm)]) (fun n1 H locs z1 z2 ls hI IH => ?_) 6 H locs 0 0 ls ⟨0, (fun _ => -1), by omega, rfl, rfl, fun j hj => (p_row_0 hz0 j).symm, hP, hD, hS, by rw [show p_c fm (20 + 2 * 0) = 0 from p_c_zero hz0]; exact hl⟩
  obtain ⟨i, ff, hi, rfl, rfl, hff, hP, hD, hS, hl⟩ := hI
  refine lv_iload hx hb d_Cf_frame_78 (lv_at hl 0 rfl) ?_
  refine lv_bipush (v := 32) hx hb d_Cf_frame_80 (by decide) ?_
  refine lv_icmp_ge (tgt := 115) hx hb d_Cf_frame_82 (by decide) (fun c_82 => ?_) (fun c_82 => ?_)
  · have hi6 : i = 6 := by have := (nI_leI (a := 32) (by omega) (by omega)).mp c_82; omega
    have hP := cf_setA hP (k := 4) rfl (g := p_pf g lb fm) (fun j hj => by rw [hff j hj, hi6]; exact p_row_f hj)
    have hP : va_P D cf_cl (CW c0 c1 c2 c3 c4 cR cI ad rf mn rs op (nI g) cl (nI g) (fun _ => -1) (p_pf g lb fm) pa) H := hP
    have hD : va_D A (CW c0 c1 c2 c3 c4 cR cI ad rf mn rs op (nI g) cl (nI g) (fun _ => -1) (p_pf g lb fm) pa) := cf_Dm hD cf_addr
    rw [hi6] at hl
    have hl : lv_has ls 8 [(6, .int (nI 32)), (5, .int (nI (p_ga g lb fm))), (4, .int 1), (0, .ref c0), (1, .int (nI lb)), (2, .int gm), (3, .int fm)] := hl
    refine lv_iload_n hx hb d_Cf_frame_115 rfl (lv_at hl 5 rfl) ?_
    refine cf_join 129 ls [.int gm] (fun v => v = if cl ≤ 0 then 0 else (-2147483648)) (fun v_129 e_129 => ?_) (fun J_129 => ?_)
    · refine lv_ior hx hb d_Cf_frame_129 ?_
      refine cf_top (y := (p_lg cl gm)) (p_ldI e_129) ?_
      refine lv_istore (lv' := [(6, .int (p_lg cl gm)), (5, .int (nI (p_ga g lb fm))), (4, .int 1), (0, .ref c0), (1, .int (nI lb)), (2, .int gm), (3, .int fm)]) hx hb d_Cf_frame_130 hl (by decide) rfl (fun ls hl => ?_)
      refine lv_bipush (v := 16) hx hb d_Cf_frame_132 (by decide) ?_
      refine lv_istore (lv' := [(7, .int 16), (6, .int (p_lg cl gm)), (5, .int (nI (p_ga g lb fm))), (4, .int 1), (0, .ref c0), (1, .int (nI lb)), (2, .int gm), (3, .int fm)]) hx hb d_Cf_frame_134 hl (by decide) rfl (fun ls hl => ?_)
      have hz0 : ∀ i, i < 16 → p_z (p_lg cl gm) i := fun i hi => p_lg_z hgm hi
      refine cf_down 136 (fun n1 H1 locs1 z1 z2 ls => ∃ (k : Nat) (gg : Nat → Int32), k + n1 = 32 ∧ 16 ≤ k ∧ z1 = 0 ∧ z2 = 0 ∧ (∀ j, j < 32 → gg j = p_row (p_lg cl gm) (p_ga g lb fm) 4 k j) ∧ va_P D cf_cl (CW c0 c1 c2 c3 c4 cR cI ad rf mn rs op (nI g) cl (nI g) gg (p_pf g lb fm) pa) H1 ∧ va_D A (CW c0 c1 c2 c3 c4 cR cI ad rf mn rs op (nI g) cl (nI g) gg (p_pf g lb fm) pa) ∧ va_S A s.heap H1 locs1 ∧ lv_has ls 8 [(7, .int (nI k)), (6, .int (p_lg cl gm)), (5, .int (nI (p_ga g lb fm + 4 * p_c (p_lg cl gm) k))), (4, .int 1), (0, .ref c0), (1, .int (nI lb)), (2, .int gm), (3, .int fm)]) (fun n1 H locs z1 z2 ls hI IH => ?_) 16 H locs 0 0 ls ⟨16, (fun _ => -1), by omega, by omega, rfl, rfl, fun j hj => (p_row_0 hz0 j).symm, hP, hD, hS, by rw [show p_c (p_lg cl gm) 16 = 0 from p_c_zero hz0]; exact hl⟩
      obtain ⟨k, gg, hk, hk16, rfl, rfl, hgg, hP, hD, hS, hl⟩ := hI
      refine lv_iload hx hb d_Cf_frame_136 (lv_at hl 0 rfl) ?_
      refine lv_bipush (v := 32) hx hb d_Cf_frame_138 (by decide) ?_
      refine lv_icmp_ge (tgt := 174) hx hb d_Cf_frame_140 (by decide) (fun c_140 => ?_) (fun c_140 => ?_)
      · have hk32 : k = 32 := by have := (nI_leI (a := 32) (by omega) (by omega)).mp c_140; omega
        have hP := cf_setA hP (k := 3) rfl (g := p_pg g lb (p_lg cl gm) fm) (fun j hj => by rw [hgg j hj, hk32]; exact p_row_g hj)
        have hP : va_P D cf_cl (CW c0 c1 c2 c3 c4 cR cI ad rf mn rs op (nI g) cl (nI g) (p_pg g lb (p_lg cl gm) fm) (p_pf g lb fm) pa) H := hP
        have hD : va_D A (CW c0 c1 c2 c3 c4 cR cI ad rf mn rs op (nI g) cl (nI g) (p_pg g lb (p_lg cl gm) fm) (p_pf g lb fm) pa) := cf_Dm hD cf_addr
        rw [hk32] at hl
        refine lv_iload hx hb d_Cf_frame_174 (lv_at hl 2 rfl) ?_
        refine lv_bipush (v := 8) hx hb d_Cf_frame_176 (by decide) ?_
        refine cf_pcS (As := [.int (nI (p_ga g lb fm + 4 * p_c (p_lg cl gm) 32)), .int 8]) (rest := []) hx hb hml hown hkk (c_Cf_up l D (nI (p_ga g lb fm + 4 * p_c (p_lg cl gm) 32)) 8) ce_Cf_up cs_Cf_up kw_107 (cf_K0 hK) cf_P0 ⟨rfl, rfl⟩ (by decide) rfl hl.1 rfl (Nat.le_of_ble_eq_true rfl) d_Cf_frame_178 ⟨Nat.zero_le _, Nat.zero_le _⟩ ?_
        refine cf_top (y := nI (p_fr g lb (p_lg cl gm) fm)) (p_up8 (by have := p_ga_b fm hg hlb; have := p_c_le (p_lg cl gm) 32; omega)) ?_
        exact cf_iretI hx hb hr hlocks hP hS (Nat.zero_le _) (Nat.zero_le _) (rfl) d_Cf_frame_181
      · have hk32 : k < 32 := Nat.lt_of_not_le (fun h => c_140 (nI_le (a := 32) h (by omega)))
        refine lv_iload hx hb d_Cf_frame_143 (lv_at hl 1 rfl) ?_
        refine lv_iload hx hb d_Cf_frame_145 (lv_at hl 0 rfl) ?_
        refine lv_ishr hx hb d_Cf_frame_147 ?_
        refine lv_iconst (v := 1) hx hb d_Cf_frame_148 (by decide) ?_
        refine lv_iand hx hb d_Cf_frame_149 ?_
        refine lv_if_ne (tgt := 156) hx hb d_Cf_frame_150 (by decide) (fun c_150 => ?_) (fun c_150 => ?_)
        · refine lv_aload_n hx hb d_Cf_frame_156 rfl (lv_at hl 4 rfl) ?_
          refine va_get (ci := 1) hx hb (h_Cf hkk) (fun _ h => h) hown hK hP 0 rfl rfl 7 (by decide) (hkk.use kw_62 rfl) (fun _ h => h) rfl d_Cf_frame_157 ?_
          refine lv_iload hx hb d_Cf_frame_160 (lv_at hl 0 rfl) ?_
          refine lv_iload hx hb d_Cf_frame_162 (lv_at hl 2 rfl) ?_
          refine cf_iast hx hb hK hP hD hS 3 1 rfl rfl (k := k) (by omega) (by decide) d_Cf_frame_164 (fun H locs hP hD hS => ?_)
          have hP : va_P D cf_cl (CW c0 c1 c2 c3 c4 cR cI ad rf mn rs op (nI g) cl (nI g) (upd gg k (nI (p_ga g lb fm + 4 * p_c (p_lg cl gm) k))) (p_pf g lb fm) pa) H := hP
          have hD : va_D A (CW c0 c1 c2 c3 c4 cR cI ad rf mn rs op (nI g) cl (nI g) (upd gg k (nI (p_ga g lb fm + 4 * p_c (p_lg cl gm) k))) (p_pf g lb fm) pa) := hD
          refine lv_iinc (v := nI (p_ga g lb fm + 4 * p_c (p_lg cl gm) k + 4)) (lv' := [(5, .int (nI (p_ga g lb fm + 4 * p_c (p_lg cl gm) k + 4))), (7, .int (nI k)), (6, .int (p_lg cl gm)), (4, .int 1), (0, .ref c0), (1, .int (nI lb)), (2, .int gm), (3, .int fm)]) hx hb d_Cf_frame_165 hl (k := 2) rfl (nI_add _ 4) (by decide) rfl (fun ls hl => ?_)
          refine lv_iinc (v := nI (k + 1)) (lv' := [(7, .int (nI (k + 1))), (5, .int (nI (p_ga g lb fm + 4 * p_c (p_lg cl gm) k + 4))), (6, .int (p_lg cl gm)), (4, .int 1), (0, .ref c0), (1, .int (nI lb)), (2, .int gm), (3, .int fm)]) hx hb d_Cf_frame_168 hl (k := 1) rfl (nI_1 k) (by decide) rfl (fun ls hl => ?_)
          refine lv_goto (tgt := 136) hx hb d_Cf_frame_171 (by decide) ?_
          have hcs : p_c (p_lg cl gm) (k + 1) = p_c (p_lg cl gm) k + 1 := by show p_c (p_lg cl gm) k + (if p_z (p_lg cl gm) k then 0 else 1) = _; rw [if_neg c_150]
          refine IH (n1 - 1) H locs 0 0 ls (by omega) ⟨k + 1, _, by omega, by omega, rfl, rfl, fun j hj => ?_, hP, hD, hS, by rw [hcs, Nat.mul_add, ← Nat.add_assoc]; exact lv_sub hl [0, 2, 1, 3, 4, 5, 6, 7] rfl⟩
          rw [p_upc hgg _ _ hj, p_row_s c_150]
        · refine lv_goto (tgt := 168) hx hb d_Cf_frame_153 (by decide) ?_
          refine lv_iinc (v := nI (k + 1)) (lv' := [(7, .int (nI (k + 1))), (6, .int (p_lg cl gm)), (5, .int (nI (p_ga g lb fm + 4 * p_c (p_lg cl gm) k))), (4, .int 1), (0, .ref c0), (1, .int (nI lb)), (2, .int gm), (3, .int fm)]) hx hb d_Cf_frame_168 hl (k := 0) rfl (nI_1 k) (by decide) rfl (fun ls hl => ?_)
          refine lv_goto (tgt := 136) hx hb d_Cf_frame_171 (by decide) ?_
          have hcs : p_c (p_lg cl gm) (k + 1) = p_c (p_lg cl gm) k + 0 := by show p_c (p_lg cl gm) k + (if p_z (p_lg cl gm) k then 0 else 1) = _; rw [if_pos c_150]
          refine IH (n1 - 1) H locs 0 0 ls (by omega) ⟨k + 1, gg, by omega, by omega, rfl, rfl, fun j hj => ?_, hP, hD, hS, by rw [hcs, Nat.add_zero]; exact hl⟩
          rw [hgg j hj, p_row_z c_150]
    · refine lv_aload_n hx hb d_Cf_frame_116 rfl (lv_at hl 3 rfl) ?_
      refine va_get (ci := 1) hx hb (h_Cf hkk) (fun _ h => h) hown hK hP 0 rfl rfl 6 (by decide) (hkk.use kw_61 rfl) (fun _ h => h) rfl d_Cf_frame_117 ?_
      refine lv_if_le (tgt := 128) hx hb d_Cf_frame_120 (by decide) (fun c_120 => ?_) (fun c_120 => ?_)
      · refine lv_iconst (v := 0) hx hb d_Cf_frame_128 (by decide) ?_
        exact J_129 _ (by simp [c_120])
      · refine lv_ldc (v := (-2147483648)) hx hb hown (hkk.use kw_275 rfl) d_Cf_frame_123 ?_
        refine lv_goto (tgt := 129) hx hb d_Cf_frame_125 (by decide) ?_
        exact J_129 _ (by simp [c_120])
  · have hi6 : i < 6 := by have := Nat.lt_of_not_le (fun h => c_82 (nI_le (a := 32) h (by omega))); omega
    refine lv_iload_n hx hb d_Cf_frame_85 rfl (lv_at hl 6 rfl) ?_
    refine lv_iload hx hb d_Cf_frame_86 (lv_at hl 0 rfl) ?_
    refine lv_ishr hx hb d_Cf_frame_88 ?_
    refine lv_iconst (v := 1) hx hb d_Cf_frame_89 (by decide) ?_
    refine lv_iand hx hb d_Cf_frame_90 ?_
    refine lv_if_ne (tgt := 97) hx hb d_Cf_frame_91 (by decide) (fun c_91 => ?_) (fun c_91 => ?_)
    · refine lv_aload_n hx hb d_Cf_frame_97 rfl (lv_at hl 3 rfl) ?_
      refine va_get (ci := 1) hx hb (h_Cf hkk) (fun _ h => h) hown hK hP 0 rfl rfl 8 (by decide) (hkk.use kw_63 rfl) (fun _ h => h) rfl d_Cf_frame_98 ?_
      refine lv_iload hx hb d_Cf_frame_101 (lv_at hl 0 rfl) ?_
      refine lv_iload hx hb d_Cf_frame_103 (lv_at hl 1 rfl) ?_
      refine cf_iast hx hb hK hP hD hS 4 1 rfl rfl (k := (20 + 2 * i)) (by omega) (by decide) d_Cf_frame_105 (fun H locs hP hD hS => ?_)
      have hP : va_P D cf_cl (CW c0 c1 c2 c3 c4 cR cI ad rf mn rs op (nI g) cl (nI g) (fun _ => -1) (upd ff (20 + 2 * i) (nI (p_u (g + lb) 8 + 8 * p_c fm (20 + 2 * i)))) pa) H := hP
      have hD : va_D A (CW c0 c1 c2 c3 c4 cR cI ad rf mn rs op (nI g) cl (nI g) (fun _ => -1) (upd ff (20 + 2 * i) (nI (p_u (g + lb) 8 + 8 * p_c fm (20 + 2 * i)))) pa) := hD
      refine lv_iinc (v := nI (p_u (g + lb) 8 + 8 * p_c fm (20 + 2 * i) + 8)) (lv' := [(5, .int (nI (p_u (g + lb) 8 + 8 * p_c fm (20 + 2 * i) + 8))), (6, .int (nI (20 + 2 * i))), (4, .int 1), (0, .ref c0), (1, .int (nI lb)), (2, .int gm), (3, .int fm)]) hx hb d_Cf_frame_106 hl (k := 1) rfl (nI_add _ 8) (by decide) rfl (fun ls hl => ?_)
      refine lv_iinc (v := nI (20 + 2 * (i + 1))) (lv' := [(6, .int (nI (20 + 2 * (i + 1)))), (5, .int (nI (p_u (g + lb) 8 + 8 * p_c fm (20 + 2 * i) + 8))), (4, .int 1), (0, .ref c0), (1, .int (nI lb)), (2, .int gm), (3, .int fm)]) hx hb d_Cf_frame_109 hl (k := 1) rfl (by rw [show 20 + 2 * (i + 1) = 20 + 2 * i + 2 by omega]; exact nI_add _ 2) (by decide) rfl (fun ls hl => ?_)
      refine lv_goto (tgt := 78) hx hb d_Cf_frame_112 (by decide) ?_
      have hz1 : p_z fm ((20 + 2 * i) + 1) := p_fm_z hfm (by omega) (Or.inr (by omega))
      have hcs : p_c fm (20 + 2 * (i + 1)) = p_c fm (20 + 2 * i) + 1 := by rw [show 20 + 2 * (i + 1) = (20 + 2 * i) + 2 by omega, p_c2 hz1, if_neg c_91]
      refine IH (n1 - 1) H locs 0 0 ls (by omega) ⟨i + 1, _, by omega, rfl, rfl, fun j hj => ?_, hP, hD, hS, by rw [hcs, Nat.mul_add, ← Nat.add_assoc]; exact hl⟩
      rw [p_upc hff _ _ hj, p_row_s c_91, p_row_z hz1]
      rfl
    · refine lv_goto (tgt := 109) hx hb d_Cf_frame_94 (by decide) ?_
      refine lv_iinc (v := nI (20 + 2 * (i + 1))) (lv' := [(6, .int (nI (20 + 2 * (i + 1)))), (5, .int (nI (p_u (g + lb) 8 + 8 * p_c fm (20 + 2 * i)))), (4, .int 1), (0, .ref c0), (1, .int (nI lb)), (2, .int gm), (3, .int fm)]) hx hb d_Cf_frame_109 hl (k := 0) rfl (by rw [show 20 + 2 * (i + 1) = 20 + 2 * i + 2 by omega]; exact nI_add _ 2) (by decide) rfl (fun ls hl => ?_)
      refine lv_goto (tgt := 78) hx hb d_Cf_frame_112 (by decide) ?_
      have hz1 : p_z fm ((20 + 2 * i) + 1) := p_fm_z hfm (by omega) (Or.inr (by omega))
      have hcs : p_c fm (20 + 2 * (i + 1)) = p_c fm (20 + 2 * i) + 0 := by rw [show 20 + 2 * (i + 1) = (20 + 2 * i) + 2 by omega, p_c2 hz1, if_pos c_91]
      refine IH (n1 - 1) H locs 0 0 ls (by omega) ⟨i + 1, ff, by omega, rfl, rfl, fun j hj => ?_, hP, hD, hS, by rw [hcs, Nat.add_zero]; exact lv_sub hl [0, 1, 2, 3, 4, 5, 6] rfl⟩
      rw [hff j hj, p_row_z c_91, p_row_z hz1]
      rfl
end
section
/-! THE COMPONENT: what it refuses (printed by gen/compT.py) -/
theorem p_ge {x : Int32} (h1 : ¬ x < -1) (h2 : ¬ x = -1) : ¬ x < 0 := fun h => by
  have e1 : ¬ x.toInt < (-1 : Int32).toInt := fun q => h1 (Int32.lt_iff_toInt_lt.mpr q)
  have e2 : x.toInt < (0 : Int32).toInt := Int32.lt_iff_toInt_lt.mp h
  have e3 : (-1 : Int32).toInt = -1 := rfl
  have e4 : (0 : Int32).toInt = 0 := rfl
  rw [e3] at e1
  rw [e4] at e2
  exact h2 (Int32.toInt_inj.mp (by rw [e3]; omega))
set_option maxHeartbeats 4000000 in
set_option maxRecDepth 100000 in
/-- begin, refused -/
theorem c_Cf_begin_no (l : Launch) (D : va_G) (htr : ∀ e : Env, l.admits e → e.platform.stackTraces = false) (c0 c1 c2 c3 c4 : Nat) (cR cI : ClassId) (ad : Nat → Nat) (rf : Nat → Option Nat) (mn rs op gr cl lo : Int32) (gA fA : Nat → Int32) (pa : Nat → cf_T) (kind size a o2 : Int32) (hg : ¬ p_good kind 4 size a = true) : cf_TM l y_Cf_begin b_Cf_begin 5 none ({ frames := 6, cells := 1, slots := 6, locals := 81 }) [.ref c0, .int kind, .int size, .int a, .int o2] D (CW c0 c1 c2 c3 c4 cR cI ad rf mn rs op gr cl lo gA fA pa) [(cR, .object "CallFrames$Argument"), (cI, .int)] cf_IAE := by
  refine cf_TM_of (by decide) (Nat.le_of_ble_eq_true rfl) ?_
  intro p e s m args below meth c hx hb hkk hst hown hlocks hml hnoh hadm hP hK ls hl
  have hl : lv_has ls 5 [(0, .ref c0), (1, .int kind), (2, .int size), (3, .int a), (4, .int o2)] := hl
  refine lv_iload_n hx hb d_Cf_begin_0 rfl (lv_at hl 1 rfl) ?_
  refine lv_if_lt (tgt := 22) hx hb d_Cf_begin_1 (by decide) (fun c_1 => ?_) (fun c_1 => ?_)
  · exact cf_throw hx hb (hml.trans hl.1.symm) (htr e hadm) hlocks hkk hst hown (by decide) cf_okIAE kw_129 kw_7 hnoh d_Cf_begin_22 d_Cf_begin_25 d_Cf_begin_26 d_Cf_begin_29 (by decide)
  · refine lv_iload_n hx hb d_Cf_begin_4 rfl (lv_at hl 1 rfl) ?_
    refine lv_iconst (v := 4) hx hb d_Cf_begin_5 (by decide) ?_
    refine lv_icmp_gt (tgt := 22) hx hb d_Cf_begin_6 (by decide) (fun c_6 => ?_) (fun c_6 => ?_)
    · exact cf_throw hx hb (hml.trans hl.1.symm) (htr e hadm) hlocks hkk hst hown (by decide) cf_okIAE kw_129 kw_7 hnoh d_Cf_begin_22 d_Cf_begin_25 d_Cf_begin_26 d_Cf_begin_29 (by decide)
    · refine lv_iload_n hx hb d_Cf_begin_9 rfl (lv_at hl 1 rfl) ?_
      refine lv_iconst (v := 3) hx hb d_Cf_begin_10 (by decide) ?_
      refine lv_icmp_ne (tgt := 30) hx hb d_Cf_begin_11 (by decide) (fun c_11 => False.elim (hg (decide_eq_true ⟨c_1, c_6, fun h => absurd h c_11⟩))) (fun c_11 => ?_)
      refine lv_iload_n hx hb d_Cf_begin_14 rfl (lv_at hl 2 rfl) ?_
      refine lv_iload_n hx hb d_Cf_begin_15 rfl (lv_at hl 3 rfl) ?_
      refine cf_pcS (As := [.int size, .int a]) (rest := []) hx hb hml hown hkk (c_Cf_canBe l D size a) ce_Cf_canBe cs_Cf_canBe kw_125 (cf_K0 hK) cf_P0 ⟨rfl, rfl⟩ (by decide) rfl hl.1 rfl (Nat.le_of_ble_eq_true rfl) d_Cf_begin_16 ⟨Nat.zero_le _, Nat.zero_le _⟩ ?_
      refine lv_if_ne (tgt := 30) hx hb d_Cf_begin_19 (by decide) (fun c_19 => False.elim (hg (decide_eq_true ⟨c_1, c_6, fun _ => p_bit1 rfl c_19⟩))) (fun c_19 => ?_)
      exact cf_throw hx hb (hml.trans hl.1.symm) (htr e hadm) hlocks hkk hst hown (by decide) cf_okIAE kw_129 kw_7 hnoh d_Cf_begin_22 d_Cf_begin_25 d_Cf_begin_26 d_Cf_begin_29 (by decide)

set_option maxHeartbeats 4000000 in
set_option maxRecDepth 100000 in
/-- add, refused -/
theorem c_Cf_add_no (l : Launch) (D : va_G) (htr : ∀ e : Env, l.admits e → e.platform.stackTraces = false) (c0 c1 c2 c3 c4 : Nat) (cR cI : ClassId) (ad : Nat → Nat) (rf : Nat → Option Nat) (mn rs op gr cl lo : Int32) (gA fA : Nat → Int32) (pa : Nat → cf_T) (kind size a : Int32) (hg : ¬ p_good kind 3 size a = true) : cf_TM l y_Cf_add b_Cf_add 7 (some FieldType.int) ({ frames := 6, cells := 1, slots := 6, locals := 81 }) [.ref c0, .int kind, .int size, .int a] D (CW c0 c1 c2 c3 c4 cR cI ad rf mn rs op gr cl lo gA fA pa) [(cR, .object "CallFrames$Argument"), (cI, .int)] cf_IAE := by
  refine cf_TM_of (by decide) (Nat.le_of_ble_eq_true rfl) ?_
  intro p e s m args below meth c hx hb hkk hst hown hlocks hml hnoh hadm hP hK ls hl
  have hl : lv_has ls 7 [(0, .ref c0), (1, .int kind), (2, .int size), (3, .int a)] := hl
  refine lv_iload_n hx hb d_Cf_add_0 rfl (lv_at hl 1 rfl) ?_
  refine lv_if_lt (tgt := 22) hx hb d_Cf_add_1 (by decide) (fun c_1 => ?_) (fun c_1 => ?_)
  · exact cf_throw hx hb (hml.trans hl.1.symm) (htr e hadm) hlocks hkk hst hown (by decide) cf_okIAE kw_129 kw_7 hnoh d_Cf_add_22 d_Cf_add_25 d_Cf_add_26 d_Cf_add_29 (by decide)
  · refine lv_iload_n hx hb d_Cf_add_4 rfl (lv_at hl 1 rfl) ?_
    refine lv_iconst (v := 3) hx hb d_Cf_add_5 (by decide) ?_
    refine lv_icmp_gt (tgt := 22) hx hb d_Cf_add_6 (by decide) (fun c_6 => ?_) (fun c_6 => ?_)
    · exact cf_throw hx hb (hml.trans hl.1.symm) (htr e hadm) hlocks hkk hst hown (by decide) cf_okIAE kw_129 kw_7 hnoh d_Cf_add_22 d_Cf_add_25 d_Cf_add_26 d_Cf_add_29 (by decide)
    · refine lv_iload_n hx hb d_Cf_add_9 rfl (lv_at hl 1 rfl) ?_
      refine lv_iconst (v := 3) hx hb d_Cf_add_10 (by decide) ?_
      refine lv_icmp_ne (tgt := 30) hx hb d_Cf_add_11 (by decide) (fun c_11 => False.elim (hg (decide_eq_true ⟨c_1, c_6, fun h => absurd h c_11⟩))) (fun c_11 => ?_)
      refine lv_iload_n hx hb d_Cf_add_14 rfl (lv_at hl 2 rfl) ?_
      refine lv_iload_n hx hb d_Cf_add_15 rfl (lv_at hl 3 rfl) ?_
      refine cf_pcS (As := [.int size, .int a]) (rest := []) hx hb hml hown hkk (c_Cf_canBe l D size a) ce_Cf_canBe cs_Cf_canBe kw_125 (cf_K0 hK) cf_P0 ⟨rfl, rfl⟩ (by decide) rfl hl.1 rfl (Nat.le_of_ble_eq_true rfl) d_Cf_add_16 ⟨Nat.zero_le _, Nat.zero_le _⟩ ?_
      refine lv_if_ne (tgt := 30) hx hb d_Cf_add_19 (by decide) (fun c_19 => False.elim (hg (decide_eq_true ⟨c_1, c_6, fun _ => p_bit1 rfl c_19⟩))) (fun c_19 => ?_)
      exact cf_throw hx hb (hml.trans hl.1.symm) (htr e hadm) hlocks hkk hst hown (by decide) cf_okIAE kw_129 kw_7 hnoh d_Cf_add_22 d_Cf_add_25 d_Cf_add_26 d_Cf_add_29 (by decide)

set_option maxHeartbeats 4000000 in
set_option maxRecDepth 100000 in
/-- add: no room -/
theorem c_Cf_add_far (l : Launch) (D : va_G) (htr : ∀ e : Env, l.admits e → e.platform.stackTraces = false) (c0 c1 c2 c3 c4 : Nat) (cR cI : ClassId) (ad : Nat → Nat) (rf : Nat → Option Nat) (op gr cl lo : Int32) (gA fA : Nat → Int32) (pa : Nat → cf_T) (r : Int32) (kd sz al : Nat → Int32) (n : Nat) (hn : n ≤ 60) (hrf : ∀ i, i < 60 → rf i = some (ad i)) (hpa : ∀ i, i < n → pa (ad i) = p_arg r op kd sz al i) (hok : ∀ i, i < n → p_ok (kd i) (sz i)) (hat : p_at r kd sz al n ≤ 1000000) (kind size a : Int32) (hg : p_good kind 3 size a = true) (hbad : n = 60 ∨ ¬ p_ne (p_at r kd sz al n) kind size a ≤ 1000000) : cf_TM l y_Cf_add b_Cf_add 7 (some FieldType.int) ({ frames := 6, cells := 1, slots := 6, locals := 81 }) [.ref c0, .int kind, .int size, .int a] D (CW c0 c1 c2 c3 c4 cR cI ad rf (nI n) r op gr cl lo gA fA pa) [(cR, .object "CallFrames$Argument"), (cI, .int)] cf_ISE := by
  refine cf_TM_of (by decide) (Nat.le_of_ble_eq_true rfl) ?_
  intro p e s m args below meth c hx hb hkk hst hown hlocks hml hnoh hadm hP hK ls hl
  have hl : lv_has ls 7 [(0, .ref c0), (1, .int kind), (2, .int size), (3, .int a)] := hl
  refine lv_iload_n hx hb d_Cf_add_0 rfl (lv_at hl 1 rfl) ?_
  refine lv_if_lt (tgt := 22) hx hb d_Cf_add_1 (by decide) (fun c_1 => False.elim ((of_decide_eq_true hg).1 c_1)) (fun c_1 => ?_)
  refine lv_iload_n hx hb d_Cf_add_4 rfl (lv_at hl 1 rfl) ?_
  refine lv_iconst (v := 3) hx hb d_Cf_add_5 (by decide) ?_
  refine lv_icmp_gt (tgt := 22) hx hb d_Cf_add_6 (by decide) (fun c_6 => False.elim ((of_decide_eq_true hg).2.1 c_6)) (fun c_6 => ?_)
  refine cf_joinL 30 [] (fun ls => lv_has ls 7 [(0, .ref c0), (1, .int kind), (2, .int size), (3, .int a)]) (fun ls hl => ?_) (fun J_30 => ?_)
  · refine lv_aload_n hx hb d_Cf_add_30 rfl (lv_at hl 0 rfl) ?_
    refine cf_pcV (q0 := 0) (ci := 1) (As := []) (rest := []) hx hb hml hown hkk (c_Cf_end l D c0 c1 c2 c3 c4 cR cI ad rf op gr cl lo gA fA pa r kd sz al n hn hrf hpa hok hat) ce_Cf_end cv_Cf_end kw_95 hK hP rfl rfl rfl ⟨rfl, rfl⟩ (by decide) rfl hl.1 rfl (Nat.le_of_ble_eq_true rfl) d_Cf_add_31 ⟨Nat.zero_le _, Nat.zero_le _⟩ ?_
    refine cf_join 56 ls [.int (nI (p_at r kd sz al n))] (fun v => v = if p_w kind a then 8 else 4) (fun v_56 e_56 => ?_) (fun J_56 => ?_)
    · refine cf_pcS (As := [.int (nI (p_at r kd sz al n)), .int v_56]) (rest := []) hx hb hml hown hkk (c_Cf_up l D (nI (p_at r kd sz al n)) v_56) ce_Cf_up cs_Cf_up kw_107 (cf_K0 hK) cf_P0 ⟨rfl, rfl⟩ (by decide) rfl hl.1 rfl (Nat.le_of_ble_eq_true rfl) d_Cf_add_56 ⟨Nat.zero_le _, Nat.zero_le _⟩ ?_
      refine cf_top (y := nI (p_nh (p_at r kd sz al n) kind a)) (p_upw (by omega) (p_at_4 r kd sz al n) e_56) ?_
      refine lv_istore (lv' := [(4, .int (nI (p_nh (p_at r kd sz al n) kind a))), (0, .ref c0), (1, .int kind), (2, .int size), (3, .int a)]) hx hb d_Cf_add_59 hl (by decide) rfl (fun ls hl => ?_)
      refine cf_join 81 ls [] (fun v => v = nI (p_b kind size)) (fun v_81 e_81 => ?_) (fun J_81 => ?_)
      · subst e_81
        refine lv_istore (lv' := [(5, .int (nI (p_b kind size))), (4, .int (nI (p_nh (p_at r kd sz al n) kind a))), (0, .ref c0), (1, .int kind), (2, .int size), (3, .int a)]) hx hb d_Cf_add_81 hl (by decide) rfl (fun ls hl => ?_)
        refine lv_aload_n hx hb d_Cf_add_83 rfl (lv_at hl 2 rfl) ?_
        refine va_get (ci := 1) hx hb (h_Cf hkk) (fun _ h => h) hown hK hP 0 rfl rfl 2 (by decide) (hkk.use kw_57 rfl) (fun _ h => h) rfl d_Cf_add_84 ?_
        refine lv_bipush (v := 60) hx hb d_Cf_add_87 (by decide) ?_
        refine lv_icmp_eq (tgt := 106) hx hb d_Cf_add_89 (by decide) (fun c_89 => ?_) (fun c_89 => ?_)
        · exact cf_throw hx hb (hml.trans hl.1.symm) (htr e hadm) hlocks hkk hst hown (by decide) cf_okISE kw_201 kw_8 hnoh d_Cf_add_106 d_Cf_add_109 d_Cf_add_110 d_Cf_add_113 (by decide)
        · refine lv_iload hx hb d_Cf_add_92 (lv_at hl 1 rfl) ?_
          refine lv_iload hx hb d_Cf_add_94 (lv_at hl 0 rfl) ?_
          refine lv_iadd hx hb d_Cf_add_96 ?_
          refine cf_top (y := nI (p_nh (p_at r kd sz al n) kind a + p_b kind size)) (nI_add _ _) ?_
          refine lv_iconst (v := 4) hx hb d_Cf_add_97 (by decide) ?_
          refine cf_pcS (As := [.int (nI (p_nh (p_at r kd sz al n) kind a + p_b kind size)), .int 4]) (rest := []) hx hb hml hown hkk (c_Cf_up l D (nI (p_nh (p_at r kd sz al n) kind a + p_b kind size)) 4) ce_Cf_up cs_Cf_up kw_107 (cf_K0 hK) cf_P0 ⟨rfl, rfl⟩ (by decide) rfl hl.1 rfl (Nat.le_of_ble_eq_true rfl) d_Cf_add_98 ⟨Nat.zero_le _, Nat.zero_le _⟩ ?_
          refine cf_top (y := nI (p_ne (p_at r kd sz al n) kind size a)) (by rw [p_up4 (by have := p_nh_b (p_at r kd sz al n) kind a; have := p_ok_b (p_good_ok hg); omega), p_neI a (p_at_4 r kd sz al n)]) ?_
          refine lv_ldc (v := 1000000) hx hb hown (hkk.use kw_200 rfl) d_Cf_add_101 ?_
          refine lv_icmp_le (tgt := 114) hx hb d_Cf_add_103 (by decide) (fun c_103 => False.elim (hbad.elim (fun h => c_89 (by rw [h]; rfl)) (fun h => h ((nI_leI (b := 1000000) (by have := p_ne_b (p_at r kd sz al n) a (p_good_ok hg); omega) (by omega)).mp c_103)))) (fun c_103 => ?_)
          exact cf_throw hx hb (hml.trans hl.1.symm) (htr e hadm) hlocks hkk hst hown (by decide) cf_okISE kw_201 kw_8 hnoh d_Cf_add_106 d_Cf_add_109 d_Cf_add_110 d_Cf_add_113 (by decide)
      · refine lv_iload_n hx hb d_Cf_add_61 rfl (lv_at hl 2 rfl) ?_
        refine lv_iconst (v := 3) hx hb d_Cf_add_62 (by decide) ?_
        refine lv_icmp_ne (tgt := 70) hx hb d_Cf_add_63 (by decide) (fun c_63 => ?_) (fun c_63 => ?_)
        · refine lv_iload_n hx hb d_Cf_add_70 rfl (lv_at hl 2 rfl) ?_
          refine lv_iconst (v := 2) hx hb d_Cf_add_71 (by decide) ?_
          refine lv_icmp_ne (tgt := 80) hx hb d_Cf_add_72 (by decide) (fun c_72 => ?_) (fun c_72 => ?_)
          · refine lv_iconst (v := 4) hx hb d_Cf_add_80 (by decide) ?_
            exact J_81 _ (by unfold p_b; rw [if_neg c_72, if_neg c_63]; rfl)
          · refine lv_bipush (v := 8) hx hb d_Cf_add_75 (by decide) ?_
            refine lv_goto (tgt := 81) hx hb d_Cf_add_77 (by decide) ?_
            exact J_81 _ (by unfold p_b; rw [if_pos c_72]; rfl)
        · refine lv_iload_n hx hb d_Cf_add_66 rfl (lv_at hl 3 rfl) ?_
          refine lv_goto (tgt := 81) hx hb d_Cf_add_67 (by decide) ?_
          exact J_81 _ (p_ok_s (p_good_ok hg) c_63)
    · refine lv_iload_n hx hb d_Cf_add_34 rfl (lv_at hl 1 rfl) ?_
      refine lv_iconst (v := 2) hx hb d_Cf_add_35 (by decide) ?_
      refine lv_icmp_eq (tgt := 50) hx hb d_Cf_add_36 (by decide) (fun c_36 => ?_) (fun c_36 => ?_)
      · refine lv_bipush (v := 8) hx hb d_Cf_add_50 (by decide) ?_
        refine lv_goto (tgt := 56) hx hb d_Cf_add_52 (by decide) ?_
        exact J_56 _ (by simp [c_36])
      · refine lv_iload_n hx hb d_Cf_add_39 rfl (lv_at hl 1 rfl) ?_
        refine lv_iconst (v := 3) hx hb d_Cf_add_40 (by decide) ?_
        refine lv_icmp_ne (tgt := 55) hx hb d_Cf_add_41 (by decide) (fun c_41 => ?_) (fun c_41 => ?_)
        · refine lv_iconst (v := 4) hx hb d_Cf_add_55 (by decide) ?_
          exact J_56 _ (by simp [c_36, c_41])
        · refine lv_iload_n hx hb d_Cf_add_44 rfl (lv_at hl 3 rfl) ?_
          refine lv_bipush (v := 8) hx hb d_Cf_add_45 (by decide) ?_
          refine lv_icmp_ne (tgt := 55) hx hb d_Cf_add_47 (by decide) (fun c_47 => ?_) (fun c_47 => ?_)
          · refine lv_iconst (v := 4) hx hb d_Cf_add_55 (by decide) ?_
            exact J_56 _ (by simp [c_36, c_41, c_47])
          · refine lv_bipush (v := 8) hx hb d_Cf_add_50 (by decide) ?_
            refine lv_goto (tgt := 56) hx hb d_Cf_add_52 (by decide) ?_
            exact J_56 _ (by simp [c_36, c_41, c_47])
  · refine lv_iload_n hx hb d_Cf_add_9 rfl (lv_at hl 1 rfl) ?_
    refine lv_iconst (v := 3) hx hb d_Cf_add_10 (by decide) ?_
    refine lv_icmp_ne (tgt := 30) hx hb d_Cf_add_11 (by decide) (fun c_11 => ?_) (fun c_11 => ?_)
    · exact J_30 ls hl
    · refine lv_iload_n hx hb d_Cf_add_14 rfl (lv_at hl 2 rfl) ?_
      refine lv_iload_n hx hb d_Cf_add_15 rfl (lv_at hl 3 rfl) ?_
      refine cf_pcS (As := [.int size, .int a]) (rest := []) hx hb hml hown hkk (c_Cf_canBe l D size a) ce_Cf_canBe cs_Cf_canBe kw_125 (cf_K0 hK) cf_P0 ⟨rfl, rfl⟩ (by decide) rfl hl.1 rfl (Nat.le_of_ble_eq_true rfl) d_Cf_add_16 ⟨Nat.zero_le _, Nat.zero_le _⟩ ?_
      refine lv_if_ne (tgt := 30) hx hb d_Cf_add_19 (by decide) (fun c_19 => ?_) (fun c_19 => False.elim (p_bit0 rfl c_19 ((of_decide_eq_true hg).2.2 c_11)))
      exact J_30 ls hl

set_option maxHeartbeats 4000000 in
set_option maxRecDepth 100000 in
/-- of: no such argument -/
theorem c_Cf_of_no (l : Launch) (D : va_G) (htr : ∀ e : Env, l.admits e → e.platform.stackTraces = false) (c0 c1 c2 c3 c4 : Nat) (cR cI : ClassId) (ad : Nat → Nat) (rf : Nat → Option Nat) (rs op gr cl lo : Int32) (gA fA : Nat → Int32) (pa : Nat → cf_T) (n : Nat) (x : Int32) (hno : ¬ ((¬ x < 0 ∧ x < nI n) ∨ (x = -1 ∧ rs = 3))) : cf_TM l y_Cf_of b_Cf_of 2 (Option.some (FieldType.object "CallFrames$Argument")) ({ frames := 6, cells := 1, slots := 6, locals := 81 }) [.ref c0, .int x] D (CW c0 c1 c2 c3 c4 cR cI ad rf (nI n) rs op gr cl lo gA fA pa) [(cR, .object "CallFrames$Argument"), (cI, .int)] cf_IOB := by
  refine cf_TM_of (by decide) (Nat.le_of_ble_eq_true rfl) ?_
  intro p e s m args below meth c hx hb hkk hst hown hlocks hml hnoh hadm hP hK ls hl
  have hl : lv_has ls 2 [(0, .ref c0), (1, .int x)] := hl
  refine lv_iload_n hx hb d_Cf_of_0 rfl (lv_at hl 1 rfl) ?_
  refine lv_iconst (v := (-1)) hx hb d_Cf_of_1 (by decide) ?_
  refine lv_icmp_lt (tgt := 26) hx hb d_Cf_of_2 (by decide) (fun c_2 => ?_) (fun c_2 => ?_)
  · exact cf_throw hx hb (hml.trans hl.1.symm) (htr e hadm) hlocks hkk hst hown (by decide) cf_okIOB kw_232 kw_9 hnoh d_Cf_of_26 d_Cf_of_29 d_Cf_of_30 d_Cf_of_33 (by decide)
  · refine lv_iload_n hx hb d_Cf_of_5 rfl (lv_at hl 1 rfl) ?_
    refine lv_aload_n hx hb d_Cf_of_6 rfl (lv_at hl 0 rfl) ?_
    refine va_get (ci := 1) hx hb (h_Cf hkk) (fun _ h => h) hown hK hP 0 rfl rfl 2 (by decide) (hkk.use kw_57 rfl) (fun _ h => h) rfl d_Cf_of_7 ?_
    refine lv_icmp_ge (tgt := 26) hx hb d_Cf_of_10 (by decide) (fun c_10 => ?_) (fun c_10 => ?_)
    · exact cf_throw hx hb (hml.trans hl.1.symm) (htr e hadm) hlocks hkk hst hown (by decide) cf_okIOB kw_232 kw_9 hnoh d_Cf_of_26 d_Cf_of_29 d_Cf_of_30 d_Cf_of_33 (by decide)
    · refine lv_iload_n hx hb d_Cf_of_13 rfl (lv_at hl 1 rfl) ?_
      refine lv_iconst (v := (-1)) hx hb d_Cf_of_14 (by decide) ?_
      refine lv_icmp_ne (tgt := 34) hx hb d_Cf_of_15 (by decide) (fun c_15 => False.elim (hno (Or.inl ⟨p_ge c_2 c_15, Int32.not_le.mp c_10⟩))) (fun c_15 => ?_)
      refine lv_aload_n hx hb d_Cf_of_18 rfl (lv_at hl 0 rfl) ?_
      refine va_get (ci := 1) hx hb (h_Cf hkk) (fun _ h => h) hown hK hP 0 rfl rfl 3 (by decide) (hkk.use kw_58 rfl) (fun _ h => h) rfl d_Cf_of_19 ?_
      refine lv_iconst (v := 3) hx hb d_Cf_of_22 (by decide) ?_
      refine lv_icmp_eq (tgt := 34) hx hb d_Cf_of_23 (by decide) (fun c_23 => False.elim (hno (Or.inr ⟨c_15, c_23⟩))) (fun c_23 => ?_)
      exact cf_throw hx hb (hml.trans hl.1.symm) (htr e hadm) hlocks hkk hst hown (by decide) cf_okIOB kw_232 kw_9 hnoh d_Cf_of_26 d_Cf_of_29 d_Cf_of_30 d_Cf_of_33 (by decide)

set_option maxHeartbeats 4000000 in
set_option maxRecDepth 100000 in
/-- where: no such argument -/
theorem c_Cf_where_no (l : Launch) (D : va_G) (htr : ∀ e : Env, l.admits e → e.platform.stackTraces = false) (c0 c1 c2 c3 c4 : Nat) (cR cI : ClassId) (ad : Nat → Nat) (rf : Nat → Option Nat) (rs op gr cl lo : Int32) (gA fA : Nat → Int32) (pa : Nat → cf_T) (n : Nat) (x : Int32) (hno : ¬ ((¬ x < 0 ∧ x < nI n) ∨ (x = -1 ∧ rs = 3))) (w : Int32) : cf_TM l y_Cf_where b_Cf_where 4 (some FieldType.int) ({ frames := 7, cells := 1, slots := 6, locals := 102 }) [.ref c0, .int x, .int w] D (CW c0 c1 c2 c3 c4 cR cI ad rf (nI n) rs op gr cl lo gA fA pa) [(cR, .object "CallFrames$Argument"), (cI, .int)] cf_IOB := by
  refine cf_TM_of (by decide) (Nat.le_of_ble_eq_true rfl) ?_
  intro p e s m args below meth c hx hb hkk hst hown hlocks hml hnoh hadm hP hK ls hl
  have hl : lv_has ls 4 [(0, .ref c0), (1, .int x), (2, .int w)] := hl
  refine lv_aload_n hx hb d_Cf_where_0 rfl (lv_at hl 0 rfl) ?_
  refine lv_iload_n hx hb d_Cf_where_1 rfl (lv_at hl 1 rfl) ?_
  exact cf_tpass (q0 := 0) (ci := 1) (As := [.int x]) (rest := []) hx hb hml hown hkk hst hlocks hnoh (c_Cf_of_no l D htr c0 c1 c2 c3 c4 cR cI ad rf rs op gr cl lo gA fA pa n x hno) ce_Cf_of cv_Cf_of kw_228 hK hP rfl rfl rfl (by decide) rfl hl.1 rfl (Nat.le_of_ble_eq_true rfl) d_Cf_where_2 (by decide)

set_option maxHeartbeats 4000000 in
set_option maxRecDepth 100000 in
/-- about: no such argument -/
theorem c_Cf_about_no (l : Launch) (D : va_G) (htr : ∀ e : Env, l.admits e → e.platform.stackTraces = false) (c0 c1 c2 c3 c4 : Nat) (cR cI : ClassId) (ad : Nat → Nat) (rf : Nat → Option Nat) (rs op gr cl lo : Int32) (gA fA : Nat → Int32) (pa : Nat → cf_T) (n : Nat) (x : Int32) (hno : ¬ ((¬ x < 0 ∧ x < nI n) ∨ (x = -1 ∧ rs = 3))) (w : Int32) : cf_TM l y_Cf_about b_Cf_about 4 (some FieldType.int) ({ frames := 7, cells := 1, slots := 6, locals := 102 }) [.ref c0, .int x, .int w] D (CW c0 c1 c2 c3 c4 cR cI ad rf (nI n) rs op gr cl lo gA fA pa) [(cR, .object "CallFrames$Argument"), (cI, .int)] cf_IOB := by
  refine cf_TM_of (by decide) (Nat.le_of_ble_eq_true rfl) ?_
  intro p e s m args below meth c hx hb hkk hst hown hlocks hml hnoh hadm hP hK ls hl
  have hl : lv_has ls 4 [(0, .ref c0), (1, .int x), (2, .int w)] := hl
  refine lv_aload_n hx hb d_Cf_about_0 rfl (lv_at hl 0 rfl) ?_
  refine lv_iload_n hx hb d_Cf_about_1 rfl (lv_at hl 1 rfl) ?_
  exact cf_tpass (q0 := 0) (ci := 1) (As := [.int x]) (rest := []) hx hb hml hown hkk hst hlocks hnoh (c_Cf_of_no l D htr c0 c1 c2 c3 c4 cR cI ad rf rs op gr cl lo gA fA pa n x hno) ce_Cf_of cv_Cf_of kw_228 hK hP rfl rfl rfl (by decide) rfl hl.1 rfl (Nat.le_of_ble_eq_true rfl) d_Cf_about_2 (by decide)

set_option maxHeartbeats 4000000 in
set_option maxRecDepth 100000 in
/-- where(-1, k): no such word -/
theorem c_Cf_where1_no (l : Launch) (D : va_G) (htr : ∀ e : Env, l.admits e → e.platform.stackTraces = false) (c0 c1 c2 c3 c4 : Nat) (cR cI : ClassId) (ad : Nat → Nat) (rf : Nat → Option Nat) (op gr cl lo : Int32) (gA fA : Nat → Int32) (pa : Nat → cf_T) (n : Nat) (hn : n ≤ 60) (k : Int32) (hk : k < 0 ∨ ¬ k < 1) : cf_TM l y_Cf_where b_Cf_where 4 (some FieldType.int) ({ frames := 6, cells := 1, slots := 6, locals := 81 }) [.ref c0, .int (-1), .int k] D (CW c0 c1 c2 c3 c4 cR cI ad rf (nI n) 3 op gr cl lo gA fA pa) [(cR, .object "CallFrames$Argument"), (cI, .int)] cf_IOB := by
  refine cf_TM_of (by decide) (Nat.le_of_ble_eq_true rfl) ?_
  intro p e s m args below meth c hx hb hkk hst hown hlocks hml hnoh hadm hP hK ls hl
  have hl : lv_has ls 4 [(0, .ref c0), (1, .int (-1)), (2, .int k)] := hl
  refine lv_aload_n hx hb d_Cf_where_0 rfl (lv_at hl 0 rfl) ?_
  refine lv_iload_n hx hb d_Cf_where_1 rfl (lv_at hl 1 rfl) ?_
  refine cf_pcV (q0 := 0) (ci := 1) (As := [.int (-1)]) (rest := []) hx hb hml hown hkk (c_Cf_of1 l D c0 c1 c2 c3 c4 cR cI ad rf op gr cl lo gA fA pa n hn) ce_Cf_of cv_Cf_of kw_228 hK hP rfl rfl rfl ⟨rfl, rfl⟩ (by decide) rfl hl.1 rfl (Nat.le_of_ble_eq_true rfl) d_Cf_where_2 ⟨Nat.zero_le _, Nat.zero_le _⟩ ?_
  refine lv_astore_n (lv' := [(3, .ref c1), (0, .ref c0), (1, .int (-1)), (2, .int k)]) hx hb d_Cf_where_5 rfl hl (by decide) rfl (fun ls hl => ?_)
  refine lv_iload_n hx hb d_Cf_where_6 rfl (lv_at hl 3 rfl) ?_
  refine lv_if_lt (tgt := 18) hx hb d_Cf_where_7 (by decide) (fun c_7 => ?_) (fun c_7 => ?_)
  · exact cf_throw hx hb (hml.trans hl.1.symm) (htr e hadm) hlocks hkk hst hown (by decide) cf_okIOB kw_232 kw_9 hnoh d_Cf_where_18 d_Cf_where_21 d_Cf_where_22 d_Cf_where_25 (by decide)
  · refine lv_iload_n hx hb d_Cf_where_10 rfl (lv_at hl 3 rfl) ?_
    refine lv_aload_n hx hb d_Cf_where_11 rfl (lv_at hl 0 rfl) ?_
    refine cf_pcV (q0 := 0) (ci := 0) (As := []) (rest := [.int k]) hx hb hml hown hkk (c_Ar_words l D c1 0 0 (-1) 0 4 (by omega)) ce_Ar_words cv_Ar_words kw_247 (cf_K0 hK) (cf_P1 (k := 1) hP rfl) rfl rfl rfl ⟨rfl, rfl⟩ (by decide) rfl hl.1 rfl (Nat.le_of_ble_eq_true rfl) d_Cf_where_12 ⟨Nat.zero_le _, Nat.zero_le _⟩ ?_
    refine lv_icmp_lt (tgt := 26) hx hb d_Cf_where_15 (by decide) (fun c_15 => False.elim (hk.elim c_7 (fun h => h c_15))) (fun c_15 => ?_)
    exact cf_throw hx hb (hml.trans hl.1.symm) (htr e hadm) hlocks hkk hst hown (by decide) cf_okIOB kw_232 kw_9 hnoh d_Cf_where_18 d_Cf_where_21 d_Cf_where_22 d_Cf_where_25 (by decide)

set_option maxHeartbeats 4000000 in
set_option maxRecDepth 100000 in
/-- where(j, k): no such word -/
theorem c_Cf_whereJ_no (l : Launch) (D : va_G) (htr : ∀ e : Env, l.admits e → e.platform.stackTraces = false) (c0 c1 c2 c3 c4 : Nat) (cR cI : ClassId) (ad : Nat → Nat) (rf : Nat → Option Nat) (op gr cl lo : Int32) (gA fA : Nat → Int32) (pa : Nat → cf_T) (r : Int32) (kd sz al : Nat → Int32) (n : Nat) (hn : n ≤ 60) (hrf : ∀ i, i < 60 → rf i = some (ad i)) (hpa : ∀ i, i < n → pa (ad i) = p_arg r op kd sz al i) (hok : ∀ i, i < n → p_ok (kd i) (sz i)) (hat : p_at r kd sz al n ≤ 1000000) (j : Nat) (k : Int32) (hj : j < n) (hk : k < 0 ∨ ¬ k < nI ((p_b (kd j) (sz j) + 3) / 4)) : cf_TM l y_Cf_where b_Cf_where 4 (some FieldType.int) ({ frames := 6, cells := 1, slots := 6, locals := 81 }) [.ref c0, .int (nI j), .int k] D (CW c0 c1 c2 c3 c4 cR cI ad rf (nI n) r op gr cl lo gA fA pa) [(cR, .object "CallFrames$Argument"), (cI, .int)] cf_IOB := by
  refine cf_TM_of (by decide) (Nat.le_of_ble_eq_true rfl) ?_
  intro p e s m args below meth c hx hb hkk hst hown hlocks hml hnoh hadm hP hK ls hl
  have hl : lv_has ls 4 [(0, .ref c0), (1, .int (nI j)), (2, .int k)] := hl
  refine lv_aload_n hx hb d_Cf_where_0 rfl (lv_at hl 0 rfl) ?_
  refine lv_iload_n hx hb d_Cf_where_1 rfl (lv_at hl 1 rfl) ?_
  refine cf_pcV (q0 := 0) (ci := 1) (As := [.int (nI j)]) (rest := []) hx hb hml hown hkk (c_Cf_ofJ l D c0 c1 c2 c3 c4 cR cI ad rf r op gr cl lo gA fA pa n j hn hj hrf) ce_Cf_of cv_Cf_of kw_228 hK hP rfl rfl rfl ⟨rfl, rfl⟩ (by decide) rfl hl.1 rfl (Nat.le_of_ble_eq_true rfl) d_Cf_where_2 ⟨Nat.zero_le _, Nat.zero_le _⟩ ?_
  refine lv_astore_n (lv' := [(3, .ref (ad j)), (0, .ref c0), (1, .int (nI j)), (2, .int k)]) hx hb d_Cf_where_5 rfl hl (by decide) rfl (fun ls hl => ?_)
  refine lv_iload_n hx hb d_Cf_where_6 rfl (lv_at hl 3 rfl) ?_
  refine lv_if_lt (tgt := 18) hx hb d_Cf_where_7 (by decide) (fun c_7 => ?_) (fun c_7 => ?_)
  · exact cf_throw hx hb (hml.trans hl.1.symm) (htr e hadm) hlocks hkk hst hown (by decide) cf_okIOB kw_232 kw_9 hnoh d_Cf_where_18 d_Cf_where_21 d_Cf_where_22 d_Cf_where_25 (by decide)
  · refine lv_iload_n hx hb d_Cf_where_10 rfl (lv_at hl 3 rfl) ?_
    refine lv_aload_n hx hb d_Cf_where_11 rfl (lv_at hl 0 rfl) ?_
    refine cf_pcV (q0 := 0) (ci := 0) (As := []) (rest := [.int k]) hx hb hml hown hkk (c_Ar_words l D (ad j) (kd j) (nI (p_h r kd sz al j)) (if p_fra r op kd j then nI (12 + 2 * j) else -1) (if p_fra r op kd j then 1 else 0) (p_b (kd j) (sz j)) (by have := p_ok_b (hok j (by omega)); omega)) ce_Ar_words cv_Ar_words kw_247 (cf_K0 hK) (cf_P1 hP (cf_pgetA (by omega) (hpa j (by omega)))) rfl rfl rfl ⟨rfl, rfl⟩ (by decide) rfl hl.1 rfl (Nat.le_of_ble_eq_true rfl) d_Cf_where_12 ⟨Nat.zero_le _, Nat.zero_le _⟩ ?_
    refine lv_icmp_lt (tgt := 26) hx hb d_Cf_where_15 (by decide) (fun c_15 => False.elim (hk.elim c_7 (fun h => h c_15))) (fun c_15 => ?_)
    exact cf_throw hx hb (hml.trans hl.1.symm) (htr e hadm) hlocks hkk hst hown (by decide) cf_okIOB kw_232 kw_9 hnoh d_Cf_where_18 d_Cf_where_21 d_Cf_where_22 d_Cf_where_25 (by decide)

set_option maxHeartbeats 4000000 in
set_option maxRecDepth 100000 in
/-- about(-1, k): refused -/
theorem c_Cf_about1_no (l : Launch) (D : va_G) (htr : ∀ e : Env, l.admits e → e.platform.stackTraces = false) (c0 c1 c2 c3 c4 : Nat) (cR cI : ClassId) (ad : Nat → Nat) (rf : Nat → Option Nat) (op gr cl lo : Int32) (gA fA : Nat → Int32) (pa : Nat → cf_T) (n : Nat) (hn : n ≤ 60) (k : Int32) (hk : k < 0 ∨ ¬ k ≤ 2) : cf_TM l y_Cf_about b_Cf_about 4 (some FieldType.int) ({ frames := 6, cells := 1, slots := 6, locals := 81 }) [.ref c0, .int (-1), .int k] D (CW c0 c1 c2 c3 c4 cR cI ad rf (nI n) 3 op gr cl lo gA fA pa) [(cR, .object "CallFrames$Argument"), (cI, .int)] cf_IOB := by
  refine cf_TM_of (by decide) (Nat.le_of_ble_eq_true rfl) ?_
  intro p e s m args below meth c hx hb hkk hst hown hlocks hml hnoh hadm hP hK ls hl
  have hl : lv_has ls 4 [(0, .ref c0), (1, .int (-1)), (2, .int k)] := hl
  refine lv_aload_n hx hb d_Cf_about_0 rfl (lv_at hl 0 rfl) ?_
  refine lv_iload_n hx hb d_Cf_about_1 rfl (lv_at hl 1 rfl) ?_
  refine cf_pcV (q0 := 0) (ci := 1) (As := [.int (-1)]) (rest := []) hx hb hml hown hkk (c_Cf_of1 l D c0 c1 c2 c3 c4 cR cI ad rf op gr cl lo gA fA pa n hn) ce_Cf_of cv_Cf_of kw_228 hK hP rfl rfl rfl ⟨rfl, rfl⟩ (by decide) rfl hl.1 rfl (Nat.le_of_ble_eq_true rfl) d_Cf_about_2 ⟨Nat.zero_le _, Nat.zero_le _⟩ ?_
  refine lv_astore_n (lv' := [(3, .ref c1), (0, .ref c0), (1, .int (-1)), (2, .int k)]) hx hb d_Cf_about_5 rfl hl (by decide) rfl (fun ls hl => ?_)
  refine lv_iload_n hx hb d_Cf_about_6 rfl (lv_at hl 3 rfl) ?_
  refine lv_if_lt (tgt := 15) hx hb d_Cf_about_7 (by decide) (fun c_7 => ?_) (fun c_7 => ?_)
  · exact cf_throw hx hb (hml.trans hl.1.symm) (htr e hadm) hlocks hkk hst hown (by decide) cf_okIOB kw_232 kw_9 hnoh d_Cf_about_15 d_Cf_about_18 d_Cf_about_19 d_Cf_about_22 (by decide)
  · refine lv_iload_n hx hb d_Cf_about_10 rfl (lv_at hl 3 rfl) ?_
    refine lv_iconst (v := 2) hx hb d_Cf_about_11 (by decide) ?_
    refine lv_icmp_le (tgt := 23) hx hb d_Cf_about_12 (by decide) (fun c_12 => False.elim (hk.elim c_7 (fun h => h c_12))) (fun c_12 => ?_)
    exact cf_throw hx hb (hml.trans hl.1.symm) (htr e hadm) hlocks hkk hst hown (by decide) cf_okIOB kw_232 kw_9 hnoh d_Cf_about_15 d_Cf_about_18 d_Cf_about_19 d_Cf_about_22 (by decide)

set_option maxHeartbeats 4000000 in
set_option maxRecDepth 100000 in
/-- about(j, k): refused -/
theorem c_Cf_aboutJ_no (l : Launch) (D : va_G) (htr : ∀ e : Env, l.admits e → e.platform.stackTraces = false) (c0 c1 c2 c3 c4 : Nat) (cR cI : ClassId) (ad : Nat → Nat) (rf : Nat → Option Nat) (rs op gr cl lo : Int32) (gA fA : Nat → Int32) (pa : Nat → cf_T) (n j : Nat) (hn : n ≤ 60) (hj : j < n) (hrf : ∀ i, i < 60 → rf i = some (ad i)) (k : Int32) (hk : k < 0 ∨ ¬ k ≤ 2) : cf_TM l y_Cf_about b_Cf_about 4 (some FieldType.int) ({ frames := 6, cells := 1, slots := 6, locals := 81 }) [.ref c0, .int (nI j), .int k] D (CW c0 c1 c2 c3 c4 cR cI ad rf (nI n) rs op gr cl lo gA fA pa) [(cR, .object "CallFrames$Argument"), (cI, .int)] cf_IOB := by
  refine cf_TM_of (by decide) (Nat.le_of_ble_eq_true rfl) ?_
  intro p e s m args below meth c hx hb hkk hst hown hlocks hml hnoh hadm hP hK ls hl
  have hl : lv_has ls 4 [(0, .ref c0), (1, .int (nI j)), (2, .int k)] := hl
  refine lv_aload_n hx hb d_Cf_about_0 rfl (lv_at hl 0 rfl) ?_
  refine lv_iload_n hx hb d_Cf_about_1 rfl (lv_at hl 1 rfl) ?_
  refine cf_pcV (q0 := 0) (ci := 1) (As := [.int (nI j)]) (rest := []) hx hb hml hown hkk (c_Cf_ofJ l D c0 c1 c2 c3 c4 cR cI ad rf rs op gr cl lo gA fA pa n j hn hj hrf) ce_Cf_of cv_Cf_of kw_228 hK hP rfl rfl rfl ⟨rfl, rfl⟩ (by decide) rfl hl.1 rfl (Nat.le_of_ble_eq_true rfl) d_Cf_about_2 ⟨Nat.zero_le _, Nat.zero_le _⟩ ?_
  refine lv_astore_n (lv' := [(3, .ref (ad j)), (0, .ref c0), (1, .int (nI j)), (2, .int k)]) hx hb d_Cf_about_5 rfl hl (by decide) rfl (fun ls hl => ?_)
  refine lv_iload_n hx hb d_Cf_about_6 rfl (lv_at hl 3 rfl) ?_
  refine lv_if_lt (tgt := 15) hx hb d_Cf_about_7 (by decide) (fun c_7 => ?_) (fun c_7 => ?_)
  · exact cf_throw hx hb (hml.trans hl.1.symm) (htr e hadm) hlocks hkk hst hown (by decide) cf_okIOB kw_232 kw_9 hnoh d_Cf_about_15 d_Cf_about_18 d_Cf_about_19 d_Cf_about_22 (by decide)
  · refine lv_iload_n hx hb d_Cf_about_10 rfl (lv_at hl 3 rfl) ?_
    refine lv_iconst (v := 2) hx hb d_Cf_about_11 (by decide) ?_
    refine lv_icmp_le (tgt := 23) hx hb d_Cf_about_12 (by decide) (fun c_12 => False.elim (hk.elim c_7 (fun h => h c_12))) (fun c_12 => ?_)
    exact cf_throw hx hb (hml.trans hl.1.symm) (htr e hadm) hlocks hkk hst hown (by decide) cf_okIOB kw_232 kw_9 hnoh d_Cf_about_15 d_Cf_about_18 d_Cf_about_19 d_Cf_about_22 (by decide)

set_option maxHeartbeats 4000000 in
set_option maxRecDepth 100000 in
/-- signature: refused -/
theorem c_Cf_signature_no (l : Launch) (D : va_G) (htr : ∀ e : Env, l.admits e → e.platform.stackTraces = false) (c0 c1 c2 c3 c4 : Nat) (cR cI : ClassId) (ad : Nat → Nat) (rf : Nat → Option Nat) (mn rs op gr cl lo : Int32) (gA fA : Nat → Int32) (pa : Nat → cf_T) (w : Int32) (hno : w < 0 ∨ ¬ w ≤ 3) : cf_TM l y_Cf_signature b_Cf_signature 2 (some FieldType.int) ({ frames := 6, cells := 1, slots := 6, locals := 81 }) [.ref c0, .int w] D (CW c0 c1 c2 c3 c4 cR cI ad rf mn rs op gr cl lo gA fA pa) [(cR, .object "CallFrames$Argument"), (cI, .int)] cf_IOB := by
  refine cf_TM_of (by decide) (Nat.le_of_ble_eq_true rfl) ?_
  intro p e s m args below meth c hx hb hkk hst hown hlocks hml hnoh hadm hP hK ls hl
  have hl : lv_has ls 2 [(0, .ref c0), (1, .int w)] := hl
  refine lv_iload_n hx hb d_Cf_signature_0 rfl (lv_at hl 1 rfl) ?_
  refine lv_tableOut (tgt := 82) hx hb d_Cf_signature_1 (hno.elim (fun h => Or.inl (Int32.lt_iff_toInt_lt.mp h)) (fun h => Or.inr (Int32.lt_iff_toInt_lt.mp (Int32.not_le.mp h)))) (by decide) ?_
  exact cf_throw hx hb (hml.trans hl.1.symm) (htr e hadm) hlocks hkk hst hown (by decide) cf_okIOB kw_232 kw_9 hnoh d_Cf_signature_82 d_Cf_signature_85 d_Cf_signature_86 d_Cf_signature_89 (by decide)

set_option maxHeartbeats 4000000 in
set_option maxRecDepth 100000 in
/-- frame: refused -/
theorem c_Cf_frame_no (l : Launch) (D : va_G) (htr : ∀ e : Env, l.admits e → e.platform.stackTraces = false) (c0 c1 c2 c3 c4 : Nat) (cR cI : ClassId) (ad : Nat → Nat) (rf : Nat → Option Nat) (mn rs op gr cl lo : Int32) (gA fA : Nat → Int32) (pa : Nat → cf_T) (lo2 gm fm : Int32) (hno : ¬ p_frok lo2 gm fm) : cf_TM l y_Cf_frame b_Cf_frame 8 (some FieldType.int) ({ frames := 6, cells := 1, slots := 6, locals := 81 }) [.ref c0, .int lo2, .int gm, .int fm] D (CW c0 c1 c2 c3 c4 cR cI ad rf mn rs op gr cl lo gA fA pa) [(cR, .object "CallFrames$Argument"), (cI, .int)] cf_IAE := by
  refine cf_TM_of (by decide) (Nat.le_of_ble_eq_true rfl) ?_
  intro p e s m args below meth c hx hb hkk hst hown hlocks hml hnoh hadm hP hK ls hl
  have hl : lv_has ls 8 [(0, .ref c0), (1, .int lo2), (2, .int gm), (3, .int fm)] := hl
  refine lv_iload_n hx hb d_Cf_frame_0 rfl (lv_at hl 1 rfl) ?_
  refine lv_if_lt (tgt := 28) hx hb d_Cf_frame_1 (by decide) (fun c_1 => ?_) (fun c_1 => ?_)
  · refine lv_iconst (v := 0) hx hb d_Cf_frame_28 (by decide) ?_
    refine lv_istore (lv' := [(4, .int 0), (0, .ref c0), (1, .int lo2), (2, .int gm), (3, .int fm)]) hx hb d_Cf_frame_29 hl (by decide) rfl (fun ls hl => ?_)
    refine lv_iload hx hb d_Cf_frame_31 (lv_at hl 0 rfl) ?_
    refine lv_if_ne (tgt := 44) hx hb d_Cf_frame_33 (by decide) (fun c_33 => False.elim (absurd c_33 (by decide))) (fun c_33 => ?_)
    exact cf_throw hx hb (hml.trans hl.1.symm) (htr e hadm) hlocks hkk hst hown (by decide) cf_okIAE kw_129 kw_7 hnoh d_Cf_frame_36 d_Cf_frame_39 d_Cf_frame_40 d_Cf_frame_43 (by decide)
  · refine lv_iload_n hx hb d_Cf_frame_4 rfl (lv_at hl 1 rfl) ?_
    refine lv_ldc (v := 1000000) hx hb hown (hkk.use kw_200 rfl) d_Cf_frame_5 ?_
    refine lv_icmp_gt (tgt := 28) hx hb d_Cf_frame_7 (by decide) (fun c_7 => ?_) (fun c_7 => ?_)
    · refine lv_iconst (v := 0) hx hb d_Cf_frame_28 (by decide) ?_
      refine lv_istore (lv' := [(4, .int 0), (0, .ref c0), (1, .int lo2), (2, .int gm), (3, .int fm)]) hx hb d_Cf_frame_29 hl (by decide) rfl (fun ls hl => ?_)
      refine lv_iload hx hb d_Cf_frame_31 (lv_at hl 0 rfl) ?_
      refine lv_if_ne (tgt := 44) hx hb d_Cf_frame_33 (by decide) (fun c_33 => False.elim (absurd c_33 (by decide))) (fun c_33 => ?_)
      exact cf_throw hx hb (hml.trans hl.1.symm) (htr e hadm) hlocks hkk hst hown (by decide) cf_okIAE kw_129 kw_7 hnoh d_Cf_frame_36 d_Cf_frame_39 d_Cf_frame_40 d_Cf_frame_43 (by decide)
    · refine lv_iload_n hx hb d_Cf_frame_10 rfl (lv_at hl 2 rfl) ?_
      refine lv_ldc (v := 1057030143) hx hb hown (hkk.use kw_273 rfl) d_Cf_frame_11 ?_
      refine lv_iand hx hb d_Cf_frame_13 ?_
      refine lv_if_ne (tgt := 28) hx hb d_Cf_frame_14 (by decide) (fun c_14 => ?_) (fun c_14 => ?_)
      · refine lv_iconst (v := 0) hx hb d_Cf_frame_28 (by decide) ?_
        refine lv_istore (lv' := [(4, .int 0), (0, .ref c0), (1, .int lo2), (2, .int gm), (3, .int fm)]) hx hb d_Cf_frame_29 hl (by decide) rfl (fun ls hl => ?_)
        refine lv_iload hx hb d_Cf_frame_31 (lv_at hl 0 rfl) ?_
        refine lv_if_ne (tgt := 44) hx hb d_Cf_frame_33 (by decide) (fun c_33 => False.elim (absurd c_33 (by decide))) (fun c_33 => ?_)
        exact cf_throw hx hb (hml.trans hl.1.symm) (htr e hadm) hlocks hkk hst hown (by decide) cf_okIAE kw_129 kw_7 hnoh d_Cf_frame_36 d_Cf_frame_39 d_Cf_frame_40 d_Cf_frame_43 (by decide)
      · refine lv_iload_n hx hb d_Cf_frame_17 rfl (lv_at hl 3 rfl) ?_
        refine lv_ldc (v := (-1431306241)) hx hb hown (hkk.use kw_274 rfl) d_Cf_frame_18 ?_
        refine lv_iand hx hb d_Cf_frame_20 ?_
        refine lv_if_ne (tgt := 28) hx hb d_Cf_frame_21 (by decide) (fun c_21 => ?_) (fun c_21 => False.elim (hno ⟨c_1, c_7, c_14, c_21⟩))
        refine lv_iconst (v := 0) hx hb d_Cf_frame_28 (by decide) ?_
        refine lv_istore (lv' := [(4, .int 0), (0, .ref c0), (1, .int lo2), (2, .int gm), (3, .int fm)]) hx hb d_Cf_frame_29 hl (by decide) rfl (fun ls hl => ?_)
        refine lv_iload hx hb d_Cf_frame_31 (lv_at hl 0 rfl) ?_
        refine lv_if_ne (tgt := 44) hx hb d_Cf_frame_33 (by decide) (fun c_33 => False.elim (absurd c_33 (by decide))) (fun c_33 => ?_)
        exact cf_throw hx hb (hml.trans hl.1.symm) (htr e hadm) hlocks hkk hst hown (by decide) cf_okIAE kw_129 kw_7 hnoh d_Cf_frame_36 d_Cf_frame_39 d_Cf_frame_40 d_Cf_frame_43 (by decide)

set_option maxHeartbeats 4000000 in
set_option maxRecDepth 100000 in
/-- place: refused -/
theorem c_Cf_place_no (l : Launch) (D : va_G) (htr : ∀ e : Env, l.admits e → e.platform.stackTraces = false) (c0 c1 c2 c3 c4 : Nat) (cR cI : ClassId) (ad : Nat → Nat) (rf : Nat → Option Nat) (mn rs op gr cl lo : Int32) (gA fA : Nat → Int32) (pa : Nat → cf_T) (w x : Int32) (hno : w < 0 ∨ 2 < w ∨ x < 0 ∨ ¬ x < 32) : cf_TM l y_Cf_place b_Cf_place 3 (some FieldType.int) ({ frames := 6, cells := 1, slots := 6, locals := 81 }) [.ref c0, .int w, .int x] D (CW c0 c1 c2 c3 c4 cR cI ad rf mn rs op gr cl lo gA fA pa) [(cR, .object "CallFrames$Argument"), (cI, .int)] cf_IOB := by
  refine cf_TM_of (by decide) (Nat.le_of_ble_eq_true rfl) ?_
  intro p e s m args below meth c hx hb hkk hst hown hlocks hml hnoh hadm hP hK ls hl
  have hl : lv_has ls 3 [(0, .ref c0), (1, .int w), (2, .int x)] := hl
  refine lv_iload_n hx hb d_Cf_place_0 rfl (lv_at hl 1 rfl) ?_
  refine lv_if_lt (tgt := 19) hx hb d_Cf_place_1 (by decide) (fun c_1 => ?_) (fun c_1 => ?_)
  · exact cf_throw hx hb (hml.trans hl.1.symm) (htr e hadm) hlocks hkk hst hown (by decide) cf_okIOB kw_232 kw_9 hnoh d_Cf_place_19 d_Cf_place_22 d_Cf_place_23 d_Cf_place_26 (by decide)
  · refine lv_iload_n hx hb d_Cf_place_4 rfl (lv_at hl 1 rfl) ?_
    refine lv_iconst (v := 2) hx hb d_Cf_place_5 (by decide) ?_
    refine lv_icmp_gt (tgt := 19) hx hb d_Cf_place_6 (by decide) (fun c_6 => ?_) (fun c_6 => ?_)
    · exact cf_throw hx hb (hml.trans hl.1.symm) (htr e hadm) hlocks hkk hst hown (by decide) cf_okIOB kw_232 kw_9 hnoh d_Cf_place_19 d_Cf_place_22 d_Cf_place_23 d_Cf_place_26 (by decide)
    · refine lv_iload_n hx hb d_Cf_place_9 rfl (lv_at hl 2 rfl) ?_
      refine lv_if_lt (tgt := 19) hx hb d_Cf_place_10 (by decide) (fun c_10 => ?_) (fun c_10 => ?_)
      · exact cf_throw hx hb (hml.trans hl.1.symm) (htr e hadm) hlocks hkk hst hown (by decide) cf_okIOB kw_232 kw_9 hnoh d_Cf_place_19 d_Cf_place_22 d_Cf_place_23 d_Cf_place_26 (by decide)
      · refine lv_iload_n hx hb d_Cf_place_13 rfl (lv_at hl 2 rfl) ?_
        refine lv_bipush (v := 32) hx hb d_Cf_place_14 (by decide) ?_
        refine lv_icmp_lt (tgt := 27) hx hb d_Cf_place_16 (by decide) (fun c_16 => False.elim (hno.elim c_1 (fun h => h.elim c_6 (fun h => h.elim c_10 (fun h => h c_16))))) (fun c_16 => ?_)
        exact cf_throw hx hb (hml.trans hl.1.symm) (htr e hadm) hlocks hkk hst hown (by decide) cf_okIOB kw_232 kw_9 hnoh d_Cf_place_19 d_Cf_place_22 d_Cf_place_23 d_Cf_place_26 (by decide)
end
section
/-! THE CONSTRUCTORS (printed by gen/init.py) -/
abbrev cf_VQ : Array Value → State → Outcome → State → Prop := fun _ st o t => o = .returned none ∧ t.heap = st.heap
/-- Argument(): nothing changes -/
theorem c_Ar_init (l : Launch) (h : Nat) : Met l y_Ar_init [.code y_Ar_init b_Ar_init 1 none] ({ frames := 1, cells := 0, slots := 0, locals := 12 }) (va_Pc [.ref h] cf_KK) cf_VQ 0 0 (fun _ => False) := by
  refine Met.ofW (cc := b_Ar_init) (maxL := 1) (ret := none) (by decide) rfl ?_
  intro p e s m args below meth c s₁ B hml hv
  obtain ⟨rfl, hkk⟩ := hv
  have hx := B.exec
  have hb := B.bytes
  have hr := B.returns
  have hown : s.vm.findClass "CallFrames$Argument" = some m.cls := findClass_of_methodNamed B.named
  have hlocks := B.notSynchronized
  have hl := lv_entry ([.ref h]) (n := 1) (Nat.le_of_ble_eq_true rfl)
  rw [lg_entry_eq]
  generalize (lg_sl ([.ref h]) ++ List.replicate (1 - (lg_sl ([.ref h])).length) Slot.unset).toArray = ls at hl ⊢
  have hl : lv_has ls 1 [(0, .ref h)] := hl
  refine lv_aload_n hx hb d_Ar_init_0 rfl (lv_at hl 0 rfl) ?_
  refine W.objInit hx hb hown (hkk.use kw_24 rfl) (hkk.use kw_17 rfl) (hkk.use kw_18 rfl) rfl (by rw [hml]; exact hl.1) rfl d_Ar_init_1 (Nat.le_of_ble_eq_true rfl) (Nat.le_of_ble_eq_true rfl) ?_
  refine W.eq (g2 := F0 m 4 ls []) rfl ?_
  exact W.vret hx hb hr (fun t ht _ => ⟨rfl, ht⟩) (fun q h => by cases h) d_Ar_init_4 hlocks
section CFN
variable {p : Program} {l : Launch} {e : Env} {R : Room} {s : State} {m : MethodId} {args : Array Value} {below : List Frame} {meth : Method} {c : Code} {H : Heap} {locs : List Loc} {cells slots : Nat} {Q : State → Prop}
variable {cc : ByteArray} {pc : Nat} {ls : Array Slot} {rest : List Value}
theorem cf_backV {a : Array Value} {st0 : List Value} (hr : va_Run p l e R s m args below meth c H locs cells slots 0 0 (F0 m pc ls st0) rest (cf_VQ a) (fun _ => False))
    (kk : W p l e R s m args below meth c H locs cells slots Q (F0 m (pc + 3) ls rest)) : W p l e R s m args below meth c H locs cells slots Q (F0 m pc ls st0) := by
  intro T hT X
  obtain ⟨v, st₀, t, T', L, h0, X', hL, e1, e2, ⟨hv, hh⟩, st⟩ := hr T hT X
  cases hv
  have hL0 : L = [] := by
    cases L with
    | nil => rfl
    | cons q L => exact (hL q List.mem_cons_self).elim
  subst hL0
  rw [List.append_nil] at X'
  obtain ⟨t2, a1, b1⟩ := kk T' (by rw [e1, hh, h0]) X'
  exact ⟨t2, st t2 a1, b1⟩
/-- the private constructor of Argument, called from CallFrames -/
theorem cf_ain {nL a : Nat} (hx : p.tables.exec = Jvm.exec) (hb : c.code = cc) (hml : c.maxLocals = nL) (hown : s.vm.findClass "CallFrames" = some m.cls) (hkk : cf_KK s) (hR : 2 ≤ R.frames ∧ 32 ≤ R.locals) (hsz : ls.size = nL) (hw : (rest.map fun v => v.category).sum ≤ 8) (hdg : decode cc pc = .ok (.invokespecial 9, 3)) (hf : cells ≤ R.cells ∧ slots ≤ R.slots)
    (kk : W p l e R s m args below meth c H locs cells slots Q (F0 m (pc + 3) ls rest)) : W p l e R s m args below meth c H locs cells slots Q (F0 m pc ls (.ref a :: rest)) := by
  refine cf_backV (va_runIN (host := "CallFrames") (As := []) (b := a) (rest := rest) (Ts := []) (n := 0) (nL := nL) ⟨hx, hb, hml, hown, fun w hw => by cases hw⟩ (c_Ar_init l a) ⟨va_cnB 0 (cf_one hkk ce_Ar_init.1) (cf_good _ _ _ _) rfl rfl rfl (hkk.use kw_21 rfl) (hkk.use ce_Ar_init.2.1 rfl) ce_Ar_init.2.2 ⟨hR.1, hR.2⟩, rfl, hkk.use kw_22 rfl⟩ ⟨?_, ?_⟩ rfl rfl hsz rfl (lv_room hw) hdg hf) kk
  · intro a' U g mk q
    exact ⟨q.1, cf_KK.same (s := U) (U := U.calling g mk a') rfl q.2⟩
  · intro U hU hW
    exact ⟨rfl, hkk.warm hW⟩
end CFN
/-- one object more in the pool -/
theorem cf_push {X : va_W} {k q : Nat} {ad : Nat → Nat} {pa : Nat → cf_T} {A : Nat → Prop} {t : cf_T} (hD : va_D A ((X ++ va_pl ((List.range k).map ad) (fun q => .inr (0, cf_av (pa q)))) ++ [(q, .inr (0, cf_av t))])) :
    (X ++ va_pl ((List.range k).map ad) (fun q => .inr (0, cf_av (pa q)))) ++ [(q, .inr (0, cf_av t))] = X ++ va_pl ((List.range (k + 1)).map (va_up ad k q)) (fun z => .inr (0, cf_av (va_up pa q t z))) := by
  have hq : q ∉ (List.range k).map ad := va_pl_fresh2 hD
  rw [List.append_assoc, va_pl_push hq, va_pl_congr (cf_avup pa q t)]
  congr 2
  rw [List.range_succ, List.map_append]
  congr 1
  · apply List.map_congr_left
    intro i hi
    have := List.mem_range.mp hi
    rw [va_up_ne _ _ (by omega)]
  · simp [va_up_self]
set_option maxHeartbeats 4000000 in
set_option maxRecDepth 100000 in
/-- CallFrames(): its world -/
theorem c_Cf_init (l : Launch) (D : va_G) (c0 : Nat) (sz : Nat) : Met l y_Cf_init [.code y_Cf_init b_Cf_init 2 none] ({ frames := 2, cells := 64, slots := 429, locals := 32 }) (va_Pc [.ref c0] (fun U => cf_KK U ∧ U.heap.size = sz ∧ cf_in D ([(c0, .inr (1, [.null, .null, .int 0, .int 0, .int 0, .int 0, .int 0, .null, .null, .int 0]))]) [] U)) (fun _ st o t => o = .returned none ∧ (∃ (q1 q2 q3 q4 : Nat) (cR cG : ClassId) (ad : Nat → Nat) (rf : Nat → Option Nat) (pa : Nat → cf_T), (∀ i, i < 60 → rf i = some (ad i)) ∧ va_P D cf_cl (CW c0 q1 q2 q3 q4 cR cG ad rf 0 4 0 0 0 0 (fun _ => -1) (fun _ => -1) pa) t.heap ∧ va_K D cf_cl [(cR, .object "CallFrames$Argument"), (cG, .int)] t ∧ va_D (va_A ([(c0, .inr (1, [.null, .null, .int 0, .int 0, .int 0, .int 0, .int 0, .null, .null, .int 0]))]) sz) (CW c0 q1 q2 q3 q4 cR cG ad rf 0 4 0 0 0 0 (fun _ => -1) (fun _ => -1) pa)) ∧ va_F (va_A ([(c0, .inr (1, [.null, .null, .int 0, .int 0, .int 0, .int 0, .int 0, .null, .null, .int 0]))]) sz) st t) 64 429 (va_A ([(c0, .inr (1, [.null, .null, .int 0, .int 0, .int 0, .int 0, .int 0, .null, .null, .int 0]))]) sz) := by
  refine Met.ofW (cc := b_Cf_init) (maxL := 2) (ret := none) (by decide) rfl ?_
  intro p e s m args below meth c s₁ B hml hv
  obtain ⟨rfl, hkk, rfl, hP, hK⟩ := hv
  have hx := B.exec
  have hb := B.bytes
  have hr := B.returns
  have hown : s.vm.findClass "CallFrames" = some m.cls := findClass_of_methodNamed B.named
  have hlocks := B.notSynchronized
  have hin : meth.name = "<init>" := (name_of_methodNamed B.named B.method).1
  have hD0 : va_D (fun _ => True) ([(c0, .inr (1, [.null, .null, .int 0, .int 0, .int 0, .int 0, .int 0, .null, .null, .int 0]))]) := cf_D1
  have hD := hD0.self (sz := s.heap.size)
  have hAe : ∀ q : Nat, s.heap.size ≤ q → va_A ([(c0, .inr (1, [.null, .null, .int 0, .int 0, .int 0, .int 0, .int 0, .null, .null, .int 0]))]) s.heap.size q := fun q h => Or.inr h
  generalize va_A ([(c0, .inr (1, [.null, .null, .int 0, .int 0, .int 0, .int 0, .int 0, .null, .null, .int 0]))]) s.heap.size = A at hD hAe ⊢
  have hA := hAe
  have hS : va_S A s.heap s.heap [] := va_S.rf
  have hl := lv_entry ([.ref c0]) (n := 2) (Nat.le_of_ble_eq_true rfl)
  rw [lg_entry_eq]
  generalize (lg_sl ([.ref c0]) ++ List.replicate (2 - (lg_sl ([.ref c0])).length) Slot.unset).toArray = ls at hl ⊢
  have hl : lv_has ls 2 [(0, .ref c0)] := hl
  refine lv_aload_n hx hb d_Cf_init_0 rfl (lv_at hl 0 rfl) ?_
  refine W.objInit hx hb hown (hkk.use kw_16 rfl) (hkk.use kw_17 rfl) (hkk.use kw_18 rfl) rfl (by rw [hml]; exact hl.1) rfl d_Cf_init_1 (Nat.le_of_ble_eq_true rfl) (Nat.le_of_ble_eq_true rfl) ?_
  refine W.eq (g2 := F0 m 4 ls []) rfl ?_
  refine lv_aload_n hx hb d_Cf_init_4 rfl (lv_at hl 0 rfl) ?_
  refine va_new (ci := 0) (fs := [.int 0, .int 0, .int 0, .int 0, .int 0]) hx hb (h_Arg hkk) (fun _ h => h) t_Arg t_Arg_ok hown (hkk.use kw_19 rfl) (hkk.use kw_20 rfl) (hkk.use kw_2 rfl) hK hP hD hS hA rfl (fun j hj => by rcases (show j = 0 ∨ j = 1 ∨ j = 2 ∨ j = 3 ∨ j = 4 by omega) with rfl | rfl | rfl | rfl | rfl <;> rfl) (Nat.le_of_ble_eq_true rfl) (Nat.le_of_ble_eq_true rfl) d_Cf_init_5 (fun q1 H hP hD hS => ?_)
  have hP : va_P D cf_cl ([(c0, .inr (1, [.null, .null, .int 0, .int 0, .int 0, .int 0, .int 0, .null, .null, .int 0])), (q1, .inr (0, [.int 0, .int 0, .int 0, .int 0, .int 0]))]) H := hP
  have hD : va_D A ([(c0, .inr (1, [.null, .null, .int 0, .int 0, .int 0, .int 0, .int 0, .null, .null, .int 0])), (q1, .inr (0, [.int 0, .int 0, .int 0, .int 0, .int 0]))]) := hD
  refine lv_dup hx hb d_Cf_init_8 rfl ?_
  refine cf_ain hx hb hml hown hkk (by decide) hl.1 (Nat.le_of_ble_eq_true rfl) d_Cf_init_9 ⟨Nat.le_of_ble_eq_true rfl, Nat.le_of_ble_eq_true rfl⟩ ?_
  refine va_putF (ci := 1) (v := .ref q1) (ty := .object "CallFrames$Argument") hx hb (h_Cf hkk) (fun _ h => h) t_Cf t_Cf_ok n_Cf hown hK hP hD hS 0 rfl rfl 0 (by decide) (hkk.use kw_55 rfl) (fun _ h => h) rfl hin rfl (by decide +kernel) rfl rfl (Nat.le_of_ble_eq_true rfl) d_Cf_init_12 (fun H locs hP hD hS => ?_)
  have hP : va_P D cf_cl [(c0, .inr (1, [.ref q1, .null, .int 0, .int 0, .int 0, .int 0, .int 0, .null, .null, .int 0])), (q1, .inr (0, [.int 0, .int 0, .int 0, .int 0, .int 0]))] H := hP
  have hD : va_D A [(c0, .inr (1, [.ref q1, .null, .int 0, .int 0, .int 0, .int 0, .int 0, .null, .null, .int 0])), (q1, .inr (0, [.int 0, .int 0, .int 0, .int 0, .int 0]))] := hD
  refine lv_aload_n hx hb d_Cf_init_15 rfl (lv_at hl 0 rfl) ?_
  refine lv_bipush (v := 60) hx hb d_Cf_init_16 (by decide) ?_
  refine va_newq hx hb hown (hkk.use kw_19 rfl) (hkk.use kw_46 rfl) hK hP hD hS hA (N' := 60) (by decide) (by decide) (Nat.le_of_ble_eq_true rfl) (Nat.le_of_ble_eq_true rfl) (Nat.le_of_ble_eq_true rfl) d_Cf_init_18 (fun q2 cR H hK hP hD hS => ?_)
  have hP : va_P D cf_cl ([(c0, .inr (1, [.ref q1, .null, .int 0, .int 0, .int 0, .int 0, .int 0, .null, .null, .int 0])), (q1, .inr (0, [.int 0, .int 0, .int 0, .int 0, .int 0])), (q2, .inl (cR, 60, .inr (.inr (.inr (.inr (fun _ => none))))))]) H := hP
  have hD : va_D A ([(c0, .inr (1, [.ref q1, .null, .int 0, .int 0, .int 0, .int 0, .int 0, .null, .null, .int 0])), (q1, .inr (0, [.int 0, .int 0, .int 0, .int 0, .int 0])), (q2, .inl (cR, 60, .inr (.inr (.inr (.inr (fun _ => none))))))]) := hD
  have hK : va_K D cf_cl [(cR, .object "CallFrames$Argument")] s := hK
  refine va_putF (ci := 1) (v := .ref q2) (ty := .array (.object "CallFrames$Argument")) hx hb (h_Cf hkk) (fun _ h => h) t_Cf t_Cf_ok n_Cf hown hK hP hD hS 0 rfl rfl 1 (by decide) (hkk.use kw_56 rfl) (fun _ h => h) rfl hin rfl (by decide +kernel) rfl rfl (Nat.le_of_ble_eq_true rfl) d_Cf_init_21 (fun H locs hP hD hS => ?_)
  have hP : va_P D cf_cl [(c0, .inr (1, [.ref q1, .ref q2, .int 0, .int 0, .int 0, .int 0, .int 0, .null, .null, .int 0])), (q1, .inr (0, [.int 0, .int 0, .int 0, .int 0, .int 0])), (q2, .inl (cR, 60, .inr (.inr (.inr (.inr (fun _ => none))))))] H := hP
  have hD : va_D A [(c0, .inr (1, [.ref q1, .ref q2, .int 0, .int 0, .int 0, .int 0, .int 0, .null, .null, .int 0])), (q1, .inr (0, [.int 0, .int 0, .int 0, .int 0, .int 0])), (q2, .inl (cR, 60, .inr (.inr (.inr (.inr (fun _ => none))))))] := hD
  refine lv_aload_n hx hb d_Cf_init_24 rfl (lv_at hl 0 rfl) ?_
  refine lv_iconst (v := 4) hx hb d_Cf_init_25 (by decide) ?_
  refine va_put (ci := 1) (v := .int 4) (ty := .int) hx hb (h_Cf hkk) (fun _ h => h) t_Cf t_Cf_ok n_Cf hown hK hP hD hS 0 rfl rfl 3 (by decide) (hkk.use kw_58 rfl) (fun _ h => h) rfl (by decide +kernel) rfl rfl (Nat.le_of_ble_eq_true rfl) d_Cf_init_26 (fun H locs hP hD hS => ?_)
  have hP : va_P D cf_cl [(c0, .inr (1, [.ref q1, .ref q2, .int 0, .int 4, .int 0, .int 0, .int 0, .null, .null, .int 0])), (q1, .inr (0, [.int 0, .int 0, .int 0, .int 0, .int 0])), (q2, .inl (cR, 60, .inr (.inr (.inr (.inr (fun _ => none))))))] H := hP
  have hD : va_D A [(c0, .inr (1, [.ref q1, .ref q2, .int 0, .int 4, .int 0, .int 0, .int 0, .null, .null, .int 0])), (q1, .inr (0, [.int 0, .int 0, .int 0, .int 0, .int 0])), (q2, .inl (cR, 60, .inr (.inr (.inr (.inr (fun _ => none))))))] := hD
  refine lv_aload_n hx hb d_Cf_init_29 rfl (lv_at hl 0 rfl) ?_
  refine lv_bipush (v := 32) hx hb d_Cf_init_30 (by decide) ?_
  refine va_newa (atype := .int) (a0 := (32, .inl (fun _ => 0))) hx hb (hkk.use kw_86 rfl) rfl hK hP hD hS hA (N' := 32) (fun _ => rfl) (by decide) (by decide) (Nat.le_of_ble_eq_true rfl) (Nat.le_of_ble_eq_true rfl) (Nat.le_of_ble_eq_true rfl) d_Cf_init_32 (fun q3 cG H hK hP hD hS => ?_)
  have hP : va_P D cf_cl ([(c0, .inr (1, [.ref q1, .ref q2, .int 0, .int 4, .int 0, .int 0, .int 0, .null, .null, .int 0])), (q1, .inr (0, [.int 0, .int 0, .int 0, .int 0, .int 0])), (q2, .inl (cR, 60, .inr (.inr (.inr (.inr (fun _ => none)))))), (q3, .inl (cG, 32, .inl (fun _ => 0)))]) H := hP
  have hD : va_D A ([(c0, .inr (1, [.ref q1, .ref q2, .int 0, .int 4, .int 0, .int 0, .int 0, .null, .null, .int 0])), (q1, .inr (0, [.int 0, .int 0, .int 0, .int 0, .int 0])), (q2, .inl (cR, 60, .inr (.inr (.inr (.inr (fun _ => none)))))), (q3, .inl (cG, 32, .inl (fun _ => 0)))]) := hD
  have hK : va_K D cf_cl [(cR, .object "CallFrames$Argument"), (cG, .int)] s := hK
  refine va_putF (ci := 1) (v := .ref q3) (ty := .array .int) hx hb (h_Cf hkk) (fun _ h => h) t_Cf t_Cf_ok n_Cf hown hK hP hD hS 0 rfl rfl 7 (by decide) (hkk.use kw_62 rfl) (fun _ h => h) rfl hin rfl (by decide +kernel) rfl rfl (Nat.le_of_ble_eq_true rfl) d_Cf_init_34 (fun H locs hP hD hS => ?_)
  have hP : va_P D cf_cl [(c0, .inr (1, [.ref q1, .ref q2, .int 0, .int 4, .int 0, .int 0, .int 0, .ref q3, .null, .int 0])), (q1, .inr (0, [.int 0, .int 0, .int 0, .int 0, .int 0])), (q2, .inl (cR, 60, .inr (.inr (.inr (.inr (fun _ => none)))))), (q3, .inl (cG, 32, .inl (fun _ => 0)))] H := hP
  have hD : va_D A [(c0, .inr (1, [.ref q1, .ref q2, .int 0, .int 4, .int 0, .int 0, .int 0, .ref q3, .null, .int 0])), (q1, .inr (0, [.int 0, .int 0, .int 0, .int 0, .int 0])), (q2, .inl (cR, 60, .inr (.inr (.inr (.inr (fun _ => none)))))), (q3, .inl (cG, 32, .inl (fun _ => 0)))] := hD
  refine lv_aload_n hx hb d_Cf_init_37 rfl (lv_at hl 0 rfl) ?_
  refine lv_bipush (v := 32) hx hb d_Cf_init_38 (by decide) ?_
  refine va_newa (atype := .int) (a0 := (32, .inl (fun _ => 0))) hx hb (hkk.use kw_86 rfl) rfl hK hP hD hS hA (N' := 32) (fun _ => rfl) (by decide) (by decide) (Nat.le_of_ble_eq_true rfl) (Nat.le_of_ble_eq_true rfl) (Nat.le_of_ble_eq_true rfl) d_Cf_init_40 (fun q4 cF H hK hP hD hS => ?_)
  have hP : va_P D cf_cl ([(c0, .inr (1, [.ref q1, .ref q2, .int 0, .int 4, .int 0, .int 0, .int 0, .ref q3, .null, .int 0])), (q1, .inr (0, [.int 0, .int 0, .int 0, .int 0, .int 0])), (q2, .inl (cR, 60, .inr (.inr (.inr (.inr (fun _ => none)))))), (q3, .inl (cG, 32, .inl (fun _ => 0))), (q4, .inl (cF, 32, .inl (fun _ => 0)))]) H := hP
  have hD : va_D A ([(c0, .inr (1, [.ref q1, .ref q2, .int 0, .int 4, .int 0, .int 0, .int 0, .ref q3, .null, .int 0])), (q1, .inr (0, [.int 0, .int 0, .int 0, .int 0, .int 0])), (q2, .inl (cR, 60, .inr (.inr (.inr (.inr (fun _ => none)))))), (q3, .inl (cG, 32, .inl (fun _ => 0))), (q4, .inl (cF, 32, .inl (fun _ => 0)))]) := hD
  have hK : va_K D cf_cl [(cR, .object "CallFrames$Argument"), (cG, .int), (cF, .int)] s := hK
  refine va_putF (ci := 1) (v := .ref q4) (ty := .array .int) hx hb (h_Cf hkk) (fun _ h => h) t_Cf t_Cf_ok n_Cf hown hK hP hD hS 0 rfl rfl 8 (by decide) (hkk.use kw_63 rfl) (fun _ h => h) rfl hin rfl (by decide +kernel) rfl rfl (Nat.le_of_ble_eq_true rfl) d_Cf_init_42 (fun H locs hP hD hS => ?_)
  have hP : va_P D cf_cl [(c0, .inr (1, [.ref q1, .ref q2, .int 0, .int 4, .int 0, .int 0, .int 0, .ref q3, .ref q4, .int 0])), (q1, .inr (0, [.int 0, .int 0, .int 0, .int 0, .int 0])), (q2, .inl (cR, 60, .inr (.inr (.inr (.inr (fun _ => none)))))), (q3, .inl (cG, 32, .inl (fun _ => 0))), (q4, .inl (cF, 32, .inl (fun _ => 0)))] H := hP
  have hD : va_D A [(c0, .inr (1, [.ref q1, .ref q2, .int 0, .int 4, .int 0, .int 0, .int 0, .ref q3, .ref q4, .int 0])), (q1, .inr (0, [.int 0, .int 0, .int 0, .int 0, .int 0])), (q2, .inl (cR, 60, .inr (.inr (.inr (.inr (fun _ => none)))))), (q3, .inl (cG, 32, .inl (fun _ => 0))), (q4, .inl (cF, 32, .inl (fun _ => 0)))] := hD
  refine lv_iconst (v := 0) hx hb d_Cf_init_45 (by decide) ?_
  refine lv_istore_n (lv' := [(1, .int 0), (0, .ref c0)]) hx hb d_Cf_init_46 rfl hl (by decide) rfl (fun ls hl => ?_)
  have hcc : cF = cG := Option.some.inj ((hK.2 2 _ rfl).2.symm.trans (hK.2 1 _ rfl).2)
  subst hcc
  have hK : va_K D cf_cl [(cR, .object "CallFrames$Argument"), (cF, .int)] s := hK.sub [0, 1] rfl
  generalize hcg : cF = cG at hP hD hK
  refine cf_down 47 (fun n1 H1 locs1 z1 z2 ls => ∃ (k : Nat) (ad : Nat → Nat) (rf : Nat → Option Nat) (pa : Nat → cf_T), k + n1 = 60 ∧ z1 = 4 + k ∧ z2 = 129 + 5 * k ∧ (∀ i, i < k → rf i = some (ad i)) ∧ va_P D cf_cl ([(c0, .inr (1, [.ref q1, .ref q2, .int 0, .int 4, .int 0, .int 0, .int 0, .ref q3, .ref q4, .int 0])), (q1, .inr (0, [.int 0, .int 0, .int 0, .int 0, .int 0])), (q2, .inl (cR, 60, .inr (.inr (.inr (.inr rf))))), (q3, .inl (cG, 32, .inl (fun _ => 0))), (q4, .inl (cG, 32, .inl (fun _ => 0)))] ++ va_pl ((List.range k).map ad) (fun q => .inr (0, cf_av (pa q)))) H1 ∧ va_D A ([(c0, .inr (1, [.ref q1, .ref q2, .int 0, .int 4, .int 0, .int 0, .int 0, .ref q3, .ref q4, .int 0])), (q1, .inr (0, [.int 0, .int 0, .int 0, .int 0, .int 0])), (q2, .inl (cR, 60, .inr (.inr (.inr (.inr rf))))), (q3, .inl (cG, 32, .inl (fun _ => 0))), (q4, .inl (cG, 32, .inl (fun _ => 0)))] ++ va_pl ((List.range k).map ad) (fun q => .inr (0, cf_av (pa q)))) ∧ va_S A s.heap H1 locs1 ∧ lv_has ls 2 [(1, .int (nI k)), (0, .ref c0)]) (fun n1 H locs z1 z2 ls hI IH => ?_) 60 H locs 4 129 ls ⟨0, fun _ => 0, fun _ => none, fun _ => (0, 0, 0, 0, 0), by omega, rfl, rfl, fun i hi => absurd hi (Nat.not_lt_zero i), by simpa [va_pl] using hP, by simpa [va_pl] using hD, hS, hl⟩
  obtain ⟨k, ad, rf, pa, hk, rfl, rfl, hrf, hP, hD, hS, hl⟩ := hI
  refine lv_iload_n hx hb d_Cf_init_47 rfl (lv_at hl 0 rfl) ?_
  refine lv_bipush (v := 60) hx hb d_Cf_init_48 (by decide) ?_
  refine lv_icmp_ge (tgt := 72) hx hb d_Cf_init_50 (by decide) (fun c_50 => ?_) (fun c_50 => ?_)
  · have hk60 : k = 60 := by have := (nI_leI (a := 60) (by omega) (by omega)).mp c_50; omega
    subst hk60
    refine lv_aload_n hx hb d_Cf_init_72 rfl (lv_at hl 1 rfl) ?_
    refine va_get (ci := 1) hx hb (h_Cf hkk) (fun _ h => h) hown hK hP 0 rfl rfl 0 (by decide) (hkk.use kw_55 rfl) (fun _ h => h) rfl d_Cf_init_73 ?_
    refine lv_iconst (v := 0) hx hb d_Cf_init_76 (by decide) ?_
    refine lv_iconst (v := 0) hx hb d_Cf_init_77 (by decide) ?_
    refine lv_iconst (v := 4) hx hb d_Cf_init_78 (by decide) ?_
    refine cf_icV (q0 := 0) (ci := 0) (As := [.int 0, .int 0, .int 4]) (rest := []) hx hb hml hown hkk (c_Ar_become l D q1 0 0 0 0 0 0 0 4 cf_D1) ce_Ar_become cv_Ar_become kw_47 (cf_K0 hK) (cf_P1 (k := 1) hP rfl) rfl rfl rfl hS (cf_free1 (k := 1) hD hS hA rfl) (by decide) rfl hl.1 rfl (Nat.le_of_ble_eq_true rfl) d_Cf_init_79 ⟨Nat.le_of_ble_eq_true rfl, Nat.le_of_ble_eq_true rfl⟩ (fun H1 locs1 hP1 hzI hkI hS => ?_)
    have hP : va_P D cf_cl (CW c0 q1 q2 q3 q4 cR cG ad rf 0 4 0 0 0 0 (fun _ => 0) (fun _ => 0) pa) H1 := cf_set1 (k := 1) hP hD rfl hP1 hkI
    have hD : va_D A (CW c0 q1 q2 q3 q4 cR cG ad rf 0 4 0 0 0 0 (fun _ => 0) (fun _ => 0) pa) := cf_Dm hD (by simp [CW, va_pl])
    refine lv_aload_n hx hb d_Cf_init_82 rfl (lv_at hl 1 rfl) ?_
    refine cf_icV (q0 := 0) (ci := 1) (As := []) (rest := []) hx hb hml hown hkk (c_Cf_empty l D c0 q1 q2 q3 q4 cR cG ad rf 0 4 0 0 0 0 (fun _ => 0) (fun _ => 0) pa (cf_Dt hD cf_addr)) ce_Cf_empty cv_Cf_empty kw_51 hK hP rfl rfl rfl hS (cf_freeC hD hS hA) (by decide) rfl hl.1 rfl (Nat.le_of_ble_eq_true rfl) d_Cf_init_83 ⟨Nat.le_of_ble_eq_true rfl, Nat.le_of_ble_eq_true rfl⟩ (fun H2 locs2 hP hzI2 hkI2 hS => ?_)
    have hP : va_P D cf_cl (CW c0 q1 q2 q3 q4 cR cG ad rf 0 4 0 0 0 0 (fun _ => -1) (fun _ => -1) pa) H2 := hP
    have hD : va_D A (CW c0 q1 q2 q3 q4 cR cG ad rf 0 4 0 0 0 0 (fun _ => -1) (fun _ => -1) pa) := cf_Dm hD cf_addr
    refine W.widen (k := 64) (n := 429) (Nat.le_of_ble_eq_true rfl) (Nat.le_of_ble_eq_true rfl) ?_
    exact W.vret hx hb hr (fun t ht hW => ⟨rfl, ⟨q1, q2, q3, q4, cR, cG, ad, rf, pa, hrf, by rw [ht]; exact hP, va_K.moved hW.alike hK, hD⟩, hS.F ht⟩) hS.2.2 d_Cf_init_86 hlocks
  · have hk60 : k < 60 := Nat.lt_of_not_le (fun h => c_50 (nI_le (a := 60) h (by omega)))
    refine lv_aload_n hx hb d_Cf_init_53 rfl (lv_at hl 1 rfl) ?_
    refine va_get (ci := 1) hx hb (h_Cf hkk) (fun _ h => h) hown hK hP 0 rfl rfl 1 (by decide) (hkk.use kw_56 rfl) (fun _ h => h) rfl d_Cf_init_54 ?_
    refine lv_iload_n hx hb d_Cf_init_57 rfl (lv_at hl 0 rfl) ?_
    refine va_new (ci := 0) (fs := [.int 0, .int 0, .int 0, .int 0, .int 0]) hx hb (h_Arg hkk) (fun _ h => h) t_Arg t_Arg_ok hown (hkk.use kw_19 rfl) (hkk.use kw_20 rfl) (hkk.use kw_2 rfl) hK hP hD hS hA rfl (fun j hj => by rcases (show j = 0 ∨ j = 1 ∨ j = 2 ∨ j = 3 ∨ j = 4 by omega) with rfl | rfl | rfl | rfl | rfl <;> rfl) (by show 4 + k + 1 ≤ 64; omega) (by show 129 + 5 * k + 5 ≤ 429; omega) d_Cf_init_58 (fun q H hP hD hS => ?_)
    have hPu := cf_push (t := (0, 0, 0, 0, 0)) hD
    have hP : va_P D cf_cl ([(c0, .inr (1, [.ref q1, .ref q2, .int 0, .int 4, .int 0, .int 0, .int 0, .ref q3, .ref q4, .int 0])), (q1, .inr (0, [.int 0, .int 0, .int 0, .int 0, .int 0])), (q2, .inl (cR, 60, .inr (.inr (.inr (.inr rf))))), (q3, .inl (cG, 32, .inl (fun _ => 0))), (q4, .inl (cG, 32, .inl (fun _ => 0)))] ++ va_pl ((List.range (k + 1)).map (va_up ad k q)) (fun z => .inr (0, cf_av (va_up pa q (0, 0, 0, 0, 0) z)))) H := by rw [← hPu]; exact hP
    have hD : va_D A ([(c0, .inr (1, [.ref q1, .ref q2, .int 0, .int 4, .int 0, .int 0, .int 0, .ref q3, .ref q4, .int 0])), (q1, .inr (0, [.int 0, .int 0, .int 0, .int 0, .int 0])), (q2, .inl (cR, 60, .inr (.inr (.inr (.inr rf))))), (q3, .inl (cG, 32, .inl (fun _ => 0))), (q4, .inl (cG, 32, .inl (fun _ => 0)))] ++ va_pl ((List.range (k + 1)).map (va_up ad k q)) (fun z => .inr (0, cf_av (va_up pa q (0, 0, 0, 0, 0) z)))) := by rw [← hPu]; exact hD
    refine lv_dup hx hb d_Cf_init_61 rfl ?_
    refine cf_ain hx hb hml hown hkk (by decide) hl.1 (Nat.le_of_ble_eq_true rfl) d_Cf_init_62 ⟨by show 4 + k + 1 ≤ 64; omega, by show 129 + 5 * k + 5 ≤ 429; omega⟩ ?_
    have hq5 : ([(c0, .inr (1, [.ref q1, .ref q2, .int 0, .int 4, .int 0, .int 0, .int 0, .ref q3, .ref q4, .int 0])), (q1, .inr (0, [.int 0, .int 0, .int 0, .int 0, .int 0])), (q2, .inl (cR, 60, .inr (.inr (.inr (.inr rf))))), (q3, .inl (cG, 32, .inl (fun _ => 0))), (q4, .inl (cG, 32, .inl (fun _ => 0)))] ++ va_pl ((List.range (k + 1)).map (va_up ad k q)) (fun z => .inr (0, cf_av (va_up pa q (0, 0, 0, 0, 0) z))))[5 + k]? = some (q, .inr (0, cf_av (0, 0, 0, 0, 0))) := by have h5 := cf_pgetX (X := [(c0, .inr (1, [.ref q1, .ref q2, .int 0, .int 4, .int 0, .int 0, .int 0, .ref q3, .ref q4, .int 0])), (q1, .inr (0, [.int 0, .int 0, .int 0, .int 0, .int 0])), (q2, .inl (cR, 60, .inr (.inr (.inr (.inr rf))))), (q3, .inl (cG, 32, .inl (fun _ => 0))), (q4, .inl (cG, 32, .inl (fun _ => 0)))]) (N := k + 1) (ad := va_up ad k q) (F := fun z => .inr (0, cf_av (va_up pa q (0, 0, 0, 0, 0) z))) (Nat.lt_succ_self k); rw [va_up_self, va_up_self] at h5; exact h5
    refine va_astq hx hb hK hP hD hS 2 0 (5 + k) 0 rfl rfl hq5 rfl (i := nI k) (vp_in_nI (by omega) (by omega)) d_Cf_init_65 (fun H locs hP hD hS => ?_)
    rw [nI_clamp (by omega)] at hP hD
    have hP : va_P D cf_cl ([(c0, .inr (1, [.ref q1, .ref q2, .int 0, .int 4, .int 0, .int 0, .int 0, .ref q3, .ref q4, .int 0])), (q1, .inr (0, [.int 0, .int 0, .int 0, .int 0, .int 0])), (q2, .inl (cR, 60, .inr (.inr (.inr (.inr (va_up rf k (some q))))))), (q3, .inl (cG, 32, .inl (fun _ => 0))), (q4, .inl (cG, 32, .inl (fun _ => 0)))] ++ va_pl ((List.range (k + 1)).map (va_up ad k q)) (fun z => .inr (0, cf_av (va_up pa q (0, 0, 0, 0, 0) z)))) H := hP
    have hD : va_D A ([(c0, .inr (1, [.ref q1, .ref q2, .int 0, .int 4, .int 0, .int 0, .int 0, .ref q3, .ref q4, .int 0])), (q1, .inr (0, [.int 0, .int 0, .int 0, .int 0, .int 0])), (q2, .inl (cR, 60, .inr (.inr (.inr (.inr (va_up rf k (some q))))))), (q3, .inl (cG, 32, .inl (fun _ => 0))), (q4, .inl (cG, 32, .inl (fun _ => 0)))] ++ va_pl ((List.range (k + 1)).map (va_up ad k q)) (fun z => .inr (0, cf_av (va_up pa q (0, 0, 0, 0, 0) z)))) := hD
    have hrf2 : ∀ i, i < k + 1 → va_up rf k (some q) i = some (va_up ad k q i) := fun i hi => by
      by_cases hik : i = k
      · subst hik; rw [va_up_self, va_up_self]
      · rw [va_up_ne _ _ hik, va_up_ne _ _ hik]; exact hrf i (by omega)
    refine lv_iinc (v := nI (k + 1)) (lv' := [(1, .int (nI (k + 1))), (0, .ref c0)]) hx hb d_Cf_init_66 hl (k := 0) rfl (nI_1 k) (by decide) rfl (fun ls hl => ?_)
    refine lv_goto (tgt := 47) hx hb d_Cf_init_69 (by decide) ?_
    exact IH (n1 - 1) H locs _ _ ls (by omega) ⟨k + 1, va_up ad k q, va_up rf k (some q), va_up pa q (0, 0, 0, 0, 0), by omega, rfl, by omega, fun i hi => hrf2 i hi, hP, hD, hS, hl⟩

set_option maxHeartbeats 4000000 in
set_option maxRecDepth 100000 in
/-- CallFramesModel(): its world -/
theorem c_Mo_init (l : Launch) (D : va_G) (m0 : Nat) (sz : Nat) : Met l y_Mo_init [.code y_Mo_init b_Mo_init 1 none] ({ frames := 1, cells := 3, slots := 180, locals := 12 }) (va_Pc [.ref m0] (fun U => cf_KK U ∧ U.heap.size = sz ∧ cf_in D ([(m0, .inr (2, [.int 0, .int 0, .int 0, .int 0, .int 0, .int 0, .int 0, .int 0, .int 0, .int 0, .null, .null, .null]))]) [] U)) (fun _ st o t => o = .returned none ∧ (∃ (m1 m2 m3 : Nat) (cI : ClassId), va_P D cf_cl (MW m0 m1 m2 m3 cI 0 4 0 0 0 0 0 0 0 0 (fun _ => 0) (fun _ => 0) (fun _ => 0)) t.heap ∧ va_K D cf_cl [(cI, .int)] t ∧ va_D (va_A ([(m0, .inr (2, [.int 0, .int 0, .int 0, .int 0, .int 0, .int 0, .int 0, .int 0, .int 0, .int 0, .null, .null, .null]))]) sz) (MW m0 m1 m2 m3 cI 0 4 0 0 0 0 0 0 0 0 (fun _ => 0) (fun _ => 0) (fun _ => 0))) ∧ va_F (va_A ([(m0, .inr (2, [.int 0, .int 0, .int 0, .int 0, .int 0, .int 0, .int 0, .int 0, .int 0, .int 0, .null, .null, .null]))]) sz) st t) 3 180 (va_A ([(m0, .inr (2, [.int 0, .int 0, .int 0, .int 0, .int 0, .int 0, .int 0, .int 0, .int 0, .int 0, .null, .null, .null]))]) sz) := by
  refine Met.ofW (cc := b_Mo_init) (maxL := 1) (ret := none) (by decide) rfl ?_
  intro p e s m args below meth c s₁ B hml hv
  obtain ⟨rfl, hkk, rfl, hP, hK⟩ := hv
  have hx := B.exec
  have hb := B.bytes
  have hr := B.returns
  have hown : s.vm.findClass "CallFramesModel" = some m.cls := findClass_of_methodNamed B.named
  have hlocks := B.notSynchronized
  have hin : meth.name = "<init>" := (name_of_methodNamed B.named B.method).1
  have hD0 : va_D (fun _ => True) ([(m0, .inr (2, [.int 0, .int 0, .int 0, .int 0, .int 0, .int 0, .int 0, .int 0, .int 0, .int 0, .null, .null, .null]))]) := cf_D1
  have hD := hD0.self (sz := s.heap.size)
  have hAe : ∀ q : Nat, s.heap.size ≤ q → va_A ([(m0, .inr (2, [.int 0, .int 0, .int 0, .int 0, .int 0, .int 0, .int 0, .int 0, .int 0, .int 0, .null, .null, .null]))]) s.heap.size q := fun q h => Or.inr h
  generalize va_A ([(m0, .inr (2, [.int 0, .int 0, .int 0, .int 0, .int 0, .int 0, .int 0, .int 0, .int 0, .int 0, .null, .null, .null]))]) s.heap.size = A at hD hAe ⊢
  have hA := hAe
  have hS : va_S A s.heap s.heap [] := va_S.rf
  have hl := lv_entry ([.ref m0]) (n := 1) (Nat.le_of_ble_eq_true rfl)
  rw [lg_entry_eq]
  generalize (lg_sl ([.ref m0]) ++ List.replicate (1 - (lg_sl ([.ref m0])).length) Slot.unset).toArray = ls at hl ⊢
  have hl : lv_has ls 1 [(0, .ref m0)] := hl
  refine lv_aload_n hx hb d_Mo_init_0 rfl (lv_at hl 0 rfl) ?_
  refine W.objInit hx hb hown (hkk.use kw_288 rfl) (hkk.use kw_17 rfl) (hkk.use kw_18 rfl) rfl (by rw [hml]; exact hl.1) rfl d_Mo_init_1 (Nat.le_of_ble_eq_true rfl) (Nat.le_of_ble_eq_true rfl) ?_
  refine W.eq (g2 := F0 m 4 ls []) rfl ?_
  refine lv_aload_n hx hb d_Mo_init_4 rfl (lv_at hl 0 rfl) ?_
  refine lv_iconst (v := 4) hx hb d_Mo_init_5 (by decide) ?_
  refine va_put (ci := 2) (v := .int 4) (ty := .int) hx hb (h_Mo hkk) (fun _ h => h) t_Mo t_Mo_ok n_Mo hown hK hP hD hS 0 rfl rfl 1 (by decide) (hkk.use kw_290 rfl) (fun _ h => h) rfl (by decide +kernel) rfl rfl (Nat.le_of_ble_eq_true rfl) d_Mo_init_6 (fun H locs hP hD hS => ?_)
  have hP : va_P D cf_cl [(m0, .inr (2, [.int 0, .int 4, .int 0, .int 0, .int 0, .int 0, .int 0, .int 0, .int 0, .int 0, .null, .null, .null]))] H := hP
  have hD : va_D A [(m0, .inr (2, [.int 0, .int 4, .int 0, .int 0, .int 0, .int 0, .int 0, .int 0, .int 0, .int 0, .null, .null, .null]))] := hD
  refine lv_aload_n hx hb d_Mo_init_9 rfl (lv_at hl 0 rfl) ?_
  refine lv_bipush (v := 60) hx hb d_Mo_init_10 (by decide) ?_
  refine va_newa (atype := .int) (a0 := (60, .inl (fun _ => 0))) hx hb (hkk.use kw_86 rfl) rfl hK hP hD hS hA (N' := 60) (fun _ => rfl) (by decide) (by decide) (Nat.le_of_ble_eq_true rfl) (Nat.le_of_ble_eq_true rfl) (Nat.le_of_ble_eq_true rfl) d_Mo_init_12 (fun m1 cI H hK hP hD hS => ?_)
  have hP : va_P D cf_cl ([(m0, .inr (2, [.int 0, .int 4, .int 0, .int 0, .int 0, .int 0, .int 0, .int 0, .int 0, .int 0, .null, .null, .null])), (m1, .inl (cI, 60, .inl (fun _ => 0)))]) H := hP
  have hD : va_D A ([(m0, .inr (2, [.int 0, .int 4, .int 0, .int 0, .int 0, .int 0, .int 0, .int 0, .int 0, .int 0, .null, .null, .null])), (m1, .inl (cI, 60, .inl (fun _ => 0)))]) := hD
  have hK : va_K D cf_cl [(cI, .int)] s := hK
  refine va_putF (ci := 2) (v := .ref m1) (ty := .array .int) hx hb (h_Mo hkk) (fun _ h => h) t_Mo t_Mo_ok n_Mo hown hK hP hD hS 0 rfl rfl 10 (by decide) (hkk.use kw_299 rfl) (fun _ h => h) rfl hin rfl (by decide +kernel) rfl rfl (Nat.le_of_ble_eq_true rfl) d_Mo_init_14 (fun H locs hP hD hS => ?_)
  have hP : va_P D cf_cl [(m0, .inr (2, [.int 0, .int 4, .int 0, .int 0, .int 0, .int 0, .int 0, .int 0, .int 0, .int 0, .ref m1, .null, .null])), (m1, .inl (cI, 60, .inl (fun _ => 0)))] H := hP
  have hD : va_D A [(m0, .inr (2, [.int 0, .int 4, .int 0, .int 0, .int 0, .int 0, .int 0, .int 0, .int 0, .int 0, .ref m1, .null, .null])), (m1, .inl (cI, 60, .inl (fun _ => 0)))] := hD
  refine lv_aload_n hx hb d_Mo_init_17 rfl (lv_at hl 0 rfl) ?_
  refine lv_bipush (v := 60) hx hb d_Mo_init_18 (by decide) ?_
  refine va_newa (atype := .int) (a0 := (60, .inl (fun _ => 0))) hx hb (hkk.use kw_86 rfl) rfl hK hP hD hS hA (N' := 60) (fun _ => rfl) (by decide) (by decide) (Nat.le_of_ble_eq_true rfl) (Nat.le_of_ble_eq_true rfl) (Nat.le_of_ble_eq_true rfl) d_Mo_init_20 (fun m2 cJ H hK hP hD hS => ?_)
  have hP : va_P D cf_cl ([(m0, .inr (2, [.int 0, .int 4, .int 0, .int 0, .int 0, .int 0, .int 0, .int 0, .int 0, .int 0, .ref m1, .null, .null])), (m1, .inl (cI, 60, .inl (fun _ => 0))), (m2, .inl (cJ, 60, .inl (fun _ => 0)))]) H := hP
  have hD : va_D A ([(m0, .inr (2, [.int 0, .int 4, .int 0, .int 0, .int 0, .int 0, .int 0, .int 0, .int 0, .int 0, .ref m1, .null, .null])), (m1, .inl (cI, 60, .inl (fun _ => 0))), (m2, .inl (cJ, 60, .inl (fun _ => 0)))]) := hD
  have hK : va_K D cf_cl [(cI, .int), (cJ, .int)] s := hK
  refine va_putF (ci := 2) (v := .ref m2) (ty := .array .int) hx hb (h_Mo hkk) (fun _ h => h) t_Mo t_Mo_ok n_Mo hown hK hP hD hS 0 rfl rfl 11 (by decide) (hkk.use kw_300 rfl) (fun _ h => h) rfl hin rfl (by decide +kernel) rfl rfl (Nat.le_of_ble_eq_true rfl) d_Mo_init_22 (fun H locs hP hD hS => ?_)
  have hP : va_P D cf_cl [(m0, .inr (2, [.int 0, .int 4, .int 0, .int 0, .int 0, .int 0, .int 0, .int 0, .int 0, .int 0, .ref m1, .ref m2, .null])), (m1, .inl (cI, 60, .inl (fun _ => 0))), (m2, .inl (cJ, 60, .inl (fun _ => 0)))] H := hP
  have hD : va_D A [(m0, .inr (2, [.int 0, .int 4, .int 0, .int 0, .int 0, .int 0, .int 0, .int 0, .int 0, .int 0, .ref m1, .ref m2, .null])), (m1, .inl (cI, 60, .inl (fun _ => 0))), (m2, .inl (cJ, 60, .inl (fun _ => 0)))] := hD
  refine lv_aload_n hx hb d_Mo_init_25 rfl (lv_at hl 0 rfl) ?_
  refine lv_bipush (v := 60) hx hb d_Mo_init_26 (by decide) ?_
  refine va_newa (atype := .int) (a0 := (60, .inl (fun _ => 0))) hx hb (hkk.use kw_86 rfl) rfl hK hP hD hS hA (N' := 60) (fun _ => rfl) (by decide) (by decide) (Nat.le_of_ble_eq_true rfl) (Nat.le_of_ble_eq_true rfl) (Nat.le_of_ble_eq_true rfl) d_Mo_init_28 (fun m3 cK H hK hP hD hS => ?_)
  have hP : va_P D cf_cl ([(m0, .inr (2, [.int 0, .int 4, .int 0, .int 0, .int 0, .int 0, .int 0, .int 0, .int 0, .int 0, .ref m1, .ref m2, .null])), (m1, .inl (cI, 60, .inl (fun _ => 0))), (m2, .inl (cJ, 60, .inl (fun _ => 0))), (m3, .inl (cK, 60, .inl (fun _ => 0)))]) H := hP
  have hD : va_D A ([(m0, .inr (2, [.int 0, .int 4, .int 0, .int 0, .int 0, .int 0, .int 0, .int 0, .int 0, .int 0, .ref m1, .ref m2, .null])), (m1, .inl (cI, 60, .inl (fun _ => 0))), (m2, .inl (cJ, 60, .inl (fun _ => 0))), (m3, .inl (cK, 60, .inl (fun _ => 0)))]) := hD
  have hK : va_K D cf_cl [(cI, .int), (cJ, .int), (cK, .int)] s := hK
  refine va_putF (ci := 2) (v := .ref m3) (ty := .array .int) hx hb (h_Mo hkk) (fun _ h => h) t_Mo t_Mo_ok n_Mo hown hK hP hD hS 0 rfl rfl 12 (by decide) (hkk.use kw_301 rfl) (fun _ h => h) rfl hin rfl (by decide +kernel) rfl rfl (Nat.le_of_ble_eq_true rfl) d_Mo_init_30 (fun H locs hP hD hS => ?_)
  have hP : va_P D cf_cl [(m0, .inr (2, [.int 0, .int 4, .int 0, .int 0, .int 0, .int 0, .int 0, .int 0, .int 0, .int 0, .ref m1, .ref m2, .ref m3])), (m1, .inl (cI, 60, .inl (fun _ => 0))), (m2, .inl (cJ, 60, .inl (fun _ => 0))), (m3, .inl (cK, 60, .inl (fun _ => 0)))] H := hP
  have hD : va_D A [(m0, .inr (2, [.int 0, .int 4, .int 0, .int 0, .int 0, .int 0, .int 0, .int 0, .int 0, .int 0, .ref m1, .ref m2, .ref m3])), (m1, .inl (cI, 60, .inl (fun _ => 0))), (m2, .inl (cJ, 60, .inl (fun _ => 0))), (m3, .inl (cK, 60, .inl (fun _ => 0)))] := hD
  have h1 : cJ = cI := Option.some.inj ((hK.2 1 _ rfl).2.symm.trans (hK.2 0 _ rfl).2)
  have h2 : cK = cI := Option.some.inj ((hK.2 2 _ rfl).2.symm.trans (hK.2 0 _ rfl).2)
  rw [h1, h2] at hP hD
  have hK : va_K D cf_cl [(cI, .int)] s := hK.sub [0] rfl
  refine W.widen (k := 3) (n := 180) (Nat.le_of_ble_eq_true rfl) (Nat.le_of_ble_eq_true rfl) ?_
  exact W.vret hx hb hr (fun t ht hW => ⟨rfl, ⟨m1, m2, m3, cI, by rw [ht]; exact hP, va_K.moved hW.alike hK, hD⟩, hS.F ht⟩) hS.2.2 d_Mo_init_33 hlocks
end
section
/-! THE LAW's OWN CALLS: contracts of methods with a table of handlers -/
def cf_NC (U : State) : Prop := ∀ c t, U.vm.findClass cf_ISE = some c → U.vm.findClass cf_IAE = some t → U.vm.assignable c t = false
theorem cf_NC.moved {s U : State} (hv : s.vm.Alike U.vm) (h : cf_NC s) : cf_NC U := fun c t h1 h2 => by
  rw [hv.findClass] at h1 h2
  rw [hv.assignable]
  exact h c t h1 h2
def cf_IW (l : Launch) (y : MethodName) (b : ByteArray) (n : Nat) (ret : Option FieldType) (hh : List (Nat × Nat × Nat × Nat)) (rm : Room) (av : List Value) (D : va_G) (ws : va_W) (tys : List (ClassId × FieldType)) (r : Option Value) (ws' : va_W) : Prop :=
  ∀ sz, Met l y [.codeWith y b n ret hh] rm (va_Pc av (fun U => cf_KK U ∧ cf_ST U ∧ cf_NC U ∧ U.heap.size = sz ∧ cf_in D ws tys U)) (cf_IQ D ws r ws' sz) rm.cells rm.slots (va_A ws sz)
theorem cf_tab {L : List ExceptionTableEntry} {hh : List (Nat × Nat × Nat × Nat)} (h : L.map (fun h => (h.startPc, h.endPc, h.handlerPc, h.catchType)) = hh) : L = hh.map (fun q => ⟨q.1, q.2.1, q.2.2.1, q.2.2.2⟩) := by
  subst h
  rw [List.map_map]
  symm
  exact List.map_id'' (fun _ => rfl) L
theorem cf_IW_of {l : Launch} {y : MethodName} {b : ByteArray} {n : Nat} {ret : Option FieldType} {hh : List (Nat × Nat × Nat × Nat)} {rm : Room} {av : List Value} {D : va_G} {ws ws' : va_W} {tys : List (ClassId × FieldType)} {r : Option Value} (hy : plainName y.cls = true) (hn : (lg_sl av).length ≤ n) (hD0 : va_D (fun _ => True) ws)
    (body : ∀ (p : Program) (e : Env) (s : State) (m : MethodId) (args : Array Value) (below : List Frame) (meth : Method) (c : Code) (A : Nat → Prop), p.tables.exec = Jvm.exec → c.code = b → meth.sig.returnType = ret → cf_KK s → cf_ST s → cf_NC s → c.exceptionTable.toList = hh.map (fun q => ⟨q.1, q.2.1, q.2.2.1, q.2.2.2⟩) → s.vm.findClass y.cls = some m.cls → meth.locks = false → c.maxLocals = n → va_P D cf_cl ws s.heap → va_K D cf_cl tys s → va_D A ws → va_S A s.heap s.heap [] → (∀ q : Nat, s.heap.size ≤ q → A q) → ∀ ls : Array Slot, lv_has ls n (lv_args 0 av) →
      W p l e rm s m args below meth c s.heap [] 0 0 (MQ below (fun _ st o t => o = .returned r ∧ va_P D cf_cl ws' t.heap ∧ va_F A st t) args s rm.cells rm.slots A) (F0 m 0 ls [])) : cf_IW l y b n ret hh rm av D ws tys r ws' := by
  intro sz
  refine va_MetW (hh := hh) (cc := b) (maxL := n) (ret := ret) hy rfl ?_
  intro p e s m args below meth c s₁ B hml hv
  obtain ⟨rfl, hkk, hst, hnc, rfl, hP, hK⟩ := hv
  obtain ⟨m9, meth9, c9, hn9, h1, h2, -, -, h5, -, -, -⟩ := Cond.codeWith_spec (atoms_spec (ws := [.codeWith y b n ret hh]) B.pre _ List.mem_cons_self)
  cases B.named.symm.trans hn9
  cases B.method.symm.trans h1
  cases (Stand.of_body B).code.symm.trans h2
  have hl := lv_entry av (n := n) hn
  rw [lg_entry_eq]
  exact body p e s m _ below meth c (va_A ws s.heap.size) B.exec B.bytes B.returns hkk hst hnc (cf_tab h5) (findClass_of_methodNamed B.named) B.notSynchronized hml hP hK hD0.self va_S.rf (fun q h => Or.inr h) _ hl
section CFWR
variable {p : Program} {l : Launch} {e : Env} {R : Room} {s : State} {m : MethodId} {args : Array Value} {below : List Frame} {meth : Method} {c : Code} {H : Heap} {locs : List Loc} {cells slots : Nat} {Q : State → Prop}
variable {cc : ByteArray} {pc : Nat} {ls : Array Slot} {rest : List Value}
/-- a call throws, and the first row of the table takes it -/
theorem cf_tcatch1 {own : String} {index np nL ci q0 o hs he hp ct : Nat} {tl : List ExceptionTableEntry} {y : MethodName} {b : ByteArray} {n : Nat} {ret : Option FieldType} {rm : Room} {As : List Value} {D : va_G} {ws : va_W} {tys : List (ClassId × FieldType)} {X : String} {rc : vw_C} {fs : List Value} {st0 : List Value}
    (hx : p.tables.exec = Jvm.exec) (hb : c.code = cc) (hml : c.maxLocals = nL) (hown : s.vm.findClass own = some m.cls) (hkk : cf_KK s) (hst : ∀ U : State, U.heap = H → s.WarmedH U.vm → cf_ST U) (htab : c.exceptionTable.toList = ⟨hs, he, hp, ct⟩ :: tl) (hcl : Cond.classLink own ct X ∈ lw_tbl) (hcov : hs ≤ pc ∧ pc < he) (hct : ct ≠ 0)
    (hM : cf_TM l y b n ret rm (.ref o :: As) D ws tys X) (hce : cf_ce y b n ret np) (hv : cf_cv y) (hl : Cond.methodLink own index y ∈ lw_tbl)
    (hK : va_K D cf_cl tys s) (hP : va_P D cf_cl ws H) (hq : ws[q0]? = some (o, .inr (ci, fs))) (hc : cf_cl[ci]? = some rc) (hcy : rc.1 = y.cls)
    (hR : rm.frames + 1 ≤ R.frames ∧ 8 + (n + 11) + rm.locals ≤ R.locals) (hn : As.length = np) (hsz : ls.size = nL) (hst0 : st0 = As.reverse ++ .ref o :: rest) (hw : (rest.map fun v => v.category).sum ≤ 8) (hdg : decode cc pc = .ok (.invokevirtual index, 3)) (hf : cells + rm.cells ≤ R.cells ∧ slots + rm.slots ≤ R.slots)
    (kk : ∀ (x : Nat) (H1 : Heap), (∀ (q : Nat) (cell : Cell), H[q]? = some cell → H1[q]? = some cell) → H.size ≤ H1.size → W p l e R s m args below meth c H1 locs (cells + 1) (slots + 6) Q (F0 m hp ls [.ref x])) : W p l e R s m args below meth c H locs cells slots Q (F0 m pc ls st0) := by
  intro T hT X0
  subst hb
  obtain ⟨x, ce, T1, X1, hk, hz, h1, h2, h3, st⟩ := cf_tcall X0 hT hx hown hkk hst hM hce hv hl hK hP hq hc hcy hR hn (g := F0 m pc ls st0) rfl (hsz.trans hml.symm) hst0 (lv_room hw) hdg hf
  obtain ⟨vm', X2, st2⟩ := cf_catch1 X1 (x := ⟨hs, he, hp, ct⟩) hown (hkk.use hcl rfl) htab (g := F0 m pc ls rest) rfl (by simp only [covers, Bool.and_eq_true, decide_eq_true_eq]; exact hcov) hct h1 h2 h3
  obtain ⟨t, a1, b1⟩ := kk x T1.heap hk hz (T1.setVm vm') rfl X2
  exact ⟨t, st.trans (st2 t a1), b1⟩
/-- a call throws, the first row passes it by, the second takes it -/
theorem cf_tcatch2 {own : String} {index np nL ci q0 o hs he hp ct hs2 he2 hp2 ct2 : Nat} {tl : List ExceptionTableEntry} {y : MethodName} {b : ByteArray} {n : Nat} {ret : Option FieldType} {rm : Room} {As : List Value} {D : va_G} {ws : va_W} {tys : List (ClassId × FieldType)} {X Y : String} {rc : vw_C} {fs : List Value} {st0 : List Value}
    (hx : p.tables.exec = Jvm.exec) (hb : c.code = cc) (hml : c.maxLocals = nL) (hown : s.vm.findClass own = some m.cls) (hkk : cf_KK s) (hst : ∀ U : State, U.heap = H → s.WarmedH U.vm → cf_ST U) (htab : c.exceptionTable.toList = ⟨hs, he, hp, ct⟩ :: ⟨hs2, he2, hp2, ct2⟩ :: tl) (hclY : Cond.classLink own ct Y ∈ lw_tbl) (hcl : Cond.classLink own ct2 X ∈ lw_tbl) (hcov : hs ≤ pc ∧ pc < he) (hct : ct ≠ 0) (hcov2 : hs2 ≤ pc ∧ pc < he2) (hct2 : ct2 ≠ 0) (hno : ∀ c t, s.vm.findClass X = some c → s.vm.findClass Y = some t → s.vm.assignable c t = false)
    (hM : cf_TM l y b n ret rm (.ref o :: As) D ws tys X) (hce : cf_ce y b n ret np) (hv : cf_cv y) (hl : Cond.methodLink own index y ∈ lw_tbl)
    (hK : va_K D cf_cl tys s) (hP : va_P D cf_cl ws H) (hq : ws[q0]? = some (o, .inr (ci, fs))) (hc : cf_cl[ci]? = some rc) (hcy : rc.1 = y.cls)
    (hR : rm.frames + 1 ≤ R.frames ∧ 8 + (n + 11) + rm.locals ≤ R.locals) (hn : As.length = np) (hsz : ls.size = nL) (hst0 : st0 = As.reverse ++ .ref o :: rest) (hw : (rest.map fun v => v.category).sum ≤ 8) (hdg : decode cc pc = .ok (.invokevirtual index, 3)) (hf : cells + rm.cells ≤ R.cells ∧ slots + rm.slots ≤ R.slots)
    (kk : ∀ (x : Nat) (H1 : Heap), (∀ (q : Nat) (cell : Cell), H[q]? = some cell → H1[q]? = some cell) → H.size ≤ H1.size → W p l e R s m args below meth c H1 locs (cells + 1) (slots + 6) Q (F0 m hp2 ls [.ref x])) : W p l e R s m args below meth c H locs cells slots Q (F0 m pc ls st0) := by
  intro T hT X0
  subst hb
  obtain ⟨x, ce, T1, X1, hk, hz, h1, h2, h3, st⟩ := cf_tcall X0 hT hx hown hkk hst hM hce hv hl hK hP hq hc hcy hR hn (g := F0 m pc ls st0) rfl (hsz.trans hml.symm) hst0 (lv_room hw) hdg hf
  obtain ⟨vm', X2, st2⟩ := cf_catch2 X1 (x := ⟨hs, he, hp, ct⟩) (x2 := ⟨hs2, he2, hp2, ct2⟩) hown (hkk.use hclY rfl) (hkk.use hcl rfl) htab (g := F0 m pc ls rest) rfl (by simp only [covers, Bool.and_eq_true, decide_eq_true_eq]; exact hcov) hct (by simp only [covers, Bool.and_eq_true, decide_eq_true_eq]; exact hcov2) hct2 h1 h2 h3 (fun cY hY => hno _ _ h3 hY)
  obtain ⟨t, a1, b1⟩ := kk x T1.heap hk hz (T1.setVm vm') rfl X2
  exact ⟨t, st.trans (st2 t a1), b1⟩
/-- a static method with handlers is called -/
theorem cf_icSW {own : String} {index np nL : Nat} {y : MethodName} {b : ByteArray} {n : Nat} {ret : Option FieldType} {hh : List (Nat × Nat × Nat × Nat)} {rm : Room} {As : List Value} {D : va_G} {ws ws' : va_W} {tys : List (ClassId × FieldType)} {r : Option Value} {st0 : List Value} {A : Nat → Prop} {H0 : Heap}
    (hx : p.tables.exec = Jvm.exec) (hb : c.code = cc) (hml : c.maxLocals = nL) (hown : s.vm.findClass own = some m.cls) (hkk : cf_KK s) (hst : ∀ U : State, U.heap = H → s.WarmedH U.vm → cf_ST U ∧ cf_NC U)
    (hM : cf_IW l y b n ret hh rm As D ws tys r ws') (hcode : Cond.codeWith y b n ret hh ∈ lw_tbl) (hini : Cond.initialized y.cls ∈ lw_tbl) (hy : y.cls ≠ "java/lang/invoke/MethodHandle" ∧ y.cls ≠ "java/lang/invoke/VarHandle" ∧ (parseMethodDescriptor y.desc).map (fun d => d.parameters.length) = some np) (hv : Cond.static y ∈ lw_tbl) (hl : Cond.methodLink own index y ∈ lw_tbl)
    (hK : va_K D cf_cl tys s) (hP : va_P D cf_cl ws H) (hS : va_S A H0 H locs) (hA : ∀ q, va_A ws H.size q → A q)
    (hR : rm.frames + 1 ≤ R.frames ∧ 8 + (n + 11) + rm.locals ≤ R.locals) (hn : As.length = np) (hsz : ls.size = nL) (hst0 : st0 = As.reverse ++ rest) (hw : (rest.map fun v => v.category).sum ≤ 8) (hdg : decode cc pc = .ok (.invokestatic index, 3)) (hf : cells + rm.cells ≤ R.cells ∧ slots + rm.slots ≤ R.slots)
    (kk : ∀ (H1 : Heap) (locs1 : List Loc), va_P D cf_cl ws' H1 → H.size ≤ H1.size → (∀ q : Nat, q < H.size → ¬ va_A ws H.size q → H1[q]? = H[q]?) → va_S A H0 H1 locs1 → W p l e R s m args below meth c H1 locs1 (cells + rm.cells) (slots + rm.slots) Q (F0 m (pc + 3) ls (r.toList ++ rest))) : W p l e R s m args below meth c H locs cells slots Q (F0 m pc ls st0) := by
  have hbl : FrameBlind (va_Pc As (fun U => cf_KK U ∧ cf_ST U ∧ cf_NC U ∧ U.heap.size = H.size ∧ cf_in D ws tys U)) := by
    intro a U g mk q
    obtain ⟨q0, q1, q2, q3, qz, qP, qK⟩ := q
    exact ⟨q0, cf_KK.same (s := U) (U := U.calling g mk a) rfl q1, q2.moved (s := U) (U := U.calling g mk a) (Vm.Alike.refl U.vm) (fun _ _ h => h), q3.moved (s := U) (U := U.calling g mk a) (Vm.Alike.refl U.vm), qz, qP, va_K.moved (u := U) (U := U.calling g mk a) (Vm.Alike.refl U.vm) qK⟩
  have hws : ∀ w ∈ [Cond.codeWith y b n ret hh], ∀ (a' : Array Value) (U : State), s.WarmedH U.vm → w.before a' U = true := by
    intro w hw a' U hW
    rw [List.mem_singleton] at hw
    subst hw
    exact (hkk.warm hW).use hcode rfl
  have hKb : Back l R p e below s args y 3 8 (PreOf R rm.cells rm.slots (va_Pc As (fun U => cf_KK U ∧ cf_ST U ∧ cf_NC U ∧ U.heap.size = H.size ∧ cf_in D ws tys U))) (PostOf (cf_IQ D ws r ws' H.size) rm.cells rm.slots (va_A ws H.size)) :=
    va_backW (hh := hh) (bytes := b) (maxL := n) (ret := ret) (hM H.size) hbl rfl rfl hR.1 hR.2 hws List.mem_cons_self (fun a' U hW => (hkk.warm hW).use hini rfl)
  have hcd : (Cond.codeWith y b n ret hh).before args s = true := hkk.use hcode rfl
  obtain ⟨mk, methM, cM, hnamed, hmethM, hcM, -, -, -, -, -, hsigM⟩ := Cond.codeWith_spec hcd
  have hstatic : methM.isStatic = true := Cond.static_spec hnamed hmethM (hkk.use (A := args) hv rfl)
  obtain ⟨kP, hkP, -⟩ := className_of_methodNamed hnamed
  have hinitP : kP.init = .initialized := Cond.initialized_spec (findClass_of_methodNamed hnamed) hkP (hkk.use (A := args) hini rfl)
  have hlen : As.length = methM.sig.parameters.length := by
    have h2 := hy.2.2
    rw [hsigM] at h2
    exact hn.trans (Option.some.inj h2).symm
  refine cf_backI (D := D) (ws := ws) (ws' := ws') (r := r) (a := As.toArray) ?_ hS hA kk
  intro T hT X
  subst hb
  obtain ⟨vm₁, X₁, hstep₁⟩ := X.invokestatic hx hown (hkk.use hl rfl) hnamed hmethM hstatic hkP hinitP ⟨hy.1, hy.2.1⟩ (g := F0 m pc ls st0) rfl (argsL := As) (rest := rest) hlen hst0 hdg
  have hPc : va_Pc As (fun U => cf_KK U ∧ cf_ST U ∧ cf_NC U ∧ U.heap.size = H.size ∧ cf_in D ws tys U) As.toArray (T.setVm vm₁) := by
    obtain ⟨h1, h2⟩ := hst (T.setVm vm₁) hT X₁.warmed
    refine ⟨rfl, hkk.warm X₁.warmed, h1, h2, ?_, ?_, va_K.moved X₁.warmed.alike hK⟩
    · show T.heap.size = _
      rw [hT]
    · show va_P D cf_cl ws T.heap
      rw [hT]; exact hP
  obtain ⟨v, ⟨U', l2, c2, s2⟩, X', ⟨g', mk', t, L, e1, e2, hq, h1, hL, h2, h3⟩, hsteps⟩ := hKb m meth c ⟨T.setVm vm₁, locs, cells, slots⟩ { F0 m pc ls st0 with stack := rest } (.invokestatic index) mk As.toArray X₁ rfl (hsz.trans hml.symm) hdg (lv_room hw) (X₁.named hnamed) ⟨hf.1, hf.2, hPc⟩
  dsimp only [Pt.U, Pt.locs, Pt.cells, Pt.slots] at X' e1 e2 h1 h2 h3 hsteps
  subst h1; subst h2; subst h3
  exact ⟨v, (T.setVm vm₁).calling g' mk' As.toArray, t, U', L, hT, X', hL, e1, e2, hq, fun target h => hstep₁ _ fun acts => by rw [doInvoke_state]; exact hsteps.trans h⟩
end CFWR
/-! worlds of two parts -/
theorem cf_tl {D : va_G} {x : Nat × va_E} {ws : va_W} {H : Heap} (h : va_P D cf_cl (x :: ws) H) : va_P D cf_cl ws H := fun k q hk => h (k + 1) q hk
theorem cf_cons {D : va_G} {x : Nat × va_E} {ws : va_W} {H : Heap} (h1 : va_P D cf_cl [x] H) (h : va_P D cf_cl ws H) : va_P D cf_cl (x :: ws) H := fun k q hk => by
  cases k with
  | zero => exact h1 0 q hk
  | succ k => exact h k q hk
theorem cf_kept {D : va_G} {ws : va_W} {H H1 : Heap} (h : va_P D cf_cl ws H) (hk : ∀ (q : Nat) (cell : Cell), H[q]? = some cell → H1[q]? = some cell) : va_P D cf_cl ws H1 := h.kept (fun k q hq => by
  have hlt := (h k q hq).lt
  cases hc : H[q.1]? with
  | none => exact absurd (Array.getElem?_eq_none_iff.mp hc) (by omega)
  | some cell => exact hk _ _ hc)
theorem cf_apart {A : Nat → Prop} {a : Nat} {e : va_E} {ws : va_W} {sz : Nat} (hD : va_D A ((a, e) :: ws)) (ha : a < sz) : ¬ va_A ws sz a := by
  rintro (⟨k, x, hk⟩ | h)
  · have := hD.1 0 (k + 1) (a, e) (a, x) rfl hk rfl
    omega
  · omega
theorem cf_tlA {A : Nat → Prop} {x : Nat × va_E} {ws : va_W} {H0 H : Heap} {locs : List Loc} (hD : va_D A (x :: ws)) (hS : va_S A H0 H locs) (hA : ∀ q, H0.size ≤ q → A q) : ∀ q, va_A ws H.size q → A q := by
  intro q h
  rcases h with ⟨k, e, h⟩ | h
  · exact hD.2 (k + 1) _ h
  · exact hA q (Nat.le_trans hS.1 h)
theorem cf_tlD {A : Nat → Prop} {x : Nat × va_E} {ws : va_W} (hD : va_D A (x :: ws)) : va_D A ws := ⟨fun i j a b hi hj h => by
  have := hD.1 (i + 1) (j + 1) a b hi hj h
  omega, fun k q hk => hD.2 (k + 1) q hk⟩
end
section
/-! THE LAW's WRAPPERS (printed by gen/la.py): each over any contract of its callee -/
abbrev cf_RW : Room := { frames := 9, cells := 1, slots := 6, locals := 180 }
theorem cf_keptS {A : Nat → Prop} {H H1 : Heap} (hk : ∀ (q : Nat) (cell : Cell), H[q]? = some cell → H1[q]? = some cell) (hz : H.size ≤ H1.size) : va_S A H H1 [] := by
  refine ⟨hz, fun q hq _ => ?_, fun _ h => by cases h⟩
  cases hc : H[q]? with
  | none => exact absurd (Array.getElem?_eq_none_iff.mp hc) (by omega)
  | some cell => exact hk _ _ hc
theorem cf_keptO {D : va_G} {A : Nat → Prop} {a : Nat} {e : va_E} {ws : va_W} {H H1 : Heap} (hP : va_P D cf_cl ((a, e) :: ws) H) (hD : va_D A ((a, e) :: ws)) (hk : ∀ q : Nat, q < H.size → ¬ va_A ws H.size q → H1[q]? = H[q]?) : va_P D cf_cl [(a, e)] H1 := by
  have h1 := hP 0 _ rfl
  have hlt : a < H.size := h1.lt
  refine (cf_P1 (k := 0) hP rfl).kept (fun k q hq => ?_)
  have hz : k < 1 := (List.getElem?_eq_some_iff.mp hq).1
  rw [show k = 0 by omega] at hq
  cases hq
  exact hk a hlt (cf_apart hD hlt)
set_option maxHeartbeats 4000000 in
set_option maxRecDepth 100000 in
theorem c_La_begin_ok (l : Launch) (D : va_G) (c0 : Nat) (p0 p1 p2 p3 : Int32) (ws ws' : va_W) (tys : List (ClassId × FieldType)) (fs : List Value) (hq : ws[0]? = some (c0, .inr (1, fs))) (hD0 : va_D (fun _ => True) ws) (rm : Room) (hrm : rm.cells = 0 ∧ rm.slots = 0 ∧ rm.frames ≤ 8 ∧ rm.locals ≤ 150) (hM : cf_IM l y_Cf_begin b_Cf_begin 5 none rm [.ref c0, .int p0, .int p1, .int p2, .int p3] D ws tys none ws') : cf_IW l y_La_begin b_La_begin 6 (some .int) [(0, 9, 12, 13)] cf_RW [.ref c0, .int p0, .int p1, .int p2, .int p3] D (ws) tys (some (.int 0)) (ws') := by
  refine cf_IW_of (by decide) (Nat.le_of_ble_eq_true rfl) hD0 ?_
  intro p e s m args below meth c A hx hb hr hkk hst hnc htab hown hlocks hml hP hK hD hS hA ls hl
  have hl : lv_has ls 6 [(0, .ref c0), (1, .int p0), (2, .int p1), (3, .int p2), (4, .int p3)] := hl
  obtain ⟨hr1, hr2, hr3, hr4⟩ := hrm
  refine lv_aload_n hx hb d_La_begin_0 rfl (lv_at hl 0 rfl) ?_
  refine lv_iload_n hx hb d_La_begin_1 rfl (lv_at hl 1 rfl) ?_
  refine lv_iload_n hx hb d_La_begin_2 rfl (lv_at hl 2 rfl) ?_
  refine lv_iload_n hx hb d_La_begin_3 rfl (lv_at hl 3 rfl) ?_
  refine lv_iload hx hb d_La_begin_4 (lv_at hl 4 rfl) ?_
  refine cf_icV (q0 := 0) (ci := 1) (As := [.int p0, .int p1, .int p2, .int p3]) (rest := []) hx hb hml hown hkk hM ce_Cf_begin cv_Cf_begin kw_121 hK hP hq rfl rfl hS (cf_freeC hD hS hA) ⟨by show rm.frames + 1 ≤ 9; omega, by show 8 + (5 + 11) + rm.locals ≤ 180; omega⟩ rfl hl.1 rfl (Nat.le_of_ble_eq_true rfl) d_La_begin_6 ⟨by show 0 + rm.cells ≤ 1; omega, by show 0 + rm.slots ≤ 6; omega⟩ (fun H locs hP hzI hkI hS => ?_)
  refine lv_goto (tgt := 16) hx hb d_La_begin_9 (by decide) ?_
  refine lv_iconst (v := 0) hx hb d_La_begin_16 (by decide) ?_
  exact cf_iretI hx hb hr hlocks hP hS (by show _ ≤ 1; omega) (by show _ ≤ 6; omega) rfl d_La_begin_17

set_option maxHeartbeats 4000000 in
set_option maxRecDepth 100000 in
theorem c_La_begin_no (l : Launch) (D : va_G) (c0 : Nat) (p0 p1 p2 p3 : Int32) (ws : va_W) (tys : List (ClassId × FieldType)) (fs : List Value) (hq : ws[0]? = some (c0, .inr (1, fs))) (hD0 : va_D (fun _ => True) ws) (rm : Room) (hrm : rm.cells ≤ 1 ∧ rm.slots ≤ 6 ∧ rm.frames ≤ 8 ∧ rm.locals ≤ 150) (hM : cf_TM l y_Cf_begin b_Cf_begin 5 none rm [.ref c0, .int p0, .int p1, .int p2, .int p3] D ws tys cf_IAE) : cf_IW l y_La_begin b_La_begin 6 (some .int) [(0, 9, 12, 13)] cf_RW [.ref c0, .int p0, .int p1, .int p2, .int p3] D (ws) tys (some (.int 1)) (ws) := by
  refine cf_IW_of (by decide) (Nat.le_of_ble_eq_true rfl) hD0 ?_
  intro p e s m args below meth c A hx hb hr hkk hst hnc htab hown hlocks hml hP hK hD hS hA ls hl
  have hl : lv_has ls 6 [(0, .ref c0), (1, .int p0), (2, .int p1), (3, .int p2), (4, .int p3)] := hl
  obtain ⟨hr1, hr2, hr3, hr4⟩ := hrm
  refine lv_aload_n hx hb d_La_begin_0 rfl (lv_at hl 0 rfl) ?_
  refine lv_iload_n hx hb d_La_begin_1 rfl (lv_at hl 1 rfl) ?_
  refine lv_iload_n hx hb d_La_begin_2 rfl (lv_at hl 2 rfl) ?_
  refine lv_iload_n hx hb d_La_begin_3 rfl (lv_at hl 3 rfl) ?_
  refine lv_iload hx hb d_La_begin_4 (lv_at hl 4 rfl) ?_
  refine cf_tcatch1 (q0 := 0) (ci := 1) (hs := 0) (he := 9) (hp := 12) (ct := 13) (As := [.int p0, .int p1, .int p2, .int p3]) (rest := []) hx hb hml hown hkk (fun U hU hW => hst.moved hW.alike (fun q cell h => by rw [hU]; exact h)) htab kw_120 (by decide) (by decide) hM ce_Cf_begin cv_Cf_begin kw_121 hK hP hq rfl rfl ⟨by show rm.frames + 1 ≤ 9; omega, by show 8 + (5 + 11) + rm.locals ≤ 180; omega⟩ rfl hl.1 rfl (Nat.le_of_ble_eq_true rfl) d_La_begin_6 ⟨by show 0 + rm.cells ≤ 1; omega, by show 0 + rm.slots ≤ 6; omega⟩ (fun x H hkp hzp => ?_)
  have hP := cf_kept hP hkp
  have hS : va_S A s.heap H [] := cf_keptS hkp hzp
  refine lv_astore (lv' := [(5, .ref x), (0, .ref c0), (1, .int p0), (2, .int p1), (3, .int p2), (4, .int p3)]) hx hb d_La_begin_12 hl (by decide) rfl (fun ls hl => ?_)
  refine lv_iconst (v := 1) hx hb d_La_begin_14 (by decide) ?_
  exact cf_iretI hx hb hr hlocks hP hS (by show _ ≤ 1; omega) (by show _ ≤ 6; omega) rfl d_La_begin_15

set_option maxHeartbeats 4000000 in
set_option maxRecDepth 100000 in
theorem c_La_add_ok (l : Launch) (D : va_G) (c0 oa : Nat) (cR cI cL : ClassId) (fo : Nat → Int64) (p0 p1 p2 : Int32) (ws : va_W) (fs : List Value) (hq : ws[0]? = some (c0, .inr (1, fs))) (hD0 : va_D (fun _ => True) ((oa, .inl (cL, 1, .inr (.inl fo))) :: ws)) (rm : Room) (v : Int32) (ws' : va_W) (hadr : ws'.map (fun q => q.1) = ws.map (fun q => q.1)) (hrm : rm.cells = 0 ∧ rm.slots = 0 ∧ rm.frames ≤ 8 ∧ rm.locals ≤ 150) (hM : cf_IM l y_Cf_add b_Cf_add 7 (some FieldType.int) rm [.ref c0, .int p0, .int p1, .int p2] D ws [(cR, .object "CallFrames$Argument"), (cI, .int)] (some (.int v)) ws') : cf_IW l y_La_add b_La_add 6 (some .int) [(0, 12, 15, 13), (0, 12, 19, 19)] cf_RW [.ref c0, .int p0, .int p1, .int p2, .ref oa] D ((oa, .inl (cL, 1, .inr (.inl fo))) :: ws) [(cR, .object "CallFrames$Argument"), (cI, .int), (cL, .long)] (some (.int 0)) ((oa, .inl (cL, 1, .inr (.inl (vp_updL fo 0 v.toInt64)))) :: ws') := by
  refine cf_IW_of (by decide) (Nat.le_of_ble_eq_true rfl) hD0 ?_
  intro p e s m args below meth c A hx hb hr hkk hst hnc htab hown hlocks hml hP hK hD hS hA ls hl
  have hl : lv_has ls 6 [(0, .ref c0), (1, .int p0), (2, .int p1), (3, .int p2), (4, .ref oa)] := hl
  obtain ⟨hr1, hr2, hr3, hr4⟩ := hrm
  refine lv_aload hx hb d_La_add_0 (lv_at hl 4 rfl) ?_
  refine lv_iconst (v := 0) hx hb d_La_add_2 (by decide) ?_
  refine lv_aload_n hx hb d_La_add_3 rfl (lv_at hl 0 rfl) ?_
  refine lv_iload_n hx hb d_La_add_4 rfl (lv_at hl 1 rfl) ?_
  refine lv_iload_n hx hb d_La_add_5 rfl (lv_at hl 2 rfl) ?_
  refine lv_iload_n hx hb d_La_add_6 rfl (lv_at hl 3 rfl) ?_
  refine cf_icV (q0 := 0) (ci := 1) (As := [.int p0, .int p1, .int p2]) (rest := [.int 0, .ref oa]) hx hb hml hown hkk hM ce_Cf_add cv_Cf_add kw_196 (hK.sub [0, 1] rfl) (cf_tl hP) hq rfl rfl hS (cf_tlA hD hS hA) ⟨by show rm.frames + 1 ≤ 9; omega, by show 8 + (7 + 11) + rm.locals ≤ 180; omega⟩ rfl hl.1 rfl (Nat.le_of_ble_eq_true rfl) d_La_add_7 ⟨by show 0 + rm.cells ≤ 1; omega, by show 0 + rm.slots ≤ 6; omega⟩ (fun H locs hP1 hzI hkI hS => ?_)
  have hP : va_P D cf_cl ((oa, .inl (cL, 1, .inr (.inl fo))) :: ws') H := cf_cons (cf_keptO hP hD hkI) hP1
  have hD : va_D A ((oa, .inl (cL, 1, .inr (.inl fo))) :: ws') := cf_Dm hD (by simp [hadr])
  refine lv_i2l hx hb d_La_add_10 rfl ?_
  refine va_last hx hb hK hP hD hS 0 2 rfl rfl (vp_in_nI (n := 0) (by omega) (by omega)) d_La_add_11 (fun H locs hP hD hS => ?_)
  have hP : va_P D cf_cl ((oa, .inl (cL, 1, .inr (.inl (vp_updL fo 0 v.toInt64)))) :: ws') H := hP
  refine lv_goto (tgt := 23) hx hb d_La_add_12 (by decide) ?_
  refine lv_iconst (v := 0) hx hb d_La_add_23 (by decide) ?_
  exact cf_iretI hx hb hr hlocks hP hS (by show _ ≤ 1; omega) (by show _ ≤ 6; omega) rfl d_La_add_24

set_option maxHeartbeats 4000000 in
set_option maxRecDepth 100000 in
theorem c_La_add_no (l : Launch) (D : va_G) (c0 oa : Nat) (cR cI cL : ClassId) (fo : Nat → Int64) (p0 p1 p2 : Int32) (ws : va_W) (fs : List Value) (hq : ws[0]? = some (c0, .inr (1, fs))) (hD0 : va_D (fun _ => True) ((oa, .inl (cL, 1, .inr (.inl fo))) :: ws)) (rm : Room) (hrm : rm.cells ≤ 1 ∧ rm.slots ≤ 6 ∧ rm.frames ≤ 8 ∧ rm.locals ≤ 150) (hM : cf_TM l y_Cf_add b_Cf_add 7 (some FieldType.int) rm [.ref c0, .int p0, .int p1, .int p2] D ws [(cR, .object "CallFrames$Argument"), (cI, .int)] cf_IAE) : cf_IW l y_La_add b_La_add 6 (some .int) [(0, 12, 15, 13), (0, 12, 19, 19)] cf_RW [.ref c0, .int p0, .int p1, .int p2, .ref oa] D ((oa, .inl (cL, 1, .inr (.inl fo))) :: ws) [(cR, .object "CallFrames$Argument"), (cI, .int), (cL, .long)] (some (.int 1)) ((oa, .inl (cL, 1, .inr (.inl fo))) :: ws) := by
  refine cf_IW_of (by decide) (Nat.le_of_ble_eq_true rfl) hD0 ?_
  intro p e s m args below meth c A hx hb hr hkk hst hnc htab hown hlocks hml hP hK hD hS hA ls hl
  have hl : lv_has ls 6 [(0, .ref c0), (1, .int p0), (2, .int p1), (3, .int p2), (4, .ref oa)] := hl
  obtain ⟨hr1, hr2, hr3, hr4⟩ := hrm
  refine lv_aload hx hb d_La_add_0 (lv_at hl 4 rfl) ?_
  refine lv_iconst (v := 0) hx hb d_La_add_2 (by decide) ?_
  refine lv_aload_n hx hb d_La_add_3 rfl (lv_at hl 0 rfl) ?_
  refine lv_iload_n hx hb d_La_add_4 rfl (lv_at hl 1 rfl) ?_
  refine lv_iload_n hx hb d_La_add_5 rfl (lv_at hl 2 rfl) ?_
  refine lv_iload_n hx hb d_La_add_6 rfl (lv_at hl 3 rfl) ?_
  refine cf_tcatch1 (q0 := 0) (ci := 1) (hs := 0) (he := 12) (hp := 15) (ct := 13) (As := [.int p0, .int p1, .int p2]) (rest := [.int 0, .ref oa]) hx hb hml hown hkk (fun U hU hW => hst.moved hW.alike (fun q cell h => by rw [hU]; exact h)) htab kw_120 (by decide) (by decide) hM ce_Cf_add cv_Cf_add kw_196 (hK.sub [0, 1] rfl) (cf_tl hP) hq rfl rfl ⟨by show rm.frames + 1 ≤ 9; omega, by show 8 + (7 + 11) + rm.locals ≤ 180; omega⟩ rfl hl.1 rfl (Nat.le_of_ble_eq_true rfl) d_La_add_7 ⟨by show 0 + rm.cells ≤ 1; omega, by show 0 + rm.slots ≤ 6; omega⟩ (fun x H hkp hzp => ?_)
  have hP := cf_kept hP hkp
  have hS : va_S A s.heap H [] := cf_keptS hkp hzp
  refine lv_astore (lv' := [(5, .ref x), (0, .ref c0), (1, .int p0), (2, .int p1), (3, .int p2), (4, .ref oa)]) hx hb d_La_add_15 hl (by decide) rfl (fun ls hl => ?_)
  refine lv_iconst (v := 1) hx hb d_La_add_17 (by decide) ?_
  exact cf_iretI hx hb hr hlocks hP hS (by show _ ≤ 1; omega) (by show _ ≤ 6; omega) rfl d_La_add_18

set_option maxHeartbeats 4000000 in
set_option maxRecDepth 100000 in
theorem c_La_add_no2 (l : Launch) (D : va_G) (c0 oa : Nat) (cR cI cL : ClassId) (fo : Nat → Int64) (p0 p1 p2 : Int32) (ws : va_W) (fs : List Value) (hq : ws[0]? = some (c0, .inr (1, fs))) (hD0 : va_D (fun _ => True) ((oa, .inl (cL, 1, .inr (.inl fo))) :: ws)) (rm : Room) (hrm : rm.cells ≤ 1 ∧ rm.slots ≤ 6 ∧ rm.frames ≤ 8 ∧ rm.locals ≤ 150) (hM : cf_TM l y_Cf_add b_Cf_add 7 (some FieldType.int) rm [.ref c0, .int p0, .int p1, .int p2] D ws [(cR, .object "CallFrames$Argument"), (cI, .int)] cf_ISE) : cf_IW l y_La_add b_La_add 6 (some .int) [(0, 12, 15, 13), (0, 12, 19, 19)] cf_RW [.ref c0, .int p0, .int p1, .int p2, .ref oa] D ((oa, .inl (cL, 1, .inr (.inl fo))) :: ws) [(cR, .object "CallFrames$Argument"), (cI, .int), (cL, .long)] (some (.int 2)) ((oa, .inl (cL, 1, .inr (.inl fo))) :: ws) := by
  refine cf_IW_of (by decide) (Nat.le_of_ble_eq_true rfl) hD0 ?_
  intro p e s m args below meth c A hx hb hr hkk hst hnc htab hown hlocks hml hP hK hD hS hA ls hl
  have hl : lv_has ls 6 [(0, .ref c0), (1, .int p0), (2, .int p1), (3, .int p2), (4, .ref oa)] := hl
  obtain ⟨hr1, hr2, hr3, hr4⟩ := hrm
  refine lv_aload hx hb d_La_add_0 (lv_at hl 4 rfl) ?_
  refine lv_iconst (v := 0) hx hb d_La_add_2 (by decide) ?_
  refine lv_aload_n hx hb d_La_add_3 rfl (lv_at hl 0 rfl) ?_
  refine lv_iload_n hx hb d_La_add_4 rfl (lv_at hl 1 rfl) ?_
  refine lv_iload_n hx hb d_La_add_5 rfl (lv_at hl 2 rfl) ?_
  refine lv_iload_n hx hb d_La_add_6 rfl (lv_at hl 3 rfl) ?_
  refine cf_tcatch2 (q0 := 0) (ci := 1) (hs := 0) (he := 12) (hp := 15) (ct := 13) (hs2 := 0) (he2 := 12) (hp2 := 19) (ct2 := 19) (As := [.int p0, .int p1, .int p2]) (rest := [.int 0, .ref oa]) hx hb hml hown hkk (fun U hU hW => hst.moved hW.alike (fun q cell h => by rw [hU]; exact h)) htab kw_120 kw_195 (by decide) (by decide) (by decide) (by decide) hnc hM ce_Cf_add cv_Cf_add kw_196 (hK.sub [0, 1] rfl) (cf_tl hP) hq rfl rfl ⟨by show rm.frames + 1 ≤ 9; omega, by show 8 + (7 + 11) + rm.locals ≤ 180; omega⟩ rfl hl.1 rfl (Nat.le_of_ble_eq_true rfl) d_La_add_7 ⟨by show 0 + rm.cells ≤ 1; omega, by show 0 + rm.slots ≤ 6; omega⟩ (fun x H hkp hzp => ?_)
  have hP := cf_kept hP hkp
  have hS : va_S A s.heap H [] := cf_keptS hkp hzp
  refine lv_astore (lv' := [(5, .ref x), (0, .ref c0), (1, .int p0), (2, .int p1), (3, .int p2), (4, .ref oa)]) hx hb d_La_add_19 hl (by decide) rfl (fun ls hl => ?_)
  refine lv_iconst (v := 2) hx hb d_La_add_21 (by decide) ?_
  exact cf_iretI hx hb hr hlocks hP hS (by show _ ≤ 1; omega) (by show _ ≤ 6; omega) rfl d_La_add_22

set_option maxHeartbeats 4000000 in
set_option maxRecDepth 100000 in
theorem c_La_where_ok (l : Launch) (D : va_G) (c0 oa : Nat) (cR cI cL : ClassId) (fo : Nat → Int64) (p0 p1 : Int32) (ws : va_W) (fs : List Value) (hq : ws[0]? = some (c0, .inr (1, fs))) (hD0 : va_D (fun _ => True) ((oa, .inl (cL, 1, .inr (.inl fo))) :: ws)) (rm : Room) (v : Int32) (hrm : rm.cells = 0 ∧ rm.slots = 0 ∧ rm.frames ≤ 8 ∧ rm.locals ≤ 150) (hM : cf_PM l y_Cf_where b_Cf_where 4 (some FieldType.int) rm [.ref c0, .int p0, .int p1] D ws [(cR, .object "CallFrames$Argument"), (cI, .int)] (.int v)) : cf_IW l y_La_where b_La_where 5 (some .int) [(0, 10, 13, 25)] cf_RW [.ref c0, .int p0, .int p1, .ref oa] D ((oa, .inl (cL, 1, .inr (.inl fo))) :: ws) [(cR, .object "CallFrames$Argument"), (cI, .int), (cL, .long)] (some (.int 0)) ((oa, .inl (cL, 1, .inr (.inl (vp_updL fo 0 v.toInt64)))) :: ws) := by
  refine cf_IW_of (by decide) (Nat.le_of_ble_eq_true rfl) hD0 ?_
  intro p e s m args below meth c A hx hb hr hkk hst hnc htab hown hlocks hml hP hK hD hS hA ls hl
  have hl : lv_has ls 5 [(0, .ref c0), (1, .int p0), (2, .int p1), (3, .ref oa)] := hl
  obtain ⟨hr1, hr2, hr3, hr4⟩ := hrm
  refine lv_aload_n hx hb d_La_where_0 rfl (lv_at hl 3 rfl) ?_
  refine lv_iconst (v := 0) hx hb d_La_where_1 (by decide) ?_
  refine lv_aload_n hx hb d_La_where_2 rfl (lv_at hl 0 rfl) ?_
  refine lv_iload_n hx hb d_La_where_3 rfl (lv_at hl 1 rfl) ?_
  refine lv_iload_n hx hb d_La_where_4 rfl (lv_at hl 2 rfl) ?_
  refine cf_pcV (q0 := 0) (ci := 1) (As := [.int p0, .int p1]) (rest := [.int 0, .ref oa]) hx hb hml hown hkk hM ce_Cf_where cv_Cf_where kw_224 (hK.sub [0, 1] rfl) (cf_tl hP) hq rfl rfl ⟨hr1, hr2⟩ ⟨by show rm.frames + 1 ≤ 9; omega, by show 8 + (4 + 11) + rm.locals ≤ 180; omega⟩ rfl hl.1 rfl (Nat.le_of_ble_eq_true rfl) d_La_where_5 ⟨Nat.zero_le _, Nat.zero_le _⟩ ?_
  refine lv_i2l hx hb d_La_where_8 rfl ?_
  refine va_last hx hb hK hP hD hS 0 2 rfl rfl (vp_in_nI (n := 0) (by omega) (by omega)) d_La_where_9 (fun H locs hP hD hS => ?_)
  have hP : va_P D cf_cl ((oa, .inl (cL, 1, .inr (.inl (vp_updL fo 0 v.toInt64)))) :: ws) H := hP
  refine lv_goto (tgt := 17) hx hb d_La_where_10 (by decide) ?_
  refine lv_iconst (v := 0) hx hb d_La_where_17 (by decide) ?_
  exact cf_iretI hx hb hr hlocks hP hS (by show _ ≤ 1; omega) (by show _ ≤ 6; omega) rfl d_La_where_18

set_option maxHeartbeats 4000000 in
set_option maxRecDepth 100000 in
theorem c_La_where_no (l : Launch) (D : va_G) (c0 oa : Nat) (cR cI cL : ClassId) (fo : Nat → Int64) (p0 p1 : Int32) (ws : va_W) (fs : List Value) (hq : ws[0]? = some (c0, .inr (1, fs))) (hD0 : va_D (fun _ => True) ((oa, .inl (cL, 1, .inr (.inl fo))) :: ws)) (rm : Room) (hrm : rm.cells ≤ 1 ∧ rm.slots ≤ 6 ∧ rm.frames ≤ 8 ∧ rm.locals ≤ 150) (hM : cf_TM l y_Cf_where b_Cf_where 4 (some FieldType.int) rm [.ref c0, .int p0, .int p1] D ws [(cR, .object "CallFrames$Argument"), (cI, .int)] cf_IOB) : cf_IW l y_La_where b_La_where 5 (some .int) [(0, 10, 13, 25)] cf_RW [.ref c0, .int p0, .int p1, .ref oa] D ((oa, .inl (cL, 1, .inr (.inl fo))) :: ws) [(cR, .object "CallFrames$Argument"), (cI, .int), (cL, .long)] (some (.int 1)) ((oa, .inl (cL, 1, .inr (.inl fo))) :: ws) := by
  refine cf_IW_of (by decide) (Nat.le_of_ble_eq_true rfl) hD0 ?_
  intro p e s m args below meth c A hx hb hr hkk hst hnc htab hown hlocks hml hP hK hD hS hA ls hl
  have hl : lv_has ls 5 [(0, .ref c0), (1, .int p0), (2, .int p1), (3, .ref oa)] := hl
  obtain ⟨hr1, hr2, hr3, hr4⟩ := hrm
  refine lv_aload_n hx hb d_La_where_0 rfl (lv_at hl 3 rfl) ?_
  refine lv_iconst (v := 0) hx hb d_La_where_1 (by decide) ?_
  refine lv_aload_n hx hb d_La_where_2 rfl (lv_at hl 0 rfl) ?_
  refine lv_iload_n hx hb d_La_where_3 rfl (lv_at hl 1 rfl) ?_
  refine lv_iload_n hx hb d_La_where_4 rfl (lv_at hl 2 rfl) ?_
  refine cf_tcatch1 (q0 := 0) (ci := 1) (hs := 0) (he := 10) (hp := 13) (ct := 25) (As := [.int p0, .int p1]) (rest := [.int 0, .ref oa]) hx hb hml hown hkk (fun U hU hW => hst.moved hW.alike (fun q cell h => by rw [hU]; exact h)) htab kw_223 (by decide) (by decide) hM ce_Cf_where cv_Cf_where kw_224 (hK.sub [0, 1] rfl) (cf_tl hP) hq rfl rfl ⟨by show rm.frames + 1 ≤ 9; omega, by show 8 + (4 + 11) + rm.locals ≤ 180; omega⟩ rfl hl.1 rfl (Nat.le_of_ble_eq_true rfl) d_La_where_5 ⟨by show 0 + rm.cells ≤ 1; omega, by show 0 + rm.slots ≤ 6; omega⟩ (fun x H hkp hzp => ?_)
  have hP := cf_kept hP hkp
  have hS : va_S A s.heap H [] := cf_keptS hkp hzp
  refine lv_astore (lv' := [(4, .ref x), (0, .ref c0), (1, .int p0), (2, .int p1), (3, .ref oa)]) hx hb d_La_where_13 hl (by decide) rfl (fun ls hl => ?_)
  refine lv_iconst (v := 1) hx hb d_La_where_15 (by decide) ?_
  exact cf_iretI hx hb hr hlocks hP hS (by show _ ≤ 1; omega) (by show _ ≤ 6; omega) rfl d_La_where_16

set_option maxHeartbeats 4000000 in
set_option maxRecDepth 100000 in
theorem c_La_about_ok (l : Launch) (D : va_G) (c0 oa : Nat) (cR cI cL : ClassId) (fo : Nat → Int64) (p0 p1 : Int32) (ws : va_W) (fs : List Value) (hq : ws[0]? = some (c0, .inr (1, fs))) (hD0 : va_D (fun _ => True) ((oa, .inl (cL, 1, .inr (.inl fo))) :: ws)) (rm : Room) (v : Int32) (hrm : rm.cells = 0 ∧ rm.slots = 0 ∧ rm.frames ≤ 8 ∧ rm.locals ≤ 150) (hM : cf_PM l y_Cf_about b_Cf_about 4 (some FieldType.int) rm [.ref c0, .int p0, .int p1] D ws [(cR, .object "CallFrames$Argument"), (cI, .int)] (.int v)) : cf_IW l y_La_about b_La_about 5 (some .int) [(0, 10, 13, 25)] cf_RW [.ref c0, .int p0, .int p1, .ref oa] D ((oa, .inl (cL, 1, .inr (.inl fo))) :: ws) [(cR, .object "CallFrames$Argument"), (cI, .int), (cL, .long)] (some (.int 0)) ((oa, .inl (cL, 1, .inr (.inl (vp_updL fo 0 v.toInt64)))) :: ws) := by
  refine cf_IW_of (by decide) (Nat.le_of_ble_eq_true rfl) hD0 ?_
  intro p e s m args below meth c A hx hb hr hkk hst hnc htab hown hlocks hml hP hK hD hS hA ls hl
  have hl : lv_has ls 5 [(0, .ref c0), (1, .int p0), (2, .int p1), (3, .ref oa)] := hl
  obtain ⟨hr1, hr2, hr3, hr4⟩ := hrm
  refine lv_aload_n hx hb d_La_about_0 rfl (lv_at hl 3 rfl) ?_
  refine lv_iconst (v := 0) hx hb d_La_about_1 (by decide) ?_
  refine lv_aload_n hx hb d_La_about_2 rfl (lv_at hl 0 rfl) ?_
  refine lv_iload_n hx hb d_La_about_3 rfl (lv_at hl 1 rfl) ?_
  refine lv_iload_n hx hb d_La_about_4 rfl (lv_at hl 2 rfl) ?_
  refine cf_pcV (q0 := 0) (ci := 1) (As := [.int p0, .int p1]) (rest := [.int 0, .ref oa]) hx hb hml hown hkk hM ce_Cf_about cv_Cf_about kw_255 (hK.sub [0, 1] rfl) (cf_tl hP) hq rfl rfl ⟨hr1, hr2⟩ ⟨by show rm.frames + 1 ≤ 9; omega, by show 8 + (4 + 11) + rm.locals ≤ 180; omega⟩ rfl hl.1 rfl (Nat.le_of_ble_eq_true rfl) d_La_about_5 ⟨Nat.zero_le _, Nat.zero_le _⟩ ?_
  refine lv_i2l hx hb d_La_about_8 rfl ?_
  refine va_last hx hb hK hP hD hS 0 2 rfl rfl (vp_in_nI (n := 0) (by omega) (by omega)) d_La_about_9 (fun H locs hP hD hS => ?_)
  have hP : va_P D cf_cl ((oa, .inl (cL, 1, .inr (.inl (vp_updL fo 0 v.toInt64)))) :: ws) H := hP
  refine lv_goto (tgt := 17) hx hb d_La_about_10 (by decide) ?_
  refine lv_iconst (v := 0) hx hb d_La_about_17 (by decide) ?_
  exact cf_iretI hx hb hr hlocks hP hS (by show _ ≤ 1; omega) (by show _ ≤ 6; omega) rfl d_La_about_18

set_option maxHeartbeats 4000000 in
set_option maxRecDepth 100000 in
theorem c_La_about_no (l : Launch) (D : va_G) (c0 oa : Nat) (cR cI cL : ClassId) (fo : Nat → Int64) (p0 p1 : Int32) (ws : va_W) (fs : List Value) (hq : ws[0]? = some (c0, .inr (1, fs))) (hD0 : va_D (fun _ => True) ((oa, .inl (cL, 1, .inr (.inl fo))) :: ws)) (rm : Room) (hrm : rm.cells ≤ 1 ∧ rm.slots ≤ 6 ∧ rm.frames ≤ 8 ∧ rm.locals ≤ 150) (hM : cf_TM l y_Cf_about b_Cf_about 4 (some FieldType.int) rm [.ref c0, .int p0, .int p1] D ws [(cR, .object "CallFrames$Argument"), (cI, .int)] cf_IOB) : cf_IW l y_La_about b_La_about 5 (some .int) [(0, 10, 13, 25)] cf_RW [.ref c0, .int p0, .int p1, .ref oa] D ((oa, .inl (cL, 1, .inr (.inl fo))) :: ws) [(cR, .object "CallFrames$Argument"), (cI, .int), (cL, .long)] (some (.int 1)) ((oa, .inl (cL, 1, .inr (.inl fo))) :: ws) := by
  refine cf_IW_of (by decide) (Nat.le_of_ble_eq_true rfl) hD0 ?_
  intro p e s m args below meth c A hx hb hr hkk hst hnc htab hown hlocks hml hP hK hD hS hA ls hl
  have hl : lv_has ls 5 [(0, .ref c0), (1, .int p0), (2, .int p1), (3, .ref oa)] := hl
  obtain ⟨hr1, hr2, hr3, hr4⟩ := hrm
  refine lv_aload_n hx hb d_La_about_0 rfl (lv_at hl 3 rfl) ?_
  refine lv_iconst (v := 0) hx hb d_La_about_1 (by decide) ?_
  refine lv_aload_n hx hb d_La_about_2 rfl (lv_at hl 0 rfl) ?_
  refine lv_iload_n hx hb d_La_about_3 rfl (lv_at hl 1 rfl) ?_
  refine lv_iload_n hx hb d_La_about_4 rfl (lv_at hl 2 rfl) ?_
  refine cf_tcatch1 (q0 := 0) (ci := 1) (hs := 0) (he := 10) (hp := 13) (ct := 25) (As := [.int p0, .int p1]) (rest := [.int 0, .ref oa]) hx hb hml hown hkk (fun U hU hW => hst.moved hW.alike (fun q cell h => by rw [hU]; exact h)) htab kw_223 (by decide) (by decide) hM ce_Cf_about cv_Cf_about kw_255 (hK.sub [0, 1] rfl) (cf_tl hP) hq rfl rfl ⟨by show rm.frames + 1 ≤ 9; omega, by show 8 + (4 + 11) + rm.locals ≤ 180; omega⟩ rfl hl.1 rfl (Nat.le_of_ble_eq_true rfl) d_La_about_5 ⟨by show 0 + rm.cells ≤ 1; omega, by show 0 + rm.slots ≤ 6; omega⟩ (fun x H hkp hzp => ?_)
  have hP := cf_kept hP hkp
  have hS : va_S A s.heap H [] := cf_keptS hkp hzp
  refine lv_astore (lv' := [(4, .ref x), (0, .ref c0), (1, .int p0), (2, .int p1), (3, .ref oa)]) hx hb d_La_about_13 hl (by decide) rfl (fun ls hl => ?_)
  refine lv_iconst (v := 1) hx hb d_La_about_15 (by decide) ?_
  exact cf_iretI hx hb hr hlocks hP hS (by show _ ≤ 1; omega) (by show _ ≤ 6; omega) rfl d_La_about_16

set_option maxHeartbeats 4000000 in
set_option maxRecDepth 100000 in
theorem c_La_signature_ok (l : Launch) (D : va_G) (c0 oa : Nat) (cR cI cL : ClassId) (fo : Nat → Int64) (p0 : Int32) (ws : va_W) (fs : List Value) (hq : ws[0]? = some (c0, .inr (1, fs))) (hD0 : va_D (fun _ => True) ((oa, .inl (cL, 1, .inr (.inl fo))) :: ws)) (rm : Room) (v : Int32) (hrm : rm.cells = 0 ∧ rm.slots = 0 ∧ rm.frames ≤ 8 ∧ rm.locals ≤ 150) (hM : cf_PM l y_Cf_signature b_Cf_signature 2 (some FieldType.int) rm [.ref c0, .int p0] D ws [(cR, .object "CallFrames$Argument"), (cI, .int)] (.int v)) : cf_IW l y_La_signature b_La_signature 4 (some .int) [(0, 9, 12, 25)] cf_RW [.ref c0, .int p0, .ref oa] D ((oa, .inl (cL, 1, .inr (.inl fo))) :: ws) [(cR, .object "CallFrames$Argument"), (cI, .int), (cL, .long)] (some (.int 0)) ((oa, .inl (cL, 1, .inr (.inl (vp_updL fo 0 v.toInt64)))) :: ws) := by
  refine cf_IW_of (by decide) (Nat.le_of_ble_eq_true rfl) hD0 ?_
  intro p e s m args below meth c A hx hb hr hkk hst hnc htab hown hlocks hml hP hK hD hS hA ls hl
  have hl : lv_has ls 4 [(0, .ref c0), (1, .int p0), (2, .ref oa)] := hl
  obtain ⟨hr1, hr2, hr3, hr4⟩ := hrm
  refine lv_aload_n hx hb d_La_signature_0 rfl (lv_at hl 2 rfl) ?_
  refine lv_iconst (v := 0) hx hb d_La_signature_1 (by decide) ?_
  refine lv_aload_n hx hb d_La_signature_2 rfl (lv_at hl 0 rfl) ?_
  refine lv_iload_n hx hb d_La_signature_3 rfl (lv_at hl 1 rfl) ?_
  refine cf_pcV (q0 := 0) (ci := 1) (As := [.int p0]) (rest := [.int 0, .ref oa]) hx hb hml hown hkk hM ce_Cf_signature cv_Cf_signature kw_262 (hK.sub [0, 1] rfl) (cf_tl hP) hq rfl rfl ⟨hr1, hr2⟩ ⟨by show rm.frames + 1 ≤ 9; omega, by show 8 + (2 + 11) + rm.locals ≤ 180; omega⟩ rfl hl.1 rfl (Nat.le_of_ble_eq_true rfl) d_La_signature_4 ⟨Nat.zero_le _, Nat.zero_le _⟩ ?_
  refine lv_i2l hx hb d_La_signature_7 rfl ?_
  refine va_last hx hb hK hP hD hS 0 2 rfl rfl (vp_in_nI (n := 0) (by omega) (by omega)) d_La_signature_8 (fun H locs hP hD hS => ?_)
  have hP : va_P D cf_cl ((oa, .inl (cL, 1, .inr (.inl (vp_updL fo 0 v.toInt64)))) :: ws) H := hP
  refine lv_goto (tgt := 15) hx hb d_La_signature_9 (by decide) ?_
  refine lv_iconst (v := 0) hx hb d_La_signature_15 (by decide) ?_
  exact cf_iretI hx hb hr hlocks hP hS (by show _ ≤ 1; omega) (by show _ ≤ 6; omega) rfl d_La_signature_16

set_option maxHeartbeats 4000000 in
set_option maxRecDepth 100000 in
theorem c_La_signature_no (l : Launch) (D : va_G) (c0 oa : Nat) (cR cI cL : ClassId) (fo : Nat → Int64) (p0 : Int32) (ws : va_W) (fs : List Value) (hq : ws[0]? = some (c0, .inr (1, fs))) (hD0 : va_D (fun _ => True) ((oa, .inl (cL, 1, .inr (.inl fo))) :: ws)) (rm : Room) (hrm : rm.cells ≤ 1 ∧ rm.slots ≤ 6 ∧ rm.frames ≤ 8 ∧ rm.locals ≤ 150) (hM : cf_TM l y_Cf_signature b_Cf_signature 2 (some FieldType.int) rm [.ref c0, .int p0] D ws [(cR, .object "CallFrames$Argument"), (cI, .int)] cf_IOB) : cf_IW l y_La_signature b_La_signature 4 (some .int) [(0, 9, 12, 25)] cf_RW [.ref c0, .int p0, .ref oa] D ((oa, .inl (cL, 1, .inr (.inl fo))) :: ws) [(cR, .object "CallFrames$Argument"), (cI, .int), (cL, .long)] (some (.int 1)) ((oa, .inl (cL, 1, .inr (.inl fo))) :: ws) := by
  refine cf_IW_of (by decide) (Nat.le_of_ble_eq_true rfl) hD0 ?_
  intro p e s m args below meth c A hx hb hr hkk hst hnc htab hown hlocks hml hP hK hD hS hA ls hl
  have hl : lv_has ls 4 [(0, .ref c0), (1, .int p0), (2, .ref oa)] := hl
  obtain ⟨hr1, hr2, hr3, hr4⟩ := hrm
  refine lv_aload_n hx hb d_La_signature_0 rfl (lv_at hl 2 rfl) ?_
  refine lv_iconst (v := 0) hx hb d_La_signature_1 (by decide) ?_
  refine lv_aload_n hx hb d_La_signature_2 rfl (lv_at hl 0 rfl) ?_
  refine lv_iload_n hx hb d_La_signature_3 rfl (lv_at hl 1 rfl) ?_
  refine cf_tcatch1 (q0 := 0) (ci := 1) (hs := 0) (he := 9) (hp := 12) (ct := 25) (As := [.int p0]) (rest := [.int 0, .ref oa]) hx hb hml hown hkk (fun U hU hW => hst.moved hW.alike (fun q cell h => by rw [hU]; exact h)) htab kw_223 (by decide) (by decide) hM ce_Cf_signature cv_Cf_signature kw_262 (hK.sub [0, 1] rfl) (cf_tl hP) hq rfl rfl ⟨by show rm.frames + 1 ≤ 9; omega, by show 8 + (2 + 11) + rm.locals ≤ 180; omega⟩ rfl hl.1 rfl (Nat.le_of_ble_eq_true rfl) d_La_signature_4 ⟨by show 0 + rm.cells ≤ 1; omega, by show 0 + rm.slots ≤ 6; omega⟩ (fun x H hkp hzp => ?_)
  have hP := cf_kept hP hkp
  have hS : va_S A s.heap H [] := cf_keptS hkp hzp
  refine lv_astore_n (lv' := [(3, .ref x), (0, .ref c0), (1, .int p0), (2, .ref oa)]) hx hb d_La_signature_12 rfl hl (by decide) rfl (fun ls hl => ?_)
  refine lv_iconst (v := 1) hx hb d_La_signature_13 (by decide) ?_
  exact cf_iretI hx hb hr hlocks hP hS (by show _ ≤ 1; omega) (by show _ ≤ 6; omega) rfl d_La_signature_14

set_option maxHeartbeats 4000000 in
set_option maxRecDepth 100000 in
theorem c_La_frame_ok (l : Launch) (D : va_G) (c0 oa : Nat) (cR cI cL : ClassId) (fo : Nat → Int64) (p0 p1 p2 : Int32) (ws : va_W) (fs : List Value) (hq : ws[0]? = some (c0, .inr (1, fs))) (hD0 : va_D (fun _ => True) ((oa, .inl (cL, 1, .inr (.inl fo))) :: ws)) (rm : Room) (v : Int32) (ws' : va_W) (hadr : ws'.map (fun q => q.1) = ws.map (fun q => q.1)) (hrm : rm.cells = 0 ∧ rm.slots = 0 ∧ rm.frames ≤ 8 ∧ rm.locals ≤ 150) (hM : cf_IM l y_Cf_frame b_Cf_frame 8 (some FieldType.int) rm [.ref c0, .int p0, .int p1, .int p2] D ws [(cR, .object "CallFrames$Argument"), (cI, .int)] (some (.int v)) ws') : cf_IW l y_La_frame b_La_frame 6 (some .int) [(0, 12, 15, 13)] cf_RW [.ref c0, .int p0, .int p1, .int p2, .ref oa] D ((oa, .inl (cL, 1, .inr (.inl fo))) :: ws) [(cR, .object "CallFrames$Argument"), (cI, .int), (cL, .long)] (some (.int 0)) ((oa, .inl (cL, 1, .inr (.inl (vp_updL fo 0 v.toInt64)))) :: ws') := by
  refine cf_IW_of (by decide) (Nat.le_of_ble_eq_true rfl) hD0 ?_
  intro p e s m args below meth c A hx hb hr hkk hst hnc htab hown hlocks hml hP hK hD hS hA ls hl
  have hl : lv_has ls 6 [(0, .ref c0), (1, .int p0), (2, .int p1), (3, .int p2), (4, .ref oa)] := hl
  obtain ⟨hr1, hr2, hr3, hr4⟩ := hrm
  refine lv_aload hx hb d_La_frame_0 (lv_at hl 4 rfl) ?_
  refine lv_iconst (v := 0) hx hb d_La_frame_2 (by decide) ?_
  refine lv_aload_n hx hb d_La_frame_3 rfl (lv_at hl 0 rfl) ?_
  refine lv_iload_n hx hb d_La_frame_4 rfl (lv_at hl 1 rfl) ?_
  refine lv_iload_n hx hb d_La_frame_5 rfl (lv_at hl 2 rfl) ?_
  refine lv_iload_n hx hb d_La_frame_6 rfl (lv_at hl 3 rfl) ?_
  refine cf_icV (q0 := 0) (ci := 1) (As := [.int p0, .int p1, .int p2]) (rest := [.int 0, .ref oa]) hx hb hml hown hkk hM ce_Cf_frame cv_Cf_frame kw_269 (hK.sub [0, 1] rfl) (cf_tl hP) hq rfl rfl hS (cf_tlA hD hS hA) ⟨by show rm.frames + 1 ≤ 9; omega, by show 8 + (8 + 11) + rm.locals ≤ 180; omega⟩ rfl hl.1 rfl (Nat.le_of_ble_eq_true rfl) d_La_frame_7 ⟨by show 0 + rm.cells ≤ 1; omega, by show 0 + rm.slots ≤ 6; omega⟩ (fun H locs hP1 hzI hkI hS => ?_)
  have hP : va_P D cf_cl ((oa, .inl (cL, 1, .inr (.inl fo))) :: ws') H := cf_cons (cf_keptO hP hD hkI) hP1
  have hD : va_D A ((oa, .inl (cL, 1, .inr (.inl fo))) :: ws') := cf_Dm hD (by simp [hadr])
  refine lv_i2l hx hb d_La_frame_10 rfl ?_
  refine va_last hx hb hK hP hD hS 0 2 rfl rfl (vp_in_nI (n := 0) (by omega) (by omega)) d_La_frame_11 (fun H locs hP hD hS => ?_)
  have hP : va_P D cf_cl ((oa, .inl (cL, 1, .inr (.inl (vp_updL fo 0 v.toInt64)))) :: ws') H := hP
  refine lv_goto (tgt := 19) hx hb d_La_frame_12 (by decide) ?_
  refine lv_iconst (v := 0) hx hb d_La_frame_19 (by decide) ?_
  exact cf_iretI hx hb hr hlocks hP hS (by show _ ≤ 1; omega) (by show _ ≤ 6; omega) rfl d_La_frame_20

set_option maxHeartbeats 4000000 in
set_option maxRecDepth 100000 in
theorem c_La_frame_no (l : Launch) (D : va_G) (c0 oa : Nat) (cR cI cL : ClassId) (fo : Nat → Int64) (p0 p1 p2 : Int32) (ws : va_W) (fs : List Value) (hq : ws[0]? = some (c0, .inr (1, fs))) (hD0 : va_D (fun _ => True) ((oa, .inl (cL, 1, .inr (.inl fo))) :: ws)) (rm : Room) (hrm : rm.cells ≤ 1 ∧ rm.slots ≤ 6 ∧ rm.frames ≤ 8 ∧ rm.locals ≤ 150) (hM : cf_TM l y_Cf_frame b_Cf_frame 8 (some FieldType.int) rm [.ref c0, .int p0, .int p1, .int p2] D ws [(cR, .object "CallFrames$Argument"), (cI, .int)] cf_IAE) : cf_IW l y_La_frame b_La_frame 6 (some .int) [(0, 12, 15, 13)] cf_RW [.ref c0, .int p0, .int p1, .int p2, .ref oa] D ((oa, .inl (cL, 1, .inr (.inl fo))) :: ws) [(cR, .object "CallFrames$Argument"), (cI, .int), (cL, .long)] (some (.int 1)) ((oa, .inl (cL, 1, .inr (.inl fo))) :: ws) := by
  refine cf_IW_of (by decide) (Nat.le_of_ble_eq_true rfl) hD0 ?_
  intro p e s m args below meth c A hx hb hr hkk hst hnc htab hown hlocks hml hP hK hD hS hA ls hl
  have hl : lv_has ls 6 [(0, .ref c0), (1, .int p0), (2, .int p1), (3, .int p2), (4, .ref oa)] := hl
  obtain ⟨hr1, hr2, hr3, hr4⟩ := hrm
  refine lv_aload hx hb d_La_frame_0 (lv_at hl 4 rfl) ?_
  refine lv_iconst (v := 0) hx hb d_La_frame_2 (by decide) ?_
  refine lv_aload_n hx hb d_La_frame_3 rfl (lv_at hl 0 rfl) ?_
  refine lv_iload_n hx hb d_La_frame_4 rfl (lv_at hl 1 rfl) ?_
  refine lv_iload_n hx hb d_La_frame_5 rfl (lv_at hl 2 rfl) ?_
  refine lv_iload_n hx hb d_La_frame_6 rfl (lv_at hl 3 rfl) ?_
  refine cf_tcatch1 (q0 := 0) (ci := 1) (hs := 0) (he := 12) (hp := 15) (ct := 13) (As := [.int p0, .int p1, .int p2]) (rest := [.int 0, .ref oa]) hx hb hml hown hkk (fun U hU hW => hst.moved hW.alike (fun q cell h => by rw [hU]; exact h)) htab kw_120 (by decide) (by decide) hM ce_Cf_frame cv_Cf_frame kw_269 (hK.sub [0, 1] rfl) (cf_tl hP) hq rfl rfl ⟨by show rm.frames + 1 ≤ 9; omega, by show 8 + (8 + 11) + rm.locals ≤ 180; omega⟩ rfl hl.1 rfl (Nat.le_of_ble_eq_true rfl) d_La_frame_7 ⟨by show 0 + rm.cells ≤ 1; omega, by show 0 + rm.slots ≤ 6; omega⟩ (fun x H hkp hzp => ?_)
  have hP := cf_kept hP hkp
  have hS : va_S A s.heap H [] := cf_keptS hkp hzp
  refine lv_astore (lv' := [(5, .ref x), (0, .ref c0), (1, .int p0), (2, .int p1), (3, .int p2), (4, .ref oa)]) hx hb d_La_frame_15 hl (by decide) rfl (fun ls hl => ?_)
  refine lv_iconst (v := 1) hx hb d_La_frame_17 (by decide) ?_
  exact cf_iretI hx hb hr hlocks hP hS (by show _ ≤ 1; omega) (by show _ ≤ 6; omega) rfl d_La_frame_18

set_option maxHeartbeats 4000000 in
set_option maxRecDepth 100000 in
theorem c_La_place_ok (l : Launch) (D : va_G) (c0 oa : Nat) (cR cI cL : ClassId) (fo : Nat → Int64) (p0 p1 : Int32) (ws : va_W) (fs : List Value) (hq : ws[0]? = some (c0, .inr (1, fs))) (hD0 : va_D (fun _ => True) ((oa, .inl (cL, 1, .inr (.inl fo))) :: ws)) (rm : Room) (v : Int32) (hrm : rm.cells = 0 ∧ rm.slots = 0 ∧ rm.frames ≤ 8 ∧ rm.locals ≤ 150) (hM : cf_PM l y_Cf_place b_Cf_place 3 (some FieldType.int) rm [.ref c0, .int p0, .int p1] D ws [(cR, .object "CallFrames$Argument"), (cI, .int)] (.int v)) : cf_IW l y_La_place b_La_place 5 (some .int) [(0, 10, 13, 25)] cf_RW [.ref c0, .int p0, .int p1, .ref oa] D ((oa, .inl (cL, 1, .inr (.inl fo))) :: ws) [(cR, .object "CallFrames$Argument"), (cI, .int), (cL, .long)] (some (.int 0)) ((oa, .inl (cL, 1, .inr (.inl (vp_updL fo 0 v.toInt64)))) :: ws) := by
  refine cf_IW_of (by decide) (Nat.le_of_ble_eq_true rfl) hD0 ?_
  intro p e s m args below meth c A hx hb hr hkk hst hnc htab hown hlocks hml hP hK hD hS hA ls hl
  have hl : lv_has ls 5 [(0, .ref c0), (1, .int p0), (2, .int p1), (3, .ref oa)] := hl
  obtain ⟨hr1, hr2, hr3, hr4⟩ := hrm
  refine lv_aload_n hx hb d_La_place_0 rfl (lv_at hl 3 rfl) ?_
  refine lv_iconst (v := 0) hx hb d_La_place_1 (by decide) ?_
  refine lv_aload_n hx hb d_La_place_2 rfl (lv_at hl 0 rfl) ?_
  refine lv_iload_n hx hb d_La_place_3 rfl (lv_at hl 1 rfl) ?_
  refine lv_iload_n hx hb d_La_place_4 rfl (lv_at hl 2 rfl) ?_
  refine cf_pcV (q0 := 0) (ci := 1) (As := [.int p0, .int p1]) (rest := [.int 0, .ref oa]) hx hb hml hown hkk hM ce_Cf_place cv_Cf_place kw_279 (hK.sub [0, 1] rfl) (cf_tl hP) hq rfl rfl ⟨hr1, hr2⟩ ⟨by show rm.frames + 1 ≤ 9; omega, by show 8 + (3 + 11) + rm.locals ≤ 180; omega⟩ rfl hl.1 rfl (Nat.le_of_ble_eq_true rfl) d_La_place_5 ⟨Nat.zero_le _, Nat.zero_le _⟩ ?_
  refine lv_i2l hx hb d_La_place_8 rfl ?_
  refine va_last hx hb hK hP hD hS 0 2 rfl rfl (vp_in_nI (n := 0) (by omega) (by omega)) d_La_place_9 (fun H locs hP hD hS => ?_)
  have hP : va_P D cf_cl ((oa, .inl (cL, 1, .inr (.inl (vp_updL fo 0 v.toInt64)))) :: ws) H := hP
  refine lv_goto (tgt := 17) hx hb d_La_place_10 (by decide) ?_
  refine lv_iconst (v := 0) hx hb d_La_place_17 (by decide) ?_
  exact cf_iretI hx hb hr hlocks hP hS (by show _ ≤ 1; omega) (by show _ ≤ 6; omega) rfl d_La_place_18

set_option maxHeartbeats 4000000 in
set_option maxRecDepth 100000 in
theorem c_La_place_no (l : Launch) (D : va_G) (c0 oa : Nat) (cR cI cL : ClassId) (fo : Nat → Int64) (p0 p1 : Int32) (ws : va_W) (fs : List Value) (hq : ws[0]? = some (c0, .inr (1, fs))) (hD0 : va_D (fun _ => True) ((oa, .inl (cL, 1, .inr (.inl fo))) :: ws)) (rm : Room) (hrm : rm.cells ≤ 1 ∧ rm.slots ≤ 6 ∧ rm.frames ≤ 8 ∧ rm.locals ≤ 150) (hM : cf_TM l y_Cf_place b_Cf_place 3 (some FieldType.int) rm [.ref c0, .int p0, .int p1] D ws [(cR, .object "CallFrames$Argument"), (cI, .int)] cf_IOB) : cf_IW l y_La_place b_La_place 5 (some .int) [(0, 10, 13, 25)] cf_RW [.ref c0, .int p0, .int p1, .ref oa] D ((oa, .inl (cL, 1, .inr (.inl fo))) :: ws) [(cR, .object "CallFrames$Argument"), (cI, .int), (cL, .long)] (some (.int 1)) ((oa, .inl (cL, 1, .inr (.inl fo))) :: ws) := by
  refine cf_IW_of (by decide) (Nat.le_of_ble_eq_true rfl) hD0 ?_
  intro p e s m args below meth c A hx hb hr hkk hst hnc htab hown hlocks hml hP hK hD hS hA ls hl
  have hl : lv_has ls 5 [(0, .ref c0), (1, .int p0), (2, .int p1), (3, .ref oa)] := hl
  obtain ⟨hr1, hr2, hr3, hr4⟩ := hrm
  refine lv_aload_n hx hb d_La_place_0 rfl (lv_at hl 3 rfl) ?_
  refine lv_iconst (v := 0) hx hb d_La_place_1 (by decide) ?_
  refine lv_aload_n hx hb d_La_place_2 rfl (lv_at hl 0 rfl) ?_
  refine lv_iload_n hx hb d_La_place_3 rfl (lv_at hl 1 rfl) ?_
  refine lv_iload_n hx hb d_La_place_4 rfl (lv_at hl 2 rfl) ?_
  refine cf_tcatch1 (q0 := 0) (ci := 1) (hs := 0) (he := 10) (hp := 13) (ct := 25) (As := [.int p0, .int p1]) (rest := [.int 0, .ref oa]) hx hb hml hown hkk (fun U hU hW => hst.moved hW.alike (fun q cell h => by rw [hU]; exact h)) htab kw_223 (by decide) (by decide) hM ce_Cf_place cv_Cf_place kw_279 (hK.sub [0, 1] rfl) (cf_tl hP) hq rfl rfl ⟨by show rm.frames + 1 ≤ 9; omega, by show 8 + (3 + 11) + rm.locals ≤ 180; omega⟩ rfl hl.1 rfl (Nat.le_of_ble_eq_true rfl) d_La_place_5 ⟨by show 0 + rm.cells ≤ 1; omega, by show 0 + rm.slots ≤ 6; omega⟩ (fun x H hkp hzp => ?_)
  have hP := cf_kept hP hkp
  have hS : va_S A s.heap H [] := cf_keptS hkp hzp
  refine lv_astore (lv' := [(4, .ref x), (0, .ref c0), (1, .int p0), (2, .int p1), (3, .ref oa)]) hx hb d_La_place_13 hl (by decide) rfl (fun ls hl => ?_)
  refine lv_iconst (v := 1) hx hb d_La_place_15 (by decide) ?_
  exact cf_iretI hx hb hr hlocks hP hS (by show _ ≤ 1; omega) (by show _ ≤ 6; omega) rfl d_La_place_16
end
section
/-! ROWS FOR THE LAW: worlds of two halves, the script by a Nat index, what the invariant needs -/
theorem cf_lft {D : va_G} {w1 w2 : va_W} {H : Heap} (h : va_P D cf_cl (w1 ++ w2) H) : va_P D cf_cl w1 H := fun k q hk => h k q (by rw [List.getElem?_append_left (List.getElem?_eq_some_iff.mp hk).1]; exact hk)
theorem cf_rgt {D : va_G} {w1 w2 : va_W} {H : Heap} (h : va_P D cf_cl (w1 ++ w2) H) : va_P D cf_cl w2 H := fun k q hk => h (w1.length + k) q (by rw [List.getElem?_append_right (Nat.le_add_right _ _), Nat.add_sub_cancel_left]; exact hk)
theorem cf_lftD {A : Nat → Prop} {w1 w2 : va_W} (h : va_D A (w1 ++ w2)) : va_D A w1 := by
  have key : ∀ (k : Nat) (q : Nat × va_E), w1[k]? = some q → (w1 ++ w2)[k]? = some q := fun k q hk => by rw [List.getElem?_append_left (List.getElem?_eq_some_iff.mp hk).1]; exact hk
  exact ⟨fun i j x y hx hy e => h.1 i j x y (key i x hx) (key j y hy) e, fun k q hk => h.2 k q (key k q hk)⟩
theorem cf_rgtD {A : Nat → Prop} {w1 w2 : va_W} (h : va_D A (w1 ++ w2)) : va_D A w2 := by
  have key : ∀ (k : Nat) (q : Nat × va_E), w2[k]? = some q → (w1 ++ w2)[w1.length + k]? = some q := fun k q hk => by rw [List.getElem?_append_right (Nat.le_add_right _ _), Nat.add_sub_cancel_left]; exact hk
  exact ⟨fun i j x y hx hy e => by have := h.1 _ _ x y (key i x hx) (key j y hy) e; omega, fun k q hk => h.2 _ q (key k q hk)⟩
theorem cf_apt {A : Nat → Prop} {w1 w2 : va_W} (h : va_D A (w1 ++ w2)) {i j : Nat} {x y : Nat × va_E} (hx : w1[i]? = some x) (hy : w2[j]? = some y) : x.1 ≠ y.1 := fun e => by
  have hi := (List.getElem?_eq_some_iff.mp hx).1
  have := h.1 i (w1.length + j) x y (by rw [List.getElem?_append_left hi]; exact hx) (by rw [List.getElem?_append_right (Nat.le_add_right _ _), Nat.add_sub_cancel_left]; exact hy) e
  omega
theorem cf_updR {D : va_G} {A : Nat → Prop} {w1 w2 w2' : va_W} {H H1 : Heap} (hP : va_P D cf_cl (w1 ++ w2) H) (hD : va_D A (w1 ++ w2)) (h2 : va_P D cf_cl w2' H1) (hk : ∀ q : Nat, q < H.size → ¬ va_A w2 H.size q → H1[q]? = H[q]?) : va_P D cf_cl (w1 ++ w2') H1 := by
  refine va_P.app ((cf_lft hP).kept (fun k q hq => ?_)) h2
  have hlt := (cf_lft hP k q hq).lt
  refine hk q.1 hlt ?_
  rintro (⟨j, x, hx⟩ | h)
  · exact cf_apt hD hq hx rfl
  · omega
theorem cf_updL {D : va_G} {A : Nat → Prop} {w1 w2 w1' : va_W} {H H1 : Heap} (hP : va_P D cf_cl (w1 ++ w2) H) (hD : va_D A (w1 ++ w2)) (h1 : va_P D cf_cl w1' H1) (hk : ∀ q : Nat, q < H.size → ¬ va_A w1 H.size q → H1[q]? = H[q]?) : va_P D cf_cl (w1' ++ w2) H1 := by
  refine va_P.app h1 ((cf_rgt hP).kept (fun k q hq => ?_))
  have hlt := (cf_rgt hP k q hq).lt
  refine hk q.1 hlt ?_
  rintro (⟨j, x, hx⟩ | h)
  · exact cf_apt hD hx hq rfl
  · omega
theorem cf_lftA {A : Nat → Prop} {w1 w2 : va_W} {H0 H : Heap} {locs : List Loc} (hD : va_D A (w1 ++ w2)) (hS : va_S A H0 H locs) (hA : ∀ q, H0.size ≤ q → A q) : ∀ q, va_A w1 H.size q → A q := cf_freeC (cf_lftD hD) hS hA
theorem cf_rgtA {A : Nat → Prop} {w1 w2 : va_W} {H0 H : Heap} {locs : List Loc} (hD : va_D A (w1 ++ w2)) (hS : va_S A H0 H locs) (hA : ∀ q, H0.size ≤ q → A q) : ∀ q, va_A w2 H.size q → A q := cf_freeC (cf_rgtD hD) hS hA
theorem cf_t0 {A : Nat → Prop} {ws : va_W} (h : va_D A ws) : va_D (fun _ => True) ws := h.weaken (fun _ _ _ _ => trivial)
theorem cf_stS {s : State} {H : Heap} {locs : List Loc} (hst : cf_ST s) (hnc : cf_NC s) (hS : va_S (fun q : Nat => s.heap.size ≤ q) s.heap H locs) : ∀ U : State, U.heap = H → s.WarmedH U.vm → cf_ST U ∧ cf_NC U := fun U hU hW =>
  ⟨hst.moved hW.alike (fun q cell h => by
    have hlt := (Array.getElem?_eq_some_iff.mp h).1
    rw [hU, hS.2.1 q hlt (Nat.not_le.mpr hlt)]
    exact h), hnc.moved hW.alike⟩
section CFLL
variable {p : Program} {l : Launch} {e : Env} {R : Room} {s : State} {m : MethodId} {args : Array Value} {below : List Frame} {meth : Method} {c : Code} {H H0 : Heap} {locs : List Loc} {cells slots : Nat} {Q : State → Prop}
variable {cc : ByteArray} {pc : Nat} {ls : Array Slot} {rest : List Value} {D : va_G} {A : Nat → Prop}
theorem cf_sld (hexec : p.tables.exec = Jvm.exec) (hb : c.code = cc) {b L : Nat} {xs : Nat → Int32} (hX : va_X b L xs s H0) (hbl : b < H0.size) (hbA : ¬ A b) (hS : va_S A H0 H locs) {k : Nat} {v : Int32} (hv : xs k = v) (hk : k < L) (hL : L ≤ 2560) (hdg : decode cc pc = .ok (.iaload, 1))
    (kk : W p l e R s m args below meth c H locs cells slots Q (F0 m (pc + 1) ls (.int v :: rest))) : W p l e R s m args below meth c H locs cells slots Q (F0 m pc ls (.int (nI k) :: .ref b :: rest)) := by
  refine va_sld hexec hb hX hbl hbA hS (vp_in_nI hk (by omega)) hdg ?_
  rw [nI_clamp (by omega), hv]
  exact kk
theorem cf_lald0 {tys : List (ClassId × FieldType)} {ws : va_W} (hexec : p.tables.exec = Jvm.exec) (hb : c.code = cc) (hK : va_K D cf_cl tys s) (hP : va_P D cf_cl ws H) (q0 t0 : Nat) {a : Nat} {cA : ClassId} {fo : Nat → Int64} {v : Int64} (ha : ws[q0]? = some (a, .inl (cA, 1, .inr (.inl (vp_updL fo 0 v))))) (ht : tys[t0]? = some (cA, .long)) (hdg : decode cc pc = .ok (.laload, 1))
    (kk : W p l e R s m args below meth c H locs cells slots Q (F0 m (pc + 1) ls (.long v :: rest))) : W p l e R s m args below meth c H locs cells slots Q (F0 m pc ls (.int 0 :: .ref a :: rest)) := by
  refine va_lald hexec hb hK hP q0 t0 ha ht (vp_in_nI (n := 0) (by omega) (by omega)) hdg ?_
  rw [show (Int32.toNatClampNeg 0) = 0 from rfl, pk_uLs]
  exact kk
/-- out of a constructor's run -/
theorem cf_backG {mc ms : Nat} {st0 : List Value} {Qa : State → Outcome → State → Prop} {free : Addr → Prop} (hr : va_Run p l e R s m args below meth c H locs cells slots mc ms (F0 m pc ls st0) rest Qa free) (hS : va_S A H0 H locs) (hf : ∀ q, free q → A q) (hv : ∀ st v t, Qa st (.returned v) t → v = none ∧ va_F free st t)
    (kk : ∀ (st t : State) (locs1 : List Loc), st.heap = H → s.vm.Alike t.vm → Qa st (.returned none) t → va_S A H0 t.heap locs1 → (∀ q : Nat, q < H.size → ¬ free q → t.heap[q]? = H[q]?) → W p l e R s m args below meth c t.heap locs1 (cells + mc) (slots + ms) Q (F0 m (pc + 3) ls rest)) : W p l e R s m args below meth c H locs cells slots Q (F0 m pc ls st0) := by
  intro T hT X
  obtain ⟨v, st₀, t, T', L, h0, X', hL, e1, e2, hq, st⟩ := hr T hT X
  obtain ⟨hv1, hF⟩ := hv _ _ _ hq
  subst hv1
  have hal : s.vm.Alike t.vm := by rw [← e2]; exact X'.warmed.alike
  obtain ⟨hz, hk⟩ := hF
  rw [h0] at hz hk
  obtain ⟨t2, a1, b1⟩ := kk st₀ t (locs ++ L) h0 hal hq ⟨Nat.le_trans hS.1 hz, fun q h1 h2 => (hk q (Nat.lt_of_lt_of_le h1 hS.1) (fun h3 => h2 (hf q h3))).trans (hS.2.1 q h1 h2), fun q hq' => by
    rcases List.mem_append.mp hq' with h | h
    · exact hS.2.2 q h
    · exact hf _ (hL q h)⟩ hk T' e1 X'
  exact ⟨t2, st t2 a1, b1⟩
end CFLL
theorem p_cmp {x y : Int64} (h : x = y) : lg_cmp x y = 0 := by
  subst h
  unfold lg_cmp
  rw [if_neg (fun q => by
    have := Int64.lt_iff_toInt_lt.mp q
    omega), if_pos rfl]
theorem p_r5 {x : Int32} (h0 : ¬ x < 0) (h4 : ¬ 4 < x) : x = 0 ∨ x = 1 ∨ x = 2 ∨ x = 3 ∨ x = 4 := by
  obtain ⟨j, hj, rfl⟩ := nI_of2 (x := x) (M := 4) (n := 4) rfl h0 (Int32.not_lt.mp h4)
  rcases (show j = 0 ∨ j = 1 ∨ j = 2 ∨ j = 3 ∨ j = 4 by omega) with rfl | rfl | rfl | rfl | rfl
  · exact Or.inl rfl
  · exact Or.inr (Or.inl rfl)
  · exact Or.inr (Or.inr (Or.inl rfl))
  · exact Or.inr (Or.inr (Or.inr (Or.inl rfl)))
  · exact Or.inr (Or.inr (Or.inr (Or.inr rfl)))
theorem p_tri {x r : Int32} {n : Nat} (hn : n ≤ 60) : (¬ ((¬ x < 0 ∧ x < nI n) ∨ (x = -1 ∧ r = 3))) ∨ (x = -1 ∧ r = 3) ∨ ∃ q, q < n ∧ x = nI q := by
  by_cases h1 : ¬ x < 0 ∧ x < nI n
  · obtain ⟨q, hq, rfl⟩ := nI_of h1.1
    exact Or.inr (Or.inr ⟨q, (nI_ltI hq (by omega)).mp h1.2, rfl⟩)
  · by_cases h2 : x = -1 ∧ r = 3
    · exact Or.inr (Or.inl h2)
    · exact Or.inl (fun h => h.elim h1 h2)
theorem p_k1 {k : Int32} (h : ¬ (k < 0 ∨ ¬ k < 1)) : k = 0 := by
  have h1 : ¬ k < 0 := fun q => h (Or.inl q)
  have h2 : k < 1 := by
    by_cases q : k < 1
    · exact q
    · exact absurd (Or.inr q) h
  obtain ⟨j, hj, rfl⟩ := nI_of h1
  have := (nI_ltI (b := 1) hj (by omega)).mp h2
  rw [show j = 0 by omega]
  rfl
theorem p_kw {k : Int32} {n : Nat} (hn : n < 2 ^ 31) (h : ¬ (k < 0 ∨ ¬ k < nI n)) : ∃ w, w < n ∧ k = nI w := by
  have h1 : ¬ k < 0 := fun q => h (Or.inl q)
  have h2 : k < nI n := by
    by_cases q : k < nI n
    · exact q
    · exact absurd (Or.inr q) h
  obtain ⟨j, hj, rfl⟩ := nI_of h1
  exact ⟨j, (nI_ltI hj hn).mp h2, rfl⟩
theorem p_w2 {w : Int32} (h : ¬ (w < 0 ∨ ¬ w ≤ 2)) : ¬ w < 0 ∧ w ≤ 2 := ⟨fun q => h (Or.inl q), by
  by_cases q : w ≤ 2
  · exact q
  · exact absurd (Or.inr q) h⟩
theorem p_s3 {w : Int32} (h : ¬ (w < 0 ∨ ¬ w ≤ 3)) : w = 0 ∨ w = 1 ∨ w = 2 ∨ w = 3 := by
  have h2 : w ≤ 3 := by
    by_cases q : w ≤ 3
    · exact q
    · exact absurd (Or.inr q) h
  obtain ⟨j, hj, rfl⟩ := nI_of2 (x := w) (M := 3) (n := 3) rfl (fun q => h (Or.inl q)) h2
  rcases (show j = 0 ∨ j = 1 ∨ j = 2 ∨ j = 3 by omega) with rfl | rfl | rfl | rfl
  · exact Or.inl rfl
  · exact Or.inr (Or.inl rfl)
  · exact Or.inr (Or.inr (Or.inl rfl))
  · exact Or.inr (Or.inr (Or.inr rfl))
theorem p_31 {x : Int32} : ¬ x ≤ 31 ↔ ¬ x < 32 := by
  rw [Int32.le_iff_toInt_le, Int32.lt_iff_toInt_lt]
  have e1 : (31 : Int32).toInt = 31 := rfl
  have e2 : (32 : Int32).toInt = 32 := rfl
  rw [e1, e2]
  omega
theorem p_pl4 {w x : Int32} (h : ¬ (w < 0 ∨ 2 < w ∨ x < 0 ∨ ¬ x < 32)) : ¬ w < 0 ∧ ¬ 2 < w ∧ ∃ k, k < 32 ∧ x = nI k := by
  have h1 : ¬ x < 0 := fun q => h (Or.inr (Or.inr (Or.inl q)))
  have h2 : x < nI 32 := by
    by_cases q : x < 32
    · exact q
    · exact absurd (Or.inr (Or.inr (Or.inr q))) h
  obtain ⟨j, hj, rfl⟩ := nI_of h1
  exact ⟨fun q => h (Or.inl q), fun q => h (Or.inr (Or.inl q)), j, (nI_ltI hj (by omega)).mp h2, rfl⟩
theorem p_frk {lo gm fm : Int32} (h : p_frok lo gm fm) : ∃ lb, lb ≤ 1000000 ∧ lo = nI lb := by
  obtain ⟨j, hj, rfl⟩ := nI_of2 (x := lo) (M := 1000000) (n := 1000000) rfl h.1 (Int32.not_lt.mp h.2.1)
  exact ⟨j, hj, rfl⟩
theorem p_at0 (r : Int32) (kd sz al : Nat → Int32) : p_at r kd sz al 0 ≤ 1000000 := by
  show (if r = 3 then 4 else 0) ≤ 1000000
  split <;> omega
theorem p_ifc {P Q : Prop} {α : Type} {h1 : Decidable P} {h2 : Decidable Q} (h : P ↔ Q) (a b : α) : @ite α P h1 a b = @ite α Q h2 a b := by
  by_cases hp : P
  · rw [if_pos hp, if_pos (h.mp hp)]
  · rw [if_neg hp, if_neg (fun q => hp (h.mpr q))]
theorem p_arg_congr {r op : Int32} {kd sz al kd' sz' al' : Nat → Int32} {n : Nat} (h : ∀ i, i < n → kd i = kd' i ∧ sz i = sz' i ∧ al i = al' i) {i : Nat} (hi : i < n) : p_arg r op kd sz al i = p_arg r op kd' sz' al' i := by
  obtain ⟨h1, h2, h3⟩ := h i hi
  obtain ⟨h01, -, -⟩ := h 0 (by omega)
  have hF : p_fra r op kd i ↔ p_fra r op kd' i := by unfold p_fra; rw [h1, h01]
  refine Prod.ext h1 (Prod.ext ?_ (Prod.ext ?_ (Prod.ext (p_ifc hF _ _) (p_ifc hF _ _))))
  · show nI _ = nI _
    rw [p_h_congr h hi]
  · show nI (p_b (kd i) (sz i)) = nI (p_b (kd' i) (sz' i))
    rw [h1, h2]
theorem p_upd3 (kd sz al : Nat → Int32) (n : Nat) (k s a : Int32) : ∀ i, i < n → kd i = upd kd n k i ∧ sz i = upd sz n s i ∧ al i = upd al n a i := fun i hi => ⟨(pk_un (by omega)).symm, (pk_un (by omega)).symm, (pk_un (by omega)).symm⟩
theorem p_arg_n (r op : Int32) (kd sz al : Nat → Int32) (n : Nat) (k s a : Int32) : p_arg r op (upd kd n k) (upd sz n s) (upd al n a) n = (k, nI (p_nh (p_at r kd sz al n) k a), nI (p_b k s), (if p_fra r op (upd kd n k) n then nI (12 + 2 * n) else -1), (if p_fra r op (upd kd n k) n then 1 else 0)) := by
  refine Prod.ext pk_us (Prod.ext ?_ (Prod.ext ?_ rfl))
  · show nI _ = nI _
    rw [p_upd_h]
  · show nI (p_b (upd kd n k n) (upd sz n s n)) = nI (p_b k s)
    rw [pk_us, pk_us]
theorem p_okS {kd sz : Nat → Int32} {n : Nat} (h : ∀ i, i < n → p_ok (kd i) (sz i)) {k s : Int32} (hs : p_ok k s) : ∀ i, i < n + 1 → p_ok (upd kd n k i) (upd sz n s i) := fun i hi => by
  by_cases h1 : i = n
  · subst h1; rw [pk_us, pk_us]; exact hs
  · rw [pk_un h1, pk_un h1]; exact h i (by omega)
theorem p_area8 (r : Int32) (kd sz al : Nat → Int32) (n : Nat) : p_area r kd sz al n % 8 = 0 := by
  have := p_ub8 (p_at r kd sz al n)
  unfold p_area p_ar
  split <;> omega
theorem p_area_b {r : Int32} {kd sz al : Nat → Int32} {n : Nat} (h : p_at r kd sz al n ≤ 1000000) : p_area r kd sz al n ≤ 1000000 := p_ar_b h
theorem p_mx8 {g a : Nat} (h1 : g % 8 = 0) (h2 : a % 8 = 0) : p_mx g a % 8 = 0 := by unfold p_mx; split <;> assumption
theorem p_mx_b {g a : Nat} (h1 : g ≤ 1000000) (h2 : a ≤ 1000000) : p_mx g a ≤ 1000000 := by unfold p_mx; split <;> assumption
theorem p_z0 (j : Nat) (hj : j < 32) : p_z 0 j := (p_zb 0 hj).mpr (b_0 j)
theorem p_pg0 {j : Nat} (hj : j < 32) : (fun _ => -1 : Nat → Int32) j = p_pg 0 0 0 0 j := by unfold p_pg; rw [if_pos (p_z0 j hj)]
theorem p_pf0 {j : Nat} (hj : j < 32) : (fun _ => -1 : Nat → Int32) j = p_pf 0 0 0 j := by unfold p_pf; rw [if_pos (p_z0 j hj)]
theorem p_cl {cn g : Nat} (hc : cn < 1000) (h : cn = 0 → g = 0) : nI cn ≤ 0 → g = 0 := fun q => h (by
  have := (nI_leI (b := 0) (by omega) (by omega)).mp q
  omega)
end
section
/-! THE LAW: its invariant (printed by gen/law.py) -/
abbrev cf_I (D : va_G) (A : Nat → Prop) (m0 m1 m2 m3 oa c0 c1 c2 c3 c4 : Nat) (cJ cL cR cI : ClassId) (ad : Nat → Nat) (rf : Nat → Option Nat) (it : Nat) (H : Heap) : Prop :=
  ∃ (th r op : Int32) (n : Nat) (kd sz al : Nat → Int32) (cn g la lb : Nat) (lg lf : Int32) (fo : Nat → Int64) (pa : Nat → cf_T),
    (r = 0 ∨ r = 1 ∨ r = 2 ∨ r = 3 ∨ r = 4) ∧ (op = 0 ∨ op = 1) ∧ n ≤ 60 ∧ (∀ i, i < n → p_ok (kd i) (sz i)) ∧ p_at r kd sz al n ≤ 1000000 ∧ (∀ i, i < n → pa (ad i) = p_arg r op kd sz al i) ∧ g ≤ 1000000 ∧ g % 8 = 0 ∧ cn ≤ it ∧ (cn = 0 → g = 0) ∧ la ≤ 1000000 ∧ lb ≤ 1000000 ∧
    va_P D cf_cl ((MW m0 m1 m2 m3 cJ th r (nI n) (nI cn) (nI g) lg lf (nI lb) (nI la) op kd sz al) ++ ((oa, .inl (cL, 1, .inr (.inl fo))) :: (CW c0 c1 c2 c3 c4 cR cI ad rf (nI n) r op (nI g) (nI cn) (nI la) (p_pg la lb lg lf) (p_pf la lb lf) pa))) H ∧ va_D A ((MW m0 m1 m2 m3 cJ th r (nI n) (nI cn) (nI g) lg lf (nI lb) (nI la) op kd sz al) ++ ((oa, .inl (cL, 1, .inr (.inl fo))) :: (CW c0 c1 c2 c3 c4 cR cI ad rf (nI n) r op (nI g) (nI cn) (nI la) (p_pg la lb lg lf) (p_pf la lb lf) pa)))
theorem cf_amono {x : Nat × va_E} {ws : va_W} {sz q : Nat} (h : va_A ws sz q) : va_A (x :: ws) sz q := by
  rcases h with ⟨k, e, h⟩ | h
  · exact Or.inl ⟨k + 1, e, h⟩
  · exact Or.inr h
theorem cf_addrL {m0 m1 m2 m3 oa c0 c1 c2 c3 c4 : Nat} {cJ cR cI : ClassId} {ad : Nat → Nat} {rf : Nat → Option Nat} {th r nn cl gr lg lf ll la op th' r' nn' cl' gr' lg' lf' ll' la' op' : Int32} {kd sz al kd' sz' al' : Nat → Int32} {mn rs op2 gr2 cl2 lo mn' rs' op2' gr2' cl2' lo' : Int32} {gA fA gA' fA' : Nat → Int32} {pa pa' : Nat → cf_T} {e1 e2 : va_E} :
    (MW m0 m1 m2 m3 cJ th r nn cl gr lg lf ll la op kd sz al ++ ((oa, e1) :: CW c0 c1 c2 c3 c4 cR cI ad rf mn rs op2 gr2 cl2 lo gA fA pa)).map (fun q => q.1) = (MW m0 m1 m2 m3 cJ th' r' nn' cl' gr' lg' lf' ll' la' op' kd' sz' al' ++ ((oa, e2) :: CW c0 c1 c2 c3 c4 cR cI ad rf mn' rs' op2' gr2' cl2' lo' gA' fA' pa')).map (fun q => q.1) := by
  simp [MW, CW, va_pl]
theorem cy_La_begin : y_La_begin.cls ≠ "java/lang/invoke/MethodHandle" ∧ y_La_begin.cls ≠ "java/lang/invoke/VarHandle" ∧ (parseMethodDescriptor y_La_begin.desc).map (fun d => d.parameters.length) = some 5 := by decide +kernel
theorem cy_La_add : y_La_add.cls ≠ "java/lang/invoke/MethodHandle" ∧ y_La_add.cls ≠ "java/lang/invoke/VarHandle" ∧ (parseMethodDescriptor y_La_add.desc).map (fun d => d.parameters.length) = some 5 := by decide +kernel
theorem cy_La_where : y_La_where.cls ≠ "java/lang/invoke/MethodHandle" ∧ y_La_where.cls ≠ "java/lang/invoke/VarHandle" ∧ (parseMethodDescriptor y_La_where.desc).map (fun d => d.parameters.length) = some 4 := by decide +kernel
theorem cy_La_about : y_La_about.cls ≠ "java/lang/invoke/MethodHandle" ∧ y_La_about.cls ≠ "java/lang/invoke/VarHandle" ∧ (parseMethodDescriptor y_La_about.desc).map (fun d => d.parameters.length) = some 4 := by decide +kernel
theorem cy_La_signature : y_La_signature.cls ≠ "java/lang/invoke/MethodHandle" ∧ y_La_signature.cls ≠ "java/lang/invoke/VarHandle" ∧ (parseMethodDescriptor y_La_signature.desc).map (fun d => d.parameters.length) = some 3 := by decide +kernel
theorem cy_La_frame : y_La_frame.cls ≠ "java/lang/invoke/MethodHandle" ∧ y_La_frame.cls ≠ "java/lang/invoke/VarHandle" ∧ (parseMethodDescriptor y_La_frame.desc).map (fun d => d.parameters.length) = some 5 := by decide +kernel
theorem cy_La_place : y_La_place.cls ≠ "java/lang/invoke/MethodHandle" ∧ y_La_place.cls ≠ "java/lang/invoke/VarHandle" ∧ (parseMethodDescriptor y_La_place.desc).map (fun d => d.parameters.length) = some 4 := by decide +kernel
end
section
/-! THE LAW: begin, add (printed by gen/law.py) -/
set_option maxHeartbeats 4000000 in
set_option maxRecDepth 100000 in
/-- begin -/
theorem law_0 {p : Program} {l : Launch} {e : Env} {s : State} {m : MethodId} {below : List Frame} {meth : Method} {c : Code} {D : va_G} {b L : Nat} {xs : Nat → Int32} {m0 m1 m2 m3 oa c0 c1 c2 c3 c4 : Nat} {cJ cL cR cI : ClassId} {ad : Nat → Nat} {rf : Nat → Option Nat} (hL : L ≤ 2560) (htr : ∀ e : Env, l.admits e → e.platform.stackTraces = false) (C0 : lw_At p s m meth c b L xs) (hst : cf_ST s) (hnc : cf_NC s) (hrf : ∀ i, i < 60 → rf i = some (ad i)) (hKM : va_K D cf_cl [(cJ, .int)] s) (hKW : va_K D cf_cl [(cR, .object "CallFrames$Argument"), (cI, .int), (cL, .long)] s) (it : Nat) (hit : 5 * it + 5 ≤ L) (x1 : Int32) (h1 : xs (5 * it + 1) = x1) (x2 : Int32) (h2 : xs (5 * it + 2) = x2) (x3 : Int32) (h3 : xs (5 * it + 3) = x3) (x4 : Int32) (h4 : xs (5 * it + 4) = x4) (H : Heap) (locs : List Loc) (ls : Array Slot) (hI : cf_I D (fun q : Nat => s.heap.size ≤ q) m0 m1 m2 m3 oa c0 c1 c2 c3 c4 cJ cL cR cI ad rf it H) (hS : va_S (fun q : Nat => s.heap.size ≤ q) s.heap H locs) (hl : lv_has ls 7 [(4, .int (nI (5 * it))), (3, .ref oa), (2, .ref m0), (1, .ref c0), (0, .ref b)])
    (hN : ∀ (H1 : Heap) (locs1 : List Loc) (ls1 : Array Slot), cf_I D (fun q : Nat => s.heap.size ≤ q) m0 m1 m2 m3 oa c0 c1 c2 c3 c4 cJ cL cR cI ad rf (it + 1) H1 → va_S (fun q : Nat => s.heap.size ≤ q) s.heap H1 locs1 → lv_has ls1 7 [(4, .int (nI (5 * it))), (3, .ref oa), (2, .ref m0), (1, .ref c0), (0, .ref b)] → W p l e room_1 s m #[Value.ref b] below meth c H1 locs1 (70 + it + 1) (633 + 6 * it + 6) (lw_Z below #[Value.ref b] s) (F0 m 622 ls1 [])) : W p l e room_1 s m #[Value.ref b] below meth c H locs (70 + it) (633 + 6 * it) (lw_Z below #[Value.ref b] s) (F0 m 88 ls []) := by
  obtain ⟨hx, hb, hr, hml, hown, hts, hX, hbl, hlocks, hgv⟩ := C0
  have hown : s.vm.findClass "CallFramesLaw" = some m.cls := hown
  have hkk : cf_KK s := cf_KK.of hts
  have hbA : ¬ (fun q : Nat => s.heap.size ≤ q) b := Nat.not_le.mpr hbl
  have hA : ∀ q : Nat, s.heap.size ≤ q → (fun q : Nat => s.heap.size ≤ q) q := fun _ h => h
  obtain ⟨th, r, op, n, kd, sz, al, cn, g, la, lb, lg, lf, fo, pa, hr4, hop, hn, hok, hat, hpa, hg, hg8, hcn, hcg, hla, hlb, hP, hD⟩ := hI
  refine lv_aload_n hx hb d_La_law_88 rfl (lv_at hl 3 rfl) ?_
  refine lv_aload_n hx hb d_La_law_89 rfl (lv_at hl 4 rfl) ?_
  refine lv_iload hx hb d_La_law_90 (lv_at hl 0 rfl) ?_
  refine lv_iconst (v := 1) hx hb d_La_law_92 (by decide) ?_
  refine lv_iadd hx hb d_La_law_93 ?_
  refine cf_top (y := nI (5 * it + 1)) (nI_add _ 1) ?_
  refine cf_sld hx hb hX hbl hbA hS (k := (5 * it + 1)) h1 (by omega) hL d_La_law_94 ?_
  refine lv_aload_n hx hb d_La_law_95 rfl (lv_at hl 4 rfl) ?_
  refine lv_iload hx hb d_La_law_96 (lv_at hl 0 rfl) ?_
  refine lv_iconst (v := 2) hx hb d_La_law_98 (by decide) ?_
  refine lv_iadd hx hb d_La_law_99 ?_
  refine cf_top (y := nI (5 * it + 2)) (nI_add _ 2) ?_
  refine cf_sld hx hb hX hbl hbA hS (k := (5 * it + 2)) h2 (by omega) hL d_La_law_100 ?_
  refine lv_aload_n hx hb d_La_law_101 rfl (lv_at hl 4 rfl) ?_
  refine lv_iload hx hb d_La_law_102 (lv_at hl 0 rfl) ?_
  refine lv_iconst (v := 3) hx hb d_La_law_104 (by decide) ?_
  refine lv_iadd hx hb d_La_law_105 ?_
  refine cf_top (y := nI (5 * it + 3)) (nI_add _ 3) ?_
  refine cf_sld hx hb hX hbl hbA hS (k := (5 * it + 3)) h3 (by omega) hL d_La_law_106 ?_
  refine cf_join 121 ls [.int x3, .int x2, .int x1, .ref c0] (fun v => v = if x4 = 0 then 0 else 1) (fun v_121 e_121 => ?_) (fun J_121 => ?_)
  · have ho2 : v_121 = 0 ∨ v_121 = 1 := by rw [e_121]; split; exact Or.inl rfl; exact Or.inr rfl
    by_cases hgd : p_good x1 4 x2 x3 = true
    · refine cf_icSW (As := [.ref c0, .int x1, .int x2, .int x3, .int v_121]) (rest := []) hx hb hml hown hkk (cf_stS hst hnc hS) (c_La_begin_ok l D c0 x1 x2 x3 v_121 (CW c0 c1 c2 c3 c4 cR cI ad rf (nI n) r op (nI g) (nI cn) (nI la) (p_pg la lb lg lf) (p_pf la lb lf) pa) (CW c0 c1 c2 c3 c4 cR cI ad rf 0 x1 v_121 (nI g) (nI cn) (nI la) (p_pg la lb lg lf) (p_pf la lb lf) pa) [(cR, .object "CallFrames$Argument"), (cI, .int)] _ rfl (cf_t0 (cf_tlD (cf_rgtD hD))) ({ frames := 1, cells := 0, slots := 0, locals := 21 } : Room) ⟨rfl, rfl, by decide, by decide⟩ (c_Cf_begin_ok l D c0 c1 c2 c3 c4 cR cI ad rf (nI n) r op (nI g) (nI cn) (nI la) (p_pg la lb lg lf) (p_pf la lb lf) pa x1 x2 x3 v_121 ho2 hgd (cf_t0 (cf_tlD (cf_rgtD hD))))) kw_119 kw_0 cy_La_begin cs_La_begin kw_117 (hKW.sub [0, 1] rfl) (cf_tl (cf_rgt hP)) hS (cf_tlA (cf_rgtD hD) hS hA) (by decide) rfl hl.1 rfl (Nat.le_of_ble_eq_true rfl) d_La_law_121 ⟨by show 70 + it + 1 ≤ 839890; omega, by show 633 + 6 * it + 6 ≤ 6576433; omega⟩ (fun H1 locs1 hP1 hzI hkI hS => ?_)
      have hP : va_P D cf_cl ((MW m0 m1 m2 m3 cJ th r (nI n) (nI cn) (nI g) lg lf (nI lb) (nI la) op kd sz al) ++ ((oa, .inl (cL, 1, .inr (.inl fo))) :: (CW c0 c1 c2 c3 c4 cR cI ad rf 0 x1 v_121 (nI g) (nI cn) (nI la) (p_pg la lb lg lf) (p_pf la lb lf) pa))) H1 := cf_updR hP hD (cf_cons (cf_keptO (cf_rgt hP) (cf_rgtD hD) hkI) hP1) (fun q h1 h2 => hkI q h1 (fun h => h2 (cf_amono h)))
      have hD : va_D (fun q : Nat => s.heap.size ≤ q) ((MW m0 m1 m2 m3 cJ th r (nI n) (nI cn) (nI g) lg lf (nI lb) (nI la) op kd sz al) ++ ((oa, .inl (cL, 1, .inr (.inl fo))) :: (CW c0 c1 c2 c3 c4 cR cI ad rf 0 x1 v_121 (nI g) (nI cn) (nI la) (p_pg la lb lg lf) (p_pf la lb lf) pa))) := cf_Dm hD cf_addrL
      refine lv_istore (lv' := [(5, .int 0), (4, .int (nI (5 * it))), (3, .ref oa), (2, .ref m0), (1, .ref c0), (0, .ref b)]) hx hb d_La_law_124 hl (by decide) rfl (fun ls hl => ?_)
      refine lv_aload_n hx hb d_La_law_126 rfl (lv_at hl 3 rfl) ?_
      refine lv_aload_n hx hb d_La_law_127 rfl (lv_at hl 5 rfl) ?_
      refine lv_iload hx hb d_La_law_128 (lv_at hl 1 rfl) ?_
      refine lv_iconst (v := 1) hx hb d_La_law_130 (by decide) ?_
      refine lv_iadd hx hb d_La_law_131 ?_
      refine cf_top (y := nI (5 * it + 1)) (nI_add _ 1) ?_
      refine cf_sld hx hb hX hbl hbA hS (k := (5 * it + 1)) h1 (by omega) hL d_La_law_132 ?_
      refine lv_aload_n hx hb d_La_law_133 rfl (lv_at hl 5 rfl) ?_
      refine lv_iload hx hb d_La_law_134 (lv_at hl 1 rfl) ?_
      refine lv_iconst (v := 2) hx hb d_La_law_136 (by decide) ?_
      refine lv_iadd hx hb d_La_law_137 ?_
      refine cf_top (y := nI (5 * it + 2)) (nI_add _ 2) ?_
      refine cf_sld hx hb hX hbl hbA hS (k := (5 * it + 2)) h2 (by omega) hL d_La_law_138 ?_
      refine lv_aload_n hx hb d_La_law_139 rfl (lv_at hl 5 rfl) ?_
      refine lv_iload hx hb d_La_law_140 (lv_at hl 1 rfl) ?_
      refine lv_iconst (v := 3) hx hb d_La_law_142 (by decide) ?_
      refine lv_iadd hx hb d_La_law_143 ?_
      refine cf_top (y := nI (5 * it + 3)) (nI_add _ 3) ?_
      refine cf_sld hx hb hX hbl hbA hS (k := (5 * it + 3)) h3 (by omega) hL d_La_law_144 ?_
      refine cf_join 159 ls [.int x3, .int x2, .int x1, .ref m0] (fun v => v = v_121) (fun v_159 e_159 => ?_) (fun J_159 => ?_)
      · subst v_159
        refine cf_icV (q0 := 0) (ci := 2) (As := [.int x1, .int x2, .int x3, .int v_121]) (rest := []) hx hb hml hown hkk (c_Mo_begin_ok l D m0 m1 m2 m3 cJ th r (nI n) (nI cn) (nI g) lg lf (nI lb) (nI la) op kd sz al x1 x2 x3 v_121 ho2 hgd (cf_t0 (cf_lftD hD))) ce_Mo_begin cv_Mo_begin kw_333 hKM (cf_lft hP) rfl rfl rfl hS (cf_lftA hD hS hA) (by decide) rfl hl.1 rfl (Nat.le_of_ble_eq_true rfl) d_La_law_159 ⟨by show 70 + it + 1 ≤ 839890; omega, by show 633 + 6 * it + 6 ≤ 6576433; omega⟩ (fun H1 locs1 hP1 hzI hkI hS => ?_)
        have hP : va_P D cf_cl ((MW m0 m1 m2 m3 cJ 0 x1 0 (nI cn) (nI g) lg lf (nI lb) (nI la) v_121 kd sz al) ++ ((oa, .inl (cL, 1, .inr (.inl fo))) :: (CW c0 c1 c2 c3 c4 cR cI ad rf 0 x1 v_121 (nI g) (nI cn) (nI la) (p_pg la lb lg lf) (p_pf la lb lf) pa))) H1 := cf_updL hP hD hP1 hkI
        have hD : va_D (fun q : Nat => s.heap.size ≤ q) ((MW m0 m1 m2 m3 cJ 0 x1 0 (nI cn) (nI g) lg lf (nI lb) (nI la) v_121 kd sz al) ++ ((oa, .inl (cL, 1, .inr (.inl fo))) :: (CW c0 c1 c2 c3 c4 cR cI ad rf 0 x1 v_121 (nI g) (nI cn) (nI la) (p_pg la lb lg lf) (p_pf la lb lf) pa))) := cf_Dm hD cf_addrL
        refine lv_aload_n hx hb d_La_law_162 rfl (lv_at hl 3 rfl) ?_
        refine cf_pcV (q0 := 0) (ci := 2) (As := []) (rest := []) hx hb hml hown hkk (c_Mo_thrown l D m0 m1 m2 m3 cJ 0 x1 0 (nI cn) (nI g) lg lf (nI lb) (nI la) v_121 kd sz al) ce_Mo_thrown cv_Mo_thrown kw_329 hKM (cf_lft hP) rfl rfl rfl ⟨rfl, rfl⟩ (by decide) rfl hl.1 rfl (Nat.le_of_ble_eq_true rfl) d_La_law_163 ⟨by show 70 + it + 1 ≤ 839890; omega, by show 633 + 6 * it + 6 ≤ 6576433; omega⟩ ?_
        refine lv_iload hx hb d_La_law_166 (lv_at hl 0 rfl) ?_
        refine lv_icmp_eq (tgt := 173) hx hb d_La_law_168 (by decide) (fun c_168 => ?_) (fun c_168 => False.elim (absurd c_168 (by decide)))
        refine lv_goto (tgt := 622) hx hb d_La_law_173 (by decide) ?_
        refine W.widen (k := 70 + it + 1) (n := 633 + 6 * it + 6) (show 70 + it + 1 ≤ 70 + it + 1 from Nat.le_refl _) (show 633 + 6 * it + 6 ≤ 633 + 6 * it + 6 from Nat.le_refl _) ?_
        exact hN _ _ ls ⟨0, x1, v_121, 0, kd, sz, al, cn, g, la, lb, lg, lf, fo, pa, p_r5 (of_decide_eq_true hgd).1 (of_decide_eq_true hgd).2.1, ho2, Nat.zero_le _, fun i hi => absurd hi (Nat.not_lt_zero i), p_at0 _ _ _ _, fun i hi => absurd hi (Nat.not_lt_zero i), hg, hg8, Nat.le_succ_of_le hcn, hcg, hla, hlb, hP, hD⟩ hS (lv_sub hl [1, 2, 3, 4, 5] rfl)
      · refine lv_aload_n hx hb d_La_law_145 rfl (lv_at hl 5 rfl) ?_
        refine lv_iload hx hb d_La_law_146 (lv_at hl 1 rfl) ?_
        refine lv_iconst (v := 4) hx hb d_La_law_148 (by decide) ?_
        refine lv_iadd hx hb d_La_law_149 ?_
        refine cf_top (y := nI (5 * it + 4)) (nI_add _ 4) ?_
        refine cf_sld hx hb hX hbl hbA hS (k := (5 * it + 4)) h4 (by omega) hL d_La_law_150 ?_
        refine lv_if_eq (tgt := 158) hx hb d_La_law_151 (by decide) (fun c_151 => ?_) (fun c_151 => ?_)
        · refine lv_iconst (v := 0) hx hb d_La_law_158 (by decide) ?_
          exact J_159 _ (by rw [e_121]; simp [c_151])
        · refine lv_iconst (v := 1) hx hb d_La_law_154 (by decide) ?_
          refine lv_goto (tgt := 159) hx hb d_La_law_155 (by decide) ?_
          exact J_159 _ (by rw [e_121]; simp [c_151])
    · refine cf_icSW (As := [.ref c0, .int x1, .int x2, .int x3, .int v_121]) (rest := []) hx hb hml hown hkk (cf_stS hst hnc hS) (c_La_begin_no l D c0 x1 x2 x3 v_121 (CW c0 c1 c2 c3 c4 cR cI ad rf (nI n) r op (nI g) (nI cn) (nI la) (p_pg la lb lg lf) (p_pf la lb lf) pa) [(cR, .object "CallFrames$Argument"), (cI, .int)] _ rfl (cf_t0 (cf_tlD (cf_rgtD hD))) ({ frames := 6, cells := 1, slots := 6, locals := 81 } : Room) ⟨by decide, by decide, by decide, by decide⟩ (c_Cf_begin_no l D htr c0 c1 c2 c3 c4 cR cI ad rf (nI n) r op (nI g) (nI cn) (nI la) (p_pg la lb lg lf) (p_pf la lb lf) pa x1 x2 x3 v_121 hgd)) kw_119 kw_0 cy_La_begin cs_La_begin kw_117 (hKW.sub [0, 1] rfl) (cf_tl (cf_rgt hP)) hS (cf_tlA (cf_rgtD hD) hS hA) (by decide) rfl hl.1 rfl (Nat.le_of_ble_eq_true rfl) d_La_law_121 ⟨by show 70 + it + 1 ≤ 839890; omega, by show 633 + 6 * it + 6 ≤ 6576433; omega⟩ (fun H1 locs1 hP1 hzI hkI hS => ?_)
      have hP : va_P D cf_cl ((MW m0 m1 m2 m3 cJ th r (nI n) (nI cn) (nI g) lg lf (nI lb) (nI la) op kd sz al) ++ ((oa, .inl (cL, 1, .inr (.inl fo))) :: (CW c0 c1 c2 c3 c4 cR cI ad rf (nI n) r op (nI g) (nI cn) (nI la) (p_pg la lb lg lf) (p_pf la lb lf) pa))) H1 := cf_updR hP hD (cf_cons (cf_keptO (cf_rgt hP) (cf_rgtD hD) hkI) hP1) (fun q h1 h2 => hkI q h1 (fun h => h2 (cf_amono h)))
      have hD : va_D (fun q : Nat => s.heap.size ≤ q) ((MW m0 m1 m2 m3 cJ th r (nI n) (nI cn) (nI g) lg lf (nI lb) (nI la) op kd sz al) ++ ((oa, .inl (cL, 1, .inr (.inl fo))) :: (CW c0 c1 c2 c3 c4 cR cI ad rf (nI n) r op (nI g) (nI cn) (nI la) (p_pg la lb lg lf) (p_pf la lb lf) pa))) := cf_Dm hD cf_addrL
      refine lv_istore (lv' := [(5, .int 1), (4, .int (nI (5 * it))), (3, .ref oa), (2, .ref m0), (1, .ref c0), (0, .ref b)]) hx hb d_La_law_124 hl (by decide) rfl (fun ls hl => ?_)
      refine lv_aload_n hx hb d_La_law_126 rfl (lv_at hl 3 rfl) ?_
      refine lv_aload_n hx hb d_La_law_127 rfl (lv_at hl 5 rfl) ?_
      refine lv_iload hx hb d_La_law_128 (lv_at hl 1 rfl) ?_
      refine lv_iconst (v := 1) hx hb d_La_law_130 (by decide) ?_
      refine lv_iadd hx hb d_La_law_131 ?_
      refine cf_top (y := nI (5 * it + 1)) (nI_add _ 1) ?_
      refine cf_sld hx hb hX hbl hbA hS (k := (5 * it + 1)) h1 (by omega) hL d_La_law_132 ?_
      refine lv_aload_n hx hb d_La_law_133 rfl (lv_at hl 5 rfl) ?_
      refine lv_iload hx hb d_La_law_134 (lv_at hl 1 rfl) ?_
      refine lv_iconst (v := 2) hx hb d_La_law_136 (by decide) ?_
      refine lv_iadd hx hb d_La_law_137 ?_
      refine cf_top (y := nI (5 * it + 2)) (nI_add _ 2) ?_
      refine cf_sld hx hb hX hbl hbA hS (k := (5 * it + 2)) h2 (by omega) hL d_La_law_138 ?_
      refine lv_aload_n hx hb d_La_law_139 rfl (lv_at hl 5 rfl) ?_
      refine lv_iload hx hb d_La_law_140 (lv_at hl 1 rfl) ?_
      refine lv_iconst (v := 3) hx hb d_La_law_142 (by decide) ?_
      refine lv_iadd hx hb d_La_law_143 ?_
      refine cf_top (y := nI (5 * it + 3)) (nI_add _ 3) ?_
      refine cf_sld hx hb hX hbl hbA hS (k := (5 * it + 3)) h3 (by omega) hL d_La_law_144 ?_
      refine cf_join 159 ls [.int x3, .int x2, .int x1, .ref m0] (fun v => v = v_121) (fun v_159 e_159 => ?_) (fun J_159 => ?_)
      · subst v_159
        refine cf_icV (q0 := 0) (ci := 2) (As := [.int x1, .int x2, .int x3, .int v_121]) (rest := []) hx hb hml hown hkk (c_Mo_begin_no l D m0 m1 m2 m3 cJ th r (nI n) (nI cn) (nI g) lg lf (nI lb) (nI la) op kd sz al x1 x2 x3 v_121 hgd (cf_t0 (cf_lftD hD))) ce_Mo_begin cv_Mo_begin kw_333 hKM (cf_lft hP) rfl rfl rfl hS (cf_lftA hD hS hA) (by decide) rfl hl.1 rfl (Nat.le_of_ble_eq_true rfl) d_La_law_159 ⟨by show 70 + it + 1 ≤ 839890; omega, by show 633 + 6 * it + 6 ≤ 6576433; omega⟩ (fun H1 locs1 hP1 hzI hkI hS => ?_)
        have hP : va_P D cf_cl ((MW m0 m1 m2 m3 cJ 1 r (nI n) (nI cn) (nI g) lg lf (nI lb) (nI la) op kd sz al) ++ ((oa, .inl (cL, 1, .inr (.inl fo))) :: (CW c0 c1 c2 c3 c4 cR cI ad rf (nI n) r op (nI g) (nI cn) (nI la) (p_pg la lb lg lf) (p_pf la lb lf) pa))) H1 := cf_updL hP hD hP1 hkI
        have hD : va_D (fun q : Nat => s.heap.size ≤ q) ((MW m0 m1 m2 m3 cJ 1 r (nI n) (nI cn) (nI g) lg lf (nI lb) (nI la) op kd sz al) ++ ((oa, .inl (cL, 1, .inr (.inl fo))) :: (CW c0 c1 c2 c3 c4 cR cI ad rf (nI n) r op (nI g) (nI cn) (nI la) (p_pg la lb lg lf) (p_pf la lb lf) pa))) := cf_Dm hD cf_addrL
        refine lv_aload_n hx hb d_La_law_162 rfl (lv_at hl 3 rfl) ?_
        refine cf_pcV (q0 := 0) (ci := 2) (As := []) (rest := []) hx hb hml hown hkk (c_Mo_thrown l D m0 m1 m2 m3 cJ 1 r (nI n) (nI cn) (nI g) lg lf (nI lb) (nI la) op kd sz al) ce_Mo_thrown cv_Mo_thrown kw_329 hKM (cf_lft hP) rfl rfl rfl ⟨rfl, rfl⟩ (by decide) rfl hl.1 rfl (Nat.le_of_ble_eq_true rfl) d_La_law_163 ⟨by show 70 + it + 1 ≤ 839890; omega, by show 633 + 6 * it + 6 ≤ 6576433; omega⟩ ?_
        refine lv_iload hx hb d_La_law_166 (lv_at hl 0 rfl) ?_
        refine lv_icmp_eq (tgt := 173) hx hb d_La_law_168 (by decide) (fun c_168 => ?_) (fun c_168 => False.elim (absurd c_168 (by decide)))
        refine lv_goto (tgt := 622) hx hb d_La_law_173 (by decide) ?_
        refine W.widen (k := 70 + it + 1) (n := 633 + 6 * it + 6) (show 70 + it + 1 ≤ 70 + it + 1 from Nat.le_refl _) (show 633 + 6 * it + 6 ≤ 633 + 6 * it + 6 from Nat.le_refl _) ?_
        exact hN _ _ ls ⟨1, r, op, n, kd, sz, al, cn, g, la, lb, lg, lf, fo, pa, hr4, hop, hn, hok, hat, hpa, hg, hg8, Nat.le_succ_of_le hcn, hcg, hla, hlb, hP, hD⟩ hS (lv_sub hl [1, 2, 3, 4, 5] rfl)
      · refine lv_aload_n hx hb d_La_law_145 rfl (lv_at hl 5 rfl) ?_
        refine lv_iload hx hb d_La_law_146 (lv_at hl 1 rfl) ?_
        refine lv_iconst (v := 4) hx hb d_La_law_148 (by decide) ?_
        refine lv_iadd hx hb d_La_law_149 ?_
        refine cf_top (y := nI (5 * it + 4)) (nI_add _ 4) ?_
        refine cf_sld hx hb hX hbl hbA hS (k := (5 * it + 4)) h4 (by omega) hL d_La_law_150 ?_
        refine lv_if_eq (tgt := 158) hx hb d_La_law_151 (by decide) (fun c_151 => ?_) (fun c_151 => ?_)
        · refine lv_iconst (v := 0) hx hb d_La_law_158 (by decide) ?_
          exact J_159 _ (by rw [e_121]; simp [c_151])
        · refine lv_iconst (v := 1) hx hb d_La_law_154 (by decide) ?_
          refine lv_goto (tgt := 159) hx hb d_La_law_155 (by decide) ?_
          exact J_159 _ (by rw [e_121]; simp [c_151])
  · refine lv_aload_n hx hb d_La_law_107 rfl (lv_at hl 4 rfl) ?_
    refine lv_iload hx hb d_La_law_108 (lv_at hl 0 rfl) ?_
    refine lv_iconst (v := 4) hx hb d_La_law_110 (by decide) ?_
    refine lv_iadd hx hb d_La_law_111 ?_
    refine cf_top (y := nI (5 * it + 4)) (nI_add _ 4) ?_
    refine cf_sld hx hb hX hbl hbA hS (k := (5 * it + 4)) h4 (by omega) hL d_La_law_112 ?_
    refine lv_if_eq (tgt := 120) hx hb d_La_law_113 (by decide) (fun c_113 => ?_) (fun c_113 => ?_)
    · refine lv_iconst (v := 0) hx hb d_La_law_120 (by decide) ?_
      exact J_121 _ (by simp [c_113])
    · refine lv_iconst (v := 1) hx hb d_La_law_116 (by decide) ?_
      refine lv_goto (tgt := 121) hx hb d_La_law_117 (by decide) ?_
      exact J_121 _ (by simp [c_113])
end
section
/-! THE LAW: add (printed by gen/law.py) -/
set_option maxHeartbeats 4000000 in
set_option maxRecDepth 100000 in
/-- add -/
theorem law_1 {p : Program} {l : Launch} {e : Env} {s : State} {m : MethodId} {below : List Frame} {meth : Method} {c : Code} {D : va_G} {b L : Nat} {xs : Nat → Int32} {m0 m1 m2 m3 oa c0 c1 c2 c3 c4 : Nat} {cJ cL cR cI : ClassId} {ad : Nat → Nat} {rf : Nat → Option Nat} (hL : L ≤ 2560) (htr : ∀ e : Env, l.admits e → e.platform.stackTraces = false) (C0 : lw_At p s m meth c b L xs) (hst : cf_ST s) (hnc : cf_NC s) (hrf : ∀ i, i < 60 → rf i = some (ad i)) (hKM : va_K D cf_cl [(cJ, .int)] s) (hKW : va_K D cf_cl [(cR, .object "CallFrames$Argument"), (cI, .int), (cL, .long)] s) (it : Nat) (hit : 5 * it + 5 ≤ L) (x1 : Int32) (h1 : xs (5 * it + 1) = x1) (x2 : Int32) (h2 : xs (5 * it + 2) = x2) (x3 : Int32) (h3 : xs (5 * it + 3) = x3) (H : Heap) (locs : List Loc) (ls : Array Slot) (hI : cf_I D (fun q : Nat => s.heap.size ≤ q) m0 m1 m2 m3 oa c0 c1 c2 c3 c4 cJ cL cR cI ad rf it H) (hS : va_S (fun q : Nat => s.heap.size ≤ q) s.heap H locs) (hl : lv_has ls 7 [(4, .int (nI (5 * it))), (3, .ref oa), (2, .ref m0), (1, .ref c0), (0, .ref b)])
    (hN : ∀ (H1 : Heap) (locs1 : List Loc) (ls1 : Array Slot), cf_I D (fun q : Nat => s.heap.size ≤ q) m0 m1 m2 m3 oa c0 c1 c2 c3 c4 cJ cL cR cI ad rf (it + 1) H1 → va_S (fun q : Nat => s.heap.size ≤ q) s.heap H1 locs1 → lv_has ls1 7 [(4, .int (nI (5 * it))), (3, .ref oa), (2, .ref m0), (1, .ref c0), (0, .ref b)] → W p l e room_1 s m #[Value.ref b] below meth c H1 locs1 (70 + it + 1) (633 + 6 * it + 6) (lw_Z below #[Value.ref b] s) (F0 m 622 ls1 [])) : W p l e room_1 s m #[Value.ref b] below meth c H locs (70 + it) (633 + 6 * it) (lw_Z below #[Value.ref b] s) (F0 m 176 ls []) := by
  obtain ⟨hx, hb, hr, hml, hown, hts, hX, hbl, hlocks, hgv⟩ := C0
  have hown : s.vm.findClass "CallFramesLaw" = some m.cls := hown
  have hkk : cf_KK s := cf_KK.of hts
  have hbA : ¬ (fun q : Nat => s.heap.size ≤ q) b := Nat.not_le.mpr hbl
  have hA : ∀ q : Nat, s.heap.size ≤ q → (fun q : Nat => s.heap.size ≤ q) q := fun _ h => h
  obtain ⟨th, r, op, n, kd, sz, al, cn, g, la, lb, lg, lf, fo, pa, hr4, hop, hn, hok, hat, hpa, hg, hg8, hcn, hcg, hla, hlb, hP, hD⟩ := hI
  refine lv_aload_n hx hb d_La_law_176 rfl (lv_at hl 3 rfl) ?_
  refine lv_aload_n hx hb d_La_law_177 rfl (lv_at hl 4 rfl) ?_
  refine lv_iload hx hb d_La_law_178 (lv_at hl 0 rfl) ?_
  refine lv_iconst (v := 1) hx hb d_La_law_180 (by decide) ?_
  refine lv_iadd hx hb d_La_law_181 ?_
  refine cf_top (y := nI (5 * it + 1)) (nI_add _ 1) ?_
  refine cf_sld hx hb hX hbl hbA hS (k := (5 * it + 1)) h1 (by omega) hL d_La_law_182 ?_
  refine lv_aload_n hx hb d_La_law_183 rfl (lv_at hl 4 rfl) ?_
  refine lv_iload hx hb d_La_law_184 (lv_at hl 0 rfl) ?_
  refine lv_iconst (v := 2) hx hb d_La_law_186 (by decide) ?_
  refine lv_iadd hx hb d_La_law_187 ?_
  refine cf_top (y := nI (5 * it + 2)) (nI_add _ 2) ?_
  refine cf_sld hx hb hX hbl hbA hS (k := (5 * it + 2)) h2 (by omega) hL d_La_law_188 ?_
  refine lv_aload_n hx hb d_La_law_189 rfl (lv_at hl 4 rfl) ?_
  refine lv_iload hx hb d_La_law_190 (lv_at hl 0 rfl) ?_
  refine lv_iconst (v := 3) hx hb d_La_law_192 (by decide) ?_
  refine lv_iadd hx hb d_La_law_193 ?_
  refine cf_top (y := nI (5 * it + 3)) (nI_add _ 3) ?_
  refine cf_sld hx hb hX hbl hbA hS (k := (5 * it + 3)) h3 (by omega) hL d_La_law_194 ?_
  refine lv_aload_n hx hb d_La_law_195 rfl (lv_at hl 1 rfl) ?_
  by_cases hgd : p_good x1 3 x2 x3 = true
  · by_cases h60 : n = 60
    · refine cf_icSW (As := [.ref c0, .int x1, .int x2, .int x3, .ref oa]) (rest := []) hx hb hml hown hkk (cf_stS hst hnc hS) (c_La_add_no2 l D c0 oa cR cI cL fo x1 x2 x3 (CW c0 c1 c2 c3 c4 cR cI ad rf (nI n) r op (nI g) (nI cn) (nI la) (p_pg la lb lg lf) (p_pf la lb lf) pa) _ rfl (cf_t0 (cf_rgtD hD)) ({ frames := 6, cells := 1, slots := 6, locals := 81 } : Room) ⟨by decide, by decide, by decide, by decide⟩ (c_Cf_add_far l D htr c0 c1 c2 c3 c4 cR cI ad rf op (nI g) (nI cn) (nI la) (p_pg la lb lg lf) (p_pf la lb lf) pa r kd sz al n hn hrf hpa hok hat x1 x2 x3 hgd (Or.inl h60))) kw_194 kw_0 cy_La_add cs_La_add kw_192 hKW (cf_rgt hP) hS (cf_rgtA hD hS hA) (by decide) rfl hl.1 rfl (Nat.le_of_ble_eq_true rfl) d_La_law_196 ⟨by show 70 + it + 1 ≤ 839890; omega, by show 633 + 6 * it + 6 ≤ 6576433; omega⟩ (fun H1 locs1 hP1 hzI hkI hS => ?_)
      have hP : va_P D cf_cl ((MW m0 m1 m2 m3 cJ th r (nI n) (nI cn) (nI g) lg lf (nI lb) (nI la) op kd sz al) ++ ((oa, .inl (cL, 1, .inr (.inl fo))) :: (CW c0 c1 c2 c3 c4 cR cI ad rf (nI n) r op (nI g) (nI cn) (nI la) (p_pg la lb lg lf) (p_pf la lb lf) pa))) H1 := cf_updR hP hD hP1 hkI
      have hD : va_D (fun q : Nat => s.heap.size ≤ q) ((MW m0 m1 m2 m3 cJ th r (nI n) (nI cn) (nI g) lg lf (nI lb) (nI la) op kd sz al) ++ ((oa, .inl (cL, 1, .inr (.inl fo))) :: (CW c0 c1 c2 c3 c4 cR cI ad rf (nI n) r op (nI g) (nI cn) (nI la) (p_pg la lb lg lf) (p_pf la lb lf) pa))) := cf_Dm hD cf_addrL
      refine lv_istore (lv' := [(5, .int 2), (4, .int (nI (5 * it))), (3, .ref oa), (2, .ref m0), (1, .ref c0), (0, .ref b)]) hx hb d_La_law_199 hl (by decide) rfl (fun ls hl => ?_)
      refine lv_aload_n hx hb d_La_law_201 rfl (lv_at hl 3 rfl) ?_
      refine lv_aload_n hx hb d_La_law_202 rfl (lv_at hl 5 rfl) ?_
      refine lv_iload hx hb d_La_law_203 (lv_at hl 1 rfl) ?_
      refine lv_iconst (v := 1) hx hb d_La_law_205 (by decide) ?_
      refine lv_iadd hx hb d_La_law_206 ?_
      refine cf_top (y := nI (5 * it + 1)) (nI_add _ 1) ?_
      refine cf_sld hx hb hX hbl hbA hS (k := (5 * it + 1)) h1 (by omega) hL d_La_law_207 ?_
      refine lv_aload_n hx hb d_La_law_208 rfl (lv_at hl 5 rfl) ?_
      refine lv_iload hx hb d_La_law_209 (lv_at hl 1 rfl) ?_
      refine lv_iconst (v := 2) hx hb d_La_law_211 (by decide) ?_
      refine lv_iadd hx hb d_La_law_212 ?_
      refine cf_top (y := nI (5 * it + 2)) (nI_add _ 2) ?_
      refine cf_sld hx hb hX hbl hbA hS (k := (5 * it + 2)) h2 (by omega) hL d_La_law_213 ?_
      refine lv_aload_n hx hb d_La_law_214 rfl (lv_at hl 5 rfl) ?_
      refine lv_iload hx hb d_La_law_215 (lv_at hl 1 rfl) ?_
      refine lv_iconst (v := 3) hx hb d_La_law_217 (by decide) ?_
      refine lv_iadd hx hb d_La_law_218 ?_
      refine cf_top (y := nI (5 * it + 3)) (nI_add _ 3) ?_
      refine cf_sld hx hb hX hbl hbA hS (k := (5 * it + 3)) h3 (by omega) hL d_La_law_219 ?_
      refine cf_icV (q0 := 0) (ci := 2) (As := [.int x1, .int x2, .int x3]) (rest := []) hx hb hml hown hkk (c_Mo_add_60 l D m0 m1 m2 m3 cJ th r (nI cn) (nI g) lg lf (nI lb) (nI la) op kd sz al x1 x2 x3 n hn hgd h60 (cf_t0 (cf_lftD hD))) ce_Mo_add cv_Mo_add kw_341 hKM (cf_lft hP) rfl rfl rfl hS (cf_lftA hD hS hA) (by decide) rfl hl.1 rfl (Nat.le_of_ble_eq_true rfl) d_La_law_220 ⟨by show 70 + it + 1 ≤ 839890; omega, by show 633 + 6 * it + 6 ≤ 6576433; omega⟩ (fun H1 locs1 hP1 hzI hkI hS => ?_)
      have hP : va_P D cf_cl ((MW m0 m1 m2 m3 cJ 2 r (nI n) (nI cn) (nI g) lg lf (nI lb) (nI la) op kd sz al) ++ ((oa, .inl (cL, 1, .inr (.inl fo))) :: (CW c0 c1 c2 c3 c4 cR cI ad rf (nI n) r op (nI g) (nI cn) (nI la) (p_pg la lb lg lf) (p_pf la lb lf) pa))) H1 := cf_updL hP hD hP1 hkI
      have hD : va_D (fun q : Nat => s.heap.size ≤ q) ((MW m0 m1 m2 m3 cJ 2 r (nI n) (nI cn) (nI g) lg lf (nI lb) (nI la) op kd sz al) ++ ((oa, .inl (cL, 1, .inr (.inl fo))) :: (CW c0 c1 c2 c3 c4 cR cI ad rf (nI n) r op (nI g) (nI cn) (nI la) (p_pg la lb lg lf) (p_pf la lb lf) pa))) := cf_Dm hD cf_addrL
      refine lv_istore (lv' := [(6, .int 0), (5, .int 2), (4, .int (nI (5 * it))), (3, .ref oa), (2, .ref m0), (1, .ref c0), (0, .ref b)]) hx hb d_La_law_223 hl (by decide) rfl (fun ls hl => ?_)
      refine lv_aload_n hx hb d_La_law_225 rfl (lv_at hl 4 rfl) ?_
      refine cf_pcV (q0 := 0) (ci := 2) (As := []) (rest := []) hx hb hml hown hkk (c_Mo_thrown l D m0 m1 m2 m3 cJ 2 r (nI n) (nI cn) (nI g) lg lf (nI lb) (nI la) op kd sz al) ce_Mo_thrown cv_Mo_thrown kw_329 hKM (cf_lft hP) rfl rfl rfl ⟨rfl, rfl⟩ (by decide) rfl hl.1 rfl (Nat.le_of_ble_eq_true rfl) d_La_law_226 ⟨by show 70 + it + 1 ≤ 839890; omega, by show 633 + 6 * it + 6 ≤ 6576433; omega⟩ ?_
      refine lv_iload hx hb d_La_law_229 (lv_at hl 1 rfl) ?_
      refine lv_icmp_eq (tgt := 236) hx hb d_La_law_231 (by decide) (fun c_231 => ?_) (fun c_231 => False.elim (absurd c_231 (by decide)))
      refine lv_iload hx hb d_La_law_236 (lv_at hl 1 rfl) ?_
      refine lv_if_ne (tgt := 253) hx hb d_La_law_238 (by decide) (fun c_238 => ?_) (fun c_238 => False.elim (absurd c_238 (by decide)))
      refine lv_goto (tgt := 622) hx hb d_La_law_253 (by decide) ?_
      refine W.widen (k := 70 + it + 1) (n := 633 + 6 * it + 6) (show 70 + it + 1 ≤ 70 + it + 1 from Nat.le_refl _) (show 633 + 6 * it + 6 ≤ 633 + 6 * it + 6 from Nat.le_refl _) ?_
      exact hN _ _ ls ⟨2, r, op, n, kd, sz, al, cn, g, la, lb, lg, lf, fo, pa, hr4, hop, hn, hok, hat, hpa, hg, hg8, Nat.le_succ_of_le hcn, hcg, hla, hlb, hP, hD⟩ hS (lv_sub hl [2, 3, 4, 5, 6] rfl)
    · by_cases hne : p_ne (p_at r kd sz al n) x1 x2 x3 ≤ 1000000
      · refine cf_icSW (As := [.ref c0, .int x1, .int x2, .int x3, .ref oa]) (rest := []) hx hb hml hown hkk (cf_stS hst hnc hS) (c_La_add_ok l D c0 oa cR cI cL fo x1 x2 x3 (CW c0 c1 c2 c3 c4 cR cI ad rf (nI n) r op (nI g) (nI cn) (nI la) (p_pg la lb lg lf) (p_pf la lb lf) pa) _ rfl (cf_t0 (cf_rgtD hD)) ({ frames := 3, cells := 0, slots := 0, locals := 60 } : Room) (nI (p_nh (p_at r kd sz al n) x1 x3)) (CW c0 c1 c2 c3 c4 cR cI ad rf (nI (n + 1)) r op (nI g) (nI cn) (nI la) (p_pg la lb lg lf) (p_pf la lb lf) (va_up pa (ad n) (x1, nI (p_nh (p_at r kd sz al n) x1 x3), nI (p_b x1 x2), (if p_fra r op (upd kd n x1) n then nI (12 + 2 * n) else -1), (if p_fra r op (upd kd n x1) n then 1 else 0)))) cf_addr ⟨rfl, rfl, by decide, by decide⟩ (c_Cf_add_ok l D c0 c1 c2 c3 c4 cR cI ad rf op (nI g) (nI cn) (nI la) (p_pg la lb lg lf) (p_pf la lb lf) pa r kd sz al n hn hrf hpa hok hat x1 x2 x3 hgd h60 hne (cf_t0 (cf_tlD (cf_rgtD hD))))) kw_194 kw_0 cy_La_add cs_La_add kw_192 hKW (cf_rgt hP) hS (cf_rgtA hD hS hA) (by decide) rfl hl.1 rfl (Nat.le_of_ble_eq_true rfl) d_La_law_196 ⟨by show 70 + it + 1 ≤ 839890; omega, by show 633 + 6 * it + 6 ≤ 6576433; omega⟩ (fun H1 locs1 hP1 hzI hkI hS => ?_)
        have hP : va_P D cf_cl ((MW m0 m1 m2 m3 cJ th r (nI n) (nI cn) (nI g) lg lf (nI lb) (nI la) op kd sz al) ++ ((oa, .inl (cL, 1, .inr (.inl (vp_updL fo 0 (nI (p_nh (p_at r kd sz al n) x1 x3)).toInt64)))) :: (CW c0 c1 c2 c3 c4 cR cI ad rf (nI (n + 1)) r op (nI g) (nI cn) (nI la) (p_pg la lb lg lf) (p_pf la lb lf) (va_up pa (ad n) (x1, nI (p_nh (p_at r kd sz al n) x1 x3), nI (p_b x1 x2), (if p_fra r op (upd kd n x1) n then nI (12 + 2 * n) else -1), (if p_fra r op (upd kd n x1) n then 1 else 0)))))) H1 := cf_updR hP hD hP1 hkI
        have hD : va_D (fun q : Nat => s.heap.size ≤ q) ((MW m0 m1 m2 m3 cJ th r (nI n) (nI cn) (nI g) lg lf (nI lb) (nI la) op kd sz al) ++ ((oa, .inl (cL, 1, .inr (.inl (vp_updL fo 0 (nI (p_nh (p_at r kd sz al n) x1 x3)).toInt64)))) :: (CW c0 c1 c2 c3 c4 cR cI ad rf (nI (n + 1)) r op (nI g) (nI cn) (nI la) (p_pg la lb lg lf) (p_pf la lb lf) (va_up pa (ad n) (x1, nI (p_nh (p_at r kd sz al n) x1 x3), nI (p_b x1 x2), (if p_fra r op (upd kd n x1) n then nI (12 + 2 * n) else -1), (if p_fra r op (upd kd n x1) n then 1 else 0)))))) := cf_Dm hD cf_addrL
        refine lv_istore (lv' := [(5, .int 0), (4, .int (nI (5 * it))), (3, .ref oa), (2, .ref m0), (1, .ref c0), (0, .ref b)]) hx hb d_La_law_199 hl (by decide) rfl (fun ls hl => ?_)
        refine lv_aload_n hx hb d_La_law_201 rfl (lv_at hl 3 rfl) ?_
        refine lv_aload_n hx hb d_La_law_202 rfl (lv_at hl 5 rfl) ?_
        refine lv_iload hx hb d_La_law_203 (lv_at hl 1 rfl) ?_
        refine lv_iconst (v := 1) hx hb d_La_law_205 (by decide) ?_
        refine lv_iadd hx hb d_La_law_206 ?_
        refine cf_top (y := nI (5 * it + 1)) (nI_add _ 1) ?_
        refine cf_sld hx hb hX hbl hbA hS (k := (5 * it + 1)) h1 (by omega) hL d_La_law_207 ?_
        refine lv_aload_n hx hb d_La_law_208 rfl (lv_at hl 5 rfl) ?_
        refine lv_iload hx hb d_La_law_209 (lv_at hl 1 rfl) ?_
        refine lv_iconst (v := 2) hx hb d_La_law_211 (by decide) ?_
        refine lv_iadd hx hb d_La_law_212 ?_
        refine cf_top (y := nI (5 * it + 2)) (nI_add _ 2) ?_
        refine cf_sld hx hb hX hbl hbA hS (k := (5 * it + 2)) h2 (by omega) hL d_La_law_213 ?_
        refine lv_aload_n hx hb d_La_law_214 rfl (lv_at hl 5 rfl) ?_
        refine lv_iload hx hb d_La_law_215 (lv_at hl 1 rfl) ?_
        refine lv_iconst (v := 3) hx hb d_La_law_217 (by decide) ?_
        refine lv_iadd hx hb d_La_law_218 ?_
        refine cf_top (y := nI (5 * it + 3)) (nI_add _ 3) ?_
        refine cf_sld hx hb hX hbl hbA hS (k := (5 * it + 3)) h3 (by omega) hL d_La_law_219 ?_
        refine cf_icV (q0 := 0) (ci := 2) (As := [.int x1, .int x2, .int x3]) (rest := []) hx hb hml hown hkk (c_Mo_add_ok l D m0 m1 m2 m3 cJ th r (nI cn) (nI g) lg lf (nI lb) (nI la) op kd sz al x1 x2 x3 n hn hgd h60 hok hat hne (cf_t0 (cf_lftD hD))) ce_Mo_add cv_Mo_add kw_341 hKM (cf_lft hP) rfl rfl rfl hS (cf_lftA hD hS hA) (by decide) rfl hl.1 rfl (Nat.le_of_ble_eq_true rfl) d_La_law_220 ⟨by show 70 + it + 1 ≤ 839890; omega, by show 633 + 6 * it + 6 ≤ 6576433; omega⟩ (fun H1 locs1 hP1 hzI hkI hS => ?_)
        have hP : va_P D cf_cl ((MW m0 m1 m2 m3 cJ 0 r (nI (n + 1)) (nI cn) (nI g) lg lf (nI lb) (nI la) op (upd kd n x1) (upd sz n x2) (upd al n x3)) ++ ((oa, .inl (cL, 1, .inr (.inl (vp_updL fo 0 (nI (p_nh (p_at r kd sz al n) x1 x3)).toInt64)))) :: (CW c0 c1 c2 c3 c4 cR cI ad rf (nI (n + 1)) r op (nI g) (nI cn) (nI la) (p_pg la lb lg lf) (p_pf la lb lf) (va_up pa (ad n) (x1, nI (p_nh (p_at r kd sz al n) x1 x3), nI (p_b x1 x2), (if p_fra r op (upd kd n x1) n then nI (12 + 2 * n) else -1), (if p_fra r op (upd kd n x1) n then 1 else 0)))))) H1 := cf_updL hP hD hP1 hkI
        have hD : va_D (fun q : Nat => s.heap.size ≤ q) ((MW m0 m1 m2 m3 cJ 0 r (nI (n + 1)) (nI cn) (nI g) lg lf (nI lb) (nI la) op (upd kd n x1) (upd sz n x2) (upd al n x3)) ++ ((oa, .inl (cL, 1, .inr (.inl (vp_updL fo 0 (nI (p_nh (p_at r kd sz al n) x1 x3)).toInt64)))) :: (CW c0 c1 c2 c3 c4 cR cI ad rf (nI (n + 1)) r op (nI g) (nI cn) (nI la) (p_pg la lb lg lf) (p_pf la lb lf) (va_up pa (ad n) (x1, nI (p_nh (p_at r kd sz al n) x1 x3), nI (p_b x1 x2), (if p_fra r op (upd kd n x1) n then nI (12 + 2 * n) else -1), (if p_fra r op (upd kd n x1) n then 1 else 0)))))) := cf_Dm hD cf_addrL
        refine lv_istore (lv' := [(6, .int (nI (p_nh (p_at r kd sz al n) x1 x3))), (5, .int 0), (4, .int (nI (5 * it))), (3, .ref oa), (2, .ref m0), (1, .ref c0), (0, .ref b)]) hx hb d_La_law_223 hl (by decide) rfl (fun ls hl => ?_)
        refine lv_aload_n hx hb d_La_law_225 rfl (lv_at hl 4 rfl) ?_
        refine cf_pcV (q0 := 0) (ci := 2) (As := []) (rest := []) hx hb hml hown hkk (c_Mo_thrown l D m0 m1 m2 m3 cJ 0 r (nI (n + 1)) (nI cn) (nI g) lg lf (nI lb) (nI la) op (upd kd n x1) (upd sz n x2) (upd al n x3)) ce_Mo_thrown cv_Mo_thrown kw_329 hKM (cf_lft hP) rfl rfl rfl ⟨rfl, rfl⟩ (by decide) rfl hl.1 rfl (Nat.le_of_ble_eq_true rfl) d_La_law_226 ⟨by show 70 + it + 1 ≤ 839890; omega, by show 633 + 6 * it + 6 ≤ 6576433; omega⟩ ?_
        refine lv_iload hx hb d_La_law_229 (lv_at hl 1 rfl) ?_
        refine lv_icmp_eq (tgt := 236) hx hb d_La_law_231 (by decide) (fun c_231 => ?_) (fun c_231 => False.elim (absurd c_231 (by decide)))
        refine lv_iload hx hb d_La_law_236 (lv_at hl 1 rfl) ?_
        refine lv_if_ne (tgt := 253) hx hb d_La_law_238 (by decide) (fun c_238 => False.elim (absurd c_238 (by decide))) (fun c_238 => ?_)
        refine lv_aload_n hx hb d_La_law_241 rfl (lv_at hl 3 rfl) ?_
        refine lv_iconst (v := 0) hx hb d_La_law_242 (by decide) ?_
        refine cf_lald0 hx hb hKW (cf_rgt hP) 0 2 rfl rfl d_La_law_243 ?_
        refine lv_iload hx hb d_La_law_244 (lv_at hl 0 rfl) ?_
        refine lv_i2l hx hb d_La_law_246 rfl ?_
        refine W.lcmp hx hb d_La_law_247 ?_
        refine lv_if_eq (tgt := 253) hx hb d_La_law_248 (by decide) (fun c_248 => ?_) (fun c_248 => False.elim (c_248 (p_cmp rfl)))
        refine lv_goto (tgt := 622) hx hb d_La_law_253 (by decide) ?_
        have hpa2 : ∀ i, i < n + 1 → (va_up pa (ad n) (x1, nI (p_nh (p_at r kd sz al n) x1 x3), nI (p_b x1 x2), (if p_fra r op (upd kd n x1) n then nI (12 + 2 * n) else -1), (if p_fra r op (upd kd n x1) n then 1 else 0))) (ad i) = p_arg r op (upd kd n x1) (upd sz n x2) (upd al n x3) i := fun i hi => by
          by_cases hin : i = n
          · subst hin; rw [va_up_self, p_arg_n]
          · rw [va_up_ne _ _ (fun h => hin (cf_inj (cf_tlD (cf_rgtD hD)) (by omega) (by omega) h)), hpa i (by omega)]; exact p_arg_congr (p_upd3 kd sz al n x1 x2 x3) (by omega)
        refine W.widen (k := 70 + it + 1) (n := 633 + 6 * it + 6) (show 70 + it + 1 ≤ 70 + it + 1 from Nat.le_refl _) (show 633 + 6 * it + 6 ≤ 633 + 6 * it + 6 from Nat.le_refl _) ?_
        exact hN _ _ ls ⟨0, r, op, n + 1, (upd kd n x1), (upd sz n x2), (upd al n x3), cn, g, la, lb, lg, lf, (vp_updL fo 0 (nI (p_nh (p_at r kd sz al n) x1 x3)).toInt64), (va_up pa (ad n) (x1, nI (p_nh (p_at r kd sz al n) x1 x3), nI (p_b x1 x2), (if p_fra r op (upd kd n x1) n then nI (12 + 2 * n) else -1), (if p_fra r op (upd kd n x1) n then 1 else 0))), hr4, hop, (by omega), p_okS hok (p_good_ok hgd), (by rw [p_upd_s]; exact hne), hpa2, hg, hg8, Nat.le_succ_of_le hcn, hcg, hla, hlb, hP, hD⟩ hS (lv_sub hl [2, 3, 4, 5, 6] rfl)
      · refine cf_icSW (As := [.ref c0, .int x1, .int x2, .int x3, .ref oa]) (rest := []) hx hb hml hown hkk (cf_stS hst hnc hS) (c_La_add_no2 l D c0 oa cR cI cL fo x1 x2 x3 (CW c0 c1 c2 c3 c4 cR cI ad rf (nI n) r op (nI g) (nI cn) (nI la) (p_pg la lb lg lf) (p_pf la lb lf) pa) _ rfl (cf_t0 (cf_rgtD hD)) ({ frames := 6, cells := 1, slots := 6, locals := 81 } : Room) ⟨by decide, by decide, by decide, by decide⟩ (c_Cf_add_far l D htr c0 c1 c2 c3 c4 cR cI ad rf op (nI g) (nI cn) (nI la) (p_pg la lb lg lf) (p_pf la lb lf) pa r kd sz al n hn hrf hpa hok hat x1 x2 x3 hgd (Or.inr hne))) kw_194 kw_0 cy_La_add cs_La_add kw_192 hKW (cf_rgt hP) hS (cf_rgtA hD hS hA) (by decide) rfl hl.1 rfl (Nat.le_of_ble_eq_true rfl) d_La_law_196 ⟨by show 70 + it + 1 ≤ 839890; omega, by show 633 + 6 * it + 6 ≤ 6576433; omega⟩ (fun H1 locs1 hP1 hzI hkI hS => ?_)
        have hP : va_P D cf_cl ((MW m0 m1 m2 m3 cJ th r (nI n) (nI cn) (nI g) lg lf (nI lb) (nI la) op kd sz al) ++ ((oa, .inl (cL, 1, .inr (.inl fo))) :: (CW c0 c1 c2 c3 c4 cR cI ad rf (nI n) r op (nI g) (nI cn) (nI la) (p_pg la lb lg lf) (p_pf la lb lf) pa))) H1 := cf_updR hP hD hP1 hkI
        have hD : va_D (fun q : Nat => s.heap.size ≤ q) ((MW m0 m1 m2 m3 cJ th r (nI n) (nI cn) (nI g) lg lf (nI lb) (nI la) op kd sz al) ++ ((oa, .inl (cL, 1, .inr (.inl fo))) :: (CW c0 c1 c2 c3 c4 cR cI ad rf (nI n) r op (nI g) (nI cn) (nI la) (p_pg la lb lg lf) (p_pf la lb lf) pa))) := cf_Dm hD cf_addrL
        refine lv_istore (lv' := [(5, .int 2), (4, .int (nI (5 * it))), (3, .ref oa), (2, .ref m0), (1, .ref c0), (0, .ref b)]) hx hb d_La_law_199 hl (by decide) rfl (fun ls hl => ?_)
        refine lv_aload_n hx hb d_La_law_201 rfl (lv_at hl 3 rfl) ?_
        refine lv_aload_n hx hb d_La_law_202 rfl (lv_at hl 5 rfl) ?_
        refine lv_iload hx hb d_La_law_203 (lv_at hl 1 rfl) ?_
        refine lv_iconst (v := 1) hx hb d_La_law_205 (by decide) ?_
        refine lv_iadd hx hb d_La_law_206 ?_
        refine cf_top (y := nI (5 * it + 1)) (nI_add _ 1) ?_
        refine cf_sld hx hb hX hbl hbA hS (k := (5 * it + 1)) h1 (by omega) hL d_La_law_207 ?_
        refine lv_aload_n hx hb d_La_law_208 rfl (lv_at hl 5 rfl) ?_
        refine lv_iload hx hb d_La_law_209 (lv_at hl 1 rfl) ?_
        refine lv_iconst (v := 2) hx hb d_La_law_211 (by decide) ?_
        refine lv_iadd hx hb d_La_law_212 ?_
        refine cf_top (y := nI (5 * it + 2)) (nI_add _ 2) ?_
        refine cf_sld hx hb hX hbl hbA hS (k := (5 * it + 2)) h2 (by omega) hL d_La_law_213 ?_
        refine lv_aload_n hx hb d_La_law_214 rfl (lv_at hl 5 rfl) ?_
        refine lv_iload hx hb d_La_law_215 (lv_at hl 1 rfl) ?_
        refine lv_iconst (v := 3) hx hb d_La_law_217 (by decide) ?_
        refine lv_iadd hx hb d_La_law_218 ?_
        refine cf_top (y := nI (5 * it + 3)) (nI_add _ 3) ?_
        refine cf_sld hx hb hX hbl hbA hS (k := (5 * it + 3)) h3 (by omega) hL d_La_law_219 ?_
        refine cf_icV (q0 := 0) (ci := 2) (As := [.int x1, .int x2, .int x3]) (rest := []) hx hb hml hown hkk (c_Mo_add_far l D m0 m1 m2 m3 cJ th r (nI cn) (nI g) lg lf (nI lb) (nI la) op kd sz al x1 x2 x3 n hn hgd h60 hok hat hne (cf_t0 (cf_lftD hD))) ce_Mo_add cv_Mo_add kw_341 hKM (cf_lft hP) rfl rfl rfl hS (cf_lftA hD hS hA) (by decide) rfl hl.1 rfl (Nat.le_of_ble_eq_true rfl) d_La_law_220 ⟨by show 70 + it + 1 ≤ 839890; omega, by show 633 + 6 * it + 6 ≤ 6576433; omega⟩ (fun H1 locs1 hP1 hzI hkI hS => ?_)
        have hP : va_P D cf_cl ((MW m0 m1 m2 m3 cJ 2 r (nI n) (nI cn) (nI g) lg lf (nI lb) (nI la) op (upd kd n x1) (upd sz n x2) (upd al n x3)) ++ ((oa, .inl (cL, 1, .inr (.inl fo))) :: (CW c0 c1 c2 c3 c4 cR cI ad rf (nI n) r op (nI g) (nI cn) (nI la) (p_pg la lb lg lf) (p_pf la lb lf) pa))) H1 := cf_updL hP hD hP1 hkI
        have hD : va_D (fun q : Nat => s.heap.size ≤ q) ((MW m0 m1 m2 m3 cJ 2 r (nI n) (nI cn) (nI g) lg lf (nI lb) (nI la) op (upd kd n x1) (upd sz n x2) (upd al n x3)) ++ ((oa, .inl (cL, 1, .inr (.inl fo))) :: (CW c0 c1 c2 c3 c4 cR cI ad rf (nI n) r op (nI g) (nI cn) (nI la) (p_pg la lb lg lf) (p_pf la lb lf) pa))) := cf_Dm hD cf_addrL
        refine lv_istore (lv' := [(6, .int 0), (5, .int 2), (4, .int (nI (5 * it))), (3, .ref oa), (2, .ref m0), (1, .ref c0), (0, .ref b)]) hx hb d_La_law_223 hl (by decide) rfl (fun ls hl => ?_)
        refine lv_aload_n hx hb d_La_law_225 rfl (lv_at hl 4 rfl) ?_
        refine cf_pcV (q0 := 0) (ci := 2) (As := []) (rest := []) hx hb hml hown hkk (c_Mo_thrown l D m0 m1 m2 m3 cJ 2 r (nI n) (nI cn) (nI g) lg lf (nI lb) (nI la) op (upd kd n x1) (upd sz n x2) (upd al n x3)) ce_Mo_thrown cv_Mo_thrown kw_329 hKM (cf_lft hP) rfl rfl rfl ⟨rfl, rfl⟩ (by decide) rfl hl.1 rfl (Nat.le_of_ble_eq_true rfl) d_La_law_226 ⟨by show 70 + it + 1 ≤ 839890; omega, by show 633 + 6 * it + 6 ≤ 6576433; omega⟩ ?_
        refine lv_iload hx hb d_La_law_229 (lv_at hl 1 rfl) ?_
        refine lv_icmp_eq (tgt := 236) hx hb d_La_law_231 (by decide) (fun c_231 => ?_) (fun c_231 => False.elim (absurd c_231 (by decide)))
        refine lv_iload hx hb d_La_law_236 (lv_at hl 1 rfl) ?_
        refine lv_if_ne (tgt := 253) hx hb d_La_law_238 (by decide) (fun c_238 => ?_) (fun c_238 => False.elim (absurd c_238 (by decide)))
        refine lv_goto (tgt := 622) hx hb d_La_law_253 (by decide) ?_
        refine W.widen (k := 70 + it + 1) (n := 633 + 6 * it + 6) (show 70 + it + 1 ≤ 70 + it + 1 from Nat.le_refl _) (show 633 + 6 * it + 6 ≤ 633 + 6 * it + 6 from Nat.le_refl _) ?_
        exact hN _ _ ls ⟨2, r, op, n, (upd kd n x1), (upd sz n x2), (upd al n x3), cn, g, la, lb, lg, lf, fo, pa, hr4, hop, hn, p_upd_ok hok x1 x2, (by rw [p_upd_at]; exact hat), fun i hi => (hpa i hi).trans (p_arg_congr (p_upd3 kd sz al n x1 x2 x3) hi), hg, hg8, Nat.le_succ_of_le hcn, hcg, hla, hlb, hP, hD⟩ hS (lv_sub hl [2, 3, 4, 5, 6] rfl)
  · refine cf_icSW (As := [.ref c0, .int x1, .int x2, .int x3, .ref oa]) (rest := []) hx hb hml hown hkk (cf_stS hst hnc hS) (c_La_add_no l D c0 oa cR cI cL fo x1 x2 x3 (CW c0 c1 c2 c3 c4 cR cI ad rf (nI n) r op (nI g) (nI cn) (nI la) (p_pg la lb lg lf) (p_pf la lb lf) pa) _ rfl (cf_t0 (cf_rgtD hD)) ({ frames := 6, cells := 1, slots := 6, locals := 81 } : Room) ⟨by decide, by decide, by decide, by decide⟩ (c_Cf_add_no l D htr c0 c1 c2 c3 c4 cR cI ad rf (nI n) r op (nI g) (nI cn) (nI la) (p_pg la lb lg lf) (p_pf la lb lf) pa x1 x2 x3 hgd)) kw_194 kw_0 cy_La_add cs_La_add kw_192 hKW (cf_rgt hP) hS (cf_rgtA hD hS hA) (by decide) rfl hl.1 rfl (Nat.le_of_ble_eq_true rfl) d_La_law_196 ⟨by show 70 + it + 1 ≤ 839890; omega, by show 633 + 6 * it + 6 ≤ 6576433; omega⟩ (fun H1 locs1 hP1 hzI hkI hS => ?_)
    have hP : va_P D cf_cl ((MW m0 m1 m2 m3 cJ th r (nI n) (nI cn) (nI g) lg lf (nI lb) (nI la) op kd sz al) ++ ((oa, .inl (cL, 1, .inr (.inl fo))) :: (CW c0 c1 c2 c3 c4 cR cI ad rf (nI n) r op (nI g) (nI cn) (nI la) (p_pg la lb lg lf) (p_pf la lb lf) pa))) H1 := cf_updR hP hD hP1 hkI
    have hD : va_D (fun q : Nat => s.heap.size ≤ q) ((MW m0 m1 m2 m3 cJ th r (nI n) (nI cn) (nI g) lg lf (nI lb) (nI la) op kd sz al) ++ ((oa, .inl (cL, 1, .inr (.inl fo))) :: (CW c0 c1 c2 c3 c4 cR cI ad rf (nI n) r op (nI g) (nI cn) (nI la) (p_pg la lb lg lf) (p_pf la lb lf) pa))) := cf_Dm hD cf_addrL
    refine lv_istore (lv' := [(5, .int 1), (4, .int (nI (5 * it))), (3, .ref oa), (2, .ref m0), (1, .ref c0), (0, .ref b)]) hx hb d_La_law_199 hl (by decide) rfl (fun ls hl => ?_)
    refine lv_aload_n hx hb d_La_law_201 rfl (lv_at hl 3 rfl) ?_
    refine lv_aload_n hx hb d_La_law_202 rfl (lv_at hl 5 rfl) ?_
    refine lv_iload hx hb d_La_law_203 (lv_at hl 1 rfl) ?_
    refine lv_iconst (v := 1) hx hb d_La_law_205 (by decide) ?_
    refine lv_iadd hx hb d_La_law_206 ?_
    refine cf_top (y := nI (5 * it + 1)) (nI_add _ 1) ?_
    refine cf_sld hx hb hX hbl hbA hS (k := (5 * it + 1)) h1 (by omega) hL d_La_law_207 ?_
    refine lv_aload_n hx hb d_La_law_208 rfl (lv_at hl 5 rfl) ?_
    refine lv_iload hx hb d_La_law_209 (lv_at hl 1 rfl) ?_
    refine lv_iconst (v := 2) hx hb d_La_law_211 (by decide) ?_
    refine lv_iadd hx hb d_La_law_212 ?_
    refine cf_top (y := nI (5 * it + 2)) (nI_add _ 2) ?_
    refine cf_sld hx hb hX hbl hbA hS (k := (5 * it + 2)) h2 (by omega) hL d_La_law_213 ?_
    refine lv_aload_n hx hb d_La_law_214 rfl (lv_at hl 5 rfl) ?_
    refine lv_iload hx hb d_La_law_215 (lv_at hl 1 rfl) ?_
    refine lv_iconst (v := 3) hx hb d_La_law_217 (by decide) ?_
    refine lv_iadd hx hb d_La_law_218 ?_
    refine cf_top (y := nI (5 * it + 3)) (nI_add _ 3) ?_
    refine cf_sld hx hb hX hbl hbA hS (k := (5 * it + 3)) h3 (by omega) hL d_La_law_219 ?_
    refine cf_icV (q0 := 0) (ci := 2) (As := [.int x1, .int x2, .int x3]) (rest := []) hx hb hml hown hkk (c_Mo_add_no l D m0 m1 m2 m3 cJ th r (nI cn) (nI g) lg lf (nI lb) (nI la) op kd sz al x1 x2 x3 n hn hgd (cf_t0 (cf_lftD hD))) ce_Mo_add cv_Mo_add kw_341 hKM (cf_lft hP) rfl rfl rfl hS (cf_lftA hD hS hA) (by decide) rfl hl.1 rfl (Nat.le_of_ble_eq_true rfl) d_La_law_220 ⟨by show 70 + it + 1 ≤ 839890; omega, by show 633 + 6 * it + 6 ≤ 6576433; omega⟩ (fun H1 locs1 hP1 hzI hkI hS => ?_)
    have hP : va_P D cf_cl ((MW m0 m1 m2 m3 cJ 1 r (nI n) (nI cn) (nI g) lg lf (nI lb) (nI la) op kd sz al) ++ ((oa, .inl (cL, 1, .inr (.inl fo))) :: (CW c0 c1 c2 c3 c4 cR cI ad rf (nI n) r op (nI g) (nI cn) (nI la) (p_pg la lb lg lf) (p_pf la lb lf) pa))) H1 := cf_updL hP hD hP1 hkI
    have hD : va_D (fun q : Nat => s.heap.size ≤ q) ((MW m0 m1 m2 m3 cJ 1 r (nI n) (nI cn) (nI g) lg lf (nI lb) (nI la) op kd sz al) ++ ((oa, .inl (cL, 1, .inr (.inl fo))) :: (CW c0 c1 c2 c3 c4 cR cI ad rf (nI n) r op (nI g) (nI cn) (nI la) (p_pg la lb lg lf) (p_pf la lb lf) pa))) := cf_Dm hD cf_addrL
    refine lv_istore (lv' := [(6, .int 0), (5, .int 1), (4, .int (nI (5 * it))), (3, .ref oa), (2, .ref m0), (1, .ref c0), (0, .ref b)]) hx hb d_La_law_223 hl (by decide) rfl (fun ls hl => ?_)
    refine lv_aload_n hx hb d_La_law_225 rfl (lv_at hl 4 rfl) ?_
    refine cf_pcV (q0 := 0) (ci := 2) (As := []) (rest := []) hx hb hml hown hkk (c_Mo_thrown l D m0 m1 m2 m3 cJ 1 r (nI n) (nI cn) (nI g) lg lf (nI lb) (nI la) op kd sz al) ce_Mo_thrown cv_Mo_thrown kw_329 hKM (cf_lft hP) rfl rfl rfl ⟨rfl, rfl⟩ (by decide) rfl hl.1 rfl (Nat.le_of_ble_eq_true rfl) d_La_law_226 ⟨by show 70 + it + 1 ≤ 839890; omega, by show 633 + 6 * it + 6 ≤ 6576433; omega⟩ ?_
    refine lv_iload hx hb d_La_law_229 (lv_at hl 1 rfl) ?_
    refine lv_icmp_eq (tgt := 236) hx hb d_La_law_231 (by decide) (fun c_231 => ?_) (fun c_231 => False.elim (absurd c_231 (by decide)))
    refine lv_iload hx hb d_La_law_236 (lv_at hl 1 rfl) ?_
    refine lv_if_ne (tgt := 253) hx hb d_La_law_238 (by decide) (fun c_238 => ?_) (fun c_238 => False.elim (absurd c_238 (by decide)))
    refine lv_goto (tgt := 622) hx hb d_La_law_253 (by decide) ?_
    refine W.widen (k := 70 + it + 1) (n := 633 + 6 * it + 6) (show 70 + it + 1 ≤ 70 + it + 1 from Nat.le_refl _) (show 633 + 6 * it + 6 ≤ 633 + 6 * it + 6 from Nat.le_refl _) ?_
    exact hN _ _ ls ⟨1, r, op, n, kd, sz, al, cn, g, la, lb, lg, lf, fo, pa, hr4, hop, hn, hok, hat, hpa, hg, hg8, Nat.le_succ_of_le hcn, hcg, hla, hlb, hP, hD⟩ hS (lv_sub hl [2, 3, 4, 5, 6] rfl)
end
section
/-! THE LAW: where (printed by gen/law.py) -/
set_option maxHeartbeats 4000000 in
set_option maxRecDepth 100000 in
/-- where -/
theorem law_2 {p : Program} {l : Launch} {e : Env} {s : State} {m : MethodId} {below : List Frame} {meth : Method} {c : Code} {D : va_G} {b L : Nat} {xs : Nat → Int32} {m0 m1 m2 m3 oa c0 c1 c2 c3 c4 : Nat} {cJ cL cR cI : ClassId} {ad : Nat → Nat} {rf : Nat → Option Nat} (hL : L ≤ 2560) (htr : ∀ e : Env, l.admits e → e.platform.stackTraces = false) (C0 : lw_At p s m meth c b L xs) (hst : cf_ST s) (hnc : cf_NC s) (hrf : ∀ i, i < 60 → rf i = some (ad i)) (hKM : va_K D cf_cl [(cJ, .int)] s) (hKW : va_K D cf_cl [(cR, .object "CallFrames$Argument"), (cI, .int), (cL, .long)] s) (it : Nat) (hit : 5 * it + 5 ≤ L) (x1 : Int32) (h1 : xs (5 * it + 1) = x1) (x2 : Int32) (h2 : xs (5 * it + 2) = x2) (H : Heap) (locs : List Loc) (ls : Array Slot) (hI : cf_I D (fun q : Nat => s.heap.size ≤ q) m0 m1 m2 m3 oa c0 c1 c2 c3 c4 cJ cL cR cI ad rf it H) (hS : va_S (fun q : Nat => s.heap.size ≤ q) s.heap H locs) (hl : lv_has ls 7 [(4, .int (nI (5 * it))), (3, .ref oa), (2, .ref m0), (1, .ref c0), (0, .ref b)])
    (hN : ∀ (H1 : Heap) (locs1 : List Loc) (ls1 : Array Slot), cf_I D (fun q : Nat => s.heap.size ≤ q) m0 m1 m2 m3 oa c0 c1 c2 c3 c4 cJ cL cR cI ad rf (it + 1) H1 → va_S (fun q : Nat => s.heap.size ≤ q) s.heap H1 locs1 → lv_has ls1 7 [(4, .int (nI (5 * it))), (3, .ref oa), (2, .ref m0), (1, .ref c0), (0, .ref b)] → W p l e room_1 s m #[Value.ref b] below meth c H1 locs1 (70 + it + 1) (633 + 6 * it + 6) (lw_Z below #[Value.ref b] s) (F0 m 622 ls1 [])) : W p l e room_1 s m #[Value.ref b] below meth c H locs (70 + it) (633 + 6 * it) (lw_Z below #[Value.ref b] s) (F0 m 256 ls []) := by
  obtain ⟨hx, hb, hr, hml, hown, hts, hX, hbl, hlocks, hgv⟩ := C0
  have hown : s.vm.findClass "CallFramesLaw" = some m.cls := hown
  have hkk : cf_KK s := cf_KK.of hts
  have hbA : ¬ (fun q : Nat => s.heap.size ≤ q) b := Nat.not_le.mpr hbl
  have hA : ∀ q : Nat, s.heap.size ≤ q → (fun q : Nat => s.heap.size ≤ q) q := fun _ h => h
  obtain ⟨th, r, op, n, kd, sz, al, cn, g, la, lb, lg, lf, fo, pa, hr4, hop, hn, hok, hat, hpa, hg, hg8, hcn, hcg, hla, hlb, hP, hD⟩ := hI
  refine lv_aload_n hx hb d_La_law_256 rfl (lv_at hl 3 rfl) ?_
  refine lv_aload_n hx hb d_La_law_257 rfl (lv_at hl 4 rfl) ?_
  refine lv_iload hx hb d_La_law_258 (lv_at hl 0 rfl) ?_
  refine lv_iconst (v := 1) hx hb d_La_law_260 (by decide) ?_
  refine lv_iadd hx hb d_La_law_261 ?_
  refine cf_top (y := nI (5 * it + 1)) (nI_add _ 1) ?_
  refine cf_sld hx hb hX hbl hbA hS (k := (5 * it + 1)) h1 (by omega) hL d_La_law_262 ?_
  refine lv_aload_n hx hb d_La_law_263 rfl (lv_at hl 4 rfl) ?_
  refine lv_iload hx hb d_La_law_264 (lv_at hl 0 rfl) ?_
  refine lv_iconst (v := 2) hx hb d_La_law_266 (by decide) ?_
  refine lv_iadd hx hb d_La_law_267 ?_
  refine cf_top (y := nI (5 * it + 2)) (nI_add _ 2) ?_
  refine cf_sld hx hb hX hbl hbA hS (k := (5 * it + 2)) h2 (by omega) hL d_La_law_268 ?_
  refine lv_aload_n hx hb d_La_law_269 rfl (lv_at hl 1 rfl) ?_
  rcases p_tri (x := x1) (r := r) hn with hno | ⟨rfl, rfl⟩ | ⟨q, hq, rfl⟩
  · refine cf_icSW (As := [.ref c0, .int x1, .int x2, .ref oa]) (rest := []) hx hb hml hown hkk (cf_stS hst hnc hS) (c_La_where_no l D c0 oa cR cI cL fo x1 x2 (CW c0 c1 c2 c3 c4 cR cI ad rf (nI n) r op (nI g) (nI cn) (nI la) (p_pg la lb lg lf) (p_pf la lb lf) pa) _ rfl (cf_t0 (cf_rgtD hD)) ({ frames := 7, cells := 1, slots := 6, locals := 102 } : Room) ⟨by decide, by decide, by decide, by decide⟩ (c_Cf_where_no l D htr c0 c1 c2 c3 c4 cR cI ad rf r op (nI g) (nI cn) (nI la) (p_pg la lb lg lf) (p_pf la lb lf) pa n x1 hno x2)) kw_222 kw_0 cy_La_where cs_La_where kw_220 hKW (cf_rgt hP) hS (cf_rgtA hD hS hA) (by decide) rfl hl.1 rfl (Nat.le_of_ble_eq_true rfl) d_La_law_270 ⟨by show 70 + it + 1 ≤ 839890; omega, by show 633 + 6 * it + 6 ≤ 6576433; omega⟩ (fun H1 locs1 hP1 hzI hkI hS => ?_)
    have hP : va_P D cf_cl ((MW m0 m1 m2 m3 cJ th r (nI n) (nI cn) (nI g) lg lf (nI lb) (nI la) op kd sz al) ++ ((oa, .inl (cL, 1, .inr (.inl fo))) :: (CW c0 c1 c2 c3 c4 cR cI ad rf (nI n) r op (nI g) (nI cn) (nI la) (p_pg la lb lg lf) (p_pf la lb lf) pa))) H1 := cf_updR hP hD hP1 hkI
    have hD : va_D (fun q : Nat => s.heap.size ≤ q) ((MW m0 m1 m2 m3 cJ th r (nI n) (nI cn) (nI g) lg lf (nI lb) (nI la) op kd sz al) ++ ((oa, .inl (cL, 1, .inr (.inl fo))) :: (CW c0 c1 c2 c3 c4 cR cI ad rf (nI n) r op (nI g) (nI cn) (nI la) (p_pg la lb lg lf) (p_pf la lb lf) pa))) := cf_Dm hD cf_addrL
    refine lv_istore (lv' := [(5, .int 1), (4, .int (nI (5 * it))), (3, .ref oa), (2, .ref m0), (1, .ref c0), (0, .ref b)]) hx hb d_La_law_273 hl (by decide) rfl (fun ls hl => ?_)
    refine lv_aload_n hx hb d_La_law_275 rfl (lv_at hl 3 rfl) ?_
    refine lv_aload_n hx hb d_La_law_276 rfl (lv_at hl 5 rfl) ?_
    refine lv_iload hx hb d_La_law_277 (lv_at hl 1 rfl) ?_
    refine lv_iconst (v := 1) hx hb d_La_law_279 (by decide) ?_
    refine lv_iadd hx hb d_La_law_280 ?_
    refine cf_top (y := nI (5 * it + 1)) (nI_add _ 1) ?_
    refine cf_sld hx hb hX hbl hbA hS (k := (5 * it + 1)) h1 (by omega) hL d_La_law_281 ?_
    refine lv_aload_n hx hb d_La_law_282 rfl (lv_at hl 5 rfl) ?_
    refine lv_iload hx hb d_La_law_283 (lv_at hl 1 rfl) ?_
    refine lv_iconst (v := 2) hx hb d_La_law_285 (by decide) ?_
    refine lv_iadd hx hb d_La_law_286 ?_
    refine cf_top (y := nI (5 * it + 2)) (nI_add _ 2) ?_
    refine cf_sld hx hb hX hbl hbA hS (k := (5 * it + 2)) h2 (by omega) hL d_La_law_287 ?_
    refine cf_icV (q0 := 0) (ci := 2) (As := [.int x1, .int x2]) (rest := []) hx hb hml hown hkk (c_Mo_where_no l D m0 m1 m2 m3 cJ th r (nI cn) (nI g) lg lf (nI lb) (nI la) op kd sz al x1 x2 n hn hno (cf_t0 (cf_lftD hD))) ce_Mo_where cv_Mo_where kw_365 hKM (cf_lft hP) rfl rfl rfl hS (cf_lftA hD hS hA) (by decide) rfl hl.1 rfl (Nat.le_of_ble_eq_true rfl) d_La_law_288 ⟨by show 70 + it + 1 ≤ 839890; omega, by show 633 + 6 * it + 6 ≤ 6576433; omega⟩ (fun H1 locs1 hP1 hzI hkI hS => ?_)
    have hP : va_P D cf_cl ((MW m0 m1 m2 m3 cJ 1 r (nI n) (nI cn) (nI g) lg lf (nI lb) (nI la) op kd sz al) ++ ((oa, .inl (cL, 1, .inr (.inl fo))) :: (CW c0 c1 c2 c3 c4 cR cI ad rf (nI n) r op (nI g) (nI cn) (nI la) (p_pg la lb lg lf) (p_pf la lb lf) pa))) H1 := cf_updL hP hD hP1 hkI
    have hD : va_D (fun q : Nat => s.heap.size ≤ q) ((MW m0 m1 m2 m3 cJ 1 r (nI n) (nI cn) (nI g) lg lf (nI lb) (nI la) op kd sz al) ++ ((oa, .inl (cL, 1, .inr (.inl fo))) :: (CW c0 c1 c2 c3 c4 cR cI ad rf (nI n) r op (nI g) (nI cn) (nI la) (p_pg la lb lg lf) (p_pf la lb lf) pa))) := cf_Dm hD cf_addrL
    refine lv_istore (lv' := [(6, .int 0), (5, .int 1), (4, .int (nI (5 * it))), (3, .ref oa), (2, .ref m0), (1, .ref c0), (0, .ref b)]) hx hb d_La_law_291 hl (by decide) rfl (fun ls hl => ?_)
    refine lv_aload_n hx hb d_La_law_293 rfl (lv_at hl 4 rfl) ?_
    refine cf_pcV (q0 := 0) (ci := 2) (As := []) (rest := []) hx hb hml hown hkk (c_Mo_thrown l D m0 m1 m2 m3 cJ 1 r (nI n) (nI cn) (nI g) lg lf (nI lb) (nI la) op kd sz al) ce_Mo_thrown cv_Mo_thrown kw_329 hKM (cf_lft hP) rfl rfl rfl ⟨rfl, rfl⟩ (by decide) rfl hl.1 rfl (Nat.le_of_ble_eq_true rfl) d_La_law_294 ⟨by show 70 + it + 1 ≤ 839890; omega, by show 633 + 6 * it + 6 ≤ 6576433; omega⟩ ?_
    refine lv_iload hx hb d_La_law_297 (lv_at hl 1 rfl) ?_
    refine lv_icmp_eq (tgt := 304) hx hb d_La_law_299 (by decide) (fun c_299 => ?_) (fun c_299 => False.elim (absurd c_299 (by decide)))
    refine lv_iload hx hb d_La_law_304 (lv_at hl 1 rfl) ?_
    refine lv_if_ne (tgt := 321) hx hb d_La_law_306 (by decide) (fun c_306 => ?_) (fun c_306 => False.elim (absurd c_306 (by decide)))
    refine lv_goto (tgt := 622) hx hb d_La_law_321 (by decide) ?_
    refine W.widen (k := 70 + it + 1) (n := 633 + 6 * it + 6) (show 70 + it + 1 ≤ 70 + it + 1 from Nat.le_refl _) (show 633 + 6 * it + 6 ≤ 633 + 6 * it + 6 from Nat.le_refl _) ?_
    exact hN _ _ ls ⟨1, r, op, n, kd, sz, al, cn, g, la, lb, lg, lf, fo, pa, hr4, hop, hn, hok, hat, hpa, hg, hg8, Nat.le_succ_of_le hcn, hcg, hla, hlb, hP, hD⟩ hS (lv_sub hl [2, 3, 4, 5, 6] rfl)
  · by_cases hk : x2 < 0 ∨ ¬ x2 < 1
    · refine cf_icSW (As := [.ref c0, .int (-1), .int x2, .ref oa]) (rest := []) hx hb hml hown hkk (cf_stS hst hnc hS) (c_La_where_no l D c0 oa cR cI cL fo (-1) x2 (CW c0 c1 c2 c3 c4 cR cI ad rf (nI n) 3 op (nI g) (nI cn) (nI la) (p_pg la lb lg lf) (p_pf la lb lf) pa) _ rfl (cf_t0 (cf_rgtD hD)) ({ frames := 6, cells := 1, slots := 6, locals := 81 } : Room) ⟨by decide, by decide, by decide, by decide⟩ (c_Cf_where1_no l D htr c0 c1 c2 c3 c4 cR cI ad rf op (nI g) (nI cn) (nI la) (p_pg la lb lg lf) (p_pf la lb lf) pa n hn x2 hk)) kw_222 kw_0 cy_La_where cs_La_where kw_220 hKW (cf_rgt hP) hS (cf_rgtA hD hS hA) (by decide) rfl hl.1 rfl (Nat.le_of_ble_eq_true rfl) d_La_law_270 ⟨by show 70 + it + 1 ≤ 839890; omega, by show 633 + 6 * it + 6 ≤ 6576433; omega⟩ (fun H1 locs1 hP1 hzI hkI hS => ?_)
      have hP : va_P D cf_cl ((MW m0 m1 m2 m3 cJ th 3 (nI n) (nI cn) (nI g) lg lf (nI lb) (nI la) op kd sz al) ++ ((oa, .inl (cL, 1, .inr (.inl fo))) :: (CW c0 c1 c2 c3 c4 cR cI ad rf (nI n) 3 op (nI g) (nI cn) (nI la) (p_pg la lb lg lf) (p_pf la lb lf) pa))) H1 := cf_updR hP hD hP1 hkI
      have hD : va_D (fun q : Nat => s.heap.size ≤ q) ((MW m0 m1 m2 m3 cJ th 3 (nI n) (nI cn) (nI g) lg lf (nI lb) (nI la) op kd sz al) ++ ((oa, .inl (cL, 1, .inr (.inl fo))) :: (CW c0 c1 c2 c3 c4 cR cI ad rf (nI n) 3 op (nI g) (nI cn) (nI la) (p_pg la lb lg lf) (p_pf la lb lf) pa))) := cf_Dm hD cf_addrL
      refine lv_istore (lv' := [(5, .int 1), (4, .int (nI (5 * it))), (3, .ref oa), (2, .ref m0), (1, .ref c0), (0, .ref b)]) hx hb d_La_law_273 hl (by decide) rfl (fun ls hl => ?_)
      refine lv_aload_n hx hb d_La_law_275 rfl (lv_at hl 3 rfl) ?_
      refine lv_aload_n hx hb d_La_law_276 rfl (lv_at hl 5 rfl) ?_
      refine lv_iload hx hb d_La_law_277 (lv_at hl 1 rfl) ?_
      refine lv_iconst (v := 1) hx hb d_La_law_279 (by decide) ?_
      refine lv_iadd hx hb d_La_law_280 ?_
      refine cf_top (y := nI (5 * it + 1)) (nI_add _ 1) ?_
      refine cf_sld hx hb hX hbl hbA hS (k := (5 * it + 1)) h1 (by omega) hL d_La_law_281 ?_
      refine lv_aload_n hx hb d_La_law_282 rfl (lv_at hl 5 rfl) ?_
      refine lv_iload hx hb d_La_law_283 (lv_at hl 1 rfl) ?_
      refine lv_iconst (v := 2) hx hb d_La_law_285 (by decide) ?_
      refine lv_iadd hx hb d_La_law_286 ?_
      refine cf_top (y := nI (5 * it + 2)) (nI_add _ 2) ?_
      refine cf_sld hx hb hX hbl hbA hS (k := (5 * it + 2)) h2 (by omega) hL d_La_law_287 ?_
      refine cf_icV (q0 := 0) (ci := 2) (As := [.int (-1), .int x2]) (rest := []) hx hb hml hown hkk (c_Mo_where1_no l D m0 m1 m2 m3 cJ th (nI cn) (nI g) lg lf (nI lb) (nI la) op kd sz al x2 n hn hk (cf_t0 (cf_lftD hD))) ce_Mo_where cv_Mo_where kw_365 hKM (cf_lft hP) rfl rfl rfl hS (cf_lftA hD hS hA) (by decide) rfl hl.1 rfl (Nat.le_of_ble_eq_true rfl) d_La_law_288 ⟨by show 70 + it + 1 ≤ 839890; omega, by show 633 + 6 * it + 6 ≤ 6576433; omega⟩ (fun H1 locs1 hP1 hzI hkI hS => ?_)
      have hP : va_P D cf_cl ((MW m0 m1 m2 m3 cJ 1 3 (nI n) (nI cn) (nI g) lg lf (nI lb) (nI la) op kd sz al) ++ ((oa, .inl (cL, 1, .inr (.inl fo))) :: (CW c0 c1 c2 c3 c4 cR cI ad rf (nI n) 3 op (nI g) (nI cn) (nI la) (p_pg la lb lg lf) (p_pf la lb lf) pa))) H1 := cf_updL hP hD hP1 hkI
      have hD : va_D (fun q : Nat => s.heap.size ≤ q) ((MW m0 m1 m2 m3 cJ 1 3 (nI n) (nI cn) (nI g) lg lf (nI lb) (nI la) op kd sz al) ++ ((oa, .inl (cL, 1, .inr (.inl fo))) :: (CW c0 c1 c2 c3 c4 cR cI ad rf (nI n) 3 op (nI g) (nI cn) (nI la) (p_pg la lb lg lf) (p_pf la lb lf) pa))) := cf_Dm hD cf_addrL
      refine lv_istore (lv' := [(6, .int 0), (5, .int 1), (4, .int (nI (5 * it))), (3, .ref oa), (2, .ref m0), (1, .ref c0), (0, .ref b)]) hx hb d_La_law_291 hl (by decide) rfl (fun ls hl => ?_)
      refine lv_aload_n hx hb d_La_law_293 rfl (lv_at hl 4 rfl) ?_
      refine cf_pcV (q0 := 0) (ci := 2) (As := []) (rest := []) hx hb hml hown hkk (c_Mo_thrown l D m0 m1 m2 m3 cJ 1 3 (nI n) (nI cn) (nI g) lg lf (nI lb) (nI la) op kd sz al) ce_Mo_thrown cv_Mo_thrown kw_329 hKM (cf_lft hP) rfl rfl rfl ⟨rfl, rfl⟩ (by decide) rfl hl.1 rfl (Nat.le_of_ble_eq_true rfl) d_La_law_294 ⟨by show 70 + it + 1 ≤ 839890; omega, by show 633 + 6 * it + 6 ≤ 6576433; omega⟩ ?_
      refine lv_iload hx hb d_La_law_297 (lv_at hl 1 rfl) ?_
      refine lv_icmp_eq (tgt := 304) hx hb d_La_law_299 (by decide) (fun c_299 => ?_) (fun c_299 => False.elim (absurd c_299 (by decide)))
      refine lv_iload hx hb d_La_law_304 (lv_at hl 1 rfl) ?_
      refine lv_if_ne (tgt := 321) hx hb d_La_law_306 (by decide) (fun c_306 => ?_) (fun c_306 => False.elim (absurd c_306 (by decide)))
      refine lv_goto (tgt := 622) hx hb d_La_law_321 (by decide) ?_
      refine W.widen (k := 70 + it + 1) (n := 633 + 6 * it + 6) (show 70 + it + 1 ≤ 70 + it + 1 from Nat.le_refl _) (show 633 + 6 * it + 6 ≤ 633 + 6 * it + 6 from Nat.le_refl _) ?_
      exact hN _ _ ls ⟨1, 3, op, n, kd, sz, al, cn, g, la, lb, lg, lf, fo, pa, hr4, hop, hn, hok, hat, hpa, hg, hg8, Nat.le_succ_of_le hcn, hcg, hla, hlb, hP, hD⟩ hS (lv_sub hl [2, 3, 4, 5, 6] rfl)
    · obtain rfl := p_k1 hk
      refine cf_icSW (As := [.ref c0, .int (-1), .int 0, .ref oa]) (rest := []) hx hb hml hown hkk (cf_stS hst hnc hS) (c_La_where_ok l D c0 oa cR cI cL fo (-1) 0 (CW c0 c1 c2 c3 c4 cR cI ad rf (nI n) 3 op (nI g) (nI cn) (nI la) (p_pg la lb lg lf) (p_pf la lb lf) pa) _ rfl (cf_t0 (cf_rgtD hD)) ({ frames := 1, cells := 0, slots := 0, locals := 22 } : Room) (4) ⟨rfl, rfl, by decide, by decide⟩ (c_Cf_where1 l D c0 c1 c2 c3 c4 cR cI ad rf op (nI g) (nI cn) (nI la) (p_pg la lb lg lf) (p_pf la lb lf) pa n hn)) kw_222 kw_0 cy_La_where cs_La_where kw_220 hKW (cf_rgt hP) hS (cf_rgtA hD hS hA) (by decide) rfl hl.1 rfl (Nat.le_of_ble_eq_true rfl) d_La_law_270 ⟨by show 70 + it + 1 ≤ 839890; omega, by show 633 + 6 * it + 6 ≤ 6576433; omega⟩ (fun H1 locs1 hP1 hzI hkI hS => ?_)
      have hP : va_P D cf_cl ((MW m0 m1 m2 m3 cJ th 3 (nI n) (nI cn) (nI g) lg lf (nI lb) (nI la) op kd sz al) ++ ((oa, .inl (cL, 1, .inr (.inl (vp_updL fo 0 (4).toInt64)))) :: (CW c0 c1 c2 c3 c4 cR cI ad rf (nI n) 3 op (nI g) (nI cn) (nI la) (p_pg la lb lg lf) (p_pf la lb lf) pa))) H1 := cf_updR hP hD hP1 hkI
      have hD : va_D (fun q : Nat => s.heap.size ≤ q) ((MW m0 m1 m2 m3 cJ th 3 (nI n) (nI cn) (nI g) lg lf (nI lb) (nI la) op kd sz al) ++ ((oa, .inl (cL, 1, .inr (.inl (vp_updL fo 0 (4).toInt64)))) :: (CW c0 c1 c2 c3 c4 cR cI ad rf (nI n) 3 op (nI g) (nI cn) (nI la) (p_pg la lb lg lf) (p_pf la lb lf) pa))) := cf_Dm hD cf_addrL
      refine lv_istore (lv' := [(5, .int 0), (4, .int (nI (5 * it))), (3, .ref oa), (2, .ref m0), (1, .ref c0), (0, .ref b)]) hx hb d_La_law_273 hl (by decide) rfl (fun ls hl => ?_)
      refine lv_aload_n hx hb d_La_law_275 rfl (lv_at hl 3 rfl) ?_
      refine lv_aload_n hx hb d_La_law_276 rfl (lv_at hl 5 rfl) ?_
      refine lv_iload hx hb d_La_law_277 (lv_at hl 1 rfl) ?_
      refine lv_iconst (v := 1) hx hb d_La_law_279 (by decide) ?_
      refine lv_iadd hx hb d_La_law_280 ?_
      refine cf_top (y := nI (5 * it + 1)) (nI_add _ 1) ?_
      refine cf_sld hx hb hX hbl hbA hS (k := (5 * it + 1)) h1 (by omega) hL d_La_law_281 ?_
      refine lv_aload_n hx hb d_La_law_282 rfl (lv_at hl 5 rfl) ?_
      refine lv_iload hx hb d_La_law_283 (lv_at hl 1 rfl) ?_
      refine lv_iconst (v := 2) hx hb d_La_law_285 (by decide) ?_
      refine lv_iadd hx hb d_La_law_286 ?_
      refine cf_top (y := nI (5 * it + 2)) (nI_add _ 2) ?_
      refine cf_sld hx hb hX hbl hbA hS (k := (5 * it + 2)) h2 (by omega) hL d_La_law_287 ?_
      refine cf_icV (q0 := 0) (ci := 2) (As := [.int (-1), .int 0]) (rest := []) hx hb hml hown hkk (c_Mo_where1_ok l D m0 m1 m2 m3 cJ th (nI cn) (nI g) lg lf (nI lb) (nI la) op kd sz al 0 n hn rfl (cf_t0 (cf_lftD hD))) ce_Mo_where cv_Mo_where kw_365 hKM (cf_lft hP) rfl rfl rfl hS (cf_lftA hD hS hA) (by decide) rfl hl.1 rfl (Nat.le_of_ble_eq_true rfl) d_La_law_288 ⟨by show 70 + it + 1 ≤ 839890; omega, by show 633 + 6 * it + 6 ≤ 6576433; omega⟩ (fun H1 locs1 hP1 hzI hkI hS => ?_)
      have hP : va_P D cf_cl ((MW m0 m1 m2 m3 cJ 0 3 (nI n) (nI cn) (nI g) lg lf (nI lb) (nI la) op kd sz al) ++ ((oa, .inl (cL, 1, .inr (.inl (vp_updL fo 0 (4).toInt64)))) :: (CW c0 c1 c2 c3 c4 cR cI ad rf (nI n) 3 op (nI g) (nI cn) (nI la) (p_pg la lb lg lf) (p_pf la lb lf) pa))) H1 := cf_updL hP hD hP1 hkI
      have hD : va_D (fun q : Nat => s.heap.size ≤ q) ((MW m0 m1 m2 m3 cJ 0 3 (nI n) (nI cn) (nI g) lg lf (nI lb) (nI la) op kd sz al) ++ ((oa, .inl (cL, 1, .inr (.inl (vp_updL fo 0 (4).toInt64)))) :: (CW c0 c1 c2 c3 c4 cR cI ad rf (nI n) 3 op (nI g) (nI cn) (nI la) (p_pg la lb lg lf) (p_pf la lb lf) pa))) := cf_Dm hD cf_addrL
      refine lv_istore (lv' := [(6, .int 4), (5, .int 0), (4, .int (nI (5 * it))), (3, .ref oa), (2, .ref m0), (1, .ref c0), (0, .ref b)]) hx hb d_La_law_291 hl (by decide) rfl (fun ls hl => ?_)
      refine lv_aload_n hx hb d_La_law_293 rfl (lv_at hl 4 rfl) ?_
      refine cf_pcV (q0 := 0) (ci := 2) (As := []) (rest := []) hx hb hml hown hkk (c_Mo_thrown l D m0 m1 m2 m3 cJ 0 3 (nI n) (nI cn) (nI g) lg lf (nI lb) (nI la) op kd sz al) ce_Mo_thrown cv_Mo_thrown kw_329 hKM (cf_lft hP) rfl rfl rfl ⟨rfl, rfl⟩ (by decide) rfl hl.1 rfl (Nat.le_of_ble_eq_true rfl) d_La_law_294 ⟨by show 70 + it + 1 ≤ 839890; omega, by show 633 + 6 * it + 6 ≤ 6576433; omega⟩ ?_
      refine lv_iload hx hb d_La_law_297 (lv_at hl 1 rfl) ?_
      refine lv_icmp_eq (tgt := 304) hx hb d_La_law_299 (by decide) (fun c_299 => ?_) (fun c_299 => False.elim (absurd c_299 (by decide)))
      refine lv_iload hx hb d_La_law_304 (lv_at hl 1 rfl) ?_
      refine lv_if_ne (tgt := 321) hx hb d_La_law_306 (by decide) (fun c_306 => False.elim (absurd c_306 (by decide))) (fun c_306 => ?_)
      refine lv_aload_n hx hb d_La_law_309 rfl (lv_at hl 3 rfl) ?_
      refine lv_iconst (v := 0) hx hb d_La_law_310 (by decide) ?_
      refine cf_lald0 hx hb hKW (cf_rgt hP) 0 2 rfl rfl d_La_law_311 ?_
      refine lv_iload hx hb d_La_law_312 (lv_at hl 0 rfl) ?_
      refine lv_i2l hx hb d_La_law_314 rfl ?_
      refine W.lcmp hx hb d_La_law_315 ?_
      refine lv_if_eq (tgt := 321) hx hb d_La_law_316 (by decide) (fun c_316 => ?_) (fun c_316 => False.elim (c_316 (p_cmp rfl)))
      refine lv_goto (tgt := 622) hx hb d_La_law_321 (by decide) ?_
      refine W.widen (k := 70 + it + 1) (n := 633 + 6 * it + 6) (show 70 + it + 1 ≤ 70 + it + 1 from Nat.le_refl _) (show 633 + 6 * it + 6 ≤ 633 + 6 * it + 6 from Nat.le_refl _) ?_
      exact hN _ _ ls ⟨0, 3, op, n, kd, sz, al, cn, g, la, lb, lg, lf, (vp_updL fo 0 (4).toInt64), pa, hr4, hop, hn, hok, hat, hpa, hg, hg8, Nat.le_succ_of_le hcn, hcg, hla, hlb, hP, hD⟩ hS (lv_sub hl [2, 3, 4, 5, 6] rfl)
  · by_cases hk : x2 < 0 ∨ ¬ x2 < nI ((p_b (kd q) (sz q) + 3) / 4)
    · refine cf_icSW (As := [.ref c0, .int (nI q), .int x2, .ref oa]) (rest := []) hx hb hml hown hkk (cf_stS hst hnc hS) (c_La_where_no l D c0 oa cR cI cL fo (nI q) x2 (CW c0 c1 c2 c3 c4 cR cI ad rf (nI n) r op (nI g) (nI cn) (nI la) (p_pg la lb lg lf) (p_pf la lb lf) pa) _ rfl (cf_t0 (cf_rgtD hD)) ({ frames := 6, cells := 1, slots := 6, locals := 81 } : Room) ⟨by decide, by decide, by decide, by decide⟩ (c_Cf_whereJ_no l D htr c0 c1 c2 c3 c4 cR cI ad rf op (nI g) (nI cn) (nI la) (p_pg la lb lg lf) (p_pf la lb lf) pa r kd sz al n hn hrf hpa hok hat q x2 hq hk)) kw_222 kw_0 cy_La_where cs_La_where kw_220 hKW (cf_rgt hP) hS (cf_rgtA hD hS hA) (by decide) rfl hl.1 rfl (Nat.le_of_ble_eq_true rfl) d_La_law_270 ⟨by show 70 + it + 1 ≤ 839890; omega, by show 633 + 6 * it + 6 ≤ 6576433; omega⟩ (fun H1 locs1 hP1 hzI hkI hS => ?_)
      have hP : va_P D cf_cl ((MW m0 m1 m2 m3 cJ th r (nI n) (nI cn) (nI g) lg lf (nI lb) (nI la) op kd sz al) ++ ((oa, .inl (cL, 1, .inr (.inl fo))) :: (CW c0 c1 c2 c3 c4 cR cI ad rf (nI n) r op (nI g) (nI cn) (nI la) (p_pg la lb lg lf) (p_pf la lb lf) pa))) H1 := cf_updR hP hD hP1 hkI
      have hD : va_D (fun q : Nat => s.heap.size ≤ q) ((MW m0 m1 m2 m3 cJ th r (nI n) (nI cn) (nI g) lg lf (nI lb) (nI la) op kd sz al) ++ ((oa, .inl (cL, 1, .inr (.inl fo))) :: (CW c0 c1 c2 c3 c4 cR cI ad rf (nI n) r op (nI g) (nI cn) (nI la) (p_pg la lb lg lf) (p_pf la lb lf) pa))) := cf_Dm hD cf_addrL
      refine lv_istore (lv' := [(5, .int 1), (4, .int (nI (5 * it))), (3, .ref oa), (2, .ref m0), (1, .ref c0), (0, .ref b)]) hx hb d_La_law_273 hl (by decide) rfl (fun ls hl => ?_)
      refine lv_aload_n hx hb d_La_law_275 rfl (lv_at hl 3 rfl) ?_
      refine lv_aload_n hx hb d_La_law_276 rfl (lv_at hl 5 rfl) ?_
      refine lv_iload hx hb d_La_law_277 (lv_at hl 1 rfl) ?_
      refine lv_iconst (v := 1) hx hb d_La_law_279 (by decide) ?_
      refine lv_iadd hx hb d_La_law_280 ?_
      refine cf_top (y := nI (5 * it + 1)) (nI_add _ 1) ?_
      refine cf_sld hx hb hX hbl hbA hS (k := (5 * it + 1)) h1 (by omega) hL d_La_law_281 ?_
      refine lv_aload_n hx hb d_La_law_282 rfl (lv_at hl 5 rfl) ?_
      refine lv_iload hx hb d_La_law_283 (lv_at hl 1 rfl) ?_
      refine lv_iconst (v := 2) hx hb d_La_law_285 (by decide) ?_
      refine lv_iadd hx hb d_La_law_286 ?_
      refine cf_top (y := nI (5 * it + 2)) (nI_add _ 2) ?_
      refine cf_sld hx hb hX hbl hbA hS (k := (5 * it + 2)) h2 (by omega) hL d_La_law_287 ?_
      refine cf_icV (q0 := 0) (ci := 2) (As := [.int (nI q), .int x2]) (rest := []) hx hb hml hown hkk (c_Mo_whereJ_no l D m0 m1 m2 m3 cJ th r (nI cn) (nI g) lg lf (nI lb) (nI la) op kd sz al q x2 n hn hq hok hk (cf_t0 (cf_lftD hD))) ce_Mo_where cv_Mo_where kw_365 hKM (cf_lft hP) rfl rfl rfl hS (cf_lftA hD hS hA) (by decide) rfl hl.1 rfl (Nat.le_of_ble_eq_true rfl) d_La_law_288 ⟨by show 70 + it + 1 ≤ 839890; omega, by show 633 + 6 * it + 6 ≤ 6576433; omega⟩ (fun H1 locs1 hP1 hzI hkI hS => ?_)
      have hP : va_P D cf_cl ((MW m0 m1 m2 m3 cJ 1 r (nI n) (nI cn) (nI g) lg lf (nI lb) (nI la) op kd sz al) ++ ((oa, .inl (cL, 1, .inr (.inl fo))) :: (CW c0 c1 c2 c3 c4 cR cI ad rf (nI n) r op (nI g) (nI cn) (nI la) (p_pg la lb lg lf) (p_pf la lb lf) pa))) H1 := cf_updL hP hD hP1 hkI
      have hD : va_D (fun q : Nat => s.heap.size ≤ q) ((MW m0 m1 m2 m3 cJ 1 r (nI n) (nI cn) (nI g) lg lf (nI lb) (nI la) op kd sz al) ++ ((oa, .inl (cL, 1, .inr (.inl fo))) :: (CW c0 c1 c2 c3 c4 cR cI ad rf (nI n) r op (nI g) (nI cn) (nI la) (p_pg la lb lg lf) (p_pf la lb lf) pa))) := cf_Dm hD cf_addrL
      refine lv_istore (lv' := [(6, .int 0), (5, .int 1), (4, .int (nI (5 * it))), (3, .ref oa), (2, .ref m0), (1, .ref c0), (0, .ref b)]) hx hb d_La_law_291 hl (by decide) rfl (fun ls hl => ?_)
      refine lv_aload_n hx hb d_La_law_293 rfl (lv_at hl 4 rfl) ?_
      refine cf_pcV (q0 := 0) (ci := 2) (As := []) (rest := []) hx hb hml hown hkk (c_Mo_thrown l D m0 m1 m2 m3 cJ 1 r (nI n) (nI cn) (nI g) lg lf (nI lb) (nI la) op kd sz al) ce_Mo_thrown cv_Mo_thrown kw_329 hKM (cf_lft hP) rfl rfl rfl ⟨rfl, rfl⟩ (by decide) rfl hl.1 rfl (Nat.le_of_ble_eq_true rfl) d_La_law_294 ⟨by show 70 + it + 1 ≤ 839890; omega, by show 633 + 6 * it + 6 ≤ 6576433; omega⟩ ?_
      refine lv_iload hx hb d_La_law_297 (lv_at hl 1 rfl) ?_
      refine lv_icmp_eq (tgt := 304) hx hb d_La_law_299 (by decide) (fun c_299 => ?_) (fun c_299 => False.elim (absurd c_299 (by decide)))
      refine lv_iload hx hb d_La_law_304 (lv_at hl 1 rfl) ?_
      refine lv_if_ne (tgt := 321) hx hb d_La_law_306 (by decide) (fun c_306 => ?_) (fun c_306 => False.elim (absurd c_306 (by decide)))
      refine lv_goto (tgt := 622) hx hb d_La_law_321 (by decide) ?_
      refine W.widen (k := 70 + it + 1) (n := 633 + 6 * it + 6) (show 70 + it + 1 ≤ 70 + it + 1 from Nat.le_refl _) (show 633 + 6 * it + 6 ≤ 633 + 6 * it + 6 from Nat.le_refl _) ?_
      exact hN _ _ ls ⟨1, r, op, n, kd, sz, al, cn, g, la, lb, lg, lf, fo, pa, hr4, hop, hn, hok, hat, hpa, hg, hg8, Nat.le_succ_of_le hcn, hcg, hla, hlb, hP, hD⟩ hS (lv_sub hl [2, 3, 4, 5, 6] rfl)
    · obtain ⟨w, hw, rfl⟩ := p_kw (by have := p_ok_b (hok q hq); omega) hk
      by_cases hf : p_fra r op kd q
      · refine cf_icSW (As := [.ref c0, .int (nI q), .int (nI w), .ref oa]) (rest := []) hx hb hml hown hkk (cf_stS hst hnc hS) (c_La_where_ok l D c0 oa cR cI cL fo (nI q) (nI w) (CW c0 c1 c2 c3 c4 cR cI ad rf (nI n) r op (nI g) (nI cn) (nI la) (p_pg la lb lg lf) (p_pf la lb lf) pa) _ rfl (cf_t0 (cf_rgtD hD)) ({ frames := 1, cells := 0, slots := 0, locals := 22 } : Room) (p_whF kd q w) ⟨rfl, rfl, by decide, by decide⟩ (c_Cf_whereF l D c0 c1 c2 c3 c4 cR cI ad rf op (nI g) (nI cn) (nI la) (p_pg la lb lg lf) (p_pf la lb lf) pa r kd sz al n hn hrf hpa hok hat q w hq hw hf)) kw_222 kw_0 cy_La_where cs_La_where kw_220 hKW (cf_rgt hP) hS (cf_rgtA hD hS hA) (by decide) rfl hl.1 rfl (Nat.le_of_ble_eq_true rfl) d_La_law_270 ⟨by show 70 + it + 1 ≤ 839890; omega, by show 633 + 6 * it + 6 ≤ 6576433; omega⟩ (fun H1 locs1 hP1 hzI hkI hS => ?_)
        have hP : va_P D cf_cl ((MW m0 m1 m2 m3 cJ th r (nI n) (nI cn) (nI g) lg lf (nI lb) (nI la) op kd sz al) ++ ((oa, .inl (cL, 1, .inr (.inl (vp_updL fo 0 (p_whF kd q w).toInt64)))) :: (CW c0 c1 c2 c3 c4 cR cI ad rf (nI n) r op (nI g) (nI cn) (nI la) (p_pg la lb lg lf) (p_pf la lb lf) pa))) H1 := cf_updR hP hD hP1 hkI
        have hD : va_D (fun q : Nat => s.heap.size ≤ q) ((MW m0 m1 m2 m3 cJ th r (nI n) (nI cn) (nI g) lg lf (nI lb) (nI la) op kd sz al) ++ ((oa, .inl (cL, 1, .inr (.inl (vp_updL fo 0 (p_whF kd q w).toInt64)))) :: (CW c0 c1 c2 c3 c4 cR cI ad rf (nI n) r op (nI g) (nI cn) (nI la) (p_pg la lb lg lf) (p_pf la lb lf) pa))) := cf_Dm hD cf_addrL
        refine lv_istore (lv' := [(5, .int 0), (4, .int (nI (5 * it))), (3, .ref oa), (2, .ref m0), (1, .ref c0), (0, .ref b)]) hx hb d_La_law_273 hl (by decide) rfl (fun ls hl => ?_)
        refine lv_aload_n hx hb d_La_law_275 rfl (lv_at hl 3 rfl) ?_
        refine lv_aload_n hx hb d_La_law_276 rfl (lv_at hl 5 rfl) ?_
        refine lv_iload hx hb d_La_law_277 (lv_at hl 1 rfl) ?_
        refine lv_iconst (v := 1) hx hb d_La_law_279 (by decide) ?_
        refine lv_iadd hx hb d_La_law_280 ?_
        refine cf_top (y := nI (5 * it + 1)) (nI_add _ 1) ?_
        refine cf_sld hx hb hX hbl hbA hS (k := (5 * it + 1)) h1 (by omega) hL d_La_law_281 ?_
        refine lv_aload_n hx hb d_La_law_282 rfl (lv_at hl 5 rfl) ?_
        refine lv_iload hx hb d_La_law_283 (lv_at hl 1 rfl) ?_
        refine lv_iconst (v := 2) hx hb d_La_law_285 (by decide) ?_
        refine lv_iadd hx hb d_La_law_286 ?_
        refine cf_top (y := nI (5 * it + 2)) (nI_add _ 2) ?_
        refine cf_sld hx hb hX hbl hbA hS (k := (5 * it + 2)) h2 (by omega) hL d_La_law_287 ?_
        refine cf_icV (q0 := 0) (ci := 2) (As := [.int (nI q), .int (nI w)]) (rest := []) hx hb hml hown hkk (c_Mo_whereJ_F l D m0 m1 m2 m3 cJ th r (nI cn) (nI g) lg lf (nI lb) (nI la) op kd sz al q w n hn hq hok hat hw hf (cf_t0 (cf_lftD hD))) ce_Mo_where cv_Mo_where kw_365 hKM (cf_lft hP) rfl rfl rfl hS (cf_lftA hD hS hA) (by decide) rfl hl.1 rfl (Nat.le_of_ble_eq_true rfl) d_La_law_288 ⟨by show 70 + it + 1 ≤ 839890; omega, by show 633 + 6 * it + 6 ≤ 6576433; omega⟩ (fun H1 locs1 hP1 hzI hkI hS => ?_)
        have hP : va_P D cf_cl ((MW m0 m1 m2 m3 cJ 0 r (nI n) (nI cn) (nI g) lg lf (nI lb) (nI la) op kd sz al) ++ ((oa, .inl (cL, 1, .inr (.inl (vp_updL fo 0 (p_whF kd q w).toInt64)))) :: (CW c0 c1 c2 c3 c4 cR cI ad rf (nI n) r op (nI g) (nI cn) (nI la) (p_pg la lb lg lf) (p_pf la lb lf) pa))) H1 := cf_updL hP hD hP1 hkI
        have hD : va_D (fun q : Nat => s.heap.size ≤ q) ((MW m0 m1 m2 m3 cJ 0 r (nI n) (nI cn) (nI g) lg lf (nI lb) (nI la) op kd sz al) ++ ((oa, .inl (cL, 1, .inr (.inl (vp_updL fo 0 (p_whF kd q w).toInt64)))) :: (CW c0 c1 c2 c3 c4 cR cI ad rf (nI n) r op (nI g) (nI cn) (nI la) (p_pg la lb lg lf) (p_pf la lb lf) pa))) := cf_Dm hD cf_addrL
        refine lv_istore (lv' := [(6, .int (p_whF kd q w)), (5, .int 0), (4, .int (nI (5 * it))), (3, .ref oa), (2, .ref m0), (1, .ref c0), (0, .ref b)]) hx hb d_La_law_291 hl (by decide) rfl (fun ls hl => ?_)
        refine lv_aload_n hx hb d_La_law_293 rfl (lv_at hl 4 rfl) ?_
        refine cf_pcV (q0 := 0) (ci := 2) (As := []) (rest := []) hx hb hml hown hkk (c_Mo_thrown l D m0 m1 m2 m3 cJ 0 r (nI n) (nI cn) (nI g) lg lf (nI lb) (nI la) op kd sz al) ce_Mo_thrown cv_Mo_thrown kw_329 hKM (cf_lft hP) rfl rfl rfl ⟨rfl, rfl⟩ (by decide) rfl hl.1 rfl (Nat.le_of_ble_eq_true rfl) d_La_law_294 ⟨by show 70 + it + 1 ≤ 839890; omega, by show 633 + 6 * it + 6 ≤ 6576433; omega⟩ ?_
        refine lv_iload hx hb d_La_law_297 (lv_at hl 1 rfl) ?_
        refine lv_icmp_eq (tgt := 304) hx hb d_La_law_299 (by decide) (fun c_299 => ?_) (fun c_299 => False.elim (absurd c_299 (by decide)))
        refine lv_iload hx hb d_La_law_304 (lv_at hl 1 rfl) ?_
        refine lv_if_ne (tgt := 321) hx hb d_La_law_306 (by decide) (fun c_306 => False.elim (absurd c_306 (by decide))) (fun c_306 => ?_)
        refine lv_aload_n hx hb d_La_law_309 rfl (lv_at hl 3 rfl) ?_
        refine lv_iconst (v := 0) hx hb d_La_law_310 (by decide) ?_
        refine cf_lald0 hx hb hKW (cf_rgt hP) 0 2 rfl rfl d_La_law_311 ?_
        refine lv_iload hx hb d_La_law_312 (lv_at hl 0 rfl) ?_
        refine lv_i2l hx hb d_La_law_314 rfl ?_
        refine W.lcmp hx hb d_La_law_315 ?_
        refine lv_if_eq (tgt := 321) hx hb d_La_law_316 (by decide) (fun c_316 => ?_) (fun c_316 => False.elim (c_316 (p_cmp rfl)))
        refine lv_goto (tgt := 622) hx hb d_La_law_321 (by decide) ?_
        refine W.widen (k := 70 + it + 1) (n := 633 + 6 * it + 6) (show 70 + it + 1 ≤ 70 + it + 1 from Nat.le_refl _) (show 633 + 6 * it + 6 ≤ 633 + 6 * it + 6 from Nat.le_refl _) ?_
        exact hN _ _ ls ⟨0, r, op, n, kd, sz, al, cn, g, la, lb, lg, lf, (vp_updL fo 0 (p_whF kd q w).toInt64), pa, hr4, hop, hn, hok, hat, hpa, hg, hg8, Nat.le_succ_of_le hcn, hcg, hla, hlb, hP, hD⟩ hS (lv_sub hl [2, 3, 4, 5, 6] rfl)
      · refine cf_icSW (As := [.ref c0, .int (nI q), .int (nI w), .ref oa]) (rest := []) hx hb hml hown hkk (cf_stS hst hnc hS) (c_La_where_ok l D c0 oa cR cI cL fo (nI q) (nI w) (CW c0 c1 c2 c3 c4 cR cI ad rf (nI n) r op (nI g) (nI cn) (nI la) (p_pg la lb lg lf) (p_pf la lb lf) pa) _ rfl (cf_t0 (cf_rgtD hD)) ({ frames := 1, cells := 0, slots := 0, locals := 22 } : Room) (p_whG (p_h r kd sz al q) w) ⟨rfl, rfl, by decide, by decide⟩ (c_Cf_whereG l D c0 c1 c2 c3 c4 cR cI ad rf op (nI g) (nI cn) (nI la) (p_pg la lb lg lf) (p_pf la lb lf) pa r kd sz al n hn hrf hpa hok hat q w hq hw hf)) kw_222 kw_0 cy_La_where cs_La_where kw_220 hKW (cf_rgt hP) hS (cf_rgtA hD hS hA) (by decide) rfl hl.1 rfl (Nat.le_of_ble_eq_true rfl) d_La_law_270 ⟨by show 70 + it + 1 ≤ 839890; omega, by show 633 + 6 * it + 6 ≤ 6576433; omega⟩ (fun H1 locs1 hP1 hzI hkI hS => ?_)
        have hP : va_P D cf_cl ((MW m0 m1 m2 m3 cJ th r (nI n) (nI cn) (nI g) lg lf (nI lb) (nI la) op kd sz al) ++ ((oa, .inl (cL, 1, .inr (.inl (vp_updL fo 0 (p_whG (p_h r kd sz al q) w).toInt64)))) :: (CW c0 c1 c2 c3 c4 cR cI ad rf (nI n) r op (nI g) (nI cn) (nI la) (p_pg la lb lg lf) (p_pf la lb lf) pa))) H1 := cf_updR hP hD hP1 hkI
        have hD : va_D (fun q : Nat => s.heap.size ≤ q) ((MW m0 m1 m2 m3 cJ th r (nI n) (nI cn) (nI g) lg lf (nI lb) (nI la) op kd sz al) ++ ((oa, .inl (cL, 1, .inr (.inl (vp_updL fo 0 (p_whG (p_h r kd sz al q) w).toInt64)))) :: (CW c0 c1 c2 c3 c4 cR cI ad rf (nI n) r op (nI g) (nI cn) (nI la) (p_pg la lb lg lf) (p_pf la lb lf) pa))) := cf_Dm hD cf_addrL
        refine lv_istore (lv' := [(5, .int 0), (4, .int (nI (5 * it))), (3, .ref oa), (2, .ref m0), (1, .ref c0), (0, .ref b)]) hx hb d_La_law_273 hl (by decide) rfl (fun ls hl => ?_)
        refine lv_aload_n hx hb d_La_law_275 rfl (lv_at hl 3 rfl) ?_
        refine lv_aload_n hx hb d_La_law_276 rfl (lv_at hl 5 rfl) ?_
        refine lv_iload hx hb d_La_law_277 (lv_at hl 1 rfl) ?_
        refine lv_iconst (v := 1) hx hb d_La_law_279 (by decide) ?_
        refine lv_iadd hx hb d_La_law_280 ?_
        refine cf_top (y := nI (5 * it + 1)) (nI_add _ 1) ?_
        refine cf_sld hx hb hX hbl hbA hS (k := (5 * it + 1)) h1 (by omega) hL d_La_law_281 ?_
        refine lv_aload_n hx hb d_La_law_282 rfl (lv_at hl 5 rfl) ?_
        refine lv_iload hx hb d_La_law_283 (lv_at hl 1 rfl) ?_
        refine lv_iconst (v := 2) hx hb d_La_law_285 (by decide) ?_
        refine lv_iadd hx hb d_La_law_286 ?_
        refine cf_top (y := nI (5 * it + 2)) (nI_add _ 2) ?_
        refine cf_sld hx hb hX hbl hbA hS (k := (5 * it + 2)) h2 (by omega) hL d_La_law_287 ?_
        refine cf_icV (q0 := 0) (ci := 2) (As := [.int (nI q), .int (nI w)]) (rest := []) hx hb hml hown hkk (c_Mo_whereJ_G l D m0 m1 m2 m3 cJ th r (nI cn) (nI g) lg lf (nI lb) (nI la) op kd sz al q w n hn hq hok hat hw hf (cf_t0 (cf_lftD hD))) ce_Mo_where cv_Mo_where kw_365 hKM (cf_lft hP) rfl rfl rfl hS (cf_lftA hD hS hA) (by decide) rfl hl.1 rfl (Nat.le_of_ble_eq_true rfl) d_La_law_288 ⟨by show 70 + it + 1 ≤ 839890; omega, by show 633 + 6 * it + 6 ≤ 6576433; omega⟩ (fun H1 locs1 hP1 hzI hkI hS => ?_)
        have hP : va_P D cf_cl ((MW m0 m1 m2 m3 cJ 0 r (nI n) (nI cn) (nI g) lg lf (nI lb) (nI la) op kd sz al) ++ ((oa, .inl (cL, 1, .inr (.inl (vp_updL fo 0 (p_whG (p_h r kd sz al q) w).toInt64)))) :: (CW c0 c1 c2 c3 c4 cR cI ad rf (nI n) r op (nI g) (nI cn) (nI la) (p_pg la lb lg lf) (p_pf la lb lf) pa))) H1 := cf_updL hP hD hP1 hkI
        have hD : va_D (fun q : Nat => s.heap.size ≤ q) ((MW m0 m1 m2 m3 cJ 0 r (nI n) (nI cn) (nI g) lg lf (nI lb) (nI la) op kd sz al) ++ ((oa, .inl (cL, 1, .inr (.inl (vp_updL fo 0 (p_whG (p_h r kd sz al q) w).toInt64)))) :: (CW c0 c1 c2 c3 c4 cR cI ad rf (nI n) r op (nI g) (nI cn) (nI la) (p_pg la lb lg lf) (p_pf la lb lf) pa))) := cf_Dm hD cf_addrL
        refine lv_istore (lv' := [(6, .int (p_whG (p_h r kd sz al q) w)), (5, .int 0), (4, .int (nI (5 * it))), (3, .ref oa), (2, .ref m0), (1, .ref c0), (0, .ref b)]) hx hb d_La_law_291 hl (by decide) rfl (fun ls hl => ?_)
        refine lv_aload_n hx hb d_La_law_293 rfl (lv_at hl 4 rfl) ?_
        refine cf_pcV (q0 := 0) (ci := 2) (As := []) (rest := []) hx hb hml hown hkk (c_Mo_thrown l D m0 m1 m2 m3 cJ 0 r (nI n) (nI cn) (nI g) lg lf (nI lb) (nI la) op kd sz al) ce_Mo_thrown cv_Mo_thrown kw_329 hKM (cf_lft hP) rfl rfl rfl ⟨rfl, rfl⟩ (by decide) rfl hl.1 rfl (Nat.le_of_ble_eq_true rfl) d_La_law_294 ⟨by show 70 + it + 1 ≤ 839890; omega, by show 633 + 6 * it + 6 ≤ 6576433; omega⟩ ?_
        refine lv_iload hx hb d_La_law_297 (lv_at hl 1 rfl) ?_
        refine lv_icmp_eq (tgt := 304) hx hb d_La_law_299 (by decide) (fun c_299 => ?_) (fun c_299 => False.elim (absurd c_299 (by decide)))
        refine lv_iload hx hb d_La_law_304 (lv_at hl 1 rfl) ?_
        refine lv_if_ne (tgt := 321) hx hb d_La_law_306 (by decide) (fun c_306 => False.elim (absurd c_306 (by decide))) (fun c_306 => ?_)
        refine lv_aload_n hx hb d_La_law_309 rfl (lv_at hl 3 rfl) ?_
        refine lv_iconst (v := 0) hx hb d_La_law_310 (by decide) ?_
        refine cf_lald0 hx hb hKW (cf_rgt hP) 0 2 rfl rfl d_La_law_311 ?_
        refine lv_iload hx hb d_La_law_312 (lv_at hl 0 rfl) ?_
        refine lv_i2l hx hb d_La_law_314 rfl ?_
        refine W.lcmp hx hb d_La_law_315 ?_
        refine lv_if_eq (tgt := 321) hx hb d_La_law_316 (by decide) (fun c_316 => ?_) (fun c_316 => False.elim (c_316 (p_cmp rfl)))
        refine lv_goto (tgt := 622) hx hb d_La_law_321 (by decide) ?_
        refine W.widen (k := 70 + it + 1) (n := 633 + 6 * it + 6) (show 70 + it + 1 ≤ 70 + it + 1 from Nat.le_refl _) (show 633 + 6 * it + 6 ≤ 633 + 6 * it + 6 from Nat.le_refl _) ?_
        exact hN _ _ ls ⟨0, r, op, n, kd, sz, al, cn, g, la, lb, lg, lf, (vp_updL fo 0 (p_whG (p_h r kd sz al q) w).toInt64), pa, hr4, hop, hn, hok, hat, hpa, hg, hg8, Nat.le_succ_of_le hcn, hcg, hla, hlb, hP, hD⟩ hS (lv_sub hl [2, 3, 4, 5, 6] rfl)
end
section
/-! THE LAW: about (printed by gen/law.py) -/
set_option maxHeartbeats 4000000 in
set_option maxRecDepth 100000 in
/-- about -/
theorem law_3 {p : Program} {l : Launch} {e : Env} {s : State} {m : MethodId} {below : List Frame} {meth : Method} {c : Code} {D : va_G} {b L : Nat} {xs : Nat → Int32} {m0 m1 m2 m3 oa c0 c1 c2 c3 c4 : Nat} {cJ cL cR cI : ClassId} {ad : Nat → Nat} {rf : Nat → Option Nat} (hL : L ≤ 2560) (htr : ∀ e : Env, l.admits e → e.platform.stackTraces = false) (C0 : lw_At p s m meth c b L xs) (hst : cf_ST s) (hnc : cf_NC s) (hrf : ∀ i, i < 60 → rf i = some (ad i)) (hKM : va_K D cf_cl [(cJ, .int)] s) (hKW : va_K D cf_cl [(cR, .object "CallFrames$Argument"), (cI, .int), (cL, .long)] s) (it : Nat) (hit : 5 * it + 5 ≤ L) (x1 : Int32) (h1 : xs (5 * it + 1) = x1) (x2 : Int32) (h2 : xs (5 * it + 2) = x2) (H : Heap) (locs : List Loc) (ls : Array Slot) (hI : cf_I D (fun q : Nat => s.heap.size ≤ q) m0 m1 m2 m3 oa c0 c1 c2 c3 c4 cJ cL cR cI ad rf it H) (hS : va_S (fun q : Nat => s.heap.size ≤ q) s.heap H locs) (hl : lv_has ls 7 [(4, .int (nI (5 * it))), (3, .ref oa), (2, .ref m0), (1, .ref c0), (0, .ref b)])
    (hN : ∀ (H1 : Heap) (locs1 : List Loc) (ls1 : Array Slot), cf_I D (fun q : Nat => s.heap.size ≤ q) m0 m1 m2 m3 oa c0 c1 c2 c3 c4 cJ cL cR cI ad rf (it + 1) H1 → va_S (fun q : Nat => s.heap.size ≤ q) s.heap H1 locs1 → lv_has ls1 7 [(4, .int (nI (5 * it))), (3, .ref oa), (2, .ref m0), (1, .ref c0), (0, .ref b)] → W p l e room_1 s m #[Value.ref b] below meth c H1 locs1 (70 + it + 1) (633 + 6 * it + 6) (lw_Z below #[Value.ref b] s) (F0 m 622 ls1 [])) : W p l e room_1 s m #[Value.ref b] below meth c H locs (70 + it) (633 + 6 * it) (lw_Z below #[Value.ref b] s) (F0 m 324 ls []) := by
  obtain ⟨hx, hb, hr, hml, hown, hts, hX, hbl, hlocks, hgv⟩ := C0
  have hown : s.vm.findClass "CallFramesLaw" = some m.cls := hown
  have hkk : cf_KK s := cf_KK.of hts
  have hbA : ¬ (fun q : Nat => s.heap.size ≤ q) b := Nat.not_le.mpr hbl
  have hA : ∀ q : Nat, s.heap.size ≤ q → (fun q : Nat => s.heap.size ≤ q) q := fun _ h => h
  obtain ⟨th, r, op, n, kd, sz, al, cn, g, la, lb, lg, lf, fo, pa, hr4, hop, hn, hok, hat, hpa, hg, hg8, hcn, hcg, hla, hlb, hP, hD⟩ := hI
  refine lv_aload_n hx hb d_La_law_324 rfl (lv_at hl 3 rfl) ?_
  refine lv_aload_n hx hb d_La_law_325 rfl (lv_at hl 4 rfl) ?_
  refine lv_iload hx hb d_La_law_326 (lv_at hl 0 rfl) ?_
  refine lv_iconst (v := 1) hx hb d_La_law_328 (by decide) ?_
  refine lv_iadd hx hb d_La_law_329 ?_
  refine cf_top (y := nI (5 * it + 1)) (nI_add _ 1) ?_
  refine cf_sld hx hb hX hbl hbA hS (k := (5 * it + 1)) h1 (by omega) hL d_La_law_330 ?_
  refine lv_aload_n hx hb d_La_law_331 rfl (lv_at hl 4 rfl) ?_
  refine lv_iload hx hb d_La_law_332 (lv_at hl 0 rfl) ?_
  refine lv_iconst (v := 2) hx hb d_La_law_334 (by decide) ?_
  refine lv_iadd hx hb d_La_law_335 ?_
  refine cf_top (y := nI (5 * it + 2)) (nI_add _ 2) ?_
  refine cf_sld hx hb hX hbl hbA hS (k := (5 * it + 2)) h2 (by omega) hL d_La_law_336 ?_
  refine lv_aload_n hx hb d_La_law_337 rfl (lv_at hl 1 rfl) ?_
  rcases p_tri (x := x1) (r := r) hn with hno | ⟨rfl, rfl⟩ | ⟨q, hq, rfl⟩
  · refine cf_icSW (As := [.ref c0, .int x1, .int x2, .ref oa]) (rest := []) hx hb hml hown hkk (cf_stS hst hnc hS) (c_La_about_no l D c0 oa cR cI cL fo x1 x2 (CW c0 c1 c2 c3 c4 cR cI ad rf (nI n) r op (nI g) (nI cn) (nI la) (p_pg la lb lg lf) (p_pf la lb lf) pa) _ rfl (cf_t0 (cf_rgtD hD)) ({ frames := 7, cells := 1, slots := 6, locals := 102 } : Room) ⟨by decide, by decide, by decide, by decide⟩ (c_Cf_about_no l D htr c0 c1 c2 c3 c4 cR cI ad rf r op (nI g) (nI cn) (nI la) (p_pg la lb lg lf) (p_pf la lb lf) pa n x1 hno x2)) kw_254 kw_0 cy_La_about cs_La_about kw_252 hKW (cf_rgt hP) hS (cf_rgtA hD hS hA) (by decide) rfl hl.1 rfl (Nat.le_of_ble_eq_true rfl) d_La_law_338 ⟨by show 70 + it + 1 ≤ 839890; omega, by show 633 + 6 * it + 6 ≤ 6576433; omega⟩ (fun H1 locs1 hP1 hzI hkI hS => ?_)
    have hP : va_P D cf_cl ((MW m0 m1 m2 m3 cJ th r (nI n) (nI cn) (nI g) lg lf (nI lb) (nI la) op kd sz al) ++ ((oa, .inl (cL, 1, .inr (.inl fo))) :: (CW c0 c1 c2 c3 c4 cR cI ad rf (nI n) r op (nI g) (nI cn) (nI la) (p_pg la lb lg lf) (p_pf la lb lf) pa))) H1 := cf_updR hP hD hP1 hkI
    have hD : va_D (fun q : Nat => s.heap.size ≤ q) ((MW m0 m1 m2 m3 cJ th r (nI n) (nI cn) (nI g) lg lf (nI lb) (nI la) op kd sz al) ++ ((oa, .inl (cL, 1, .inr (.inl fo))) :: (CW c0 c1 c2 c3 c4 cR cI ad rf (nI n) r op (nI g) (nI cn) (nI la) (p_pg la lb lg lf) (p_pf la lb lf) pa))) := cf_Dm hD cf_addrL
    refine lv_istore (lv' := [(5, .int 1), (4, .int (nI (5 * it))), (3, .ref oa), (2, .ref m0), (1, .ref c0), (0, .ref b)]) hx hb d_La_law_341 hl (by decide) rfl (fun ls hl => ?_)
    refine lv_aload_n hx hb d_La_law_343 rfl (lv_at hl 3 rfl) ?_
    refine lv_aload_n hx hb d_La_law_344 rfl (lv_at hl 5 rfl) ?_
    refine lv_iload hx hb d_La_law_345 (lv_at hl 1 rfl) ?_
    refine lv_iconst (v := 1) hx hb d_La_law_347 (by decide) ?_
    refine lv_iadd hx hb d_La_law_348 ?_
    refine cf_top (y := nI (5 * it + 1)) (nI_add _ 1) ?_
    refine cf_sld hx hb hX hbl hbA hS (k := (5 * it + 1)) h1 (by omega) hL d_La_law_349 ?_
    refine lv_aload_n hx hb d_La_law_350 rfl (lv_at hl 5 rfl) ?_
    refine lv_iload hx hb d_La_law_351 (lv_at hl 1 rfl) ?_
    refine lv_iconst (v := 2) hx hb d_La_law_353 (by decide) ?_
    refine lv_iadd hx hb d_La_law_354 ?_
    refine cf_top (y := nI (5 * it + 2)) (nI_add _ 2) ?_
    refine cf_sld hx hb hX hbl hbA hS (k := (5 * it + 2)) h2 (by omega) hL d_La_law_355 ?_
    refine cf_icV (q0 := 0) (ci := 2) (As := [.int x1, .int x2]) (rest := []) hx hb hml hown hkk (c_Mo_about_no l D m0 m1 m2 m3 cJ th r (nI cn) (nI g) lg lf (nI lb) (nI la) op kd sz al x1 x2 n hn (Or.inl hno) (cf_t0 (cf_lftD hD))) ce_Mo_about cv_Mo_about kw_381 hKM (cf_lft hP) rfl rfl rfl hS (cf_lftA hD hS hA) (by decide) rfl hl.1 rfl (Nat.le_of_ble_eq_true rfl) d_La_law_356 ⟨by show 70 + it + 1 ≤ 839890; omega, by show 633 + 6 * it + 6 ≤ 6576433; omega⟩ (fun H1 locs1 hP1 hzI hkI hS => ?_)
    have hP : va_P D cf_cl ((MW m0 m1 m2 m3 cJ 1 r (nI n) (nI cn) (nI g) lg lf (nI lb) (nI la) op kd sz al) ++ ((oa, .inl (cL, 1, .inr (.inl fo))) :: (CW c0 c1 c2 c3 c4 cR cI ad rf (nI n) r op (nI g) (nI cn) (nI la) (p_pg la lb lg lf) (p_pf la lb lf) pa))) H1 := cf_updL hP hD hP1 hkI
    have hD : va_D (fun q : Nat => s.heap.size ≤ q) ((MW m0 m1 m2 m3 cJ 1 r (nI n) (nI cn) (nI g) lg lf (nI lb) (nI la) op kd sz al) ++ ((oa, .inl (cL, 1, .inr (.inl fo))) :: (CW c0 c1 c2 c3 c4 cR cI ad rf (nI n) r op (nI g) (nI cn) (nI la) (p_pg la lb lg lf) (p_pf la lb lf) pa))) := cf_Dm hD cf_addrL
    refine lv_istore (lv' := [(6, .int 0), (5, .int 1), (4, .int (nI (5 * it))), (3, .ref oa), (2, .ref m0), (1, .ref c0), (0, .ref b)]) hx hb d_La_law_359 hl (by decide) rfl (fun ls hl => ?_)
    refine lv_aload_n hx hb d_La_law_361 rfl (lv_at hl 4 rfl) ?_
    refine cf_pcV (q0 := 0) (ci := 2) (As := []) (rest := []) hx hb hml hown hkk (c_Mo_thrown l D m0 m1 m2 m3 cJ 1 r (nI n) (nI cn) (nI g) lg lf (nI lb) (nI la) op kd sz al) ce_Mo_thrown cv_Mo_thrown kw_329 hKM (cf_lft hP) rfl rfl rfl ⟨rfl, rfl⟩ (by decide) rfl hl.1 rfl (Nat.le_of_ble_eq_true rfl) d_La_law_362 ⟨by show 70 + it + 1 ≤ 839890; omega, by show 633 + 6 * it + 6 ≤ 6576433; omega⟩ ?_
    refine lv_iload hx hb d_La_law_365 (lv_at hl 1 rfl) ?_
    refine lv_icmp_eq (tgt := 372) hx hb d_La_law_367 (by decide) (fun c_367 => ?_) (fun c_367 => False.elim (absurd c_367 (by decide)))
    refine lv_iload hx hb d_La_law_372 (lv_at hl 1 rfl) ?_
    refine lv_if_ne (tgt := 389) hx hb d_La_law_374 (by decide) (fun c_374 => ?_) (fun c_374 => False.elim (absurd c_374 (by decide)))
    refine lv_goto (tgt := 622) hx hb d_La_law_389 (by decide) ?_
    refine W.widen (k := 70 + it + 1) (n := 633 + 6 * it + 6) (show 70 + it + 1 ≤ 70 + it + 1 from Nat.le_refl _) (show 633 + 6 * it + 6 ≤ 633 + 6 * it + 6 from Nat.le_refl _) ?_
    exact hN _ _ ls ⟨1, r, op, n, kd, sz, al, cn, g, la, lb, lg, lf, fo, pa, hr4, hop, hn, hok, hat, hpa, hg, hg8, Nat.le_succ_of_le hcn, hcg, hla, hlb, hP, hD⟩ hS (lv_sub hl [2, 3, 4, 5, 6] rfl)
  · by_cases hk : x2 < 0 ∨ ¬ x2 ≤ 2
    · refine cf_icSW (As := [.ref c0, .int (-1), .int x2, .ref oa]) (rest := []) hx hb hml hown hkk (cf_stS hst hnc hS) (c_La_about_no l D c0 oa cR cI cL fo (-1) x2 (CW c0 c1 c2 c3 c4 cR cI ad rf (nI n) 3 op (nI g) (nI cn) (nI la) (p_pg la lb lg lf) (p_pf la lb lf) pa) _ rfl (cf_t0 (cf_rgtD hD)) ({ frames := 6, cells := 1, slots := 6, locals := 81 } : Room) ⟨by decide, by decide, by decide, by decide⟩ (c_Cf_about1_no l D htr c0 c1 c2 c3 c4 cR cI ad rf op (nI g) (nI cn) (nI la) (p_pg la lb lg lf) (p_pf la lb lf) pa n hn x2 hk)) kw_254 kw_0 cy_La_about cs_La_about kw_252 hKW (cf_rgt hP) hS (cf_rgtA hD hS hA) (by decide) rfl hl.1 rfl (Nat.le_of_ble_eq_true rfl) d_La_law_338 ⟨by show 70 + it + 1 ≤ 839890; omega, by show 633 + 6 * it + 6 ≤ 6576433; omega⟩ (fun H1 locs1 hP1 hzI hkI hS => ?_)
      have hP : va_P D cf_cl ((MW m0 m1 m2 m3 cJ th 3 (nI n) (nI cn) (nI g) lg lf (nI lb) (nI la) op kd sz al) ++ ((oa, .inl (cL, 1, .inr (.inl fo))) :: (CW c0 c1 c2 c3 c4 cR cI ad rf (nI n) 3 op (nI g) (nI cn) (nI la) (p_pg la lb lg lf) (p_pf la lb lf) pa))) H1 := cf_updR hP hD hP1 hkI
      have hD : va_D (fun q : Nat => s.heap.size ≤ q) ((MW m0 m1 m2 m3 cJ th 3 (nI n) (nI cn) (nI g) lg lf (nI lb) (nI la) op kd sz al) ++ ((oa, .inl (cL, 1, .inr (.inl fo))) :: (CW c0 c1 c2 c3 c4 cR cI ad rf (nI n) 3 op (nI g) (nI cn) (nI la) (p_pg la lb lg lf) (p_pf la lb lf) pa))) := cf_Dm hD cf_addrL
      refine lv_istore (lv' := [(5, .int 1), (4, .int (nI (5 * it))), (3, .ref oa), (2, .ref m0), (1, .ref c0), (0, .ref b)]) hx hb d_La_law_341 hl (by decide) rfl (fun ls hl => ?_)
      refine lv_aload_n hx hb d_La_law_343 rfl (lv_at hl 3 rfl) ?_
      refine lv_aload_n hx hb d_La_law_344 rfl (lv_at hl 5 rfl) ?_
      refine lv_iload hx hb d_La_law_345 (lv_at hl 1 rfl) ?_
      refine lv_iconst (v := 1) hx hb d_La_law_347 (by decide) ?_
      refine lv_iadd hx hb d_La_law_348 ?_
      refine cf_top (y := nI (5 * it + 1)) (nI_add _ 1) ?_
      refine cf_sld hx hb hX hbl hbA hS (k := (5 * it + 1)) h1 (by omega) hL d_La_law_349 ?_
      refine lv_aload_n hx hb d_La_law_350 rfl (lv_at hl 5 rfl) ?_
      refine lv_iload hx hb d_La_law_351 (lv_at hl 1 rfl) ?_
      refine lv_iconst (v := 2) hx hb d_La_law_353 (by decide) ?_
      refine lv_iadd hx hb d_La_law_354 ?_
      refine cf_top (y := nI (5 * it + 2)) (nI_add _ 2) ?_
      refine cf_sld hx hb hX hbl hbA hS (k := (5 * it + 2)) h2 (by omega) hL d_La_law_355 ?_
      refine cf_icV (q0 := 0) (ci := 2) (As := [.int (-1), .int x2]) (rest := []) hx hb hml hown hkk (c_Mo_about_no l D m0 m1 m2 m3 cJ th 3 (nI cn) (nI g) lg lf (nI lb) (nI la) op kd sz al (-1) x2 n hn (Or.inr hk) (cf_t0 (cf_lftD hD))) ce_Mo_about cv_Mo_about kw_381 hKM (cf_lft hP) rfl rfl rfl hS (cf_lftA hD hS hA) (by decide) rfl hl.1 rfl (Nat.le_of_ble_eq_true rfl) d_La_law_356 ⟨by show 70 + it + 1 ≤ 839890; omega, by show 633 + 6 * it + 6 ≤ 6576433; omega⟩ (fun H1 locs1 hP1 hzI hkI hS => ?_)
      have hP : va_P D cf_cl ((MW m0 m1 m2 m3 cJ 1 3 (nI n) (nI cn) (nI g) lg lf (nI lb) (nI la) op kd sz al) ++ ((oa, .inl (cL, 1, .inr (.inl fo))) :: (CW c0 c1 c2 c3 c4 cR cI ad rf (nI n) 3 op (nI g) (nI cn) (nI la) (p_pg la lb lg lf) (p_pf la lb lf) pa))) H1 := cf_updL hP hD hP1 hkI
      have hD : va_D (fun q : Nat => s.heap.size ≤ q) ((MW m0 m1 m2 m3 cJ 1 3 (nI n) (nI cn) (nI g) lg lf (nI lb) (nI la) op kd sz al) ++ ((oa, .inl (cL, 1, .inr (.inl fo))) :: (CW c0 c1 c2 c3 c4 cR cI ad rf (nI n) 3 op (nI g) (nI cn) (nI la) (p_pg la lb lg lf) (p_pf la lb lf) pa))) := cf_Dm hD cf_addrL
      refine lv_istore (lv' := [(6, .int 0), (5, .int 1), (4, .int (nI (5 * it))), (3, .ref oa), (2, .ref m0), (1, .ref c0), (0, .ref b)]) hx hb d_La_law_359 hl (by decide) rfl (fun ls hl => ?_)
      refine lv_aload_n hx hb d_La_law_361 rfl (lv_at hl 4 rfl) ?_
      refine cf_pcV (q0 := 0) (ci := 2) (As := []) (rest := []) hx hb hml hown hkk (c_Mo_thrown l D m0 m1 m2 m3 cJ 1 3 (nI n) (nI cn) (nI g) lg lf (nI lb) (nI la) op kd sz al) ce_Mo_thrown cv_Mo_thrown kw_329 hKM (cf_lft hP) rfl rfl rfl ⟨rfl, rfl⟩ (by decide) rfl hl.1 rfl (Nat.le_of_ble_eq_true rfl) d_La_law_362 ⟨by show 70 + it + 1 ≤ 839890; omega, by show 633 + 6 * it + 6 ≤ 6576433; omega⟩ ?_
      refine lv_iload hx hb d_La_law_365 (lv_at hl 1 rfl) ?_
      refine lv_icmp_eq (tgt := 372) hx hb d_La_law_367 (by decide) (fun c_367 => ?_) (fun c_367 => False.elim (absurd c_367 (by decide)))
      refine lv_iload hx hb d_La_law_372 (lv_at hl 1 rfl) ?_
      refine lv_if_ne (tgt := 389) hx hb d_La_law_374 (by decide) (fun c_374 => ?_) (fun c_374 => False.elim (absurd c_374 (by decide)))
      refine lv_goto (tgt := 622) hx hb d_La_law_389 (by decide) ?_
      refine W.widen (k := 70 + it + 1) (n := 633 + 6 * it + 6) (show 70 + it + 1 ≤ 70 + it + 1 from Nat.le_refl _) (show 633 + 6 * it + 6 ≤ 633 + 6 * it + 6 from Nat.le_refl _) ?_
      exact hN _ _ ls ⟨1, 3, op, n, kd, sz, al, cn, g, la, lb, lg, lf, fo, pa, hr4, hop, hn, hok, hat, hpa, hg, hg8, Nat.le_succ_of_le hcn, hcg, hla, hlb, hP, hD⟩ hS (lv_sub hl [2, 3, 4, 5, 6] rfl)
    · have hk := p_w2 hk
      refine cf_icSW (As := [.ref c0, .int (-1), .int x2, .ref oa]) (rest := []) hx hb hml hown hkk (cf_stS hst hnc hS) (c_La_about_ok l D c0 oa cR cI cL fo (-1) x2 (CW c0 c1 c2 c3 c4 cR cI ad rf (nI n) 3 op (nI g) (nI cn) (nI la) (p_pg la lb lg lf) (p_pf la lb lf) pa) _ rfl (cf_t0 (cf_rgtD hD)) ({ frames := 1, cells := 0, slots := 0, locals := 21 } : Room) ((if x2 = 0 then 0 else if x2 = 1 then 4 else 1 : Int32)) ⟨rfl, rfl, by decide, by decide⟩ (c_Cf_about1 l D c0 c1 c2 c3 c4 cR cI ad rf op (nI g) (nI cn) (nI la) (p_pg la lb lg lf) (p_pf la lb lf) pa n hn x2 hk.1 hk.2)) kw_254 kw_0 cy_La_about cs_La_about kw_252 hKW (cf_rgt hP) hS (cf_rgtA hD hS hA) (by decide) rfl hl.1 rfl (Nat.le_of_ble_eq_true rfl) d_La_law_338 ⟨by show 70 + it + 1 ≤ 839890; omega, by show 633 + 6 * it + 6 ≤ 6576433; omega⟩ (fun H1 locs1 hP1 hzI hkI hS => ?_)
      have hP : va_P D cf_cl ((MW m0 m1 m2 m3 cJ th 3 (nI n) (nI cn) (nI g) lg lf (nI lb) (nI la) op kd sz al) ++ ((oa, .inl (cL, 1, .inr (.inl (vp_updL fo 0 ((if x2 = 0 then 0 else if x2 = 1 then 4 else 1 : Int32)).toInt64)))) :: (CW c0 c1 c2 c3 c4 cR cI ad rf (nI n) 3 op (nI g) (nI cn) (nI la) (p_pg la lb lg lf) (p_pf la lb lf) pa))) H1 := cf_updR hP hD hP1 hkI
      have hD : va_D (fun q : Nat => s.heap.size ≤ q) ((MW m0 m1 m2 m3 cJ th 3 (nI n) (nI cn) (nI g) lg lf (nI lb) (nI la) op kd sz al) ++ ((oa, .inl (cL, 1, .inr (.inl (vp_updL fo 0 ((if x2 = 0 then 0 else if x2 = 1 then 4 else 1 : Int32)).toInt64)))) :: (CW c0 c1 c2 c3 c4 cR cI ad rf (nI n) 3 op (nI g) (nI cn) (nI la) (p_pg la lb lg lf) (p_pf la lb lf) pa))) := cf_Dm hD cf_addrL
      refine lv_istore (lv' := [(5, .int 0), (4, .int (nI (5 * it))), (3, .ref oa), (2, .ref m0), (1, .ref c0), (0, .ref b)]) hx hb d_La_law_341 hl (by decide) rfl (fun ls hl => ?_)
      refine lv_aload_n hx hb d_La_law_343 rfl (lv_at hl 3 rfl) ?_
      refine lv_aload_n hx hb d_La_law_344 rfl (lv_at hl 5 rfl) ?_
      refine lv_iload hx hb d_La_law_345 (lv_at hl 1 rfl) ?_
      refine lv_iconst (v := 1) hx hb d_La_law_347 (by decide) ?_
      refine lv_iadd hx hb d_La_law_348 ?_
      refine cf_top (y := nI (5 * it + 1)) (nI_add _ 1) ?_
      refine cf_sld hx hb hX hbl hbA hS (k := (5 * it + 1)) h1 (by omega) hL d_La_law_349 ?_
      refine lv_aload_n hx hb d_La_law_350 rfl (lv_at hl 5 rfl) ?_
      refine lv_iload hx hb d_La_law_351 (lv_at hl 1 rfl) ?_
      refine lv_iconst (v := 2) hx hb d_La_law_353 (by decide) ?_
      refine lv_iadd hx hb d_La_law_354 ?_
      refine cf_top (y := nI (5 * it + 2)) (nI_add _ 2) ?_
      refine cf_sld hx hb hX hbl hbA hS (k := (5 * it + 2)) h2 (by omega) hL d_La_law_355 ?_
      refine cf_icV (q0 := 0) (ci := 2) (As := [.int (-1), .int x2]) (rest := []) hx hb hml hown hkk (c_Mo_about1_ok l D m0 m1 m2 m3 cJ th (nI cn) (nI g) lg lf (nI lb) (nI la) op kd sz al x2 n hn hk.1 hk.2 (cf_t0 (cf_lftD hD))) ce_Mo_about cv_Mo_about kw_381 hKM (cf_lft hP) rfl rfl rfl hS (cf_lftA hD hS hA) (by decide) rfl hl.1 rfl (Nat.le_of_ble_eq_true rfl) d_La_law_356 ⟨by show 70 + it + 1 ≤ 839890; omega, by show 633 + 6 * it + 6 ≤ 6576433; omega⟩ (fun H1 locs1 hP1 hzI hkI hS => ?_)
      have hP : va_P D cf_cl ((MW m0 m1 m2 m3 cJ 0 3 (nI n) (nI cn) (nI g) lg lf (nI lb) (nI la) op kd sz al) ++ ((oa, .inl (cL, 1, .inr (.inl (vp_updL fo 0 ((if x2 = 0 then 0 else if x2 = 1 then 4 else 1 : Int32)).toInt64)))) :: (CW c0 c1 c2 c3 c4 cR cI ad rf (nI n) 3 op (nI g) (nI cn) (nI la) (p_pg la lb lg lf) (p_pf la lb lf) pa))) H1 := cf_updL hP hD hP1 hkI
      have hD : va_D (fun q : Nat => s.heap.size ≤ q) ((MW m0 m1 m2 m3 cJ 0 3 (nI n) (nI cn) (nI g) lg lf (nI lb) (nI la) op kd sz al) ++ ((oa, .inl (cL, 1, .inr (.inl (vp_updL fo 0 ((if x2 = 0 then 0 else if x2 = 1 then 4 else 1 : Int32)).toInt64)))) :: (CW c0 c1 c2 c3 c4 cR cI ad rf (nI n) 3 op (nI g) (nI cn) (nI la) (p_pg la lb lg lf) (p_pf la lb lf) pa))) := cf_Dm hD cf_addrL
      refine lv_istore (lv' := [(6, .int (if x2 = 0 then 0 else if x2 = 1 then 4 else 1 : Int32)), (5, .int 0), (4, .int (nI (5 * it))), (3, .ref oa), (2, .ref m0), (1, .ref c0), (0, .ref b)]) hx hb d_La_law_359 hl (by decide) rfl (fun ls hl => ?_)
      refine lv_aload_n hx hb d_La_law_361 rfl (lv_at hl 4 rfl) ?_
      refine cf_pcV (q0 := 0) (ci := 2) (As := []) (rest := []) hx hb hml hown hkk (c_Mo_thrown l D m0 m1 m2 m3 cJ 0 3 (nI n) (nI cn) (nI g) lg lf (nI lb) (nI la) op kd sz al) ce_Mo_thrown cv_Mo_thrown kw_329 hKM (cf_lft hP) rfl rfl rfl ⟨rfl, rfl⟩ (by decide) rfl hl.1 rfl (Nat.le_of_ble_eq_true rfl) d_La_law_362 ⟨by show 70 + it + 1 ≤ 839890; omega, by show 633 + 6 * it + 6 ≤ 6576433; omega⟩ ?_
      refine lv_iload hx hb d_La_law_365 (lv_at hl 1 rfl) ?_
      refine lv_icmp_eq (tgt := 372) hx hb d_La_law_367 (by decide) (fun c_367 => ?_) (fun c_367 => False.elim (absurd c_367 (by decide)))
      refine lv_iload hx hb d_La_law_372 (lv_at hl 1 rfl) ?_
      refine lv_if_ne (tgt := 389) hx hb d_La_law_374 (by decide) (fun c_374 => False.elim (absurd c_374 (by decide))) (fun c_374 => ?_)
      refine lv_aload_n hx hb d_La_law_377 rfl (lv_at hl 3 rfl) ?_
      refine lv_iconst (v := 0) hx hb d_La_law_378 (by decide) ?_
      refine cf_lald0 hx hb hKW (cf_rgt hP) 0 2 rfl rfl d_La_law_379 ?_
      refine lv_iload hx hb d_La_law_380 (lv_at hl 0 rfl) ?_
      refine lv_i2l hx hb d_La_law_382 rfl ?_
      refine W.lcmp hx hb d_La_law_383 ?_
      refine lv_if_eq (tgt := 389) hx hb d_La_law_384 (by decide) (fun c_384 => ?_) (fun c_384 => False.elim (c_384 (p_cmp rfl)))
      refine lv_goto (tgt := 622) hx hb d_La_law_389 (by decide) ?_
      refine W.widen (k := 70 + it + 1) (n := 633 + 6 * it + 6) (show 70 + it + 1 ≤ 70 + it + 1 from Nat.le_refl _) (show 633 + 6 * it + 6 ≤ 633 + 6 * it + 6 from Nat.le_refl _) ?_
      exact hN _ _ ls ⟨0, 3, op, n, kd, sz, al, cn, g, la, lb, lg, lf, (vp_updL fo 0 ((if x2 = 0 then 0 else if x2 = 1 then 4 else 1 : Int32)).toInt64), pa, hr4, hop, hn, hok, hat, hpa, hg, hg8, Nat.le_succ_of_le hcn, hcg, hla, hlb, hP, hD⟩ hS (lv_sub hl [2, 3, 4, 5, 6] rfl)
  · by_cases hk : x2 < 0 ∨ ¬ x2 ≤ 2
    · refine cf_icSW (As := [.ref c0, .int (nI q), .int x2, .ref oa]) (rest := []) hx hb hml hown hkk (cf_stS hst hnc hS) (c_La_about_no l D c0 oa cR cI cL fo (nI q) x2 (CW c0 c1 c2 c3 c4 cR cI ad rf (nI n) r op (nI g) (nI cn) (nI la) (p_pg la lb lg lf) (p_pf la lb lf) pa) _ rfl (cf_t0 (cf_rgtD hD)) ({ frames := 6, cells := 1, slots := 6, locals := 81 } : Room) ⟨by decide, by decide, by decide, by decide⟩ (c_Cf_aboutJ_no l D htr c0 c1 c2 c3 c4 cR cI ad rf r op (nI g) (nI cn) (nI la) (p_pg la lb lg lf) (p_pf la lb lf) pa n q hn hq hrf x2 hk)) kw_254 kw_0 cy_La_about cs_La_about kw_252 hKW (cf_rgt hP) hS (cf_rgtA hD hS hA) (by decide) rfl hl.1 rfl (Nat.le_of_ble_eq_true rfl) d_La_law_338 ⟨by show 70 + it + 1 ≤ 839890; omega, by show 633 + 6 * it + 6 ≤ 6576433; omega⟩ (fun H1 locs1 hP1 hzI hkI hS => ?_)
      have hP : va_P D cf_cl ((MW m0 m1 m2 m3 cJ th r (nI n) (nI cn) (nI g) lg lf (nI lb) (nI la) op kd sz al) ++ ((oa, .inl (cL, 1, .inr (.inl fo))) :: (CW c0 c1 c2 c3 c4 cR cI ad rf (nI n) r op (nI g) (nI cn) (nI la) (p_pg la lb lg lf) (p_pf la lb lf) pa))) H1 := cf_updR hP hD hP1 hkI
      have hD : va_D (fun q : Nat => s.heap.size ≤ q) ((MW m0 m1 m2 m3 cJ th r (nI n) (nI cn) (nI g) lg lf (nI lb) (nI la) op kd sz al) ++ ((oa, .inl (cL, 1, .inr (.inl fo))) :: (CW c0 c1 c2 c3 c4 cR cI ad rf (nI n) r op (nI g) (nI cn) (nI la) (p_pg la lb lg lf) (p_pf la lb lf) pa))) := cf_Dm hD cf_addrL
      refine lv_istore (lv' := [(5, .int 1), (4, .int (nI (5 * it))), (3, .ref oa), (2, .ref m0), (1, .ref c0), (0, .ref b)]) hx hb d_La_law_341 hl (by decide) rfl (fun ls hl => ?_)
      refine lv_aload_n hx hb d_La_law_343 rfl (lv_at hl 3 rfl) ?_
      refine lv_aload_n hx hb d_La_law_344 rfl (lv_at hl 5 rfl) ?_
      refine lv_iload hx hb d_La_law_345 (lv_at hl 1 rfl) ?_
      refine lv_iconst (v := 1) hx hb d_La_law_347 (by decide) ?_
      refine lv_iadd hx hb d_La_law_348 ?_
      refine cf_top (y := nI (5 * it + 1)) (nI_add _ 1) ?_
      refine cf_sld hx hb hX hbl hbA hS (k := (5 * it + 1)) h1 (by omega) hL d_La_law_349 ?_
      refine lv_aload_n hx hb d_La_law_350 rfl (lv_at hl 5 rfl) ?_
      refine lv_iload hx hb d_La_law_351 (lv_at hl 1 rfl) ?_
      refine lv_iconst (v := 2) hx hb d_La_law_353 (by decide) ?_
      refine lv_iadd hx hb d_La_law_354 ?_
      refine cf_top (y := nI (5 * it + 2)) (nI_add _ 2) ?_
      refine cf_sld hx hb hX hbl hbA hS (k := (5 * it + 2)) h2 (by omega) hL d_La_law_355 ?_
      refine cf_icV (q0 := 0) (ci := 2) (As := [.int (nI q), .int x2]) (rest := []) hx hb hml hown hkk (c_Mo_about_no l D m0 m1 m2 m3 cJ th r (nI cn) (nI g) lg lf (nI lb) (nI la) op kd sz al (nI q) x2 n hn (Or.inr hk) (cf_t0 (cf_lftD hD))) ce_Mo_about cv_Mo_about kw_381 hKM (cf_lft hP) rfl rfl rfl hS (cf_lftA hD hS hA) (by decide) rfl hl.1 rfl (Nat.le_of_ble_eq_true rfl) d_La_law_356 ⟨by show 70 + it + 1 ≤ 839890; omega, by show 633 + 6 * it + 6 ≤ 6576433; omega⟩ (fun H1 locs1 hP1 hzI hkI hS => ?_)
      have hP : va_P D cf_cl ((MW m0 m1 m2 m3 cJ 1 r (nI n) (nI cn) (nI g) lg lf (nI lb) (nI la) op kd sz al) ++ ((oa, .inl (cL, 1, .inr (.inl fo))) :: (CW c0 c1 c2 c3 c4 cR cI ad rf (nI n) r op (nI g) (nI cn) (nI la) (p_pg la lb lg lf) (p_pf la lb lf) pa))) H1 := cf_updL hP hD hP1 hkI
      have hD : va_D (fun q : Nat => s.heap.size ≤ q) ((MW m0 m1 m2 m3 cJ 1 r (nI n) (nI cn) (nI g) lg lf (nI lb) (nI la) op kd sz al) ++ ((oa, .inl (cL, 1, .inr (.inl fo))) :: (CW c0 c1 c2 c3 c4 cR cI ad rf (nI n) r op (nI g) (nI cn) (nI la) (p_pg la lb lg lf) (p_pf la lb lf) pa))) := cf_Dm hD cf_addrL
      refine lv_istore (lv' := [(6, .int 0), (5, .int 1), (4, .int (nI (5 * it))), (3, .ref oa), (2, .ref m0), (1, .ref c0), (0, .ref b)]) hx hb d_La_law_359 hl (by decide) rfl (fun ls hl => ?_)
      refine lv_aload_n hx hb d_La_law_361 rfl (lv_at hl 4 rfl) ?_
      refine cf_pcV (q0 := 0) (ci := 2) (As := []) (rest := []) hx hb hml hown hkk (c_Mo_thrown l D m0 m1 m2 m3 cJ 1 r (nI n) (nI cn) (nI g) lg lf (nI lb) (nI la) op kd sz al) ce_Mo_thrown cv_Mo_thrown kw_329 hKM (cf_lft hP) rfl rfl rfl ⟨rfl, rfl⟩ (by decide) rfl hl.1 rfl (Nat.le_of_ble_eq_true rfl) d_La_law_362 ⟨by show 70 + it + 1 ≤ 839890; omega, by show 633 + 6 * it + 6 ≤ 6576433; omega⟩ ?_
      refine lv_iload hx hb d_La_law_365 (lv_at hl 1 rfl) ?_
      refine lv_icmp_eq (tgt := 372) hx hb d_La_law_367 (by decide) (fun c_367 => ?_) (fun c_367 => False.elim (absurd c_367 (by decide)))
      refine lv_iload hx hb d_La_law_372 (lv_at hl 1 rfl) ?_
      refine lv_if_ne (tgt := 389) hx hb d_La_law_374 (by decide) (fun c_374 => ?_) (fun c_374 => False.elim (absurd c_374 (by decide)))
      refine lv_goto (tgt := 622) hx hb d_La_law_389 (by decide) ?_
      refine W.widen (k := 70 + it + 1) (n := 633 + 6 * it + 6) (show 70 + it + 1 ≤ 70 + it + 1 from Nat.le_refl _) (show 633 + 6 * it + 6 ≤ 633 + 6 * it + 6 from Nat.le_refl _) ?_
      exact hN _ _ ls ⟨1, r, op, n, kd, sz, al, cn, g, la, lb, lg, lf, fo, pa, hr4, hop, hn, hok, hat, hpa, hg, hg8, Nat.le_succ_of_le hcn, hcg, hla, hlb, hP, hD⟩ hS (lv_sub hl [2, 3, 4, 5, 6] rfl)
    · have hk := p_w2 hk
      refine cf_icSW (As := [.ref c0, .int (nI q), .int x2, .ref oa]) (rest := []) hx hb hml hown hkk (cf_stS hst hnc hS) (c_La_about_ok l D c0 oa cR cI cL fo (nI q) x2 (CW c0 c1 c2 c3 c4 cR cI ad rf (nI n) r op (nI g) (nI cn) (nI la) (p_pg la lb lg lf) (p_pf la lb lf) pa) _ rfl (cf_t0 (cf_rgtD hD)) ({ frames := 1, cells := 0, slots := 0, locals := 21 } : Room) (if x2 = 0 then nI (p_h r kd sz al q) else if x2 = 1 then nI (p_b (kd q) (sz q)) else nI ((p_b (kd q) (sz q) + 3) / 4)) ⟨rfl, rfl, by decide, by decide⟩ (c_Cf_aboutJ l D c0 c1 c2 c3 c4 cR cI ad rf op (nI g) (nI cn) (nI la) (p_pg la lb lg lf) (p_pf la lb lf) pa r kd sz al n hn hrf hpa hok hat q x2 hq hk.1 hk.2)) kw_254 kw_0 cy_La_about cs_La_about kw_252 hKW (cf_rgt hP) hS (cf_rgtA hD hS hA) (by decide) rfl hl.1 rfl (Nat.le_of_ble_eq_true rfl) d_La_law_338 ⟨by show 70 + it + 1 ≤ 839890; omega, by show 633 + 6 * it + 6 ≤ 6576433; omega⟩ (fun H1 locs1 hP1 hzI hkI hS => ?_)
      have hP : va_P D cf_cl ((MW m0 m1 m2 m3 cJ th r (nI n) (nI cn) (nI g) lg lf (nI lb) (nI la) op kd sz al) ++ ((oa, .inl (cL, 1, .inr (.inl (vp_updL fo 0 (if x2 = 0 then nI (p_h r kd sz al q) else if x2 = 1 then nI (p_b (kd q) (sz q)) else nI ((p_b (kd q) (sz q) + 3) / 4)).toInt64)))) :: (CW c0 c1 c2 c3 c4 cR cI ad rf (nI n) r op (nI g) (nI cn) (nI la) (p_pg la lb lg lf) (p_pf la lb lf) pa))) H1 := cf_updR hP hD hP1 hkI
      have hD : va_D (fun q : Nat => s.heap.size ≤ q) ((MW m0 m1 m2 m3 cJ th r (nI n) (nI cn) (nI g) lg lf (nI lb) (nI la) op kd sz al) ++ ((oa, .inl (cL, 1, .inr (.inl (vp_updL fo 0 (if x2 = 0 then nI (p_h r kd sz al q) else if x2 = 1 then nI (p_b (kd q) (sz q)) else nI ((p_b (kd q) (sz q) + 3) / 4)).toInt64)))) :: (CW c0 c1 c2 c3 c4 cR cI ad rf (nI n) r op (nI g) (nI cn) (nI la) (p_pg la lb lg lf) (p_pf la lb lf) pa))) := cf_Dm hD cf_addrL
      refine lv_istore (lv' := [(5, .int 0), (4, .int (nI (5 * it))), (3, .ref oa), (2, .ref m0), (1, .ref c0), (0, .ref b)]) hx hb d_La_law_341 hl (by decide) rfl (fun ls hl => ?_)
      refine lv_aload_n hx hb d_La_law_343 rfl (lv_at hl 3 rfl) ?_
      refine lv_aload_n hx hb d_La_law_344 rfl (lv_at hl 5 rfl) ?_
      refine lv_iload hx hb d_La_law_345 (lv_at hl 1 rfl) ?_
      refine lv_iconst (v := 1) hx hb d_La_law_347 (by decide) ?_
      refine lv_iadd hx hb d_La_law_348 ?_
      refine cf_top (y := nI (5 * it + 1)) (nI_add _ 1) ?_
      refine cf_sld hx hb hX hbl hbA hS (k := (5 * it + 1)) h1 (by omega) hL d_La_law_349 ?_
      refine lv_aload_n hx hb d_La_law_350 rfl (lv_at hl 5 rfl) ?_
      refine lv_iload hx hb d_La_law_351 (lv_at hl 1 rfl) ?_
      refine lv_iconst (v := 2) hx hb d_La_law_353 (by decide) ?_
      refine lv_iadd hx hb d_La_law_354 ?_
      refine cf_top (y := nI (5 * it + 2)) (nI_add _ 2) ?_
      refine cf_sld hx hb hX hbl hbA hS (k := (5 * it + 2)) h2 (by omega) hL d_La_law_355 ?_
      refine cf_icV (q0 := 0) (ci := 2) (As := [.int (nI q), .int x2]) (rest := []) hx hb hml hown hkk (c_Mo_aboutJ_ok l D m0 m1 m2 m3 cJ th r (nI cn) (nI g) lg lf (nI lb) (nI la) op kd sz al q x2 n hn hq hok hat hk.1 hk.2 (cf_t0 (cf_lftD hD))) ce_Mo_about cv_Mo_about kw_381 hKM (cf_lft hP) rfl rfl rfl hS (cf_lftA hD hS hA) (by decide) rfl hl.1 rfl (Nat.le_of_ble_eq_true rfl) d_La_law_356 ⟨by show 70 + it + 1 ≤ 839890; omega, by show 633 + 6 * it + 6 ≤ 6576433; omega⟩ (fun H1 locs1 hP1 hzI hkI hS => ?_)
      have hP : va_P D cf_cl ((MW m0 m1 m2 m3 cJ 0 r (nI n) (nI cn) (nI g) lg lf (nI lb) (nI la) op kd sz al) ++ ((oa, .inl (cL, 1, .inr (.inl (vp_updL fo 0 (if x2 = 0 then nI (p_h r kd sz al q) else if x2 = 1 then nI (p_b (kd q) (sz q)) else nI ((p_b (kd q) (sz q) + 3) / 4)).toInt64)))) :: (CW c0 c1 c2 c3 c4 cR cI ad rf (nI n) r op (nI g) (nI cn) (nI la) (p_pg la lb lg lf) (p_pf la lb lf) pa))) H1 := cf_updL hP hD hP1 hkI
      have hD : va_D (fun q : Nat => s.heap.size ≤ q) ((MW m0 m1 m2 m3 cJ 0 r (nI n) (nI cn) (nI g) lg lf (nI lb) (nI la) op kd sz al) ++ ((oa, .inl (cL, 1, .inr (.inl (vp_updL fo 0 (if x2 = 0 then nI (p_h r kd sz al q) else if x2 = 1 then nI (p_b (kd q) (sz q)) else nI ((p_b (kd q) (sz q) + 3) / 4)).toInt64)))) :: (CW c0 c1 c2 c3 c4 cR cI ad rf (nI n) r op (nI g) (nI cn) (nI la) (p_pg la lb lg lf) (p_pf la lb lf) pa))) := cf_Dm hD cf_addrL
      refine lv_istore (lv' := [(6, .int (if x2 = 0 then nI (p_h r kd sz al q) else if x2 = 1 then nI (p_b (kd q) (sz q)) else nI ((p_b (kd q) (sz q) + 3) / 4))), (5, .int 0), (4, .int (nI (5 * it))), (3, .ref oa), (2, .ref m0), (1, .ref c0), (0, .ref b)]) hx hb d_La_law_359 hl (by decide) rfl (fun ls hl => ?_)
      refine lv_aload_n hx hb d_La_law_361 rfl (lv_at hl 4 rfl) ?_
      refine cf_pcV (q0 := 0) (ci := 2) (As := []) (rest := []) hx hb hml hown hkk (c_Mo_thrown l D m0 m1 m2 m3 cJ 0 r (nI n) (nI cn) (nI g) lg lf (nI lb) (nI la) op kd sz al) ce_Mo_thrown cv_Mo_thrown kw_329 hKM (cf_lft hP) rfl rfl rfl ⟨rfl, rfl⟩ (by decide) rfl hl.1 rfl (Nat.le_of_ble_eq_true rfl) d_La_law_362 ⟨by show 70 + it + 1 ≤ 839890; omega, by show 633 + 6 * it + 6 ≤ 6576433; omega⟩ ?_
      refine lv_iload hx hb d_La_law_365 (lv_at hl 1 rfl) ?_
      refine lv_icmp_eq (tgt := 372) hx hb d_La_law_367 (by decide) (fun c_367 => ?_) (fun c_367 => False.elim (absurd c_367 (by decide)))
      refine lv_iload hx hb d_La_law_372 (lv_at hl 1 rfl) ?_
      refine lv_if_ne (tgt := 389) hx hb d_La_law_374 (by decide) (fun c_374 => False.elim (absurd c_374 (by decide))) (fun c_374 => ?_)
      refine lv_aload_n hx hb d_La_law_377 rfl (lv_at hl 3 rfl) ?_
      refine lv_iconst (v := 0) hx hb d_La_law_378 (by decide) ?_
      refine cf_lald0 hx hb hKW (cf_rgt hP) 0 2 rfl rfl d_La_law_379 ?_
      refine lv_iload hx hb d_La_law_380 (lv_at hl 0 rfl) ?_
      refine lv_i2l hx hb d_La_law_382 rfl ?_
      refine W.lcmp hx hb d_La_law_383 ?_
      refine lv_if_eq (tgt := 389) hx hb d_La_law_384 (by decide) (fun c_384 => ?_) (fun c_384 => False.elim (c_384 (p_cmp rfl)))
      refine lv_goto (tgt := 622) hx hb d_La_law_389 (by decide) ?_
      refine W.widen (k := 70 + it + 1) (n := 633 + 6 * it + 6) (show 70 + it + 1 ≤ 70 + it + 1 from Nat.le_refl _) (show 633 + 6 * it + 6 ≤ 633 + 6 * it + 6 from Nat.le_refl _) ?_
      exact hN _ _ ls ⟨0, r, op, n, kd, sz, al, cn, g, la, lb, lg, lf, (vp_updL fo 0 (if x2 = 0 then nI (p_h r kd sz al q) else if x2 = 1 then nI (p_b (kd q) (sz q)) else nI ((p_b (kd q) (sz q) + 3) / 4)).toInt64), pa, hr4, hop, hn, hok, hat, hpa, hg, hg8, Nat.le_succ_of_le hcn, hcg, hla, hlb, hP, hD⟩ hS (lv_sub hl [2, 3, 4, 5, 6] rfl)
end
section
/-! THE LAW: signature (printed by gen/law.py) -/
set_option maxHeartbeats 4000000 in
set_option maxRecDepth 100000 in
/-- signature -/
theorem law_4 {p : Program} {l : Launch} {e : Env} {s : State} {m : MethodId} {below : List Frame} {meth : Method} {c : Code} {D : va_G} {b L : Nat} {xs : Nat → Int32} {m0 m1 m2 m3 oa c0 c1 c2 c3 c4 : Nat} {cJ cL cR cI : ClassId} {ad : Nat → Nat} {rf : Nat → Option Nat} (hL : L ≤ 2560) (htr : ∀ e : Env, l.admits e → e.platform.stackTraces = false) (C0 : lw_At p s m meth c b L xs) (hst : cf_ST s) (hnc : cf_NC s) (hrf : ∀ i, i < 60 → rf i = some (ad i)) (hKM : va_K D cf_cl [(cJ, .int)] s) (hKW : va_K D cf_cl [(cR, .object "CallFrames$Argument"), (cI, .int), (cL, .long)] s) (it : Nat) (hit : 5 * it + 5 ≤ L) (x1 : Int32) (h1 : xs (5 * it + 1) = x1) (H : Heap) (locs : List Loc) (ls : Array Slot) (hI : cf_I D (fun q : Nat => s.heap.size ≤ q) m0 m1 m2 m3 oa c0 c1 c2 c3 c4 cJ cL cR cI ad rf it H) (hS : va_S (fun q : Nat => s.heap.size ≤ q) s.heap H locs) (hl : lv_has ls 7 [(4, .int (nI (5 * it))), (3, .ref oa), (2, .ref m0), (1, .ref c0), (0, .ref b)])
    (hN : ∀ (H1 : Heap) (locs1 : List Loc) (ls1 : Array Slot), cf_I D (fun q : Nat => s.heap.size ≤ q) m0 m1 m2 m3 oa c0 c1 c2 c3 c4 cJ cL cR cI ad rf (it + 1) H1 → va_S (fun q : Nat => s.heap.size ≤ q) s.heap H1 locs1 → lv_has ls1 7 [(4, .int (nI (5 * it))), (3, .ref oa), (2, .ref m0), (1, .ref c0), (0, .ref b)] → W p l e room_1 s m #[Value.ref b] below meth c H1 locs1 (70 + it + 1) (633 + 6 * it + 6) (lw_Z below #[Value.ref b] s) (F0 m 622 ls1 [])) : W p l e room_1 s m #[Value.ref b] below meth c H locs (70 + it) (633 + 6 * it) (lw_Z below #[Value.ref b] s) (F0 m 392 ls []) := by
  obtain ⟨hx, hb, hr, hml, hown, hts, hX, hbl, hlocks, hgv⟩ := C0
  have hown : s.vm.findClass "CallFramesLaw" = some m.cls := hown
  have hkk : cf_KK s := cf_KK.of hts
  have hbA : ¬ (fun q : Nat => s.heap.size ≤ q) b := Nat.not_le.mpr hbl
  have hA : ∀ q : Nat, s.heap.size ≤ q → (fun q : Nat => s.heap.size ≤ q) q := fun _ h => h
  obtain ⟨th, r, op, n, kd, sz, al, cn, g, la, lb, lg, lf, fo, pa, hr4, hop, hn, hok, hat, hpa, hg, hg8, hcn, hcg, hla, hlb, hP, hD⟩ := hI
  refine lv_aload_n hx hb d_La_law_392 rfl (lv_at hl 3 rfl) ?_
  refine lv_aload_n hx hb d_La_law_393 rfl (lv_at hl 4 rfl) ?_
  refine lv_iload hx hb d_La_law_394 (lv_at hl 0 rfl) ?_
  refine lv_iconst (v := 1) hx hb d_La_law_396 (by decide) ?_
  refine lv_iadd hx hb d_La_law_397 ?_
  refine cf_top (y := nI (5 * it + 1)) (nI_add _ 1) ?_
  refine cf_sld hx hb hX hbl hbA hS (k := (5 * it + 1)) h1 (by omega) hL d_La_law_398 ?_
  refine lv_aload_n hx hb d_La_law_399 rfl (lv_at hl 1 rfl) ?_
  by_cases hk : x1 < 0 ∨ ¬ x1 ≤ 3
  · refine cf_icSW (As := [.ref c0, .int x1, .ref oa]) (rest := []) hx hb hml hown hkk (cf_stS hst hnc hS) (c_La_signature_no l D c0 oa cR cI cL fo x1 (CW c0 c1 c2 c3 c4 cR cI ad rf (nI n) r op (nI g) (nI cn) (nI la) (p_pg la lb lg lf) (p_pf la lb lf) pa) _ rfl (cf_t0 (cf_rgtD hD)) ({ frames := 6, cells := 1, slots := 6, locals := 81 } : Room) ⟨by decide, by decide, by decide, by decide⟩ (c_Cf_signature_no l D htr c0 c1 c2 c3 c4 cR cI ad rf (nI n) r op (nI g) (nI cn) (nI la) (p_pg la lb lg lf) (p_pf la lb lf) pa x1 hk)) kw_261 kw_0 cy_La_signature cs_La_signature kw_259 hKW (cf_rgt hP) hS (cf_rgtA hD hS hA) (by decide) rfl hl.1 rfl (Nat.le_of_ble_eq_true rfl) d_La_law_400 ⟨by show 70 + it + 1 ≤ 839890; omega, by show 633 + 6 * it + 6 ≤ 6576433; omega⟩ (fun H1 locs1 hP1 hzI hkI hS => ?_)
    have hP : va_P D cf_cl ((MW m0 m1 m2 m3 cJ th r (nI n) (nI cn) (nI g) lg lf (nI lb) (nI la) op kd sz al) ++ ((oa, .inl (cL, 1, .inr (.inl fo))) :: (CW c0 c1 c2 c3 c4 cR cI ad rf (nI n) r op (nI g) (nI cn) (nI la) (p_pg la lb lg lf) (p_pf la lb lf) pa))) H1 := cf_updR hP hD hP1 hkI
    have hD : va_D (fun q : Nat => s.heap.size ≤ q) ((MW m0 m1 m2 m3 cJ th r (nI n) (nI cn) (nI g) lg lf (nI lb) (nI la) op kd sz al) ++ ((oa, .inl (cL, 1, .inr (.inl fo))) :: (CW c0 c1 c2 c3 c4 cR cI ad rf (nI n) r op (nI g) (nI cn) (nI la) (p_pg la lb lg lf) (p_pf la lb lf) pa))) := cf_Dm hD cf_addrL
    refine lv_istore (lv' := [(5, .int 1), (4, .int (nI (5 * it))), (3, .ref oa), (2, .ref m0), (1, .ref c0), (0, .ref b)]) hx hb d_La_law_403 hl (by decide) rfl (fun ls hl => ?_)
    refine lv_aload_n hx hb d_La_law_405 rfl (lv_at hl 3 rfl) ?_
    refine lv_aload_n hx hb d_La_law_406 rfl (lv_at hl 5 rfl) ?_
    refine lv_iload hx hb d_La_law_407 (lv_at hl 1 rfl) ?_
    refine lv_iconst (v := 1) hx hb d_La_law_409 (by decide) ?_
    refine lv_iadd hx hb d_La_law_410 ?_
    refine cf_top (y := nI (5 * it + 1)) (nI_add _ 1) ?_
    refine cf_sld hx hb hX hbl hbA hS (k := (5 * it + 1)) h1 (by omega) hL d_La_law_411 ?_
    refine cf_icV (q0 := 0) (ci := 2) (As := [.int x1]) (rest := []) hx hb hml hown hkk (c_Mo_signature_no l D m0 m1 m2 m3 cJ th r (nI cn) (nI g) lg lf (nI lb) (nI la) op kd sz al x1 n hk (cf_t0 (cf_lftD hD))) ce_Mo_signature cv_Mo_signature kw_385 hKM (cf_lft hP) rfl rfl rfl hS (cf_lftA hD hS hA) (by decide) rfl hl.1 rfl (Nat.le_of_ble_eq_true rfl) d_La_law_412 ⟨by show 70 + it + 1 ≤ 839890; omega, by show 633 + 6 * it + 6 ≤ 6576433; omega⟩ (fun H1 locs1 hP1 hzI hkI hS => ?_)
    have hP : va_P D cf_cl ((MW m0 m1 m2 m3 cJ 1 r (nI n) (nI cn) (nI g) lg lf (nI lb) (nI la) op kd sz al) ++ ((oa, .inl (cL, 1, .inr (.inl fo))) :: (CW c0 c1 c2 c3 c4 cR cI ad rf (nI n) r op (nI g) (nI cn) (nI la) (p_pg la lb lg lf) (p_pf la lb lf) pa))) H1 := cf_updL hP hD hP1 hkI
    have hD : va_D (fun q : Nat => s.heap.size ≤ q) ((MW m0 m1 m2 m3 cJ 1 r (nI n) (nI cn) (nI g) lg lf (nI lb) (nI la) op kd sz al) ++ ((oa, .inl (cL, 1, .inr (.inl fo))) :: (CW c0 c1 c2 c3 c4 cR cI ad rf (nI n) r op (nI g) (nI cn) (nI la) (p_pg la lb lg lf) (p_pf la lb lf) pa))) := cf_Dm hD cf_addrL
    refine lv_istore (lv' := [(6, .int 0), (5, .int 1), (4, .int (nI (5 * it))), (3, .ref oa), (2, .ref m0), (1, .ref c0), (0, .ref b)]) hx hb d_La_law_415 hl (by decide) rfl (fun ls hl => ?_)
    refine lv_aload_n hx hb d_La_law_417 rfl (lv_at hl 4 rfl) ?_
    refine cf_pcV (q0 := 0) (ci := 2) (As := []) (rest := []) hx hb hml hown hkk (c_Mo_thrown l D m0 m1 m2 m3 cJ 1 r (nI n) (nI cn) (nI g) lg lf (nI lb) (nI la) op kd sz al) ce_Mo_thrown cv_Mo_thrown kw_329 hKM (cf_lft hP) rfl rfl rfl ⟨rfl, rfl⟩ (by decide) rfl hl.1 rfl (Nat.le_of_ble_eq_true rfl) d_La_law_418 ⟨by show 70 + it + 1 ≤ 839890; omega, by show 633 + 6 * it + 6 ≤ 6576433; omega⟩ ?_
    refine lv_iload hx hb d_La_law_421 (lv_at hl 1 rfl) ?_
    refine lv_icmp_eq (tgt := 428) hx hb d_La_law_423 (by decide) (fun c_423 => ?_) (fun c_423 => False.elim (absurd c_423 (by decide)))
    refine lv_iload hx hb d_La_law_428 (lv_at hl 1 rfl) ?_
    refine lv_if_ne (tgt := 445) hx hb d_La_law_430 (by decide) (fun c_430 => ?_) (fun c_430 => False.elim (absurd c_430 (by decide)))
    refine lv_goto (tgt := 622) hx hb d_La_law_445 (by decide) ?_
    refine W.widen (k := 70 + it + 1) (n := 633 + 6 * it + 6) (show 70 + it + 1 ≤ 70 + it + 1 from Nat.le_refl _) (show 633 + 6 * it + 6 ≤ 633 + 6 * it + 6 from Nat.le_refl _) ?_
    exact hN _ _ ls ⟨1, r, op, n, kd, sz, al, cn, g, la, lb, lg, lf, fo, pa, hr4, hop, hn, hok, hat, hpa, hg, hg8, Nat.le_succ_of_le hcn, hcg, hla, hlb, hP, hD⟩ hS (lv_sub hl [2, 3, 4, 5, 6] rfl)
  · rcases p_s3 hk with rfl | rfl | rfl | rfl
    · refine cf_icSW (As := [.ref c0, .int 0, .ref oa]) (rest := []) hx hb hml hown hkk (cf_stS hst hnc hS) (c_La_signature_ok l D c0 oa cR cI cL fo 0 (CW c0 c1 c2 c3 c4 cR cI ad rf (nI n) r op (nI g) (nI cn) (nI la) (p_pg la lb lg lf) (p_pf la lb lf) pa) _ rfl (cf_t0 (cf_rgtD hD)) ({ frames := 4, cells := 0, slots := 0, locals := 80 } : Room) (p_sig r kd sz al n (p_area r kd sz al n) 0) ⟨rfl, rfl, by decide, by decide⟩ (c_Cf_sig0 l D c0 c1 c2 c3 c4 cR cI ad rf op (nI g) (nI cn) (nI la) (p_pg la lb lg lf) (p_pf la lb lf) pa r kd sz al n hn hrf hpa hok hat)) kw_261 kw_0 cy_La_signature cs_La_signature kw_259 hKW (cf_rgt hP) hS (cf_rgtA hD hS hA) (by decide) rfl hl.1 rfl (Nat.le_of_ble_eq_true rfl) d_La_law_400 ⟨by show 70 + it + 1 ≤ 839890; omega, by show 633 + 6 * it + 6 ≤ 6576433; omega⟩ (fun H1 locs1 hP1 hzI hkI hS => ?_)
      have hP : va_P D cf_cl ((MW m0 m1 m2 m3 cJ th r (nI n) (nI cn) (nI g) lg lf (nI lb) (nI la) op kd sz al) ++ ((oa, .inl (cL, 1, .inr (.inl (vp_updL fo 0 (p_sig r kd sz al n (p_area r kd sz al n) 0).toInt64)))) :: (CW c0 c1 c2 c3 c4 cR cI ad rf (nI n) r op (nI g) (nI cn) (nI la) (p_pg la lb lg lf) (p_pf la lb lf) pa))) H1 := cf_updR hP hD hP1 hkI
      have hD : va_D (fun q : Nat => s.heap.size ≤ q) ((MW m0 m1 m2 m3 cJ th r (nI n) (nI cn) (nI g) lg lf (nI lb) (nI la) op kd sz al) ++ ((oa, .inl (cL, 1, .inr (.inl (vp_updL fo 0 (p_sig r kd sz al n (p_area r kd sz al n) 0).toInt64)))) :: (CW c0 c1 c2 c3 c4 cR cI ad rf (nI n) r op (nI g) (nI cn) (nI la) (p_pg la lb lg lf) (p_pf la lb lf) pa))) := cf_Dm hD cf_addrL
      refine lv_istore (lv' := [(5, .int 0), (4, .int (nI (5 * it))), (3, .ref oa), (2, .ref m0), (1, .ref c0), (0, .ref b)]) hx hb d_La_law_403 hl (by decide) rfl (fun ls hl => ?_)
      refine lv_aload_n hx hb d_La_law_405 rfl (lv_at hl 3 rfl) ?_
      refine lv_aload_n hx hb d_La_law_406 rfl (lv_at hl 5 rfl) ?_
      refine lv_iload hx hb d_La_law_407 (lv_at hl 1 rfl) ?_
      refine lv_iconst (v := 1) hx hb d_La_law_409 (by decide) ?_
      refine lv_iadd hx hb d_La_law_410 ?_
      refine cf_top (y := nI (5 * it + 1)) (nI_add _ 1) ?_
      refine cf_sld hx hb hX hbl hbA hS (k := (5 * it + 1)) h1 (by omega) hL d_La_law_411 ?_
      refine cf_icV (q0 := 0) (ci := 2) (As := [.int 0]) (rest := []) hx hb hml hown hkk (c_Mo_signature_ok l D m0 m1 m2 m3 cJ th r (nI cn) (nI g) lg lf (nI lb) (nI la) op kd sz al 0 n hn hok hat (by decide) (by decide) (cf_t0 (cf_lftD hD))) ce_Mo_signature cv_Mo_signature kw_385 hKM (cf_lft hP) rfl rfl rfl hS (cf_lftA hD hS hA) (by decide) rfl hl.1 rfl (Nat.le_of_ble_eq_true rfl) d_La_law_412 ⟨by show 70 + it + 1 ≤ 839890; omega, by show 633 + 6 * it + 6 ≤ 6576433; omega⟩ (fun H1 locs1 hP1 hzI hkI hS => ?_)
      have hP : va_P D cf_cl ((MW m0 m1 m2 m3 cJ 0 r (nI n) (nI cn) (nI g) lg lf (nI lb) (nI la) op kd sz al) ++ ((oa, .inl (cL, 1, .inr (.inl (vp_updL fo 0 (p_sig r kd sz al n (p_area r kd sz al n) 0).toInt64)))) :: (CW c0 c1 c2 c3 c4 cR cI ad rf (nI n) r op (nI g) (nI cn) (nI la) (p_pg la lb lg lf) (p_pf la lb lf) pa))) H1 := cf_updL hP hD hP1 hkI
      have hD : va_D (fun q : Nat => s.heap.size ≤ q) ((MW m0 m1 m2 m3 cJ 0 r (nI n) (nI cn) (nI g) lg lf (nI lb) (nI la) op kd sz al) ++ ((oa, .inl (cL, 1, .inr (.inl (vp_updL fo 0 (p_sig r kd sz al n (p_area r kd sz al n) 0).toInt64)))) :: (CW c0 c1 c2 c3 c4 cR cI ad rf (nI n) r op (nI g) (nI cn) (nI la) (p_pg la lb lg lf) (p_pf la lb lf) pa))) := cf_Dm hD cf_addrL
      refine lv_istore (lv' := [(6, .int (p_sig r kd sz al n (p_area r kd sz al n) 0)), (5, .int 0), (4, .int (nI (5 * it))), (3, .ref oa), (2, .ref m0), (1, .ref c0), (0, .ref b)]) hx hb d_La_law_415 hl (by decide) rfl (fun ls hl => ?_)
      refine lv_aload_n hx hb d_La_law_417 rfl (lv_at hl 4 rfl) ?_
      refine cf_pcV (q0 := 0) (ci := 2) (As := []) (rest := []) hx hb hml hown hkk (c_Mo_thrown l D m0 m1 m2 m3 cJ 0 r (nI n) (nI cn) (nI g) lg lf (nI lb) (nI la) op kd sz al) ce_Mo_thrown cv_Mo_thrown kw_329 hKM (cf_lft hP) rfl rfl rfl ⟨rfl, rfl⟩ (by decide) rfl hl.1 rfl (Nat.le_of_ble_eq_true rfl) d_La_law_418 ⟨by show 70 + it + 1 ≤ 839890; omega, by show 633 + 6 * it + 6 ≤ 6576433; omega⟩ ?_
      refine lv_iload hx hb d_La_law_421 (lv_at hl 1 rfl) ?_
      refine lv_icmp_eq (tgt := 428) hx hb d_La_law_423 (by decide) (fun c_423 => ?_) (fun c_423 => False.elim (absurd c_423 (by decide)))
      refine lv_iload hx hb d_La_law_428 (lv_at hl 1 rfl) ?_
      refine lv_if_ne (tgt := 445) hx hb d_La_law_430 (by decide) (fun c_430 => False.elim (absurd c_430 (by decide))) (fun c_430 => ?_)
      refine lv_aload_n hx hb d_La_law_433 rfl (lv_at hl 3 rfl) ?_
      refine lv_iconst (v := 0) hx hb d_La_law_434 (by decide) ?_
      refine cf_lald0 hx hb hKW (cf_rgt hP) 0 2 rfl rfl d_La_law_435 ?_
      refine lv_iload hx hb d_La_law_436 (lv_at hl 0 rfl) ?_
      refine lv_i2l hx hb d_La_law_438 rfl ?_
      refine W.lcmp hx hb d_La_law_439 ?_
      refine lv_if_eq (tgt := 445) hx hb d_La_law_440 (by decide) (fun c_440 => ?_) (fun c_440 => False.elim (c_440 (p_cmp rfl)))
      refine lv_goto (tgt := 622) hx hb d_La_law_445 (by decide) ?_
      refine W.widen (k := 70 + it + 1) (n := 633 + 6 * it + 6) (show 70 + it + 1 ≤ 70 + it + 1 from Nat.le_refl _) (show 633 + 6 * it + 6 ≤ 633 + 6 * it + 6 from Nat.le_refl _) ?_
      exact hN _ _ ls ⟨0, r, op, n, kd, sz, al, cn, g, la, lb, lg, lf, (vp_updL fo 0 (p_sig r kd sz al n (p_area r kd sz al n) 0).toInt64), pa, hr4, hop, hn, hok, hat, hpa, hg, hg8, Nat.le_succ_of_le hcn, hcg, hla, hlb, hP, hD⟩ hS (lv_sub hl [2, 3, 4, 5, 6] rfl)
    · refine cf_icSW (As := [.ref c0, .int 1, .ref oa]) (rest := []) hx hb hml hown hkk (cf_stS hst hnc hS) (c_La_signature_ok l D c0 oa cR cI cL fo 1 (CW c0 c1 c2 c3 c4 cR cI ad rf (nI n) r op (nI g) (nI cn) (nI la) (p_pg la lb lg lf) (p_pf la lb lf) pa) _ rfl (cf_t0 (cf_rgtD hD)) ({ frames := 0, cells := 0, slots := 0, locals := 0 } : Room) (p_sig r kd sz al n (p_area r kd sz al n) 1) ⟨rfl, rfl, by decide, by decide⟩ (c_Cf_sig1 l D c0 c1 c2 c3 c4 cR cI ad rf op (nI g) (nI cn) (nI la) (p_pg la lb lg lf) (p_pf la lb lf) pa r kd sz al n hn hrf hpa hok hat)) kw_261 kw_0 cy_La_signature cs_La_signature kw_259 hKW (cf_rgt hP) hS (cf_rgtA hD hS hA) (by decide) rfl hl.1 rfl (Nat.le_of_ble_eq_true rfl) d_La_law_400 ⟨by show 70 + it + 1 ≤ 839890; omega, by show 633 + 6 * it + 6 ≤ 6576433; omega⟩ (fun H1 locs1 hP1 hzI hkI hS => ?_)
      have hP : va_P D cf_cl ((MW m0 m1 m2 m3 cJ th r (nI n) (nI cn) (nI g) lg lf (nI lb) (nI la) op kd sz al) ++ ((oa, .inl (cL, 1, .inr (.inl (vp_updL fo 0 (p_sig r kd sz al n (p_area r kd sz al n) 1).toInt64)))) :: (CW c0 c1 c2 c3 c4 cR cI ad rf (nI n) r op (nI g) (nI cn) (nI la) (p_pg la lb lg lf) (p_pf la lb lf) pa))) H1 := cf_updR hP hD hP1 hkI
      have hD : va_D (fun q : Nat => s.heap.size ≤ q) ((MW m0 m1 m2 m3 cJ th r (nI n) (nI cn) (nI g) lg lf (nI lb) (nI la) op kd sz al) ++ ((oa, .inl (cL, 1, .inr (.inl (vp_updL fo 0 (p_sig r kd sz al n (p_area r kd sz al n) 1).toInt64)))) :: (CW c0 c1 c2 c3 c4 cR cI ad rf (nI n) r op (nI g) (nI cn) (nI la) (p_pg la lb lg lf) (p_pf la lb lf) pa))) := cf_Dm hD cf_addrL
      refine lv_istore (lv' := [(5, .int 0), (4, .int (nI (5 * it))), (3, .ref oa), (2, .ref m0), (1, .ref c0), (0, .ref b)]) hx hb d_La_law_403 hl (by decide) rfl (fun ls hl => ?_)
      refine lv_aload_n hx hb d_La_law_405 rfl (lv_at hl 3 rfl) ?_
      refine lv_aload_n hx hb d_La_law_406 rfl (lv_at hl 5 rfl) ?_
      refine lv_iload hx hb d_La_law_407 (lv_at hl 1 rfl) ?_
      refine lv_iconst (v := 1) hx hb d_La_law_409 (by decide) ?_
      refine lv_iadd hx hb d_La_law_410 ?_
      refine cf_top (y := nI (5 * it + 1)) (nI_add _ 1) ?_
      refine cf_sld hx hb hX hbl hbA hS (k := (5 * it + 1)) h1 (by omega) hL d_La_law_411 ?_
      refine cf_icV (q0 := 0) (ci := 2) (As := [.int 1]) (rest := []) hx hb hml hown hkk (c_Mo_signature_ok l D m0 m1 m2 m3 cJ th r (nI cn) (nI g) lg lf (nI lb) (nI la) op kd sz al 1 n hn hok hat (by decide) (by decide) (cf_t0 (cf_lftD hD))) ce_Mo_signature cv_Mo_signature kw_385 hKM (cf_lft hP) rfl rfl rfl hS (cf_lftA hD hS hA) (by decide) rfl hl.1 rfl (Nat.le_of_ble_eq_true rfl) d_La_law_412 ⟨by show 70 + it + 1 ≤ 839890; omega, by show 633 + 6 * it + 6 ≤ 6576433; omega⟩ (fun H1 locs1 hP1 hzI hkI hS => ?_)
      have hP : va_P D cf_cl ((MW m0 m1 m2 m3 cJ 0 r (nI n) (nI cn) (nI g) lg lf (nI lb) (nI la) op kd sz al) ++ ((oa, .inl (cL, 1, .inr (.inl (vp_updL fo 0 (p_sig r kd sz al n (p_area r kd sz al n) 1).toInt64)))) :: (CW c0 c1 c2 c3 c4 cR cI ad rf (nI n) r op (nI g) (nI cn) (nI la) (p_pg la lb lg lf) (p_pf la lb lf) pa))) H1 := cf_updL hP hD hP1 hkI
      have hD : va_D (fun q : Nat => s.heap.size ≤ q) ((MW m0 m1 m2 m3 cJ 0 r (nI n) (nI cn) (nI g) lg lf (nI lb) (nI la) op kd sz al) ++ ((oa, .inl (cL, 1, .inr (.inl (vp_updL fo 0 (p_sig r kd sz al n (p_area r kd sz al n) 1).toInt64)))) :: (CW c0 c1 c2 c3 c4 cR cI ad rf (nI n) r op (nI g) (nI cn) (nI la) (p_pg la lb lg lf) (p_pf la lb lf) pa))) := cf_Dm hD cf_addrL
      refine lv_istore (lv' := [(6, .int (p_sig r kd sz al n (p_area r kd sz al n) 1)), (5, .int 0), (4, .int (nI (5 * it))), (3, .ref oa), (2, .ref m0), (1, .ref c0), (0, .ref b)]) hx hb d_La_law_415 hl (by decide) rfl (fun ls hl => ?_)
      refine lv_aload_n hx hb d_La_law_417 rfl (lv_at hl 4 rfl) ?_
      refine cf_pcV (q0 := 0) (ci := 2) (As := []) (rest := []) hx hb hml hown hkk (c_Mo_thrown l D m0 m1 m2 m3 cJ 0 r (nI n) (nI cn) (nI g) lg lf (nI lb) (nI la) op kd sz al) ce_Mo_thrown cv_Mo_thrown kw_329 hKM (cf_lft hP) rfl rfl rfl ⟨rfl, rfl⟩ (by decide) rfl hl.1 rfl (Nat.le_of_ble_eq_true rfl) d_La_law_418 ⟨by show 70 + it + 1 ≤ 839890; omega, by show 633 + 6 * it + 6 ≤ 6576433; omega⟩ ?_
      refine lv_iload hx hb d_La_law_421 (lv_at hl 1 rfl) ?_
      refine lv_icmp_eq (tgt := 428) hx hb d_La_law_423 (by decide) (fun c_423 => ?_) (fun c_423 => False.elim (absurd c_423 (by decide)))
      refine lv_iload hx hb d_La_law_428 (lv_at hl 1 rfl) ?_
      refine lv_if_ne (tgt := 445) hx hb d_La_law_430 (by decide) (fun c_430 => False.elim (absurd c_430 (by decide))) (fun c_430 => ?_)
      refine lv_aload_n hx hb d_La_law_433 rfl (lv_at hl 3 rfl) ?_
      refine lv_iconst (v := 0) hx hb d_La_law_434 (by decide) ?_
      refine cf_lald0 hx hb hKW (cf_rgt hP) 0 2 rfl rfl d_La_law_435 ?_
      refine lv_iload hx hb d_La_law_436 (lv_at hl 0 rfl) ?_
      refine lv_i2l hx hb d_La_law_438 rfl ?_
      refine W.lcmp hx hb d_La_law_439 ?_
      refine lv_if_eq (tgt := 445) hx hb d_La_law_440 (by decide) (fun c_440 => ?_) (fun c_440 => False.elim (c_440 (p_cmp rfl)))
      refine lv_goto (tgt := 622) hx hb d_La_law_445 (by decide) ?_
      refine W.widen (k := 70 + it + 1) (n := 633 + 6 * it + 6) (show 70 + it + 1 ≤ 70 + it + 1 from Nat.le_refl _) (show 633 + 6 * it + 6 ≤ 633 + 6 * it + 6 from Nat.le_refl _) ?_
      exact hN _ _ ls ⟨0, r, op, n, kd, sz, al, cn, g, la, lb, lg, lf, (vp_updL fo 0 (p_sig r kd sz al n (p_area r kd sz al n) 1).toInt64), pa, hr4, hop, hn, hok, hat, hpa, hg, hg8, Nat.le_succ_of_le hcn, hcg, hla, hlb, hP, hD⟩ hS (lv_sub hl [2, 3, 4, 5, 6] rfl)
    · refine cf_icSW (As := [.ref c0, .int 2, .ref oa]) (rest := []) hx hb hml hown hkk (cf_stS hst hnc hS) (c_La_signature_ok l D c0 oa cR cI cL fo 2 (CW c0 c1 c2 c3 c4 cR cI ad rf (nI n) r op (nI g) (nI cn) (nI la) (p_pg la lb lg lf) (p_pf la lb lf) pa) _ rfl (cf_t0 (cf_rgtD hD)) ({ frames := 0, cells := 0, slots := 0, locals := 0 } : Room) (p_sig r kd sz al n (p_area r kd sz al n) 2) ⟨rfl, rfl, by decide, by decide⟩ (c_Cf_sig2 l D c0 c1 c2 c3 c4 cR cI ad rf op (nI g) (nI cn) (nI la) (p_pg la lb lg lf) (p_pf la lb lf) pa r kd sz al n hn hrf hpa hok hat hr4)) kw_261 kw_0 cy_La_signature cs_La_signature kw_259 hKW (cf_rgt hP) hS (cf_rgtA hD hS hA) (by decide) rfl hl.1 rfl (Nat.le_of_ble_eq_true rfl) d_La_law_400 ⟨by show 70 + it + 1 ≤ 839890; omega, by show 633 + 6 * it + 6 ≤ 6576433; omega⟩ (fun H1 locs1 hP1 hzI hkI hS => ?_)
      have hP : va_P D cf_cl ((MW m0 m1 m2 m3 cJ th r (nI n) (nI cn) (nI g) lg lf (nI lb) (nI la) op kd sz al) ++ ((oa, .inl (cL, 1, .inr (.inl (vp_updL fo 0 (p_sig r kd sz al n (p_area r kd sz al n) 2).toInt64)))) :: (CW c0 c1 c2 c3 c4 cR cI ad rf (nI n) r op (nI g) (nI cn) (nI la) (p_pg la lb lg lf) (p_pf la lb lf) pa))) H1 := cf_updR hP hD hP1 hkI
      have hD : va_D (fun q : Nat => s.heap.size ≤ q) ((MW m0 m1 m2 m3 cJ th r (nI n) (nI cn) (nI g) lg lf (nI lb) (nI la) op kd sz al) ++ ((oa, .inl (cL, 1, .inr (.inl (vp_updL fo 0 (p_sig r kd sz al n (p_area r kd sz al n) 2).toInt64)))) :: (CW c0 c1 c2 c3 c4 cR cI ad rf (nI n) r op (nI g) (nI cn) (nI la) (p_pg la lb lg lf) (p_pf la lb lf) pa))) := cf_Dm hD cf_addrL
      refine lv_istore (lv' := [(5, .int 0), (4, .int (nI (5 * it))), (3, .ref oa), (2, .ref m0), (1, .ref c0), (0, .ref b)]) hx hb d_La_law_403 hl (by decide) rfl (fun ls hl => ?_)
      refine lv_aload_n hx hb d_La_law_405 rfl (lv_at hl 3 rfl) ?_
      refine lv_aload_n hx hb d_La_law_406 rfl (lv_at hl 5 rfl) ?_
      refine lv_iload hx hb d_La_law_407 (lv_at hl 1 rfl) ?_
      refine lv_iconst (v := 1) hx hb d_La_law_409 (by decide) ?_
      refine lv_iadd hx hb d_La_law_410 ?_
      refine cf_top (y := nI (5 * it + 1)) (nI_add _ 1) ?_
      refine cf_sld hx hb hX hbl hbA hS (k := (5 * it + 1)) h1 (by omega) hL d_La_law_411 ?_
      refine cf_icV (q0 := 0) (ci := 2) (As := [.int 2]) (rest := []) hx hb hml hown hkk (c_Mo_signature_ok l D m0 m1 m2 m3 cJ th r (nI cn) (nI g) lg lf (nI lb) (nI la) op kd sz al 2 n hn hok hat (by decide) (by decide) (cf_t0 (cf_lftD hD))) ce_Mo_signature cv_Mo_signature kw_385 hKM (cf_lft hP) rfl rfl rfl hS (cf_lftA hD hS hA) (by decide) rfl hl.1 rfl (Nat.le_of_ble_eq_true rfl) d_La_law_412 ⟨by show 70 + it + 1 ≤ 839890; omega, by show 633 + 6 * it + 6 ≤ 6576433; omega⟩ (fun H1 locs1 hP1 hzI hkI hS => ?_)
      have hP : va_P D cf_cl ((MW m0 m1 m2 m3 cJ 0 r (nI n) (nI cn) (nI g) lg lf (nI lb) (nI la) op kd sz al) ++ ((oa, .inl (cL, 1, .inr (.inl (vp_updL fo 0 (p_sig r kd sz al n (p_area r kd sz al n) 2).toInt64)))) :: (CW c0 c1 c2 c3 c4 cR cI ad rf (nI n) r op (nI g) (nI cn) (nI la) (p_pg la lb lg lf) (p_pf la lb lf) pa))) H1 := cf_updL hP hD hP1 hkI
      have hD : va_D (fun q : Nat => s.heap.size ≤ q) ((MW m0 m1 m2 m3 cJ 0 r (nI n) (nI cn) (nI g) lg lf (nI lb) (nI la) op kd sz al) ++ ((oa, .inl (cL, 1, .inr (.inl (vp_updL fo 0 (p_sig r kd sz al n (p_area r kd sz al n) 2).toInt64)))) :: (CW c0 c1 c2 c3 c4 cR cI ad rf (nI n) r op (nI g) (nI cn) (nI la) (p_pg la lb lg lf) (p_pf la lb lf) pa))) := cf_Dm hD cf_addrL
      refine lv_istore (lv' := [(6, .int (p_sig r kd sz al n (p_area r kd sz al n) 2)), (5, .int 0), (4, .int (nI (5 * it))), (3, .ref oa), (2, .ref m0), (1, .ref c0), (0, .ref b)]) hx hb d_La_law_415 hl (by decide) rfl (fun ls hl => ?_)
      refine lv_aload_n hx hb d_La_law_417 rfl (lv_at hl 4 rfl) ?_
      refine cf_pcV (q0 := 0) (ci := 2) (As := []) (rest := []) hx hb hml hown hkk (c_Mo_thrown l D m0 m1 m2 m3 cJ 0 r (nI n) (nI cn) (nI g) lg lf (nI lb) (nI la) op kd sz al) ce_Mo_thrown cv_Mo_thrown kw_329 hKM (cf_lft hP) rfl rfl rfl ⟨rfl, rfl⟩ (by decide) rfl hl.1 rfl (Nat.le_of_ble_eq_true rfl) d_La_law_418 ⟨by show 70 + it + 1 ≤ 839890; omega, by show 633 + 6 * it + 6 ≤ 6576433; omega⟩ ?_
      refine lv_iload hx hb d_La_law_421 (lv_at hl 1 rfl) ?_
      refine lv_icmp_eq (tgt := 428) hx hb d_La_law_423 (by decide) (fun c_423 => ?_) (fun c_423 => False.elim (absurd c_423 (by decide)))
      refine lv_iload hx hb d_La_law_428 (lv_at hl 1 rfl) ?_
      refine lv_if_ne (tgt := 445) hx hb d_La_law_430 (by decide) (fun c_430 => False.elim (absurd c_430 (by decide))) (fun c_430 => ?_)
      refine lv_aload_n hx hb d_La_law_433 rfl (lv_at hl 3 rfl) ?_
      refine lv_iconst (v := 0) hx hb d_La_law_434 (by decide) ?_
      refine cf_lald0 hx hb hKW (cf_rgt hP) 0 2 rfl rfl d_La_law_435 ?_
      refine lv_iload hx hb d_La_law_436 (lv_at hl 0 rfl) ?_
      refine lv_i2l hx hb d_La_law_438 rfl ?_
      refine W.lcmp hx hb d_La_law_439 ?_
      refine lv_if_eq (tgt := 445) hx hb d_La_law_440 (by decide) (fun c_440 => ?_) (fun c_440 => False.elim (c_440 (p_cmp rfl)))
      refine lv_goto (tgt := 622) hx hb d_La_law_445 (by decide) ?_
      refine W.widen (k := 70 + it + 1) (n := 633 + 6 * it + 6) (show 70 + it + 1 ≤ 70 + it + 1 from Nat.le_refl _) (show 633 + 6 * it + 6 ≤ 633 + 6 * it + 6 from Nat.le_refl _) ?_
      exact hN _ _ ls ⟨0, r, op, n, kd, sz, al, cn, g, la, lb, lg, lf, (vp_updL fo 0 (p_sig r kd sz al n (p_area r kd sz al n) 2).toInt64), pa, hr4, hop, hn, hok, hat, hpa, hg, hg8, Nat.le_succ_of_le hcn, hcg, hla, hlb, hP, hD⟩ hS (lv_sub hl [2, 3, 4, 5, 6] rfl)
    · refine cf_icSW (As := [.ref c0, .int 3, .ref oa]) (rest := []) hx hb hml hown hkk (cf_stS hst hnc hS) (c_La_signature_ok l D c0 oa cR cI cL fo 3 (CW c0 c1 c2 c3 c4 cR cI ad rf (nI n) r op (nI g) (nI cn) (nI la) (p_pg la lb lg lf) (p_pf la lb lf) pa) _ rfl (cf_t0 (cf_rgtD hD)) ({ frames := 3, cells := 0, slots := 0, locals := 60 } : Room) (p_sig r kd sz al n (p_area r kd sz al n) 3) ⟨rfl, rfl, by decide, by decide⟩ (c_Cf_sig3 l D c0 c1 c2 c3 c4 cR cI ad rf op (nI g) (nI cn) (nI la) (p_pg la lb lg lf) (p_pf la lb lf) pa r kd sz al n hn hrf hpa hok hat)) kw_261 kw_0 cy_La_signature cs_La_signature kw_259 hKW (cf_rgt hP) hS (cf_rgtA hD hS hA) (by decide) rfl hl.1 rfl (Nat.le_of_ble_eq_true rfl) d_La_law_400 ⟨by show 70 + it + 1 ≤ 839890; omega, by show 633 + 6 * it + 6 ≤ 6576433; omega⟩ (fun H1 locs1 hP1 hzI hkI hS => ?_)
      have hP : va_P D cf_cl ((MW m0 m1 m2 m3 cJ th r (nI n) (nI cn) (nI g) lg lf (nI lb) (nI la) op kd sz al) ++ ((oa, .inl (cL, 1, .inr (.inl (vp_updL fo 0 (p_sig r kd sz al n (p_area r kd sz al n) 3).toInt64)))) :: (CW c0 c1 c2 c3 c4 cR cI ad rf (nI n) r op (nI g) (nI cn) (nI la) (p_pg la lb lg lf) (p_pf la lb lf) pa))) H1 := cf_updR hP hD hP1 hkI
      have hD : va_D (fun q : Nat => s.heap.size ≤ q) ((MW m0 m1 m2 m3 cJ th r (nI n) (nI cn) (nI g) lg lf (nI lb) (nI la) op kd sz al) ++ ((oa, .inl (cL, 1, .inr (.inl (vp_updL fo 0 (p_sig r kd sz al n (p_area r kd sz al n) 3).toInt64)))) :: (CW c0 c1 c2 c3 c4 cR cI ad rf (nI n) r op (nI g) (nI cn) (nI la) (p_pg la lb lg lf) (p_pf la lb lf) pa))) := cf_Dm hD cf_addrL
      refine lv_istore (lv' := [(5, .int 0), (4, .int (nI (5 * it))), (3, .ref oa), (2, .ref m0), (1, .ref c0), (0, .ref b)]) hx hb d_La_law_403 hl (by decide) rfl (fun ls hl => ?_)
      refine lv_aload_n hx hb d_La_law_405 rfl (lv_at hl 3 rfl) ?_
      refine lv_aload_n hx hb d_La_law_406 rfl (lv_at hl 5 rfl) ?_
      refine lv_iload hx hb d_La_law_407 (lv_at hl 1 rfl) ?_
      refine lv_iconst (v := 1) hx hb d_La_law_409 (by decide) ?_
      refine lv_iadd hx hb d_La_law_410 ?_
      refine cf_top (y := nI (5 * it + 1)) (nI_add _ 1) ?_
      refine cf_sld hx hb hX hbl hbA hS (k := (5 * it + 1)) h1 (by omega) hL d_La_law_411 ?_
      refine cf_icV (q0 := 0) (ci := 2) (As := [.int 3]) (rest := []) hx hb hml hown hkk (c_Mo_signature_ok l D m0 m1 m2 m3 cJ th r (nI cn) (nI g) lg lf (nI lb) (nI la) op kd sz al 3 n hn hok hat (by decide) (by decide) (cf_t0 (cf_lftD hD))) ce_Mo_signature cv_Mo_signature kw_385 hKM (cf_lft hP) rfl rfl rfl hS (cf_lftA hD hS hA) (by decide) rfl hl.1 rfl (Nat.le_of_ble_eq_true rfl) d_La_law_412 ⟨by show 70 + it + 1 ≤ 839890; omega, by show 633 + 6 * it + 6 ≤ 6576433; omega⟩ (fun H1 locs1 hP1 hzI hkI hS => ?_)
      have hP : va_P D cf_cl ((MW m0 m1 m2 m3 cJ 0 r (nI n) (nI cn) (nI g) lg lf (nI lb) (nI la) op kd sz al) ++ ((oa, .inl (cL, 1, .inr (.inl (vp_updL fo 0 (p_sig r kd sz al n (p_area r kd sz al n) 3).toInt64)))) :: (CW c0 c1 c2 c3 c4 cR cI ad rf (nI n) r op (nI g) (nI cn) (nI la) (p_pg la lb lg lf) (p_pf la lb lf) pa))) H1 := cf_updL hP hD hP1 hkI
      have hD : va_D (fun q : Nat => s.heap.size ≤ q) ((MW m0 m1 m2 m3 cJ 0 r (nI n) (nI cn) (nI g) lg lf (nI lb) (nI la) op kd sz al) ++ ((oa, .inl (cL, 1, .inr (.inl (vp_updL fo 0 (p_sig r kd sz al n (p_area r kd sz al n) 3).toInt64)))) :: (CW c0 c1 c2 c3 c4 cR cI ad rf (nI n) r op (nI g) (nI cn) (nI la) (p_pg la lb lg lf) (p_pf la lb lf) pa))) := cf_Dm hD cf_addrL
      refine lv_istore (lv' := [(6, .int (p_sig r kd sz al n (p_area r kd sz al n) 3)), (5, .int 0), (4, .int (nI (5 * it))), (3, .ref oa), (2, .ref m0), (1, .ref c0), (0, .ref b)]) hx hb d_La_law_415 hl (by decide) rfl (fun ls hl => ?_)
      refine lv_aload_n hx hb d_La_law_417 rfl (lv_at hl 4 rfl) ?_
      refine cf_pcV (q0 := 0) (ci := 2) (As := []) (rest := []) hx hb hml hown hkk (c_Mo_thrown l D m0 m1 m2 m3 cJ 0 r (nI n) (nI cn) (nI g) lg lf (nI lb) (nI la) op kd sz al) ce_Mo_thrown cv_Mo_thrown kw_329 hKM (cf_lft hP) rfl rfl rfl ⟨rfl, rfl⟩ (by decide) rfl hl.1 rfl (Nat.le_of_ble_eq_true rfl) d_La_law_418 ⟨by show 70 + it + 1 ≤ 839890; omega, by show 633 + 6 * it + 6 ≤ 6576433; omega⟩ ?_
      refine lv_iload hx hb d_La_law_421 (lv_at hl 1 rfl) ?_
      refine lv_icmp_eq (tgt := 428) hx hb d_La_law_423 (by decide) (fun c_423 => ?_) (fun c_423 => False.elim (absurd c_423 (by decide)))
      refine lv_iload hx hb d_La_law_428 (lv_at hl 1 rfl) ?_
      refine lv_if_ne (tgt := 445) hx hb d_La_law_430 (by decide) (fun c_430 => False.elim (absurd c_430 (by decide))) (fun c_430 => ?_)
      refine lv_aload_n hx hb d_La_law_433 rfl (lv_at hl 3 rfl) ?_
      refine lv_iconst (v := 0) hx hb d_La_law_434 (by decide) ?_
      refine cf_lald0 hx hb hKW (cf_rgt hP) 0 2 rfl rfl d_La_law_435 ?_
      refine lv_iload hx hb d_La_law_436 (lv_at hl 0 rfl) ?_
      refine lv_i2l hx hb d_La_law_438 rfl ?_
      refine W.lcmp hx hb d_La_law_439 ?_
      refine lv_if_eq (tgt := 445) hx hb d_La_law_440 (by decide) (fun c_440 => ?_) (fun c_440 => False.elim (c_440 (p_cmp rfl)))
      refine lv_goto (tgt := 622) hx hb d_La_law_445 (by decide) ?_
      refine W.widen (k := 70 + it + 1) (n := 633 + 6 * it + 6) (show 70 + it + 1 ≤ 70 + it + 1 from Nat.le_refl _) (show 633 + 6 * it + 6 ≤ 633 + 6 * it + 6 from Nat.le_refl _) ?_
      exact hN _ _ ls ⟨0, r, op, n, kd, sz, al, cn, g, la, lb, lg, lf, (vp_updL fo 0 (p_sig r kd sz al n (p_area r kd sz al n) 3).toInt64), pa, hr4, hop, hn, hok, hat, hpa, hg, hg8, Nat.le_succ_of_le hcn, hcg, hla, hlb, hP, hD⟩ hS (lv_sub hl [2, 3, 4, 5, 6] rfl)
end
section
/-! THE LAW: frame (printed by gen/law.py) -/
set_option maxHeartbeats 4000000 in
set_option maxRecDepth 100000 in
/-- frame -/
theorem law_6 {p : Program} {l : Launch} {e : Env} {s : State} {m : MethodId} {below : List Frame} {meth : Method} {c : Code} {D : va_G} {b L : Nat} {xs : Nat → Int32} {m0 m1 m2 m3 oa c0 c1 c2 c3 c4 : Nat} {cJ cL cR cI : ClassId} {ad : Nat → Nat} {rf : Nat → Option Nat} (hL : L ≤ 2560) (htr : ∀ e : Env, l.admits e → e.platform.stackTraces = false) (C0 : lw_At p s m meth c b L xs) (hst : cf_ST s) (hnc : cf_NC s) (hrf : ∀ i, i < 60 → rf i = some (ad i)) (hKM : va_K D cf_cl [(cJ, .int)] s) (hKW : va_K D cf_cl [(cR, .object "CallFrames$Argument"), (cI, .int), (cL, .long)] s) (it : Nat) (hit : 5 * it + 5 ≤ L) (x1 : Int32) (h1 : xs (5 * it + 1) = x1) (x2 : Int32) (h2 : xs (5 * it + 2) = x2) (x3 : Int32) (h3 : xs (5 * it + 3) = x3) (H : Heap) (locs : List Loc) (ls : Array Slot) (hI : cf_I D (fun q : Nat => s.heap.size ≤ q) m0 m1 m2 m3 oa c0 c1 c2 c3 c4 cJ cL cR cI ad rf it H) (hS : va_S (fun q : Nat => s.heap.size ≤ q) s.heap H locs) (hl : lv_has ls 7 [(4, .int (nI (5 * it))), (3, .ref oa), (2, .ref m0), (1, .ref c0), (0, .ref b)])
    (hN : ∀ (H1 : Heap) (locs1 : List Loc) (ls1 : Array Slot), cf_I D (fun q : Nat => s.heap.size ≤ q) m0 m1 m2 m3 oa c0 c1 c2 c3 c4 cJ cL cR cI ad rf (it + 1) H1 → va_S (fun q : Nat => s.heap.size ≤ q) s.heap H1 locs1 → lv_has ls1 7 [(4, .int (nI (5 * it))), (3, .ref oa), (2, .ref m0), (1, .ref c0), (0, .ref b)] → W p l e room_1 s m #[Value.ref b] below meth c H1 locs1 (70 + it + 1) (633 + 6 * it + 6) (lw_Z below #[Value.ref b] s) (F0 m 622 ls1 [])) : W p l e room_1 s m #[Value.ref b] below meth c H locs (70 + it) (633 + 6 * it) (lw_Z below #[Value.ref b] s) (F0 m 461 ls []) := by
  obtain ⟨hx, hb, hr, hml, hown, hts, hX, hbl, hlocks, hgv⟩ := C0
  have hown : s.vm.findClass "CallFramesLaw" = some m.cls := hown
  have hkk : cf_KK s := cf_KK.of hts
  have hbA : ¬ (fun q : Nat => s.heap.size ≤ q) b := Nat.not_le.mpr hbl
  have hA : ∀ q : Nat, s.heap.size ≤ q → (fun q : Nat => s.heap.size ≤ q) q := fun _ h => h
  obtain ⟨th, r, op, n, kd, sz, al, cn, g, la, lb, lg, lf, fo, pa, hr4, hop, hn, hok, hat, hpa, hg, hg8, hcn, hcg, hla, hlb, hP, hD⟩ := hI
  refine lv_aload_n hx hb d_La_law_461 rfl (lv_at hl 3 rfl) ?_
  refine lv_aload_n hx hb d_La_law_462 rfl (lv_at hl 4 rfl) ?_
  refine lv_iload hx hb d_La_law_463 (lv_at hl 0 rfl) ?_
  refine lv_iconst (v := 1) hx hb d_La_law_465 (by decide) ?_
  refine lv_iadd hx hb d_La_law_466 ?_
  refine cf_top (y := nI (5 * it + 1)) (nI_add _ 1) ?_
  refine cf_sld hx hb hX hbl hbA hS (k := (5 * it + 1)) h1 (by omega) hL d_La_law_467 ?_
  refine lv_aload_n hx hb d_La_law_468 rfl (lv_at hl 4 rfl) ?_
  refine lv_iload hx hb d_La_law_469 (lv_at hl 0 rfl) ?_
  refine lv_iconst (v := 2) hx hb d_La_law_471 (by decide) ?_
  refine lv_iadd hx hb d_La_law_472 ?_
  refine cf_top (y := nI (5 * it + 2)) (nI_add _ 2) ?_
  refine cf_sld hx hb hX hbl hbA hS (k := (5 * it + 2)) h2 (by omega) hL d_La_law_473 ?_
  refine lv_aload_n hx hb d_La_law_474 rfl (lv_at hl 4 rfl) ?_
  refine lv_iload hx hb d_La_law_475 (lv_at hl 0 rfl) ?_
  refine lv_iconst (v := 3) hx hb d_La_law_477 (by decide) ?_
  refine lv_iadd hx hb d_La_law_478 ?_
  refine cf_top (y := nI (5 * it + 3)) (nI_add _ 3) ?_
  refine cf_sld hx hb hX hbl hbA hS (k := (5 * it + 3)) h3 (by omega) hL d_La_law_479 ?_
  refine lv_aload_n hx hb d_La_law_480 rfl (lv_at hl 1 rfl) ?_
  by_cases hf : p_frok x1 x2 x3
  · obtain ⟨w, hw, rfl⟩ := p_frk hf
    refine cf_icSW (As := [.ref c0, .int (nI w), .int x2, .int x3, .ref oa]) (rest := []) hx hb hml hown hkk (cf_stS hst hnc hS) (c_La_frame_ok l D c0 oa cR cI cL fo (nI w) x2 x3 (CW c0 c1 c2 c3 c4 cR cI ad rf (nI n) r op (nI g) (nI cn) (nI la) (p_pg la lb lg lf) (p_pf la lb lf) pa) _ rfl (cf_t0 (cf_rgtD hD)) ({ frames := 1, cells := 0, slots := 0, locals := 21 } : Room) (nI (p_fr g w (p_lg (nI cn) x2) x3)) (CW c0 c1 c2 c3 c4 cR cI ad rf (nI n) r op (nI g) (nI cn) (nI g) (p_pg g w (p_lg (nI cn) x2) x3) (p_pf g w x3) pa) cf_addr ⟨rfl, rfl, by decide, by decide⟩ (c_Cf_frame_ok l D c0 c1 c2 c3 c4 cR cI ad rf (nI n) r op (nI cn) (nI la) (p_pg la lb lg lf) (p_pf la lb lf) pa w g x2 x3 hw hg hg8 hf.2.2.1 hf.2.2.2 (cf_t0 (cf_tlD (cf_rgtD hD))))) kw_268 kw_0 cy_La_frame cs_La_frame kw_266 hKW (cf_rgt hP) hS (cf_rgtA hD hS hA) (by decide) rfl hl.1 rfl (Nat.le_of_ble_eq_true rfl) d_La_law_481 ⟨by show 70 + it + 1 ≤ 839890; omega, by show 633 + 6 * it + 6 ≤ 6576433; omega⟩ (fun H1 locs1 hP1 hzI hkI hS => ?_)
    have hP : va_P D cf_cl ((MW m0 m1 m2 m3 cJ th r (nI n) (nI cn) (nI g) lg lf (nI lb) (nI la) op kd sz al) ++ ((oa, .inl (cL, 1, .inr (.inl (vp_updL fo 0 (nI (p_fr g w (p_lg (nI cn) x2) x3)).toInt64)))) :: (CW c0 c1 c2 c3 c4 cR cI ad rf (nI n) r op (nI g) (nI cn) (nI g) (p_pg g w (p_lg (nI cn) x2) x3) (p_pf g w x3) pa))) H1 := cf_updR hP hD hP1 hkI
    have hD : va_D (fun q : Nat => s.heap.size ≤ q) ((MW m0 m1 m2 m3 cJ th r (nI n) (nI cn) (nI g) lg lf (nI lb) (nI la) op kd sz al) ++ ((oa, .inl (cL, 1, .inr (.inl (vp_updL fo 0 (nI (p_fr g w (p_lg (nI cn) x2) x3)).toInt64)))) :: (CW c0 c1 c2 c3 c4 cR cI ad rf (nI n) r op (nI g) (nI cn) (nI g) (p_pg g w (p_lg (nI cn) x2) x3) (p_pf g w x3) pa))) := cf_Dm hD cf_addrL
    refine lv_istore (lv' := [(5, .int 0), (4, .int (nI (5 * it))), (3, .ref oa), (2, .ref m0), (1, .ref c0), (0, .ref b)]) hx hb d_La_law_484 hl (by decide) rfl (fun ls hl => ?_)
    refine lv_aload_n hx hb d_La_law_486 rfl (lv_at hl 3 rfl) ?_
    refine lv_aload_n hx hb d_La_law_487 rfl (lv_at hl 5 rfl) ?_
    refine lv_iload hx hb d_La_law_488 (lv_at hl 1 rfl) ?_
    refine lv_iconst (v := 1) hx hb d_La_law_490 (by decide) ?_
    refine lv_iadd hx hb d_La_law_491 ?_
    refine cf_top (y := nI (5 * it + 1)) (nI_add _ 1) ?_
    refine cf_sld hx hb hX hbl hbA hS (k := (5 * it + 1)) h1 (by omega) hL d_La_law_492 ?_
    refine lv_aload_n hx hb d_La_law_493 rfl (lv_at hl 5 rfl) ?_
    refine lv_iload hx hb d_La_law_494 (lv_at hl 1 rfl) ?_
    refine lv_iconst (v := 2) hx hb d_La_law_496 (by decide) ?_
    refine lv_iadd hx hb d_La_law_497 ?_
    refine cf_top (y := nI (5 * it + 2)) (nI_add _ 2) ?_
    refine cf_sld hx hb hX hbl hbA hS (k := (5 * it + 2)) h2 (by omega) hL d_La_law_498 ?_
    refine lv_aload_n hx hb d_La_law_499 rfl (lv_at hl 5 rfl) ?_
    refine lv_iload hx hb d_La_law_500 (lv_at hl 1 rfl) ?_
    refine lv_iconst (v := 3) hx hb d_La_law_502 (by decide) ?_
    refine lv_iadd hx hb d_La_law_503 ?_
    refine cf_top (y := nI (5 * it + 3)) (nI_add _ 3) ?_
    refine cf_sld hx hb hX hbl hbA hS (k := (5 * it + 3)) h3 (by omega) hL d_La_law_504 ?_
    refine cf_icV (q0 := 0) (ci := 2) (As := [.int (nI w), .int x2, .int x3]) (rest := []) hx hb hml hown hkk (c_Mo_frame_ok l D m0 m1 m2 m3 cJ th r (nI n) (nI cn) lg lf (nI lb) (nI la) op kd sz al w g x2 x3 hw hg (p_cl (by omega) hcg) hf.2.2.1 hf.2.2.2 (cf_t0 (cf_lftD hD))) ce_Mo_frame cv_Mo_frame kw_397 hKM (cf_lft hP) rfl rfl rfl hS (cf_lftA hD hS hA) (by decide) rfl hl.1 rfl (Nat.le_of_ble_eq_true rfl) d_La_law_505 ⟨by show 70 + it + 1 ≤ 839890; omega, by show 633 + 6 * it + 6 ≤ 6576433; omega⟩ (fun H1 locs1 hP1 hzI hkI hS => ?_)
    have hP : va_P D cf_cl ((MW m0 m1 m2 m3 cJ 0 r (nI n) (nI cn) (nI g) (p_lg (nI cn) x2) x3 (nI w) (nI g) op kd sz al) ++ ((oa, .inl (cL, 1, .inr (.inl (vp_updL fo 0 (nI (p_fr g w (p_lg (nI cn) x2) x3)).toInt64)))) :: (CW c0 c1 c2 c3 c4 cR cI ad rf (nI n) r op (nI g) (nI cn) (nI g) (p_pg g w (p_lg (nI cn) x2) x3) (p_pf g w x3) pa))) H1 := cf_updL hP hD hP1 hkI
    have hD : va_D (fun q : Nat => s.heap.size ≤ q) ((MW m0 m1 m2 m3 cJ 0 r (nI n) (nI cn) (nI g) (p_lg (nI cn) x2) x3 (nI w) (nI g) op kd sz al) ++ ((oa, .inl (cL, 1, .inr (.inl (vp_updL fo 0 (nI (p_fr g w (p_lg (nI cn) x2) x3)).toInt64)))) :: (CW c0 c1 c2 c3 c4 cR cI ad rf (nI n) r op (nI g) (nI cn) (nI g) (p_pg g w (p_lg (nI cn) x2) x3) (p_pf g w x3) pa))) := cf_Dm hD cf_addrL
    refine lv_istore (lv' := [(6, .int (nI (p_fr g w (p_lg (nI cn) x2) x3))), (5, .int 0), (4, .int (nI (5 * it))), (3, .ref oa), (2, .ref m0), (1, .ref c0), (0, .ref b)]) hx hb d_La_law_508 hl (by decide) rfl (fun ls hl => ?_)
    refine lv_aload_n hx hb d_La_law_510 rfl (lv_at hl 4 rfl) ?_
    refine cf_pcV (q0 := 0) (ci := 2) (As := []) (rest := []) hx hb hml hown hkk (c_Mo_thrown l D m0 m1 m2 m3 cJ 0 r (nI n) (nI cn) (nI g) (p_lg (nI cn) x2) x3 (nI w) (nI g) op kd sz al) ce_Mo_thrown cv_Mo_thrown kw_329 hKM (cf_lft hP) rfl rfl rfl ⟨rfl, rfl⟩ (by decide) rfl hl.1 rfl (Nat.le_of_ble_eq_true rfl) d_La_law_511 ⟨by show 70 + it + 1 ≤ 839890; omega, by show 633 + 6 * it + 6 ≤ 6576433; omega⟩ ?_
    refine lv_iload hx hb d_La_law_514 (lv_at hl 1 rfl) ?_
    refine lv_icmp_eq (tgt := 521) hx hb d_La_law_516 (by decide) (fun c_516 => ?_) (fun c_516 => False.elim (absurd c_516 (by decide)))
    refine lv_iload hx hb d_La_law_521 (lv_at hl 1 rfl) ?_
    refine lv_if_ne (tgt := 538) hx hb d_La_law_523 (by decide) (fun c_523 => False.elim (absurd c_523 (by decide))) (fun c_523 => ?_)
    refine lv_aload_n hx hb d_La_law_526 rfl (lv_at hl 3 rfl) ?_
    refine lv_iconst (v := 0) hx hb d_La_law_527 (by decide) ?_
    refine cf_lald0 hx hb hKW (cf_rgt hP) 0 2 rfl rfl d_La_law_528 ?_
    refine lv_iload hx hb d_La_law_529 (lv_at hl 0 rfl) ?_
    refine lv_i2l hx hb d_La_law_531 rfl ?_
    refine W.lcmp hx hb d_La_law_532 ?_
    refine lv_if_eq (tgt := 538) hx hb d_La_law_533 (by decide) (fun c_533 => ?_) (fun c_533 => False.elim (c_533 (p_cmp rfl)))
    refine lv_goto (tgt := 622) hx hb d_La_law_538 (by decide) ?_
    refine W.widen (k := 70 + it + 1) (n := 633 + 6 * it + 6) (show 70 + it + 1 ≤ 70 + it + 1 from Nat.le_refl _) (show 633 + 6 * it + 6 ≤ 633 + 6 * it + 6 from Nat.le_refl _) ?_
    exact hN _ _ ls ⟨0, r, op, n, kd, sz, al, cn, g, g, w, (p_lg (nI cn) x2), x3, (vp_updL fo 0 (nI (p_fr g w (p_lg (nI cn) x2) x3)).toInt64), pa, hr4, hop, hn, hok, hat, hpa, hg, hg8, Nat.le_succ_of_le hcn, hcg, hg, hw, hP, hD⟩ hS (lv_sub hl [2, 3, 4, 5, 6] rfl)
  · refine cf_icSW (As := [.ref c0, .int x1, .int x2, .int x3, .ref oa]) (rest := []) hx hb hml hown hkk (cf_stS hst hnc hS) (c_La_frame_no l D c0 oa cR cI cL fo x1 x2 x3 (CW c0 c1 c2 c3 c4 cR cI ad rf (nI n) r op (nI g) (nI cn) (nI la) (p_pg la lb lg lf) (p_pf la lb lf) pa) _ rfl (cf_t0 (cf_rgtD hD)) ({ frames := 6, cells := 1, slots := 6, locals := 81 } : Room) ⟨by decide, by decide, by decide, by decide⟩ (c_Cf_frame_no l D htr c0 c1 c2 c3 c4 cR cI ad rf (nI n) r op (nI g) (nI cn) (nI la) (p_pg la lb lg lf) (p_pf la lb lf) pa x1 x2 x3 hf)) kw_268 kw_0 cy_La_frame cs_La_frame kw_266 hKW (cf_rgt hP) hS (cf_rgtA hD hS hA) (by decide) rfl hl.1 rfl (Nat.le_of_ble_eq_true rfl) d_La_law_481 ⟨by show 70 + it + 1 ≤ 839890; omega, by show 633 + 6 * it + 6 ≤ 6576433; omega⟩ (fun H1 locs1 hP1 hzI hkI hS => ?_)
    have hP : va_P D cf_cl ((MW m0 m1 m2 m3 cJ th r (nI n) (nI cn) (nI g) lg lf (nI lb) (nI la) op kd sz al) ++ ((oa, .inl (cL, 1, .inr (.inl fo))) :: (CW c0 c1 c2 c3 c4 cR cI ad rf (nI n) r op (nI g) (nI cn) (nI la) (p_pg la lb lg lf) (p_pf la lb lf) pa))) H1 := cf_updR hP hD hP1 hkI
    have hD : va_D (fun q : Nat => s.heap.size ≤ q) ((MW m0 m1 m2 m3 cJ th r (nI n) (nI cn) (nI g) lg lf (nI lb) (nI la) op kd sz al) ++ ((oa, .inl (cL, 1, .inr (.inl fo))) :: (CW c0 c1 c2 c3 c4 cR cI ad rf (nI n) r op (nI g) (nI cn) (nI la) (p_pg la lb lg lf) (p_pf la lb lf) pa))) := cf_Dm hD cf_addrL
    refine lv_istore (lv' := [(5, .int 1), (4, .int (nI (5 * it))), (3, .ref oa), (2, .ref m0), (1, .ref c0), (0, .ref b)]) hx hb d_La_law_484 hl (by decide) rfl (fun ls hl => ?_)
    refine lv_aload_n hx hb d_La_law_486 rfl (lv_at hl 3 rfl) ?_
    refine lv_aload_n hx hb d_La_law_487 rfl (lv_at hl 5 rfl) ?_
    refine lv_iload hx hb d_La_law_488 (lv_at hl 1 rfl) ?_
    refine lv_iconst (v := 1) hx hb d_La_law_490 (by decide) ?_
    refine lv_iadd hx hb d_La_law_491 ?_
    refine cf_top (y := nI (5 * it + 1)) (nI_add _ 1) ?_
    refine cf_sld hx hb hX hbl hbA hS (k := (5 * it + 1)) h1 (by omega) hL d_La_law_492 ?_
    refine lv_aload_n hx hb d_La_law_493 rfl (lv_at hl 5 rfl) ?_
    refine lv_iload hx hb d_La_law_494 (lv_at hl 1 rfl) ?_
    refine lv_iconst (v := 2) hx hb d_La_law_496 (by decide) ?_
    refine lv_iadd hx hb d_La_law_497 ?_
    refine cf_top (y := nI (5 * it + 2)) (nI_add _ 2) ?_
    refine cf_sld hx hb hX hbl hbA hS (k := (5 * it + 2)) h2 (by omega) hL d_La_law_498 ?_
    refine lv_aload_n hx hb d_La_law_499 rfl (lv_at hl 5 rfl) ?_
    refine lv_iload hx hb d_La_law_500 (lv_at hl 1 rfl) ?_
    refine lv_iconst (v := 3) hx hb d_La_law_502 (by decide) ?_
    refine lv_iadd hx hb d_La_law_503 ?_
    refine cf_top (y := nI (5 * it + 3)) (nI_add _ 3) ?_
    refine cf_sld hx hb hX hbl hbA hS (k := (5 * it + 3)) h3 (by omega) hL d_La_law_504 ?_
    refine cf_icV (q0 := 0) (ci := 2) (As := [.int x1, .int x2, .int x3]) (rest := []) hx hb hml hown hkk (c_Mo_frame_no l D m0 m1 m2 m3 cJ th r (nI n) (nI cn) (nI g) lg lf (nI lb) (nI la) op kd sz al x1 x2 x3 hf (cf_t0 (cf_lftD hD))) ce_Mo_frame cv_Mo_frame kw_397 hKM (cf_lft hP) rfl rfl rfl hS (cf_lftA hD hS hA) (by decide) rfl hl.1 rfl (Nat.le_of_ble_eq_true rfl) d_La_law_505 ⟨by show 70 + it + 1 ≤ 839890; omega, by show 633 + 6 * it + 6 ≤ 6576433; omega⟩ (fun H1 locs1 hP1 hzI hkI hS => ?_)
    have hP : va_P D cf_cl ((MW m0 m1 m2 m3 cJ 1 r (nI n) (nI cn) (nI g) lg lf (nI lb) (nI la) op kd sz al) ++ ((oa, .inl (cL, 1, .inr (.inl fo))) :: (CW c0 c1 c2 c3 c4 cR cI ad rf (nI n) r op (nI g) (nI cn) (nI la) (p_pg la lb lg lf) (p_pf la lb lf) pa))) H1 := cf_updL hP hD hP1 hkI
    have hD : va_D (fun q : Nat => s.heap.size ≤ q) ((MW m0 m1 m2 m3 cJ 1 r (nI n) (nI cn) (nI g) lg lf (nI lb) (nI la) op kd sz al) ++ ((oa, .inl (cL, 1, .inr (.inl fo))) :: (CW c0 c1 c2 c3 c4 cR cI ad rf (nI n) r op (nI g) (nI cn) (nI la) (p_pg la lb lg lf) (p_pf la lb lf) pa))) := cf_Dm hD cf_addrL
    refine lv_istore (lv' := [(6, .int 0), (5, .int 1), (4, .int (nI (5 * it))), (3, .ref oa), (2, .ref m0), (1, .ref c0), (0, .ref b)]) hx hb d_La_law_508 hl (by decide) rfl (fun ls hl => ?_)
    refine lv_aload_n hx hb d_La_law_510 rfl (lv_at hl 4 rfl) ?_
    refine cf_pcV (q0 := 0) (ci := 2) (As := []) (rest := []) hx hb hml hown hkk (c_Mo_thrown l D m0 m1 m2 m3 cJ 1 r (nI n) (nI cn) (nI g) lg lf (nI lb) (nI la) op kd sz al) ce_Mo_thrown cv_Mo_thrown kw_329 hKM (cf_lft hP) rfl rfl rfl ⟨rfl, rfl⟩ (by decide) rfl hl.1 rfl (Nat.le_of_ble_eq_true rfl) d_La_law_511 ⟨by show 70 + it + 1 ≤ 839890; omega, by show 633 + 6 * it + 6 ≤ 6576433; omega⟩ ?_
    refine lv_iload hx hb d_La_law_514 (lv_at hl 1 rfl) ?_
    refine lv_icmp_eq (tgt := 521) hx hb d_La_law_516 (by decide) (fun c_516 => ?_) (fun c_516 => False.elim (absurd c_516 (by decide)))
    refine lv_iload hx hb d_La_law_521 (lv_at hl 1 rfl) ?_
    refine lv_if_ne (tgt := 538) hx hb d_La_law_523 (by decide) (fun c_523 => ?_) (fun c_523 => False.elim (absurd c_523 (by decide)))
    refine lv_goto (tgt := 622) hx hb d_La_law_538 (by decide) ?_
    refine W.widen (k := 70 + it + 1) (n := 633 + 6 * it + 6) (show 70 + it + 1 ≤ 70 + it + 1 from Nat.le_refl _) (show 633 + 6 * it + 6 ≤ 633 + 6 * it + 6 from Nat.le_refl _) ?_
    exact hN _ _ ls ⟨1, r, op, n, kd, sz, al, cn, g, la, lb, lg, lf, fo, pa, hr4, hop, hn, hok, hat, hpa, hg, hg8, Nat.le_succ_of_le hcn, hcg, hla, hlb, hP, hD⟩ hS (lv_sub hl [2, 3, 4, 5, 6] rfl)
end
section
/-! THE LAW: place (printed by gen/law.py) -/
set_option maxHeartbeats 4000000 in
set_option maxRecDepth 100000 in
/-- place -/
theorem law_7 {p : Program} {l : Launch} {e : Env} {s : State} {m : MethodId} {below : List Frame} {meth : Method} {c : Code} {D : va_G} {b L : Nat} {xs : Nat → Int32} {m0 m1 m2 m3 oa c0 c1 c2 c3 c4 : Nat} {cJ cL cR cI : ClassId} {ad : Nat → Nat} {rf : Nat → Option Nat} (hL : L ≤ 2560) (htr : ∀ e : Env, l.admits e → e.platform.stackTraces = false) (C0 : lw_At p s m meth c b L xs) (hst : cf_ST s) (hnc : cf_NC s) (hrf : ∀ i, i < 60 → rf i = some (ad i)) (hKM : va_K D cf_cl [(cJ, .int)] s) (hKW : va_K D cf_cl [(cR, .object "CallFrames$Argument"), (cI, .int), (cL, .long)] s) (it : Nat) (hit : 5 * it + 5 ≤ L) (x1 : Int32) (h1 : xs (5 * it + 1) = x1) (x2 : Int32) (h2 : xs (5 * it + 2) = x2) (H : Heap) (locs : List Loc) (ls : Array Slot) (hI : cf_I D (fun q : Nat => s.heap.size ≤ q) m0 m1 m2 m3 oa c0 c1 c2 c3 c4 cJ cL cR cI ad rf it H) (hS : va_S (fun q : Nat => s.heap.size ≤ q) s.heap H locs) (hl : lv_has ls 7 [(4, .int (nI (5 * it))), (3, .ref oa), (2, .ref m0), (1, .ref c0), (0, .ref b)])
    (hN : ∀ (H1 : Heap) (locs1 : List Loc) (ls1 : Array Slot), cf_I D (fun q : Nat => s.heap.size ≤ q) m0 m1 m2 m3 oa c0 c1 c2 c3 c4 cJ cL cR cI ad rf (it + 1) H1 → va_S (fun q : Nat => s.heap.size ≤ q) s.heap H1 locs1 → lv_has ls1 7 [(4, .int (nI (5 * it))), (3, .ref oa), (2, .ref m0), (1, .ref c0), (0, .ref b)] → W p l e room_1 s m #[Value.ref b] below meth c H1 locs1 (70 + it + 1) (633 + 6 * it + 6) (lw_Z below #[Value.ref b] s) (F0 m 622 ls1 [])) : W p l e room_1 s m #[Value.ref b] below meth c H locs (70 + it) (633 + 6 * it) (lw_Z below #[Value.ref b] s) (F0 m 541 ls []) := by
  obtain ⟨hx, hb, hr, hml, hown, hts, hX, hbl, hlocks, hgv⟩ := C0
  have hown : s.vm.findClass "CallFramesLaw" = some m.cls := hown
  have hkk : cf_KK s := cf_KK.of hts
  have hbA : ¬ (fun q : Nat => s.heap.size ≤ q) b := Nat.not_le.mpr hbl
  have hA : ∀ q : Nat, s.heap.size ≤ q → (fun q : Nat => s.heap.size ≤ q) q := fun _ h => h
  obtain ⟨th, r, op, n, kd, sz, al, cn, g, la, lb, lg, lf, fo, pa, hr4, hop, hn, hok, hat, hpa, hg, hg8, hcn, hcg, hla, hlb, hP, hD⟩ := hI
  refine lv_aload_n hx hb d_La_law_541 rfl (lv_at hl 3 rfl) ?_
  refine lv_aload_n hx hb d_La_law_542 rfl (lv_at hl 4 rfl) ?_
  refine lv_iload hx hb d_La_law_543 (lv_at hl 0 rfl) ?_
  refine lv_iconst (v := 1) hx hb d_La_law_545 (by decide) ?_
  refine lv_iadd hx hb d_La_law_546 ?_
  refine cf_top (y := nI (5 * it + 1)) (nI_add _ 1) ?_
  refine cf_sld hx hb hX hbl hbA hS (k := (5 * it + 1)) h1 (by omega) hL d_La_law_547 ?_
  refine lv_aload_n hx hb d_La_law_548 rfl (lv_at hl 4 rfl) ?_
  refine lv_iload hx hb d_La_law_549 (lv_at hl 0 rfl) ?_
  refine lv_iconst (v := 2) hx hb d_La_law_551 (by decide) ?_
  refine lv_iadd hx hb d_La_law_552 ?_
  refine cf_top (y := nI (5 * it + 2)) (nI_add _ 2) ?_
  refine cf_sld hx hb hX hbl hbA hS (k := (5 * it + 2)) h2 (by omega) hL d_La_law_553 ?_
  refine lv_aload_n hx hb d_La_law_554 rfl (lv_at hl 1 rfl) ?_
  by_cases hk : x1 < 0 ∨ 2 < x1 ∨ x2 < 0 ∨ ¬ x2 < 32
  · refine cf_icSW (As := [.ref c0, .int x1, .int x2, .ref oa]) (rest := []) hx hb hml hown hkk (cf_stS hst hnc hS) (c_La_place_no l D c0 oa cR cI cL fo x1 x2 (CW c0 c1 c2 c3 c4 cR cI ad rf (nI n) r op (nI g) (nI cn) (nI la) (p_pg la lb lg lf) (p_pf la lb lf) pa) _ rfl (cf_t0 (cf_rgtD hD)) ({ frames := 6, cells := 1, slots := 6, locals := 81 } : Room) ⟨by decide, by decide, by decide, by decide⟩ (c_Cf_place_no l D htr c0 c1 c2 c3 c4 cR cI ad rf (nI n) r op (nI g) (nI cn) (nI la) (p_pg la lb lg lf) (p_pf la lb lf) pa x1 x2 hk)) kw_278 kw_0 cy_La_place cs_La_place kw_276 hKW (cf_rgt hP) hS (cf_rgtA hD hS hA) (by decide) rfl hl.1 rfl (Nat.le_of_ble_eq_true rfl) d_La_law_555 ⟨by show 70 + it + 1 ≤ 839890; omega, by show 633 + 6 * it + 6 ≤ 6576433; omega⟩ (fun H1 locs1 hP1 hzI hkI hS => ?_)
    have hP : va_P D cf_cl ((MW m0 m1 m2 m3 cJ th r (nI n) (nI cn) (nI g) lg lf (nI lb) (nI la) op kd sz al) ++ ((oa, .inl (cL, 1, .inr (.inl fo))) :: (CW c0 c1 c2 c3 c4 cR cI ad rf (nI n) r op (nI g) (nI cn) (nI la) (p_pg la lb lg lf) (p_pf la lb lf) pa))) H1 := cf_updR hP hD hP1 hkI
    have hD : va_D (fun q : Nat => s.heap.size ≤ q) ((MW m0 m1 m2 m3 cJ th r (nI n) (nI cn) (nI g) lg lf (nI lb) (nI la) op kd sz al) ++ ((oa, .inl (cL, 1, .inr (.inl fo))) :: (CW c0 c1 c2 c3 c4 cR cI ad rf (nI n) r op (nI g) (nI cn) (nI la) (p_pg la lb lg lf) (p_pf la lb lf) pa))) := cf_Dm hD cf_addrL
    refine lv_istore (lv' := [(5, .int 1), (4, .int (nI (5 * it))), (3, .ref oa), (2, .ref m0), (1, .ref c0), (0, .ref b)]) hx hb d_La_law_558 hl (by decide) rfl (fun ls hl => ?_)
    refine lv_aload_n hx hb d_La_law_560 rfl (lv_at hl 3 rfl) ?_
    refine lv_aload_n hx hb d_La_law_561 rfl (lv_at hl 5 rfl) ?_
    refine lv_iload hx hb d_La_law_562 (lv_at hl 1 rfl) ?_
    refine lv_iconst (v := 1) hx hb d_La_law_564 (by decide) ?_
    refine lv_iadd hx hb d_La_law_565 ?_
    refine cf_top (y := nI (5 * it + 1)) (nI_add _ 1) ?_
    refine cf_sld hx hb hX hbl hbA hS (k := (5 * it + 1)) h1 (by omega) hL d_La_law_566 ?_
    refine lv_aload_n hx hb d_La_law_567 rfl (lv_at hl 5 rfl) ?_
    refine lv_iload hx hb d_La_law_568 (lv_at hl 1 rfl) ?_
    refine lv_iconst (v := 2) hx hb d_La_law_570 (by decide) ?_
    refine lv_iadd hx hb d_La_law_571 ?_
    refine cf_top (y := nI (5 * it + 2)) (nI_add _ 2) ?_
    refine cf_sld hx hb hX hbl hbA hS (k := (5 * it + 2)) h2 (by omega) hL d_La_law_572 ?_
    refine cf_icV (q0 := 0) (ci := 2) (As := [.int x1, .int x2]) (rest := []) hx hb hml hown hkk (c_Mo_place_no l D m0 m1 m2 m3 cJ th r (nI n) (nI cn) (nI g) lg lf (nI lb) (nI la) op kd sz al x1 x2 (by rw [p_31]; exact hk) (cf_t0 (cf_lftD hD))) ce_Mo_place cv_Mo_place kw_415 hKM (cf_lft hP) rfl rfl rfl hS (cf_lftA hD hS hA) (by decide) rfl hl.1 rfl (Nat.le_of_ble_eq_true rfl) d_La_law_573 ⟨by show 70 + it + 1 ≤ 839890; omega, by show 633 + 6 * it + 6 ≤ 6576433; omega⟩ (fun H1 locs1 hP1 hzI hkI hS => ?_)
    have hP : va_P D cf_cl ((MW m0 m1 m2 m3 cJ 1 r (nI n) (nI cn) (nI g) lg lf (nI lb) (nI la) op kd sz al) ++ ((oa, .inl (cL, 1, .inr (.inl fo))) :: (CW c0 c1 c2 c3 c4 cR cI ad rf (nI n) r op (nI g) (nI cn) (nI la) (p_pg la lb lg lf) (p_pf la lb lf) pa))) H1 := cf_updL hP hD hP1 hkI
    have hD : va_D (fun q : Nat => s.heap.size ≤ q) ((MW m0 m1 m2 m3 cJ 1 r (nI n) (nI cn) (nI g) lg lf (nI lb) (nI la) op kd sz al) ++ ((oa, .inl (cL, 1, .inr (.inl fo))) :: (CW c0 c1 c2 c3 c4 cR cI ad rf (nI n) r op (nI g) (nI cn) (nI la) (p_pg la lb lg lf) (p_pf la lb lf) pa))) := cf_Dm hD cf_addrL
    refine lv_istore (lv' := [(6, .int 0), (5, .int 1), (4, .int (nI (5 * it))), (3, .ref oa), (2, .ref m0), (1, .ref c0), (0, .ref b)]) hx hb d_La_law_576 hl (by decide) rfl (fun ls hl => ?_)
    refine lv_aload_n hx hb d_La_law_578 rfl (lv_at hl 4 rfl) ?_
    refine cf_pcV (q0 := 0) (ci := 2) (As := []) (rest := []) hx hb hml hown hkk (c_Mo_thrown l D m0 m1 m2 m3 cJ 1 r (nI n) (nI cn) (nI g) lg lf (nI lb) (nI la) op kd sz al) ce_Mo_thrown cv_Mo_thrown kw_329 hKM (cf_lft hP) rfl rfl rfl ⟨rfl, rfl⟩ (by decide) rfl hl.1 rfl (Nat.le_of_ble_eq_true rfl) d_La_law_579 ⟨by show 70 + it + 1 ≤ 839890; omega, by show 633 + 6 * it + 6 ≤ 6576433; omega⟩ ?_
    refine lv_iload hx hb d_La_law_582 (lv_at hl 1 rfl) ?_
    refine lv_icmp_eq (tgt := 589) hx hb d_La_law_584 (by decide) (fun c_584 => ?_) (fun c_584 => False.elim (absurd c_584 (by decide)))
    refine lv_iload hx hb d_La_law_589 (lv_at hl 1 rfl) ?_
    refine lv_if_ne (tgt := 606) hx hb d_La_law_591 (by decide) (fun c_591 => ?_) (fun c_591 => False.elim (absurd c_591 (by decide)))
    refine lv_goto (tgt := 622) hx hb d_La_law_606 (by decide) ?_
    refine W.widen (k := 70 + it + 1) (n := 633 + 6 * it + 6) (show 70 + it + 1 ≤ 70 + it + 1 from Nat.le_refl _) (show 633 + 6 * it + 6 ≤ 633 + 6 * it + 6 from Nat.le_refl _) ?_
    exact hN _ _ ls ⟨1, r, op, n, kd, sz, al, cn, g, la, lb, lg, lf, fo, pa, hr4, hop, hn, hok, hat, hpa, hg, hg8, Nat.le_succ_of_le hcn, hcg, hla, hlb, hP, hD⟩ hS (lv_sub hl [2, 3, 4, 5, 6] rfl)
  · obtain ⟨h00, h22, w, hw, rfl⟩ := p_pl4 hk
    refine cf_icSW (As := [.ref c0, .int x1, .int (nI w), .ref oa]) (rest := []) hx hb hml hown hkk (cf_stS hst hnc hS) (c_La_place_ok l D c0 oa cR cI cL fo x1 (nI w) (CW c0 c1 c2 c3 c4 cR cI ad rf (nI n) r op (nI g) (nI cn) (nI la) (p_pg la lb lg lf) (p_pf la lb lf) pa) _ rfl (cf_t0 (cf_rgtD hD)) ({ frames := 0, cells := 0, slots := 0, locals := 0 } : Room) (p_pl la lb lg lf x1 w) ⟨rfl, rfl, by decide, by decide⟩ (c_Cf_place l D c0 c1 c2 c3 c4 cR cI ad rf (nI n) r op (nI g) (nI cn) (p_pg la lb lg lf) (p_pf la lb lf) pa la x1 w hw h00 h22)) kw_278 kw_0 cy_La_place cs_La_place kw_276 hKW (cf_rgt hP) hS (cf_rgtA hD hS hA) (by decide) rfl hl.1 rfl (Nat.le_of_ble_eq_true rfl) d_La_law_555 ⟨by show 70 + it + 1 ≤ 839890; omega, by show 633 + 6 * it + 6 ≤ 6576433; omega⟩ (fun H1 locs1 hP1 hzI hkI hS => ?_)
    have hP : va_P D cf_cl ((MW m0 m1 m2 m3 cJ th r (nI n) (nI cn) (nI g) lg lf (nI lb) (nI la) op kd sz al) ++ ((oa, .inl (cL, 1, .inr (.inl (vp_updL fo 0 (p_pl la lb lg lf x1 w).toInt64)))) :: (CW c0 c1 c2 c3 c4 cR cI ad rf (nI n) r op (nI g) (nI cn) (nI la) (p_pg la lb lg lf) (p_pf la lb lf) pa))) H1 := cf_updR hP hD hP1 hkI
    have hD : va_D (fun q : Nat => s.heap.size ≤ q) ((MW m0 m1 m2 m3 cJ th r (nI n) (nI cn) (nI g) lg lf (nI lb) (nI la) op kd sz al) ++ ((oa, .inl (cL, 1, .inr (.inl (vp_updL fo 0 (p_pl la lb lg lf x1 w).toInt64)))) :: (CW c0 c1 c2 c3 c4 cR cI ad rf (nI n) r op (nI g) (nI cn) (nI la) (p_pg la lb lg lf) (p_pf la lb lf) pa))) := cf_Dm hD cf_addrL
    refine lv_istore (lv' := [(5, .int 0), (4, .int (nI (5 * it))), (3, .ref oa), (2, .ref m0), (1, .ref c0), (0, .ref b)]) hx hb d_La_law_558 hl (by decide) rfl (fun ls hl => ?_)
    refine lv_aload_n hx hb d_La_law_560 rfl (lv_at hl 3 rfl) ?_
    refine lv_aload_n hx hb d_La_law_561 rfl (lv_at hl 5 rfl) ?_
    refine lv_iload hx hb d_La_law_562 (lv_at hl 1 rfl) ?_
    refine lv_iconst (v := 1) hx hb d_La_law_564 (by decide) ?_
    refine lv_iadd hx hb d_La_law_565 ?_
    refine cf_top (y := nI (5 * it + 1)) (nI_add _ 1) ?_
    refine cf_sld hx hb hX hbl hbA hS (k := (5 * it + 1)) h1 (by omega) hL d_La_law_566 ?_
    refine lv_aload_n hx hb d_La_law_567 rfl (lv_at hl 5 rfl) ?_
    refine lv_iload hx hb d_La_law_568 (lv_at hl 1 rfl) ?_
    refine lv_iconst (v := 2) hx hb d_La_law_570 (by decide) ?_
    refine lv_iadd hx hb d_La_law_571 ?_
    refine cf_top (y := nI (5 * it + 2)) (nI_add _ 2) ?_
    refine cf_sld hx hb hX hbl hbA hS (k := (5 * it + 2)) h2 (by omega) hL d_La_law_572 ?_
    refine cf_icV (q0 := 0) (ci := 2) (As := [.int x1, .int (nI w)]) (rest := []) hx hb hml hown hkk (c_Mo_place_ok l D m0 m1 m2 m3 cJ th r (nI n) (nI cn) (nI g) lg lf op kd sz al x1 w lb la hw hlb hla h00 h22 (cf_t0 (cf_lftD hD))) ce_Mo_place cv_Mo_place kw_415 hKM (cf_lft hP) rfl rfl rfl hS (cf_lftA hD hS hA) (by decide) rfl hl.1 rfl (Nat.le_of_ble_eq_true rfl) d_La_law_573 ⟨by show 70 + it + 1 ≤ 839890; omega, by show 633 + 6 * it + 6 ≤ 6576433; omega⟩ (fun H1 locs1 hP1 hzI hkI hS => ?_)
    have hP : va_P D cf_cl ((MW m0 m1 m2 m3 cJ 0 r (nI n) (nI cn) (nI g) lg lf (nI lb) (nI la) op kd sz al) ++ ((oa, .inl (cL, 1, .inr (.inl (vp_updL fo 0 (p_pl la lb lg lf x1 w).toInt64)))) :: (CW c0 c1 c2 c3 c4 cR cI ad rf (nI n) r op (nI g) (nI cn) (nI la) (p_pg la lb lg lf) (p_pf la lb lf) pa))) H1 := cf_updL hP hD hP1 hkI
    have hD : va_D (fun q : Nat => s.heap.size ≤ q) ((MW m0 m1 m2 m3 cJ 0 r (nI n) (nI cn) (nI g) lg lf (nI lb) (nI la) op kd sz al) ++ ((oa, .inl (cL, 1, .inr (.inl (vp_updL fo 0 (p_pl la lb lg lf x1 w).toInt64)))) :: (CW c0 c1 c2 c3 c4 cR cI ad rf (nI n) r op (nI g) (nI cn) (nI la) (p_pg la lb lg lf) (p_pf la lb lf) pa))) := cf_Dm hD cf_addrL
    refine lv_istore (lv' := [(6, .int (p_pl la lb lg lf x1 w)), (5, .int 0), (4, .int (nI (5 * it))), (3, .ref oa), (2, .ref m0), (1, .ref c0), (0, .ref b)]) hx hb d_La_law_576 hl (by decide) rfl (fun ls hl => ?_)
    refine lv_aload_n hx hb d_La_law_578 rfl (lv_at hl 4 rfl) ?_
    refine cf_pcV (q0 := 0) (ci := 2) (As := []) (rest := []) hx hb hml hown hkk (c_Mo_thrown l D m0 m1 m2 m3 cJ 0 r (nI n) (nI cn) (nI g) lg lf (nI lb) (nI la) op kd sz al) ce_Mo_thrown cv_Mo_thrown kw_329 hKM (cf_lft hP) rfl rfl rfl ⟨rfl, rfl⟩ (by decide) rfl hl.1 rfl (Nat.le_of_ble_eq_true rfl) d_La_law_579 ⟨by show 70 + it + 1 ≤ 839890; omega, by show 633 + 6 * it + 6 ≤ 6576433; omega⟩ ?_
    refine lv_iload hx hb d_La_law_582 (lv_at hl 1 rfl) ?_
    refine lv_icmp_eq (tgt := 589) hx hb d_La_law_584 (by decide) (fun c_584 => ?_) (fun c_584 => False.elim (absurd c_584 (by decide)))
    refine lv_iload hx hb d_La_law_589 (lv_at hl 1 rfl) ?_
    refine lv_if_ne (tgt := 606) hx hb d_La_law_591 (by decide) (fun c_591 => False.elim (absurd c_591 (by decide))) (fun c_591 => ?_)
    refine lv_aload_n hx hb d_La_law_594 rfl (lv_at hl 3 rfl) ?_
    refine lv_iconst (v := 0) hx hb d_La_law_595 (by decide) ?_
    refine cf_lald0 hx hb hKW (cf_rgt hP) 0 2 rfl rfl d_La_law_596 ?_
    refine lv_iload hx hb d_La_law_597 (lv_at hl 0 rfl) ?_
    refine lv_i2l hx hb d_La_law_599 rfl ?_
    refine W.lcmp hx hb d_La_law_600 ?_
    refine lv_if_eq (tgt := 606) hx hb d_La_law_601 (by decide) (fun c_601 => ?_) (fun c_601 => False.elim (c_601 (p_cmp rfl)))
    refine lv_goto (tgt := 622) hx hb d_La_law_606 (by decide) ?_
    refine W.widen (k := 70 + it + 1) (n := 633 + 6 * it + 6) (show 70 + it + 1 ≤ 70 + it + 1 from Nat.le_refl _) (show 633 + 6 * it + 6 ≤ 633 + 6 * it + 6 from Nat.le_refl _) ?_
    exact hN _ _ ls ⟨0, r, op, n, kd, sz, al, cn, g, la, lb, lg, lf, (vp_updL fo 0 (p_pl la lb lg lf x1 w).toInt64), pa, hr4, hop, hn, hok, hat, hpa, hg, hg8, Nat.le_succ_of_le hcn, hcg, hla, hlb, hP, hD⟩ hS (lv_sub hl [2, 3, 4, 5, 6] rfl)
end
section
/-! THE LAW: call (printed by gen/law.py) -/
set_option maxHeartbeats 4000000 in
set_option maxRecDepth 100000 in
/-- call -/
theorem law_5 {p : Program} {l : Launch} {e : Env} {s : State} {m : MethodId} {below : List Frame} {meth : Method} {c : Code} {D : va_G} {b L : Nat} {xs : Nat → Int32} {m0 m1 m2 m3 oa c0 c1 c2 c3 c4 : Nat} {cJ cL cR cI : ClassId} {ad : Nat → Nat} {rf : Nat → Option Nat} (hL : L ≤ 2560) (htr : ∀ e : Env, l.admits e → e.platform.stackTraces = false) (C0 : lw_At p s m meth c b L xs) (hst : cf_ST s) (hnc : cf_NC s) (hrf : ∀ i, i < 60 → rf i = some (ad i)) (hKM : va_K D cf_cl [(cJ, .int)] s) (hKW : va_K D cf_cl [(cR, .object "CallFrames$Argument"), (cI, .int), (cL, .long)] s) (it : Nat) (hit : 5 * it + 5 ≤ L)  (H : Heap) (locs : List Loc) (ls : Array Slot) (hI : cf_I D (fun q : Nat => s.heap.size ≤ q) m0 m1 m2 m3 oa c0 c1 c2 c3 c4 cJ cL cR cI ad rf it H) (hS : va_S (fun q : Nat => s.heap.size ≤ q) s.heap H locs) (hl : lv_has ls 7 [(4, .int (nI (5 * it))), (3, .ref oa), (2, .ref m0), (1, .ref c0), (0, .ref b)])
    (hN : ∀ (H1 : Heap) (locs1 : List Loc) (ls1 : Array Slot), cf_I D (fun q : Nat => s.heap.size ≤ q) m0 m1 m2 m3 oa c0 c1 c2 c3 c4 cJ cL cR cI ad rf (it + 1) H1 → va_S (fun q : Nat => s.heap.size ≤ q) s.heap H1 locs1 → lv_has ls1 7 [(4, .int (nI (5 * it))), (3, .ref oa), (2, .ref m0), (1, .ref c0), (0, .ref b)] → W p l e room_1 s m #[Value.ref b] below meth c H1 locs1 (70 + it + 1) (633 + 6 * it + 6) (lw_Z below #[Value.ref b] s) (F0 m 622 ls1 [])) : W p l e room_1 s m #[Value.ref b] below meth c H locs (70 + it) (633 + 6 * it) (lw_Z below #[Value.ref b] s) (F0 m 448 ls []) := by
  obtain ⟨hx, hb, hr, hml, hown, hts, hX, hbl, hlocks, hgv⟩ := C0
  have hown : s.vm.findClass "CallFramesLaw" = some m.cls := hown
  have hkk : cf_KK s := cf_KK.of hts
  have hbA : ¬ (fun q : Nat => s.heap.size ≤ q) b := Nat.not_le.mpr hbl
  have hA : ∀ q : Nat, s.heap.size ≤ q → (fun q : Nat => s.heap.size ≤ q) q := fun _ h => h
  obtain ⟨th, r, op, n, kd, sz, al, cn, g, la, lb, lg, lf, fo, pa, hr4, hop, hn, hok, hat, hpa, hg, hg8, hcn, hcg, hla, hlb, hP, hD⟩ := hI
  refine lv_aload_n hx hb d_La_law_448 rfl (lv_at hl 3 rfl) ?_
  refine cf_icV (q0 := 0) (ci := 1) (As := []) (rest := []) hx hb hml hown hkk (c_Cf_call l D c0 c1 c2 c3 c4 cR cI ad rf op (nI cn) (nI la) (p_pg la lb lg lf) (p_pf la lb lf) pa r kd sz al n hn hrf hpa hok hat g hg (cf_t0 (cf_tlD (cf_rgtD hD)))) ce_Cf_call cv_Cf_call kw_87 (hKW.sub [0, 1] rfl) (cf_tl (cf_rgt hP)) rfl rfl rfl hS (cf_tlA (cf_rgtD hD) hS hA) (by decide) rfl hl.1 rfl (Nat.le_of_ble_eq_true rfl) d_La_law_449 ⟨by show 70 + it ≤ 839890; omega, by show 633 + 6 * it ≤ 6576433; omega⟩ (fun H1 locs1 hP1 hzI hkI hS => ?_)
  have hP : va_P D cf_cl ((MW m0 m1 m2 m3 cJ th r (nI n) (nI cn) (nI g) lg lf (nI lb) (nI la) op kd sz al) ++ ((oa, .inl (cL, 1, .inr (.inl fo))) :: (CW c0 c1 c2 c3 c4 cR cI ad rf (nI n) r op (nI (p_mx g (p_area r kd sz al n))) ((nI cn) + 1) (nI la) (p_pg la lb lg lf) (p_pf la lb lf) pa))) H1 := cf_updR hP hD (cf_cons (cf_keptO (cf_rgt hP) (cf_rgtD hD) hkI) hP1) (fun q h1 h2 => hkI q h1 (fun h => h2 (cf_amono h)))
  have hD : va_D (fun q : Nat => s.heap.size ≤ q) ((MW m0 m1 m2 m3 cJ th r (nI n) (nI cn) (nI g) lg lf (nI lb) (nI la) op kd sz al) ++ ((oa, .inl (cL, 1, .inr (.inl fo))) :: (CW c0 c1 c2 c3 c4 cR cI ad rf (nI n) r op (nI (p_mx g (p_area r kd sz al n))) ((nI cn) + 1) (nI la) (p_pg la lb lg lf) (p_pf la lb lf) pa))) := cf_Dm hD cf_addrL
  refine lv_aload_n hx hb d_La_law_452 rfl (lv_at hl 2 rfl) ?_
  refine cf_icV (q0 := 0) (ci := 2) (As := []) (rest := [.int (nI (p_mx g (p_area r kd sz al n)))]) hx hb hml hown hkk (c_Mo_call l D m0 m1 m2 m3 cJ th r (nI cn) lg lf (nI lb) (nI la) op kd sz al n g hn hg hok hat (cf_t0 (cf_lftD hD))) ce_Mo_call cv_Mo_call kw_393 hKM (cf_lft hP) rfl rfl rfl hS (cf_lftA hD hS hA) (by decide) rfl hl.1 rfl (Nat.le_of_ble_eq_true rfl) d_La_law_453 ⟨by show 70 + it ≤ 839890; omega, by show 633 + 6 * it ≤ 6576433; omega⟩ (fun H1 locs1 hP1 hzI hkI hS => ?_)
  have hP : va_P D cf_cl ((MW m0 m1 m2 m3 cJ 0 r (nI n) ((nI cn) + 1) (nI (p_mx g (p_area r kd sz al n))) lg lf (nI lb) (nI la) op kd sz al) ++ ((oa, .inl (cL, 1, .inr (.inl fo))) :: (CW c0 c1 c2 c3 c4 cR cI ad rf (nI n) r op (nI (p_mx g (p_area r kd sz al n))) ((nI cn) + 1) (nI la) (p_pg la lb lg lf) (p_pf la lb lf) pa))) H1 := cf_updL hP hD hP1 hkI
  have hD : va_D (fun q : Nat => s.heap.size ≤ q) ((MW m0 m1 m2 m3 cJ 0 r (nI n) ((nI cn) + 1) (nI (p_mx g (p_area r kd sz al n))) lg lf (nI lb) (nI la) op kd sz al) ++ ((oa, .inl (cL, 1, .inr (.inl fo))) :: (CW c0 c1 c2 c3 c4 cR cI ad rf (nI n) r op (nI (p_mx g (p_area r kd sz al n))) ((nI cn) + 1) (nI la) (p_pg la lb lg lf) (p_pf la lb lf) pa))) := cf_Dm hD cf_addrL
  rw [nI_1] at hP hD
  refine lv_icmp_eq (tgt := 622) hx hb d_La_law_456 (by decide) (fun c_456 => ?_) (fun c_456 => False.elim (c_456 rfl))
  refine W.widen (k := 70 + it + 1) (n := 633 + 6 * it + 6) (show 70 + it ≤ 70 + it + 1 from Nat.le_succ _) (show 633 + 6 * it ≤ 633 + 6 * it + 6 from Nat.le_add_right _ _) ?_
  exact hN _ _ ls ⟨0, r, op, n, kd, sz, al, cn + 1, p_mx g (p_area r kd sz al n), la, lb, lg, lf, fo, pa, hr4, hop, hn, hok, hat, hpa, p_mx_b hg (p_area_b hat), p_mx8 hg8 (p_area8 r kd sz al n), Nat.succ_le_succ hcn, fun h => absurd h (Nat.succ_ne_zero cn), hla, hlb, hP, hD⟩ hS (lv_sub hl [0, 1, 2, 3, 4] rfl)
end
section
/-! THE LAW: clear (printed by gen/law.py) -/
set_option maxHeartbeats 4000000 in
set_option maxRecDepth 100000 in
/-- clear -/
theorem law_8 {p : Program} {l : Launch} {e : Env} {s : State} {m : MethodId} {below : List Frame} {meth : Method} {c : Code} {D : va_G} {b L : Nat} {xs : Nat → Int32} {m0 m1 m2 m3 oa c0 c1 c2 c3 c4 : Nat} {cJ cL cR cI : ClassId} {ad : Nat → Nat} {rf : Nat → Option Nat} (hL : L ≤ 2560) (htr : ∀ e : Env, l.admits e → e.platform.stackTraces = false) (C0 : lw_At p s m meth c b L xs) (hst : cf_ST s) (hnc : cf_NC s) (hrf : ∀ i, i < 60 → rf i = some (ad i)) (hKM : va_K D cf_cl [(cJ, .int)] s) (hKW : va_K D cf_cl [(cR, .object "CallFrames$Argument"), (cI, .int), (cL, .long)] s) (it : Nat) (hit : 5 * it + 5 ≤ L)  (H : Heap) (locs : List Loc) (ls : Array Slot) (hI : cf_I D (fun q : Nat => s.heap.size ≤ q) m0 m1 m2 m3 oa c0 c1 c2 c3 c4 cJ cL cR cI ad rf it H) (hS : va_S (fun q : Nat => s.heap.size ≤ q) s.heap H locs) (hl : lv_has ls 7 [(4, .int (nI (5 * it))), (3, .ref oa), (2, .ref m0), (1, .ref c0), (0, .ref b)])
    (hN : ∀ (H1 : Heap) (locs1 : List Loc) (ls1 : Array Slot), cf_I D (fun q : Nat => s.heap.size ≤ q) m0 m1 m2 m3 oa c0 c1 c2 c3 c4 cJ cL cR cI ad rf (it + 1) H1 → va_S (fun q : Nat => s.heap.size ≤ q) s.heap H1 locs1 → lv_has ls1 7 [(4, .int (nI (5 * it))), (3, .ref oa), (2, .ref m0), (1, .ref c0), (0, .ref b)] → W p l e room_1 s m #[Value.ref b] below meth c H1 locs1 (70 + it + 1) (633 + 6 * it + 6) (lw_Z below #[Value.ref b] s) (F0 m 622 ls1 [])) : W p l e room_1 s m #[Value.ref b] below meth c H locs (70 + it) (633 + 6 * it) (lw_Z below #[Value.ref b] s) (F0 m 609 ls []) := by
  obtain ⟨hx, hb, hr, hml, hown, hts, hX, hbl, hlocks, hgv⟩ := C0
  have hown : s.vm.findClass "CallFramesLaw" = some m.cls := hown
  have hkk : cf_KK s := cf_KK.of hts
  have hbA : ¬ (fun q : Nat => s.heap.size ≤ q) b := Nat.not_le.mpr hbl
  have hA : ∀ q : Nat, s.heap.size ≤ q → (fun q : Nat => s.heap.size ≤ q) q := fun _ h => h
  obtain ⟨th, r, op, n, kd, sz, al, cn, g, la, lb, lg, lf, fo, pa, hr4, hop, hn, hok, hat, hpa, hg, hg8, hcn, hcg, hla, hlb, hP, hD⟩ := hI
  refine lv_aload_n hx hb d_La_law_609 rfl (lv_at hl 3 rfl) ?_
  refine cf_icV (q0 := 0) (ci := 1) (As := []) (rest := []) hx hb hml hown hkk (c_Cf_clear l D c0 c1 c2 c3 c4 cR cI ad rf (nI n) r op (nI g) (nI cn) (nI la) (p_pg la lb lg lf) (p_pf la lb lf) pa (cf_t0 (cf_tlD (cf_rgtD hD)))) ce_Cf_clear cv_Cf_clear kw_113 (hKW.sub [0, 1] rfl) (cf_tl (cf_rgt hP)) rfl rfl rfl hS (cf_tlA (cf_rgtD hD) hS hA) (by decide) rfl hl.1 rfl (Nat.le_of_ble_eq_true rfl) d_La_law_610 ⟨by show 70 + it ≤ 839890; omega, by show 633 + 6 * it ≤ 6576433; omega⟩ (fun H1 locs1 hP1 hzI hkI hS => ?_)
  have hP : va_P D cf_cl ((MW m0 m1 m2 m3 cJ th r (nI n) (nI cn) (nI g) lg lf (nI lb) (nI la) op kd sz al) ++ ((oa, .inl (cL, 1, .inr (.inl fo))) :: (CW c0 c1 c2 c3 c4 cR cI ad rf (nI n) r op 0 0 0 (fun _ => -1) (fun _ => -1) pa))) H1 := cf_updR hP hD (cf_cons (cf_keptO (cf_rgt hP) (cf_rgtD hD) hkI) hP1) (fun q h1 h2 => hkI q h1 (fun h => h2 (cf_amono h)))
  have hD : va_D (fun q : Nat => s.heap.size ≤ q) ((MW m0 m1 m2 m3 cJ th r (nI n) (nI cn) (nI g) lg lf (nI lb) (nI la) op kd sz al) ++ ((oa, .inl (cL, 1, .inr (.inl fo))) :: (CW c0 c1 c2 c3 c4 cR cI ad rf (nI n) r op 0 0 0 (fun _ => -1) (fun _ => -1) pa))) := cf_Dm hD cf_addrL
  refine lv_aload_n hx hb d_La_law_613 rfl (lv_at hl 2 rfl) ?_
  refine cf_icV (q0 := 0) (ci := 2) (As := []) (rest := [.int (nI cn)]) hx hb hml hown hkk (c_Mo_clear l D m0 m1 m2 m3 cJ th r (nI n) (nI cn) (nI g) lg lf (nI lb) (nI la) op kd sz al (cf_t0 (cf_lftD hD))) ce_Mo_clear cv_Mo_clear kw_419 hKM (cf_lft hP) rfl rfl rfl hS (cf_lftA hD hS hA) (by decide) rfl hl.1 rfl (Nat.le_of_ble_eq_true rfl) d_La_law_614 ⟨by show 70 + it ≤ 839890; omega, by show 633 + 6 * it ≤ 6576433; omega⟩ (fun H1 locs1 hP1 hzI hkI hS => ?_)
  have hP : va_P D cf_cl ((MW m0 m1 m2 m3 cJ 0 r (nI n) 0 0 0 0 0 0 op kd sz al) ++ ((oa, .inl (cL, 1, .inr (.inl fo))) :: (CW c0 c1 c2 c3 c4 cR cI ad rf (nI n) r op 0 0 0 (fun _ => -1) (fun _ => -1) pa))) H1 := cf_updL hP hD hP1 hkI
  have hD : va_D (fun q : Nat => s.heap.size ≤ q) ((MW m0 m1 m2 m3 cJ 0 r (nI n) 0 0 0 0 0 0 op kd sz al) ++ ((oa, .inl (cL, 1, .inr (.inl fo))) :: (CW c0 c1 c2 c3 c4 cR cI ad rf (nI n) r op 0 0 0 (fun _ => -1) (fun _ => -1) pa))) := cf_Dm hD cf_addrL
  have hP := cf_setA hP (k := 8) rfl (g := p_pg 0 0 0 0) (fun j hj => p_pg0 hj)
  have hP := cf_setA hP (k := 9) rfl (g := p_pf 0 0 0) (fun j hj => p_pf0 hj)
  have hP : va_P D cf_cl ((MW m0 m1 m2 m3 cJ 0 r (nI n) (nI 0) (nI 0) 0 0 (nI 0) (nI 0) op kd sz al) ++ ((oa, .inl (cL, 1, .inr (.inl fo))) :: (CW c0 c1 c2 c3 c4 cR cI ad rf (nI n) r op (nI 0) (nI 0) (nI 0) (p_pg 0 0 0 0) (p_pf 0 0 0) pa))) H1 := hP
  have hD : va_D (fun q : Nat => s.heap.size ≤ q) ((MW m0 m1 m2 m3 cJ 0 r (nI n) (nI 0) (nI 0) 0 0 (nI 0) (nI 0) op kd sz al) ++ ((oa, .inl (cL, 1, .inr (.inl fo))) :: (CW c0 c1 c2 c3 c4 cR cI ad rf (nI n) r op (nI 0) (nI 0) (nI 0) (p_pg 0 0 0 0) (p_pf 0 0 0) pa))) := cf_Dm hD cf_addrL
  refine lv_icmp_eq (tgt := 622) hx hb d_La_law_617 (by decide) (fun c_617 => ?_) (fun c_617 => False.elim (c_617 rfl))
  refine W.widen (k := 70 + it + 1) (n := 633 + 6 * it + 6) (show 70 + it ≤ 70 + it + 1 from Nat.le_succ _) (show 633 + 6 * it ≤ 633 + 6 * it + 6 from Nat.le_add_right _ _) ?_
  exact hN _ _ ls ⟨0, r, op, n, kd, sz, al, 0, 0, 0, 0, 0, 0, fo, pa, hr4, hop, hn, hok, hat, hpa, Nat.zero_le _, rfl, Nat.zero_le _, fun _ => rfl, Nat.zero_le _, Nat.zero_le _, hP, hD⟩ hS (lv_sub hl [0, 1, 2, 3, 4] rfl)
end
section
/-! THE LAW: its loop (printed by gen/lawS.py) -/
theorem cf_I_mono {D : va_G} {A : Nat → Prop} {m0 m1 m2 m3 oa c0 c1 c2 c3 c4 : Nat} {cJ cL cR cI : ClassId} {ad : Nat → Nat} {rf : Nat → Option Nat} {it : Nat} {H : Heap} (h : cf_I D A m0 m1 m2 m3 oa c0 c1 c2 c3 c4 cJ cL cR cI ad rf it H) : cf_I D A m0 m1 m2 m3 oa c0 c1 c2 c3 c4 cJ cL cR cI ad rf (it + 1) H := by
  obtain ⟨th, r, op, n, kd, sz, al, cn, g, la, lb, lg, lf, fo, pa, hr4, hop, hn, hok, hat, hpa, hg, hg8, hcn, hcg, hla, hlb, hP, hD⟩ := h
  exact ⟨th, r, op, n, kd, sz, al, cn, g, la, lb, lg, lf, fo, pa, hr4, hop, hn, hok, hat, hpa, hg, hg8, Nat.le_succ_of_le hcn, hcg, hla, hlb, hP, hD⟩
set_option maxHeartbeats 4000000 in
set_option maxRecDepth 100000 in
/-- the loop -/
theorem law_loop {p : Program} {l : Launch} {e : Env} {s : State} {m : MethodId} {below : List Frame} {meth : Method} {c : Code} {D : va_G} {b L : Nat} {xs : Nat → Int32} {m0 m1 m2 m3 oa c0 c1 c2 c3 c4 : Nat} {cJ cL cR cI : ClassId} {ad : Nat → Nat} {rf : Nat → Option Nat} (hL : L ≤ 2560) (htr : ∀ e : Env, l.admits e → e.platform.stackTraces = false) (C0 : lw_At p s m meth c b L xs) (hst : cf_ST s) (hnc : cf_NC s) (hrf : ∀ i, i < 60 → rf i = some (ad i)) (hKM : va_K D cf_cl [(cJ, .int)] s) (hKW : va_K D cf_cl [(cR, .object "CallFrames$Argument"), (cI, .int), (cL, .long)] s) :
    ∀ (n1 : Nat) (H : Heap) (locs : List Loc) (z1 z2 : Nat) (ls : Array Slot), (∃ it : Nat, it + n1 = 513 ∧ 5 * it ≤ L ∧ z1 = 70 + it ∧ z2 = 633 + 6 * it ∧ cf_I D (fun q : Nat => s.heap.size ≤ q) m0 m1 m2 m3 oa c0 c1 c2 c3 c4 cJ cL cR cI ad rf it H ∧ va_S (fun q : Nat => s.heap.size ≤ q) s.heap H locs ∧ lv_has ls 7 [(4, .int (nI (5 * it))), (3, .ref oa), (2, .ref m0), (1, .ref c0), (0, .ref b)]) → W p l e room_1 s m #[Value.ref b] below meth c H locs z1 z2 (lw_Z below #[Value.ref b] s) (F0 m 23 ls []) := by
  obtain ⟨hx, hb, hr, hml, hown, hts, hX, hbl, hlocks, hgv⟩ := id C0
  have hbA : ¬ (fun q : Nat => s.heap.size ≤ q) b := Nat.not_le.mpr hbl
  refine cf_down 23 (fun n1 H locs z1 z2 ls => ∃ it : Nat, it + n1 = 513 ∧ 5 * it ≤ L ∧ z1 = 70 + it ∧ z2 = 633 + 6 * it ∧ cf_I D (fun q : Nat => s.heap.size ≤ q) m0 m1 m2 m3 oa c0 c1 c2 c3 c4 cJ cL cR cI ad rf it H ∧ va_S (fun q : Nat => s.heap.size ≤ q) s.heap H locs ∧ lv_has ls 7 [(4, .int (nI (5 * it))), (3, .ref oa), (2, .ref m0), (1, .ref c0), (0, .ref b)]) ?_
  intro n1 H locs z1 z2 ls hp ih
  obtain ⟨it, hn1, h5, rfl, rfl, hI, hS, hl⟩ := hp
  refine lv_iload hx hb d_La_law_23 (lv_at hl 0 rfl) ?_
  refine lv_aload_n hx hb d_La_law_25 rfl (lv_at hl 4 rfl) ?_
  refine va_slen hx hb hX hbl hbA hS d_La_law_26 ?_
  refine lv_iconst (v := 5) hx hb d_La_law_27 (by decide) ?_
  refine lv_isub hx hb d_La_law_28 ?_
  refine lv_icmp_gt (tgt := 628) hx hb d_La_law_29 (by decide) (fun c_29 => ?_) (fun c_29 => ?_)
  · refine lv_iconst (v := 1) hx hb d_La_law_628 (by decide) ?_
    refine va_forget (fun q hq => hS.2.2 q hq) ?_
    refine W.widen (k := 839890) (n := 6576433) (by omega) (by omega) ?_
    exact lw_ret hx hb hr hlocks d_La_law_629
  · have hit : 5 * it + 5 ≤ L := by
      have h1 : ¬ (nI L - nI 5).toInt < (nI (5 * it)).toInt := fun h => c_29 (Int32.lt_iff_toInt_lt.mpr h)
      rw [pk_sub_toInt (by omega) (by omega), nI_toInt (by omega)] at h1
      omega
    have next : ∀ (H1 : Heap) (locs1 : List Loc) (ls1 : Array Slot), cf_I D (fun q : Nat => s.heap.size ≤ q) m0 m1 m2 m3 oa c0 c1 c2 c3 c4 cJ cL cR cI ad rf (it + 1) H1 → va_S (fun q : Nat => s.heap.size ≤ q) s.heap H1 locs1 → lv_has ls1 7 [(4, .int (nI (5 * it))), (3, .ref oa), (2, .ref m0), (1, .ref c0), (0, .ref b)] → W p l e room_1 s m #[Value.ref b] below meth c H1 locs1 (70 + it + 1) (633 + 6 * it + 6) (lw_Z below #[Value.ref b] s) (F0 m 622 ls1 []) := fun H1 locs1 ls1 hI1 hS1 hl1 => by
      refine lv_iinc (v := nI (5 * (it + 1))) (lv' := [(4, .int (nI (5 * (it + 1)))), (3, .ref oa), (2, .ref m0), (1, .ref c0), (0, .ref b)]) hx hb d_La_law_622 hl1 (k := 0) rfl (nI_add (5 * it) 5) (by decide) rfl (fun ls hl => ?_)
      refine lv_goto (tgt := 23) hx hb d_La_law_625 (by decide) ?_
      exact ih (n1 - 1) H1 locs1 _ _ ls (by omega) ⟨it + 1, by omega, by omega, by omega, by omega, hI1, hS1, hl⟩
    refine lv_aload_n hx hb d_La_law_32 rfl (lv_at hl 4 rfl) ?_
    refine lv_iload hx hb d_La_law_33 (lv_at hl 0 rfl) ?_
    refine cf_sld hx hb hX hbl hbA hS (k := 5 * it) rfl (by omega) hL d_La_law_35 ?_
    refine lv_bipush (v := 15) hx hb d_La_law_36 (by decide) ?_
    refine lv_iand hx hb d_La_law_38 ?_
    obtain ⟨j, hj, ej⟩ := pk_andE (xs (5 * it)) (m := 15) 4 (by decide +kernel)
    refine cf_top ej ?_
    rcases (show j = 0 ∨ j = 1 ∨ j = 2 ∨ j = 3 ∨ j = 4 ∨ j = 5 ∨ j = 6 ∨ j = 7 ∨ j = 8 ∨ 8 < j by omega) with rfl | rfl | rfl | rfl | rfl | rfl | rfl | rfl | rfl | hj8
    · refine lv_tableIn (tgt := 88) (off := 49) hx hb d_La_law_39 (by decide +kernel) (by decide +kernel) (by decide +kernel) (by decide) ?_
      exact law_0 hL htr C0 hst hnc hrf hKM hKW it hit _ rfl _ rfl _ rfl _ rfl H locs ls hI hS hl next
    · refine lv_tableIn (tgt := 176) (off := 137) hx hb d_La_law_39 (by decide +kernel) (by decide +kernel) (by decide +kernel) (by decide) ?_
      exact law_1 hL htr C0 hst hnc hrf hKM hKW it hit _ rfl _ rfl _ rfl H locs ls hI hS hl next
    · refine lv_tableIn (tgt := 256) (off := 217) hx hb d_La_law_39 (by decide +kernel) (by decide +kernel) (by decide +kernel) (by decide) ?_
      exact law_2 hL htr C0 hst hnc hrf hKM hKW it hit _ rfl _ rfl H locs ls hI hS hl next
    · refine lv_tableIn (tgt := 324) (off := 285) hx hb d_La_law_39 (by decide +kernel) (by decide +kernel) (by decide +kernel) (by decide) ?_
      exact law_3 hL htr C0 hst hnc hrf hKM hKW it hit _ rfl _ rfl H locs ls hI hS hl next
    · refine lv_tableIn (tgt := 392) (off := 353) hx hb d_La_law_39 (by decide +kernel) (by decide +kernel) (by decide +kernel) (by decide) ?_
      exact law_4 hL htr C0 hst hnc hrf hKM hKW it hit _ rfl H locs ls hI hS hl next
    · refine lv_tableIn (tgt := 448) (off := 409) hx hb d_La_law_39 (by decide +kernel) (by decide +kernel) (by decide +kernel) (by decide) ?_
      exact law_5 hL htr C0 hst hnc hrf hKM hKW it hit H locs ls hI hS hl next
    · refine lv_tableIn (tgt := 461) (off := 422) hx hb d_La_law_39 (by decide +kernel) (by decide +kernel) (by decide +kernel) (by decide) ?_
      exact law_6 hL htr C0 hst hnc hrf hKM hKW it hit _ rfl _ rfl _ rfl H locs ls hI hS hl next
    · refine lv_tableIn (tgt := 541) (off := 502) hx hb d_La_law_39 (by decide +kernel) (by decide +kernel) (by decide +kernel) (by decide) ?_
      exact law_7 hL htr C0 hst hnc hrf hKM hKW it hit _ rfl _ rfl H locs ls hI hS hl next
    · refine lv_tableIn (tgt := 609) (off := 570) hx hb d_La_law_39 (by decide +kernel) (by decide +kernel) (by decide +kernel) (by decide) ?_
      exact law_8 hL htr C0 hst hnc hrf hKM hKW it hit H locs ls hI hS hl next
    · refine lv_tableOut (tgt := 622) hx hb d_La_law_39 (Or.inr (by rw [nI_toInt (by omega)]; omega)) (by decide) ?_
      refine W.widen (k := 70 + it + 1) (n := 633 + 6 * it + 6) (by omega) (by omega) ?_
      exact next H locs ls (cf_I_mono hI) hS hl
end
section
/-! THE LAW: its start (printed by gen/lawS.py) -/
theorem cf_swapD {A : Nat → Prop} {w1 w2 : va_W} (h : va_D A (w1 ++ w2)) : va_D A (w2 ++ w1) := (cf_rgtD h).app (cf_lftD h) (fun _ _ _ _ hi hj e => cf_apt h hj hi e.symm)
theorem cf_swapP {D : va_G} {w1 w2 : va_W} {H : Heap} (h : va_P D cf_cl (w1 ++ w2) H) : va_P D cf_cl (w2 ++ w1) H := (cf_rgt h).app (cf_lft h)
theorem cf_joinD {D : va_G} {A : Nat → Prop} {w1 w2 w2' : va_W} {H : Heap} (hP : va_P D cf_cl (w1 ++ w2) H) (hD : va_D A (w1 ++ w2)) (hF : ∀ q, va_A w2 H.size q → A q) (h2 : va_D (va_A w2 H.size) w2') : va_D A (w1 ++ w2') := by
  refine (cf_lftD hD).app (h2.weaken (fun _ _ _ h => hF _ h)) (fun i j x y hi hj e => ?_)
  rcases h2.2 j y hj with ⟨k, q, hk⟩ | h
  · exact cf_apt hD hi hk e
  · have := (cf_lft hP i x hi).lt
    omega
theorem cf_ST_of {s : State} {b : Nat} (hts : ∀ w ∈ lw_tbl, w.before #[Value.ref b] s = true) (hgv : (Jvm.Cond.and given_1 narrow_1).before #[Value.ref b] s = true) : cf_ST s := by
  have hs := flat_of_before _ hgv
  have a1 : (Cond.laysStatic "java/lang/Throwable" "UNASSIGNED_STACK" "[Ljava/lang/StackTraceElement;").before #[Value.ref b] s = true := hts _ (by decide +kernel)
  have a2 : (Cond.laysStatic "java/lang/Throwable" "SUPPRESSED_SENTINEL" "Ljava/util/List;").before #[Value.ref b] s = true := hts _ (by decide +kernel)
  have b1 : (Cond.isRef (Term.static "java/lang/Throwable" "UNASSIGNED_STACK" "[Ljava/lang/StackTraceElement;")).before #[Value.ref b] s = true := hs _ (by decide +kernel)
  have b2 : (Cond.isRef (Term.static "java/lang/Throwable" "SUPPRESSED_SENTINEL" "Ljava/util/List;")).before #[Value.ref b] s = true := hs _ (by decide +kernel)
  exact ⟨⟨a1, b1⟩, ⟨a2, b2⟩⟩
theorem cf_NC_of {s : State} {b : Nat} (hgv : (Jvm.Cond.and given_1 narrow_1).before #[Value.ref b] s = true) : cf_NC s := by
  have hs := flat_of_before _ hgv
  have h : (Cond.not (Cond.castable "java/lang/IllegalStateException" "java/lang/IllegalArgumentException")).before #[Value.ref b] s = true := hs _ (by decide +kernel)
  intro c t h1 h2
  simpa [Cond.before, Cond.holds, Cond.value, h1, h2] using h
set_option maxHeartbeats 4000000 in
set_option maxRecDepth 100000 in
/-- THE LAW, from its entry -/
theorem whole_start {p : Program} {e : Env} {s : State} {m : MethodId} {below : List Frame} {meth : Method} {c : Code} (l : Launch) (hfl : l.flags = flags0) {b L : Nat} {xs : Nat → Int32} (hL : L ≤ 2560) (C0 : lw_At p s m meth c b L xs) : W p l e room_1 s m #[Value.ref b] below meth c s.heap [] 0 0 (lw_Z below #[Value.ref b] s) (entryFrame m ([Value.ref b] : List Value).toArray 7) := by
  obtain ⟨hx, hb, hr, hml, hown, hts, hX, hbl, hlocks, hgv⟩ := id C0
  have hown : s.vm.findClass "CallFramesLaw" = some m.cls := hown
  have htr : ∀ e : Env, l.admits e → e.platform.stackTraces = false := fun e ha => Launch.traces_off hfl ha
  have hst : cf_ST s := cf_ST_of hts hgv
  have hnc : cf_NC s := cf_NC_of hgv
  have hkk : cf_KK s := cf_KK.of hts
  have hA : ∀ q : Nat, s.heap.size ≤ q → (fun q : Nat => s.heap.size ≤ q) q := fun _ h => h
  obtain ⟨k0, i0, hKn0⟩ := u_known (C := R_Arg) (T := F_Arg) (N := 5) (n := 5) hts i_Arg (hts _ kw_20)
  obtain ⟨k1, i1, hKn1⟩ := u_known (C := R_Cf) (T := F_Cf) (N := 10) (n := 10) hts i_Cf (hts _ kw_12)
  obtain ⟨k2, i2, hKn2⟩ := u_known (C := R_Mo) (T := F_Mo) (N := 13) (n := 13) hts i_Mo (hts _ kw_284)
  obtain ⟨D, hKc⟩ : ∃ D : va_G, ∀ (k : Nat) (q : vw_C), cf_cl[k]? = some q → u_Kn s q.1 q.2.1 q.2.2 (D.1 k) (D.2 k) := by
    refine ⟨(fun k => if k = 0 then k0 else if k = 1 then k1 else k2, fun k => if k = 0 then i0 else if k = 1 then i1 else i2), ?_⟩
    intro k q hq
    match k, hq with
    | 0, hq => cases hq; exact hKn0
    | 1, hq => cases hq; exact hKn1
    | 2, hq => cases hq; exact hKn2
    | k + 3, hq => simp [cf_cl] at hq
  have hS : va_S (fun q : Nat => s.heap.size ≤ q) s.heap s.heap [] := va_S.rf
  have hK : va_K D cf_cl [] s := ⟨hKc, fun k q h => by simp at h⟩
  have hP : va_P D cf_cl [] s.heap := cf_P0
  have hD : va_D (fun q : Nat => s.heap.size ≤ q) [] := ⟨fun i j p q h => by simp at h, fun k q h => by simp at h⟩
  have hl := lv_entry ([.ref b]) (n := 7) (Nat.le_of_ble_eq_true rfl)
  rw [lg_entry_eq]
  generalize (lg_sl ([.ref b]) ++ List.replicate (7 - (lg_sl ([.ref b])).length) Slot.unset).toArray = ls at hl ⊢
  have hl : lv_has ls 7 [(0, .ref b)] := hl
  refine va_new (ci := 1) (fs := [.null, .null, .int 0, .int 0, .int 0, .int 0, .int 0, .null, .null, .int 0]) hx hb (h_Cf hkk) (fun _ h => h) t_Cf t_Cf_ok hown (hkk.use kw_11 rfl) (hkk.use kw_12 rfl) (hkk.use kw_1 rfl) hK hP hD hS hA rfl (fun j hj => by rcases (show j = 0 ∨ j = 1 ∨ j = 2 ∨ j = 3 ∨ j = 4 ∨ j = 5 ∨ j = 6 ∨ j = 7 ∨ j = 8 ∨ j = 9 by omega) with rfl | rfl | rfl | rfl | rfl | rfl | rfl | rfl | rfl | rfl <;> rfl) (Nat.le_of_ble_eq_true rfl) (Nat.le_of_ble_eq_true rfl) d_La_law_0 (fun c0 H hP hD hS => ?_)
  have hP : va_P D cf_cl [(c0, .inr (1, [.null, .null, .int 0, .int 0, .int 0, .int 0, .int 0, .null, .null, .int 0]))] H := hP
  have hD : va_D (fun q : Nat => s.heap.size ≤ q) [(c0, .inr (1, [.null, .null, .int 0, .int 0, .int 0, .int 0, .int 0, .null, .null, .int 0]))] := hD
  refine lv_dup hx hb d_La_law_3 rfl ?_
  have hF := cf_freeC hD hS hA
  refine cf_backG (va_runI (As := []) (b := c0) (rest := [.ref c0]) (Ts := []) (n := 0) (nL := 7) ⟨hx, hb, hml, hown, fun w hw => by cases hw⟩ (c_Cf_init l D c0 H.size) ⟨cf_cb hkk ce_Cf_init kw_13 ⟨by decide, by decide⟩, rfl, hkk.use kw_14 rfl⟩ ⟨cf_fbI, cf_preI hkk hK hP⟩ rfl rfl hl.1 rfl (lv_room (Nat.le_of_ble_eq_true rfl)) d_La_law_4 ⟨Nat.le_of_ble_eq_true rfl, Nat.le_of_ble_eq_true rfl⟩) hS hF (fun st v t h => ⟨by have := h.1; injection this, h.2.2⟩) (fun st t locs1 hst0 hal hq hS1 hkI => ?_)
  obtain ⟨-, ⟨c1, c2, c3, c4, cR, cI, ad, rf, pa, hrf, hPc, hKc1, hDc⟩, -⟩ := hq
  have hK : va_K D cf_cl [(cR, .object "CallFrames$Argument"), (cI, .int)] s := va_K.moved hal.symm hKc1
  have hD : va_D (fun q : Nat => s.heap.size ≤ q) (CW c0 c1 c2 c3 c4 cR cI ad rf 0 4 0 0 0 0 (fun _ => -1) (fun _ => -1) pa) := hDc.weaken (fun _ _ _ h => hF _ h)
  have hP := hPc
  have hS := hS1
  generalize t.heap = H at hP hS ⊢
  refine lv_astore_n (lv' := [(1, .ref c0), (0, .ref b)]) hx hb d_La_law_7 rfl hl (by decide) rfl (fun ls hl => ?_)
  refine va_new (ci := 2) (fs := [.int 0, .int 0, .int 0, .int 0, .int 0, .int 0, .int 0, .int 0, .int 0, .int 0, .null, .null, .null]) hx hb (h_Mo hkk) (fun _ h => h) t_Mo t_Mo_ok hown (hkk.use kw_283 rfl) (hkk.use kw_284 rfl) (hkk.use kw_3 rfl) hK hP hD hS hA rfl (fun j hj => by rcases (show j = 0 ∨ j = 1 ∨ j = 2 ∨ j = 3 ∨ j = 4 ∨ j = 5 ∨ j = 6 ∨ j = 7 ∨ j = 8 ∨ j = 9 ∨ j = 10 ∨ j = 11 ∨ j = 12 by omega) with rfl | rfl | rfl | rfl | rfl | rfl | rfl | rfl | rfl | rfl | rfl | rfl | rfl <;> rfl) (Nat.le_of_ble_eq_true rfl) (Nat.le_of_ble_eq_true rfl) d_La_law_8 (fun m0 H hP hD hS => ?_)
  refine lv_dup hx hb d_La_law_11 rfl ?_
  have hF := cf_rgtA hD hS hA
  refine cf_backG (va_runI (As := []) (b := m0) (rest := [.ref m0]) (Ts := []) (n := 0) (nL := 7) ⟨hx, hb, hml, hown, fun w hw => by cases hw⟩ (c_Mo_init l D m0 H.size) ⟨cf_cb hkk ce_Mo_init kw_285 ⟨by decide, by decide⟩, rfl, hkk.use kw_286 rfl⟩ ⟨cf_fbI, cf_preI hkk (cf_K0 hK) (cf_rgt hP)⟩ rfl rfl hl.1 rfl (lv_room (Nat.le_of_ble_eq_true rfl)) d_La_law_12 ⟨Nat.le_of_ble_eq_true rfl, Nat.le_of_ble_eq_true rfl⟩) hS hF (fun st v t h => ⟨by have := h.1; injection this, h.2.2⟩) (fun st t locs1 hst0 hal hq hS1 hkI => ?_)
  obtain ⟨-, ⟨m1, m2, m3, cJ, hPc, hKc2, hDc⟩, -⟩ := hq
  have hKM : va_K D cf_cl [(cJ, .int)] s := va_K.moved hal.symm hKc2
  have hD2 : va_D (fun q : Nat => s.heap.size ≤ q) ((CW c0 c1 c2 c3 c4 cR cI ad rf 0 4 0 0 0 0 (fun _ => -1) (fun _ => -1) pa) ++ (MW m0 m1 m2 m3 cJ 0 4 0 0 0 0 0 0 0 0 (fun _ => 0) (fun _ => 0) (fun _ => 0))) := cf_joinD hP hD hF hDc
  have hP2 : va_P D cf_cl ((CW c0 c1 c2 c3 c4 cR cI ad rf 0 4 0 0 0 0 (fun _ => -1) (fun _ => -1) pa) ++ (MW m0 m1 m2 m3 cJ 0 4 0 0 0 0 0 0 0 0 (fun _ => 0) (fun _ => 0) (fun _ => 0))) t.heap := cf_updR hP hD hPc hkI
  have hS := hS1
  generalize t.heap = H at hP2 hS ⊢
  refine lv_astore_n (lv' := [(2, .ref m0), (1, .ref c0), (0, .ref b)]) hx hb d_La_law_15 rfl hl (by decide) rfl (fun ls hl => ?_)
  refine lv_iconst (v := 1) hx hb d_La_law_16 (by decide) ?_
  refine va_newa (atype := .long) (a0 := (1, .inr (.inl fun _ => 0))) hx hb (hkk.use kw_423 rfl) rfl hK hP2 hD2 hS hA (N' := 1) (fun _ => rfl) (by decide) (by decide) (Nat.le_of_ble_eq_true rfl) (Nat.le_of_ble_eq_true rfl) (Nat.le_of_ble_eq_true rfl) d_La_law_17 (fun oa cL H hKW hP hD hS => ?_)
  have hKW : va_K D cf_cl [(cR, .object "CallFrames$Argument"), (cI, .int), (cL, .long)] s := hKW
  have hP := cf_swapP hP
  have hD := cf_swapD hD
  have hP : va_P D cf_cl (((oa, .inl (cL, 1, .inr (.inl (fun _ => 0)))) :: (CW c0 c1 c2 c3 c4 cR cI ad rf 0 4 0 0 0 0 (fun _ => -1) (fun _ => -1) pa)) ++ (MW m0 m1 m2 m3 cJ 0 4 0 0 0 0 0 0 0 0 (fun _ => 0) (fun _ => 0) (fun _ => 0))) H := hP
  have hD : va_D (fun q : Nat => s.heap.size ≤ q) (((oa, .inl (cL, 1, .inr (.inl (fun _ => 0)))) :: (CW c0 c1 c2 c3 c4 cR cI ad rf 0 4 0 0 0 0 (fun _ => -1) (fun _ => -1) pa)) ++ (MW m0 m1 m2 m3 cJ 0 4 0 0 0 0 0 0 0 0 (fun _ => 0) (fun _ => 0) (fun _ => 0))) := hD
  have hP : va_P D cf_cl ((MW m0 m1 m2 m3 cJ 0 4 0 0 0 0 0 0 0 0 (fun _ => 0) (fun _ => 0) (fun _ => 0)) ++ ((oa, .inl (cL, 1, .inr (.inl (fun _ => 0)))) :: (CW c0 c1 c2 c3 c4 cR cI ad rf 0 4 0 0 0 0 (fun _ => -1) (fun _ => -1) pa))) H := cf_swapP hP
  have hD : va_D (fun q : Nat => s.heap.size ≤ q) ((MW m0 m1 m2 m3 cJ 0 4 0 0 0 0 0 0 0 0 (fun _ => 0) (fun _ => 0) (fun _ => 0)) ++ ((oa, .inl (cL, 1, .inr (.inl (fun _ => 0)))) :: (CW c0 c1 c2 c3 c4 cR cI ad rf 0 4 0 0 0 0 (fun _ => -1) (fun _ => -1) pa))) := cf_swapD hD
  have hP := cf_setA hP (k := 8) rfl (g := p_pg 0 0 0 0) (fun j hj => p_pg0 hj)
  have hP := cf_setA hP (k := 9) rfl (g := p_pf 0 0 0) (fun j hj => p_pf0 hj)
  have hP : va_P D cf_cl ((MW m0 m1 m2 m3 cJ 0 4 (nI 0) (nI 0) (nI 0) 0 0 (nI 0) (nI 0) 0 (fun _ => 0) (fun _ => 0) (fun _ => 0)) ++ ((oa, .inl (cL, 1, .inr (.inl (fun _ => 0)))) :: (CW c0 c1 c2 c3 c4 cR cI ad rf (nI 0) 4 0 (nI 0) (nI 0) (nI 0) (p_pg 0 0 0 0) (p_pf 0 0 0) pa))) H := hP
  have hD : va_D (fun q : Nat => s.heap.size ≤ q) ((MW m0 m1 m2 m3 cJ 0 4 (nI 0) (nI 0) (nI 0) 0 0 (nI 0) (nI 0) 0 (fun _ => 0) (fun _ => 0) (fun _ => 0)) ++ ((oa, .inl (cL, 1, .inr (.inl (fun _ => 0)))) :: (CW c0 c1 c2 c3 c4 cR cI ad rf (nI 0) 4 0 (nI 0) (nI 0) (nI 0) (p_pg 0 0 0 0) (p_pf 0 0 0) pa))) := cf_Dm hD cf_addrL
  refine lv_astore_n (lv' := [(3, .ref oa), (2, .ref m0), (1, .ref c0), (0, .ref b)]) hx hb d_La_law_19 rfl hl (by decide) rfl (fun ls hl => ?_)
  refine lv_iconst (v := 0) hx hb d_La_law_20 (by decide) ?_
  refine lv_istore (lv' := [(4, .int 0), (3, .ref oa), (2, .ref m0), (1, .ref c0), (0, .ref b)]) hx hb d_La_law_21 hl (by decide) rfl (fun ls hl => ?_)
  have hl : lv_has ls 7 [(4, .int (nI (5 * 0))), (3, .ref oa), (2, .ref m0), (1, .ref c0), (0, .ref b)] := hl
  have hI : cf_I D (fun q : Nat => s.heap.size ≤ q) m0 m1 m2 m3 oa c0 c1 c2 c3 c4 cJ cL cR cI ad rf 0 H :=
    ⟨0, 4, 0, 0, fun _ => 0, fun _ => 0, fun _ => 0, 0, 0, 0, 0, 0, 0, fun _ => 0, pa, Or.inr (Or.inr (Or.inr (Or.inr rfl))), Or.inl rfl, Nat.zero_le _, fun i hi => absurd hi (Nat.not_lt_zero i), p_at0 _ _ _ _, fun i hi => absurd hi (Nat.not_lt_zero i), Nat.zero_le _, rfl, Nat.zero_le _, fun _ => rfl, Nat.zero_le _, Nat.zero_le _, hP, hD⟩
  exact law_loop hL htr C0 hst hnc hrf hKM hKW 513 H _ _ _ ls ⟨0, rfl, Nat.zero_le _, rfl, rfl, hI, hS, hl⟩
end
section
set_option maxHeartbeats 4000000 in
theorem lw_walk (l : Launch) (hfl : l.flags = flags0) (b : Addr) (xs : List Int32) : MetFree l x (headSpec (Jvm.Cond.code x code maxLocals ret :: tables_1) room_1) (lw_P b xs) (fun _ _ _ _ _ => True) lw_Q := by
  refine MetFree.of_bodyS (code := code) (maxLocals := maxLocals) (ret := ret) (by decide) ?_ ?_
  · intro args s m h hn
    obtain ⟨meth, c, h1, h2, h3, h4, h5, h6, -, -⟩ := Cond.code_spec hn (atoms_spec (ws := Jvm.Cond.code x code maxLocals ret :: tables_1) h _ List.mem_cons_self)
    exact ⟨meth, c, h1, h2, h3, h4, h5, h6⟩
  · intro p e s m args below meth c s₁ B hml0 hP _
    obtain ⟨rfl, hx, hbd, hgv⟩ := hP
    obtain ⟨scr, harrAt, hlist, hof, hsmall⟩ := hx
    obtain ⟨hcb, hkn, -, -⟩ := State.arrayAt?_spec harrAt
    have hown : s.vm.findClass R_law = some m.cls := findClass_of_methodNamed B.named
    have hts0 : ∀ c ∈ (Jvm.Cond.code x code maxLocals ret :: tables_1), c.before #[Value.ref b] s = true := atoms_spec (ws := Jvm.Cond.code x code maxLocals ret :: tables_1) B.pre
    have hts : ∀ w ∈ lw_tbl, w.before #[Value.ref b] s = true := k2_hts_sels lw_privs (fun w hw => hts0 w (List.mem_cons_of_mem _ hw)) lw_privs_ok
    have hml : c.maxLocals = 7 := B.maxLocals_eq (hts0 _ List.mem_cons_self)
    have X₀ : Stand p l e room_1 s m #[Value.ref b] below meth c s₁ [] 0 0 := Stand.of_body B
    have hh0 : s₁.heap = s.heap := by rw [B.state]; rfl
    have hsz : scr.slots.size = xs.length := by rw [← Array.length_toList, hlist, List.length_map]
    have hval : ∀ j : Nat, j < xs.length → scr.slots[j]? = some (.int (xs.getD j 0)) := fun j hj => by
      rw [← Array.getElem?_toList, hlist]
      simp [hj]
    have hbl : b < s.heap.size := (Array.getElem?_eq_some_iff.mp hcb).1
    have hX : va_X b xs.length (fun j => xs.getD j 0) s s.heap := ⟨scr, hcb, hof, hkn, hsz, hval⟩
    have K : W p l e room_1 s m #[Value.ref b] below meth c s₁.heap [] 0 0 (lw_Z below #[Value.ref b] s) (entryFrame m ([Value.ref b] : List Value).toArray 7) := by
      rw [hh0]
      exact whole_start l hfl hbd ⟨B.exec, B.bytes, B.returns, hml, hown, hts, hX, hbl, B.notSynchronized, hgv⟩
    obtain ⟨t, a1, o, b1, b2, b3⟩ := K s₁ rfl X₀
    exact ⟨t, o, a1, b1, b2, b3⟩
theorem lw_pre_spec {args : Array Value} {s : State} (h : (Jvm.Cond.and given_1 narrow_1).before args s = true) (hr : rest_1_c.before args s = true) : ∃ (b : Addr) (xs : List Int32), lw_P b xs args s := by
  have hs := flat_of_before _ h
  have hq := flat_of_before _ hr
  have hc : (Cond.count 1).before args s = true := hs _ (by decide +kernel)
  have harr : (Cond.arrayOf (.arg 0) .int).before args s = true := hs _ (by decide +kernel)
  have hle : (Cond.le (.length (.arg 0)) (.int 2560)).before args s = true := hs _ (by decide +kernel)
  have hlen : (Cond.isInt (.length (.arg 0))).before args s = true := hq _ (by decide +kernel)
  have hall : (Cond.all (.arg 0) (.isInt (.elem (.arg 0) (.index 0)))).before args s = true := hq _ (by decide +kernel)
  obtain ⟨b, xs, hb, hx⟩ := State.ints_of_pre rfl harr hlen hall
  have hsm : xs.length < 2 ^ 31 := hx.choose_spec.2.2.2
  have hev : (Term.length (.arg 0)).eval args s none [] s = some (.int xs.length.toInt32) := hx.length_eval hb
  have hv := Cond.le_ints hev (show (Term.int 2560).eval args s none [] s = some (.int 2560) from rfl)
  have hd : xs.length.toInt32 ≤ 2560 := by
    simpa [Cond.before, Cond.holds, hv] using hle
  have hN : xs.length ≤ 2560 := (Int32.ofNat_le_ofNat hsm (by decide)).mp (show Int32.ofNat xs.length ≤ Int32.ofNat 2560 from hd)
  exact ⟨b, xs, Cond.one_arg hc (show args[0]? = some (.ref b) from hb), hx, hN, h⟩
theorem lw_comes (l : Launch) (hfl : l.flags = flags0) : Comes l x (Jvm.Cond.code x code maxLocals ret :: tables_1) room_1 (fun tb e args s => Calls_1 tb e args s ∧ rest_1 tb e args s ∧ Pre_1 tb e args s)
    (fun _ _ args s o t => lw_Q args s o t) := by
  intro p e ha hc hk s m args below hf hfit hheap happ hpre
  obtain ⟨b, xs, hP⟩ := lw_pre_spec hpre.2.2 hpre.2.1
  obtain ⟨k, o, h1, h2, h3, hQ⟩ := lw_walk l hfl b xs p e ha hc hk s m args below hf ((Spec.applies_iff_loose hf).mp happ).1 hP trivial
  exact ⟨k, o, h1, h2, h3, hQ⟩
theorem lw_frame {s t : State} {o : Outcome} {args : Array Value} (h : Framed s o t [] 839890 6576433) :
    Framed s o t (fieldLocs frame_1_writes args s ++ arrayLocs frame_1_arrays args s ++ staticLocs frame_1_statics s) 839890 6576433 := h
theorem lw_limb (L : Cond) (hL : ∀ (args : Array Value) (s t : State), L.after args s (.returned (some (.int 1))) t = true) :
    ArmFor flags0 classFile x code maxLocals ret World_1 tables_1 room_1 Calls_1 rest_1 Pre_1
      (fun tb e a s o t => postC L tb e a s o t ∧ Framed s o t (fieldLocs frame_1_writes a s ++ arrayLocs frame_1_arrays a s ++ staticLocs frame_1_statics s) 839890 6576433) := by
  intro l hfl _ _ p e ha hc hk s m args below hf hfit hheap happ hpre
  obtain ⟨k, o, h1, h2, h3, rfl, hF⟩ := lw_comes l hfl p e ha hc hk s m args below hf hfit hheap happ hpre
  exact ⟨k, _, h1, h2, h3, hL args s _, lw_frame hF⟩
theorem i_vc : Claimed_1_1 ∧ Claimed_1_2 := ⟨lw_limb limb_1_1 (fun args s t => by simp [limb_1_1, Cond.after, Cond.holds, Cond.value]), lw_limb limb_1_2 (fun args s t => Cond.after_iff.mpr (by
  first | (rw [show limb_1_2 = Cond.eq .result (.int 1) from rfl, Cond.eq_ints (x := 1) (y := 1) rfl rfl]; simp; done) | (simp [limb_1_2, Cond.value, Term.eval]; done)))⟩
end
