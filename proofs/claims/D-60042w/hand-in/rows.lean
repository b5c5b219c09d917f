section
-- ===== PART A: goes FIRST, ahead of the names: the tables' words, and 'selects' of the private methods out of them =====
/-- a private method of a class that the tables say can be made, by its rows of tables_1 -/
def lw_okq (q : MethodName × Nat) : Prop := (q.1.cls ≠ "java/lang/invoke/MethodHandle" ∧ q.1.cls ≠ "java/lang/invoke/VarHandle") ∧ Cond.instantiable q.1.cls q.2 ∈ tables_1 ∧ Cond.privateMethod q.1 ∈ tables_1 ∧ Cond.instanceMethod q.1 ∈ tables_1
set_option maxRecDepth 100000
theorem lw_p0 : lw_okq (⟨"FlowDesk", "place", "(I)I"⟩, 3) := ⟨⟨by decide +kernel, by decide +kernel⟩, List.mem_of_getElem? (i := 6) rfl, List.mem_of_getElem? (i := 59) rfl, List.mem_of_getElem? (i := 60) rfl⟩
theorem lw_p1 : lw_okq (⟨"FlowDesk", "flow", "(II)J"⟩, 3) := ⟨⟨by decide +kernel, by decide +kernel⟩, List.mem_of_getElem? (i := 6) rfl, List.mem_of_getElem? (i := 73) rfl, List.mem_of_getElem? (i := 74) rfl⟩
theorem lw_p2 : lw_okq (⟨"FlowDeskModel", "least", "(II)V"⟩, 6) := ⟨⟨by decide +kernel, by decide +kernel⟩, List.mem_of_getElem? (i := 97) rfl, List.mem_of_getElem? (i := 142) rfl, List.mem_of_getElem? (i := 143) rfl⟩
theorem lw_p3 : lw_okq (⟨"FlowDeskModel", "reckon", "()V"⟩, 6) := ⟨⟨by decide +kernel, by decide +kernel⟩, List.mem_of_getElem? (i := 97) rfl, List.mem_of_getElem? (i := 146) rfl, List.mem_of_getElem? (i := 147) rfl⟩
def lw_privs_1 : List (MethodName × Nat) := [(⟨"FlowDesk", "place", "(I)I"⟩, 3), (⟨"FlowDesk", "flow", "(II)J"⟩, 3), (⟨"FlowDeskModel", "least", "(II)V"⟩, 6), (⟨"FlowDeskModel", "reckon", "()V"⟩, 6)]
theorem lw_r1 : ∀ q ∈ lw_privs_1, lw_okq q := List.forall_mem_cons.mpr ⟨lw_p0, List.forall_mem_cons.mpr ⟨lw_p1, List.forall_mem_cons.mpr ⟨lw_p2, List.forall_mem_cons.mpr ⟨lw_p3, fun _ h => absurd h List.not_mem_nil⟩⟩⟩⟩
def lw_privs : List (MethodName × Nat) := lw_privs_1
def lw_tbl : List Cond := k2_sels lw_privs ++ tables_1
theorem lw_privs_ok : ∀ q ∈ lw_privs, lw_okq q := lw_r1
-- ===== ONE list of words for every method: the tables' words that hold all through a run =====
def lw_all : List Cond := lw_tbl.filter goodWord
/-- a word of the tables by its place: claim/WORDS.tsv -/
theorem lw_w {w : Cond} (i : Nat) (h : lw_tbl[i]? = some w) (g : goodWord w = true) : w ∈ lw_all := List.mem_filter.mpr ⟨List.mem_of_getElem? h, g⟩
theorem lw_all_tbl {w : Cond} (h : w ∈ lw_all) : w ∈ lw_tbl := (List.mem_filter.mp h).1
theorem lw_self : GoodIn lw_all lw_all := fun w h => ⟨h, good_of_word (List.mem_filter.mp h).2⟩
/-- a class's field words, by their places -/
theorem lw_in (ws : List Cond) (ps : List Nat) (hp : ws = ps.filterMap (fun i => lw_tbl[i]?)) (hg : ws.all goodWord = true) : ∀ w ∈ ws, w ∈ lw_all := by
  intro w h
  have h1 := List.all_eq_true.mp hg w h
  rw [hp] at h
  obtain ⟨i, -, hi⟩ := List.mem_filterMap.mp h
  exact lw_w i hi h1
/-- the words of a contract for the method y with code b, L locals, answer r -/
abbrev ws_ (y : MethodName) (b : ByteArray) (L : Nat) (r : Option FieldType) : List Cond := Cond.code y b L r :: lw_all
theorem lw_meth {y : MethodName} {b : ByteArray} {L : Nat} {r : Option FieldType} (h : Cond.code y b L r ∈ lw_all) : GoodIn lw_all (ws_ y b L r) := by
  intro w hw
  rcases List.mem_cons.mp hw with e | e
  · rw [e]
    exact lw_self _ h
  · exact lw_self _ e
theorem lw_app {a c : List Cond} (ha : ∀ w ∈ a, w ∈ lw_all) (hc : GoodIn lw_all c) : GoodIn lw_all (a ++ c) := by
  intro w hw
  rcases List.mem_append.mp hw with e | e
  · exact lw_self w (ha w e)
  · exact hc w e
/-- what a call through an object asks: cwV n hts (lw_V ..) -/
theorem lw_V {own : String} {idx : Nat} {C : String} {y : MethodName} {b : ByteArray} {L : Nat} {r : Option FieldType} (h1 : Cond.methodLink own idx y ∈ lw_all) (h2 : Cond.instanceMethod y ∈ lw_all) (h3 : Cond.selects C y y ∈ lw_all) (h4 : Cond.initialized C ∈ lw_all) (h5 : Cond.code y b L r ∈ lw_all) : GoodIn lw_all (wsV own idx C y (ws_ y b L r)) := by
  refine lw_app ?_ (lw_meth h5)
  intro w hw
  simp only [List.mem_cons, List.not_mem_nil, or_false] at hw
  rcases hw with e | e | e | e
  · rw [e]; exact h1
  · rw [e]; exact h2
  · rw [e]; exact h3
  · rw [e]; exact h4
/-- what a static call asks: va_cwS n hts (lw_S ..) -/
theorem lw_S {own : String} {idx : Nat} {y : MethodName} {b : ByteArray} {L : Nat} {r : Option FieldType} (h1 : Cond.methodLink own idx y ∈ lw_all) (h2 : Cond.static y ∈ lw_all) (h3 : Cond.initialized y.cls ∈ lw_all) (h4 : Cond.code y b L r ∈ lw_all) : GoodIn lw_all (va_wsS own idx y (ws_ y b L r)) := by
  refine lw_app ?_ (lw_meth h4)
  intro w hw
  simp only [List.mem_cons, List.not_mem_nil, or_false] at hw
  rcases hw with e | e | e
  · rw [e]; exact h1
  · rw [e]; exact h2
  · rw [e]; exact h3
/-- the words of a contract for a method WITH HANDLERS (hh: its table) -/
abbrev wsW_ (y : MethodName) (b : ByteArray) (L : Nat) (r : Option FieldType) (hh : List (Nat × Nat × Nat × Nat)) : List Cond := Cond.codeWith y b L r hh :: lw_all
theorem lw_methW {y : MethodName} {b : ByteArray} {L : Nat} {r : Option FieldType} {hh : List (Nat × Nat × Nat × Nat)} (h : Cond.codeWith y b L r hh ∈ lw_all) : GoodIn lw_all (wsW_ y b L r hh) := by
  intro w hw
  rcases List.mem_cons.mp hw with e | e
  · rw [e]
    exact lw_self _ h
  · exact lw_self _ e
/-- any list of words by their places (lw_in), good -/
theorem lw_good {ws : List Cond} (h : ∀ w ∈ ws, w ∈ lw_all) : GoodIn lw_all ws := fun w hw => lw_self w (h w hw)
/-- what a call of a method with handlers asks: vx_cwVW n hts (lw_VW ..), vx_cwSW n hts (lw_SW ..) -/
theorem lw_VW {own : String} {idx : Nat} {C : String} {y : MethodName} {b : ByteArray} {L : Nat} {r : Option FieldType} {hh : List (Nat × Nat × Nat × Nat)} (h1 : Cond.methodLink own idx y ∈ lw_all) (h2 : Cond.instanceMethod y ∈ lw_all) (h3 : Cond.selects C y y ∈ lw_all) (h4 : Cond.initialized C ∈ lw_all) (h5 : Cond.codeWith y b L r hh ∈ lw_all) : GoodIn lw_all (wsV own idx C y (wsW_ y b L r hh)) := by
  refine lw_app ?_ (lw_methW h5)
  intro w hw
  simp only [List.mem_cons, List.not_mem_nil, or_false] at hw
  rcases hw with e | e | e | e
  · rw [e]; exact h1
  · rw [e]; exact h2
  · rw [e]; exact h3
  · rw [e]; exact h4
theorem lw_SW {own : String} {idx : Nat} {y : MethodName} {b : ByteArray} {L : Nat} {r : Option FieldType} {hh : List (Nat × Nat × Nat × Nat)} (h1 : Cond.methodLink own idx y ∈ lw_all) (h2 : Cond.static y ∈ lw_all) (h3 : Cond.initialized y.cls ∈ lw_all) (h4 : Cond.codeWith y b L r hh ∈ lw_all) : GoodIn lw_all (va_wsS own idx y (wsW_ y b L r hh)) := by
  refine lw_app ?_ (lw_methW h4)
  intro w hw
  simp only [List.mem_cons, List.not_mem_nil, or_false] at hw
  rcases hw with e | e | e
  · rw [e]; exact h1
  · rw [e]; exact h2
  · rw [e]; exact h3
/-- a word by its place in its run of the tables -/
theorem lw_at {r : List Cond} (hr : ∀ w ∈ r, w ∈ lw_tbl) {w : Cond} (i : Nat) (h : r[i]? = some w) : w ∈ lw_tbl := hr w (List.mem_of_getElem? h)
theorem lw_g {w : Cond} (h : w ∈ lw_tbl) (g : goodWord w = true) : w ∈ lw_all := List.mem_filter.mpr ⟨h, g⟩
theorem lw_ms : ∀ w ∈ k2_sels lw_privs, w ∈ lw_tbl := fun w h => show w ∈ k2_sels lw_privs ++ tables_1 from List.mem_append_left _ h
theorem lw_m0 : ∀ w ∈ tables_1, w ∈ lw_tbl := fun w h => show w ∈ k2_sels lw_privs ++ tables_1 from List.mem_append_right (k2_sels lw_privs) h
theorem qs0 : (Cond.selects "FlowDesk" ⟨"FlowDesk", "place", "(I)I"⟩ ⟨"FlowDesk", "place", "(I)I"⟩) ∈ lw_all := lw_g (lw_at lw_ms 0 rfl) rfl
theorem qs1 : (Cond.selects "FlowDesk" ⟨"FlowDesk", "flow", "(II)J"⟩ ⟨"FlowDesk", "flow", "(II)J"⟩) ∈ lw_all := lw_g (lw_at lw_ms 1 rfl) rfl
theorem qs2 : (Cond.selects "FlowDeskModel" ⟨"FlowDeskModel", "least", "(II)V"⟩ ⟨"FlowDeskModel", "least", "(II)V"⟩) ∈ lw_all := lw_g (lw_at lw_ms 2 rfl) rfl
theorem qs3 : (Cond.selects "FlowDeskModel" ⟨"FlowDeskModel", "reckon", "()V"⟩ ⟨"FlowDeskModel", "reckon", "()V"⟩) ∈ lw_all := lw_g (lw_at lw_ms 3 rfl) rfl
end
section
/-! java/lang/Object -/
set_option maxRecDepth 100000
def RJ1 : String := "java/lang/Object"
abbrev cJ1_init : ByteArray := object_method_1_code
def yJ1_init : MethodName := ⟨RJ1, "<init>", "()V"⟩
theorem dJ1_init_0 : decode cJ1_init 0 = .ok (.return_, 1) := by decide +kernel
theorem q15 : (Jvm.Cond.instanceMethod ({ cls := "java/lang/Object", name := "<init>", desc := "()V" } : Jvm.MethodName)) ∈ lw_all := lw_g (lw_at lw_m0 11 rfl) rfl
theorem q16 : (Jvm.Cond.code ({ cls := "java/lang/Object", name := "<init>", desc := "()V" } : Jvm.MethodName) object_method_1_code (1 : Nat) (Option.none : Option Jvm.ClassFile.FieldType)) ∈ lw_all := lw_g (lw_at lw_m0 12 rfl) rfl
/-! java/lang/Math -/
set_option maxRecDepth 100000
def RJ0 : String := "java/lang/Math"
abbrev cJ0_min : ByteArray := prog_5_method_70_code
def yJ0_min : MethodName := ⟨RJ0, "min", "(JJ)J"⟩
theorem dJ0_min_0 : decode cJ0_min 0 = .ok (.lload_n 0, 1) := by decide +kernel
theorem dJ0_min_1 : decode cJ0_min 1 = .ok (.lload_n 2, 1) := by decide +kernel
theorem dJ0_min_2 : decode cJ0_min 2 = .ok (.lcmp, 1) := by decide +kernel
theorem dJ0_min_3 : decode cJ0_min 3 = .ok (.ifCond .gt 7, 3) := by decide +kernel
theorem dJ0_min_6 : decode cJ0_min 6 = .ok (.lload_n 0, 1) := by decide +kernel
theorem dJ0_min_7 : decode cJ0_min 7 = .ok (.goto 4, 3) := by decide +kernel
theorem dJ0_min_10 : decode cJ0_min 10 = .ok (.lload_n 2, 1) := by decide +kernel
theorem dJ0_min_11 : decode cJ0_min 11 = .ok (.lreturn, 1) := by decide +kernel
theorem q8 : (Jvm.Cond.initialized "java/lang/Math") ∈ lw_all := lw_g (lw_at lw_m0 4 rfl) rfl
theorem q94 : (Jvm.Cond.static ({ cls := "java/lang/Math", name := "min", desc := "(JJ)J" } : Jvm.MethodName)) ∈ lw_all := lw_g (lw_at lw_m0 90 rfl) rfl
theorem q95 : (Jvm.Cond.code ({ cls := "java/lang/Math", name := "min", desc := "(JJ)J" } : Jvm.MethodName) prog_5_method_70_code (4 : Nat) (Option.some Jvm.ClassFile.FieldType.long)) ∈ lw_all := lw_g (lw_at lw_m0 91 rfl) rfl
/-! FlowDesk -/
set_option maxRecDepth 100000
def RX0 : String := "FlowDesk"
def TX0 : u_T := fun k => match k with
  | 0 => ("FlowDesk", "pipe", "[I", true)
  | 1 => ("FlowDesk", "net", "LFlowDesk$Net;", true)
  | _ => ("FlowDesk", "n", "I", false)
def tyX0 : Nat → FieldType := fun k => match k with
  | 0 => .array .int
  | 1 => .object "FlowDesk$Net"
  | _ => .int
abbrev wsX00 : List Cond := u_ws RX0 TX0 3
theorem nmX0 : ∀ a, a < 3 → ∀ b, b < 3 → a ≠ b → (TX0 a).2.1 ≠ (TX0 b).2.1 := by decide +kernel
theorem tyX0_ok : ∀ k, k < 3 → parseFieldDescriptor (TX0 k).2.2.1 = some (tyX0 k) := by decide +kernel
abbrev cX0_init : ByteArray := prog_1_method_1_code
def yX0_init : MethodName := ⟨RX0, "<init>", "()V"⟩
theorem dX0_init_0 : decode cX0_init 0 = .ok (.aload_n 0, 1) := by decide +kernel
theorem dX0_init_1 : decode cX0_init 1 = .ok (.invokespecial 1, 3) := by decide +kernel
theorem dX0_init_4 : decode cX0_init 4 = .ok (.aload_n 0, 1) := by decide +kernel
theorem dX0_init_5 : decode cX0_init 5 = .ok (.bipush 100, 2) := by decide +kernel
theorem dX0_init_7 : decode cX0_init 7 = .ok (.newarray .int, 2) := by decide +kernel
theorem dX0_init_9 : decode cX0_init 9 = .ok (.putfield 9, 3) := by decide +kernel
theorem dX0_init_12 : decode cX0_init 12 = .ok (.aload_n 0, 1) := by decide +kernel
theorem dX0_init_13 : decode cX0_init 13 = .ok (.new 13, 3) := by decide +kernel
theorem dX0_init_16 : decode cX0_init 16 = .ok (.dup, 1) := by decide +kernel
theorem dX0_init_17 : decode cX0_init 17 = .ok (.invokespecial 15, 3) := by decide +kernel
theorem dX0_init_20 : decode cX0_init 20 = .ok (.putfield 16, 3) := by decide +kernel
theorem dX0_init_23 : decode cX0_init 23 = .ok (.aload_n 0, 1) := by decide +kernel
theorem dX0_init_24 : decode cX0_init 24 = .ok (.iconst 2, 1) := by decide +kernel
theorem dX0_init_25 : decode cX0_init 25 = .ok (.putfield 20, 3) := by decide +kernel
theorem dX0_init_28 : decode cX0_init 28 = .ok (.return_, 1) := by decide +kernel
abbrev cX0_places : ByteArray := prog_1_method_2_code
def yX0_places : MethodName := ⟨RX0, "places", "(I)V"⟩
theorem dX0_places_0 : decode cX0_places 0 = .ok (.aload_n 0, 1) := by decide +kernel
theorem dX0_places_1 : decode cX0_places 1 = .ok (.iconst 2, 1) := by decide +kernel
theorem dX0_places_2 : decode cX0_places 2 = .ok (.iload_n 1, 1) := by decide +kernel
theorem dX0_places_3 : decode cX0_places 3 = .ok (.ldc 24, 2) := by decide +kernel
theorem dX0_places_5 : decode cX0_places 5 = .ok (.iand, 1) := by decide +kernel
theorem dX0_places_6 : decode cX0_places 6 = .ok (.bipush 9, 2) := by decide +kernel
theorem dX0_places_8 : decode cX0_places 8 = .ok (.irem, 1) := by decide +kernel
theorem dX0_places_9 : decode cX0_places 9 = .ok (.iadd, 1) := by decide +kernel
theorem dX0_places_10 : decode cX0_places 10 = .ok (.putfield 20, 3) := by decide +kernel
theorem dX0_places_13 : decode cX0_places 13 = .ok (.iconst 0, 1) := by decide +kernel
theorem dX0_places_14 : decode cX0_places 14 = .ok (.istore_n 2, 1) := by decide +kernel
theorem dX0_places_15 : decode cX0_places 15 = .ok (.iload_n 2, 1) := by decide +kernel
theorem dX0_places_16 : decode cX0_places 16 = .ok (.bipush 100, 2) := by decide +kernel
theorem dX0_places_18 : decode cX0_places 18 = .ok (.if_icmp .ge 16, 3) := by decide +kernel
theorem dX0_places_21 : decode cX0_places 21 = .ok (.aload_n 0, 1) := by decide +kernel
theorem dX0_places_22 : decode cX0_places 22 = .ok (.getfield 9, 3) := by decide +kernel
theorem dX0_places_25 : decode cX0_places 25 = .ok (.iload_n 2, 1) := by decide +kernel
theorem dX0_places_26 : decode cX0_places 26 = .ok (.iconst 0, 1) := by decide +kernel
theorem dX0_places_27 : decode cX0_places 27 = .ok (.iastore, 1) := by decide +kernel
theorem dX0_places_28 : decode cX0_places 28 = .ok (.iinc 2 1, 3) := by decide +kernel
theorem dX0_places_31 : decode cX0_places 31 = .ok (.goto (-16), 3) := by decide +kernel
theorem dX0_places_34 : decode cX0_places 34 = .ok (.return_, 1) := by decide +kernel
abbrev cX0_pipe : ByteArray := prog_1_method_4_code
def yX0_pipe : MethodName := ⟨RX0, "pipe", "(III)Z"⟩
theorem dX0_pipe_0 : decode cX0_pipe 0 = .ok (.aload_n 0, 1) := by decide +kernel
theorem dX0_pipe_1 : decode cX0_pipe 1 = .ok (.iload_n 1, 1) := by decide +kernel
theorem dX0_pipe_2 : decode cX0_pipe 2 = .ok (.invokevirtual 25, 3) := by decide +kernel
theorem dX0_pipe_5 : decode cX0_pipe 5 = .ok (.istore 4, 2) := by decide +kernel
theorem dX0_pipe_7 : decode cX0_pipe 7 = .ok (.aload_n 0, 1) := by decide +kernel
theorem dX0_pipe_8 : decode cX0_pipe 8 = .ok (.iload_n 2, 1) := by decide +kernel
theorem dX0_pipe_9 : decode cX0_pipe 9 = .ok (.invokevirtual 25, 3) := by decide +kernel
theorem dX0_pipe_12 : decode cX0_pipe 12 = .ok (.istore 5, 2) := by decide +kernel
theorem dX0_pipe_14 : decode cX0_pipe 14 = .ok (.iload 4, 2) := by decide +kernel
theorem dX0_pipe_16 : decode cX0_pipe 16 = .ok (.iload 5, 2) := by decide +kernel
theorem dX0_pipe_18 : decode cX0_pipe 18 = .ok (.if_icmp .ne 5, 3) := by decide +kernel
theorem dX0_pipe_21 : decode cX0_pipe 21 = .ok (.iconst 0, 1) := by decide +kernel
theorem dX0_pipe_22 : decode cX0_pipe 22 = .ok (.ireturn, 1) := by decide +kernel
theorem dX0_pipe_23 : decode cX0_pipe 23 = .ok (.aload_n 0, 1) := by decide +kernel
theorem dX0_pipe_24 : decode cX0_pipe 24 = .ok (.getfield 9, 3) := by decide +kernel
theorem dX0_pipe_27 : decode cX0_pipe 27 = .ok (.bipush 10, 2) := by decide +kernel
theorem dX0_pipe_29 : decode cX0_pipe 29 = .ok (.iload 4, 2) := by decide +kernel
theorem dX0_pipe_31 : decode cX0_pipe 31 = .ok (.imul, 1) := by decide +kernel
theorem dX0_pipe_32 : decode cX0_pipe 32 = .ok (.iload 5, 2) := by decide +kernel
theorem dX0_pipe_34 : decode cX0_pipe 34 = .ok (.iadd, 1) := by decide +kernel
theorem dX0_pipe_35 : decode cX0_pipe 35 = .ok (.iload_n 3, 1) := by decide +kernel
theorem dX0_pipe_36 : decode cX0_pipe 36 = .ok (.ldc 29, 2) := by decide +kernel
theorem dX0_pipe_38 : decode cX0_pipe 38 = .ok (.iand, 1) := by decide +kernel
theorem dX0_pipe_39 : decode cX0_pipe 39 = .ok (.iastore, 1) := by decide +kernel
theorem dX0_pipe_40 : decode cX0_pipe 40 = .ok (.iconst 1, 1) := by decide +kernel
theorem dX0_pipe_41 : decode cX0_pipe 41 = .ok (.ireturn, 1) := by decide +kernel
abbrev cX0_place : ByteArray := prog_1_method_3_code
def yX0_place : MethodName := ⟨RX0, "place", "(I)I"⟩
theorem dX0_place_0 : decode cX0_place 0 = .ok (.iload_n 1, 1) := by decide +kernel
theorem dX0_place_1 : decode cX0_place 1 = .ok (.ldc 24, 2) := by decide +kernel
theorem dX0_place_3 : decode cX0_place 3 = .ok (.iand, 1) := by decide +kernel
theorem dX0_place_4 : decode cX0_place 4 = .ok (.aload_n 0, 1) := by decide +kernel
theorem dX0_place_5 : decode cX0_place 5 = .ok (.getfield 20, 3) := by decide +kernel
theorem dX0_place_8 : decode cX0_place 8 = .ok (.irem, 1) := by decide +kernel
theorem dX0_place_9 : decode cX0_place 9 = .ok (.ireturn, 1) := by decide +kernel
abbrev cX0_room : ByteArray := prog_1_method_5_code
def yX0_room : MethodName := ⟨RX0, "room", "(II)I"⟩
theorem dX0_room_0 : decode cX0_room 0 = .ok (.aload_n 0, 1) := by decide +kernel
theorem dX0_room_1 : decode cX0_room 1 = .ok (.getfield 9, 3) := by decide +kernel
theorem dX0_room_4 : decode cX0_room 4 = .ok (.bipush 10, 2) := by decide +kernel
theorem dX0_room_6 : decode cX0_room 6 = .ok (.aload_n 0, 1) := by decide +kernel
theorem dX0_room_7 : decode cX0_room 7 = .ok (.iload_n 1, 1) := by decide +kernel
theorem dX0_room_8 : decode cX0_room 8 = .ok (.invokevirtual 25, 3) := by decide +kernel
theorem dX0_room_11 : decode cX0_room 11 = .ok (.imul, 1) := by decide +kernel
theorem dX0_room_12 : decode cX0_room 12 = .ok (.aload_n 0, 1) := by decide +kernel
theorem dX0_room_13 : decode cX0_room 13 = .ok (.iload_n 2, 1) := by decide +kernel
theorem dX0_room_14 : decode cX0_room 14 = .ok (.invokevirtual 25, 3) := by decide +kernel
theorem dX0_room_17 : decode cX0_room 17 = .ok (.iadd, 1) := by decide +kernel
theorem dX0_room_18 : decode cX0_room 18 = .ok (.iaload, 1) := by decide +kernel
theorem dX0_room_19 : decode cX0_room 19 = .ok (.ireturn, 1) := by decide +kernel
abbrev cX0_most : ByteArray := prog_1_method_7_code
def yX0_most : MethodName := ⟨RX0, "most", "(II)J"⟩
theorem dX0_most_0 : decode cX0_most 0 = .ok (.aload_n 0, 1) := by decide +kernel
theorem dX0_most_1 : decode cX0_most 1 = .ok (.iload_n 1, 1) := by decide +kernel
theorem dX0_most_2 : decode cX0_most 2 = .ok (.invokevirtual 25, 3) := by decide +kernel
theorem dX0_most_5 : decode cX0_most 5 = .ok (.aload_n 0, 1) := by decide +kernel
theorem dX0_most_6 : decode cX0_most 6 = .ok (.iload_n 2, 1) := by decide +kernel
theorem dX0_most_7 : decode cX0_most 7 = .ok (.invokevirtual 25, 3) := by decide +kernel
theorem dX0_most_10 : decode cX0_most 10 = .ok (.if_icmp .ne 9, 3) := by decide +kernel
theorem dX0_most_13 : decode cX0_most 13 = .ok (.ldc2_w 38, 3) := by decide +kernel
theorem dX0_most_16 : decode cX0_most 16 = .ok (.goto 17, 3) := by decide +kernel
theorem dX0_most_19 : decode cX0_most 19 = .ok (.aload_n 0, 1) := by decide +kernel
theorem dX0_most_20 : decode cX0_most 20 = .ok (.aload_n 0, 1) := by decide +kernel
theorem dX0_most_21 : decode cX0_most 21 = .ok (.iload_n 1, 1) := by decide +kernel
theorem dX0_most_22 : decode cX0_most 22 = .ok (.invokevirtual 25, 3) := by decide +kernel
theorem dX0_most_25 : decode cX0_most 25 = .ok (.aload_n 0, 1) := by decide +kernel
theorem dX0_most_26 : decode cX0_most 26 = .ok (.iload_n 2, 1) := by decide +kernel
theorem dX0_most_27 : decode cX0_most 27 = .ok (.invokevirtual 25, 3) := by decide +kernel
theorem dX0_most_30 : decode cX0_most 30 = .ok (.invokevirtual 40, 3) := by decide +kernel
theorem dX0_most_33 : decode cX0_most 33 = .ok (.lreturn, 1) := by decide +kernel
abbrev cX0_flow : ByteArray := prog_1_method_6_code
def yX0_flow : MethodName := ⟨RX0, "flow", "(II)J"⟩
theorem dX0_flow_0 : decode cX0_flow 0 = .ok (.aload_n 0, 1) := by decide +kernel
theorem dX0_flow_1 : decode cX0_flow 1 = .ok (.getfield 16, 3) := by decide +kernel
theorem dX0_flow_4 : decode cX0_flow 4 = .ok (.aload_n 0, 1) := by decide +kernel
theorem dX0_flow_5 : decode cX0_flow 5 = .ok (.getfield 20, 3) := by decide +kernel
theorem dX0_flow_8 : decode cX0_flow 8 = .ok (.putfield 30, 3) := by decide +kernel
theorem dX0_flow_11 : decode cX0_flow 11 = .ok (.iconst 0, 1) := by decide +kernel
theorem dX0_flow_12 : decode cX0_flow 12 = .ok (.istore_n 3, 1) := by decide +kernel
theorem dX0_flow_13 : decode cX0_flow 13 = .ok (.iload_n 3, 1) := by decide +kernel
theorem dX0_flow_14 : decode cX0_flow 14 = .ok (.bipush 100, 2) := by decide +kernel
theorem dX0_flow_16 : decode cX0_flow 16 = .ok (.if_icmp .ge 24, 3) := by decide +kernel
theorem dX0_flow_19 : decode cX0_flow 19 = .ok (.aload_n 0, 1) := by decide +kernel
theorem dX0_flow_20 : decode cX0_flow 20 = .ok (.getfield 16, 3) := by decide +kernel
theorem dX0_flow_23 : decode cX0_flow 23 = .ok (.getfield 31, 3) := by decide +kernel
theorem dX0_flow_26 : decode cX0_flow 26 = .ok (.iload_n 3, 1) := by decide +kernel
theorem dX0_flow_27 : decode cX0_flow 27 = .ok (.aload_n 0, 1) := by decide +kernel
theorem dX0_flow_28 : decode cX0_flow 28 = .ok (.getfield 9, 3) := by decide +kernel
theorem dX0_flow_31 : decode cX0_flow 31 = .ok (.iload_n 3, 1) := by decide +kernel
theorem dX0_flow_32 : decode cX0_flow 32 = .ok (.iaload, 1) := by decide +kernel
theorem dX0_flow_33 : decode cX0_flow 33 = .ok (.iastore, 1) := by decide +kernel
theorem dX0_flow_34 : decode cX0_flow 34 = .ok (.iinc 3 1, 3) := by decide +kernel
theorem dX0_flow_37 : decode cX0_flow 37 = .ok (.goto (-24), 3) := by decide +kernel
theorem dX0_flow_40 : decode cX0_flow 40 = .ok (.aload_n 0, 1) := by decide +kernel
theorem dX0_flow_41 : decode cX0_flow 41 = .ok (.getfield 16, 3) := by decide +kernel
theorem dX0_flow_44 : decode cX0_flow 44 = .ok (.iload_n 1, 1) := by decide +kernel
theorem dX0_flow_45 : decode cX0_flow 45 = .ok (.iload_n 2, 1) := by decide +kernel
theorem dX0_flow_46 : decode cX0_flow 46 = .ok (.invokevirtual 34, 3) := by decide +kernel
theorem dX0_flow_49 : decode cX0_flow 49 = .ok (.lreturn, 1) := by decide +kernel
abbrev cX0_side : ByteArray := prog_1_method_8_code
def yX0_side : MethodName := ⟨RX0, "side", "(II)I"⟩
theorem dX0_side_0 : decode cX0_side 0 = .ok (.aload_n 0, 1) := by decide +kernel
theorem dX0_side_1 : decode cX0_side 1 = .ok (.iload_n 1, 1) := by decide +kernel
theorem dX0_side_2 : decode cX0_side 2 = .ok (.invokevirtual 25, 3) := by decide +kernel
theorem dX0_side_5 : decode cX0_side 5 = .ok (.aload_n 0, 1) := by decide +kernel
theorem dX0_side_6 : decode cX0_side 6 = .ok (.iload_n 2, 1) := by decide +kernel
theorem dX0_side_7 : decode cX0_side 7 = .ok (.invokevirtual 25, 3) := by decide +kernel
theorem dX0_side_10 : decode cX0_side 10 = .ok (.if_icmp .ne 5, 3) := by decide +kernel
theorem dX0_side_13 : decode cX0_side 13 = .ok (.iconst (-1), 1) := by decide +kernel
theorem dX0_side_14 : decode cX0_side 14 = .ok (.ireturn, 1) := by decide +kernel
theorem dX0_side_15 : decode cX0_side 15 = .ok (.aload_n 0, 1) := by decide +kernel
theorem dX0_side_16 : decode cX0_side 16 = .ok (.aload_n 0, 1) := by decide +kernel
theorem dX0_side_17 : decode cX0_side 17 = .ok (.iload_n 1, 1) := by decide +kernel
theorem dX0_side_18 : decode cX0_side 18 = .ok (.invokevirtual 25, 3) := by decide +kernel
theorem dX0_side_21 : decode cX0_side 21 = .ok (.aload_n 0, 1) := by decide +kernel
theorem dX0_side_22 : decode cX0_side 22 = .ok (.iload_n 2, 1) := by decide +kernel
theorem dX0_side_23 : decode cX0_side 23 = .ok (.invokevirtual 25, 3) := by decide +kernel
theorem dX0_side_26 : decode cX0_side 26 = .ok (.invokevirtual 40, 3) := by decide +kernel
theorem dX0_side_29 : decode cX0_side 29 = .ok (.pop2, 1) := by decide +kernel
theorem dX0_side_30 : decode cX0_side 30 = .ok (.iconst 0, 1) := by decide +kernel
theorem dX0_side_31 : decode cX0_side 31 = .ok (.istore_n 3, 1) := by decide +kernel
theorem dX0_side_32 : decode cX0_side 32 = .ok (.iconst 0, 1) := by decide +kernel
theorem dX0_side_33 : decode cX0_side 33 = .ok (.istore 4, 2) := by decide +kernel
theorem dX0_side_35 : decode cX0_side 35 = .ok (.iload 4, 2) := by decide +kernel
theorem dX0_side_37 : decode cX0_side 37 = .ok (.aload_n 0, 1) := by decide +kernel
theorem dX0_side_38 : decode cX0_side 38 = .ok (.getfield 20, 3) := by decide +kernel
theorem dX0_side_41 : decode cX0_side 41 = .ok (.if_icmp .ge 30, 3) := by decide +kernel
theorem dX0_side_44 : decode cX0_side 44 = .ok (.aload_n 0, 1) := by decide +kernel
theorem dX0_side_45 : decode cX0_side 45 = .ok (.getfield 16, 3) := by decide +kernel
theorem dX0_side_48 : decode cX0_side 48 = .ok (.getfield 43, 3) := by decide +kernel
theorem dX0_side_51 : decode cX0_side 51 = .ok (.iload 4, 2) := by decide +kernel
theorem dX0_side_53 : decode cX0_side 53 = .ok (.iaload, 1) := by decide +kernel
theorem dX0_side_54 : decode cX0_side 54 = .ok (.iconst (-1), 1) := by decide +kernel
theorem dX0_side_55 : decode cX0_side 55 = .ok (.if_icmp .eq 10, 3) := by decide +kernel
theorem dX0_side_58 : decode cX0_side 58 = .ok (.iload_n 3, 1) := by decide +kernel
theorem dX0_side_59 : decode cX0_side 59 = .ok (.iconst 1, 1) := by decide +kernel
theorem dX0_side_60 : decode cX0_side 60 = .ok (.iload 4, 2) := by decide +kernel
theorem dX0_side_62 : decode cX0_side 62 = .ok (.ishl, 1) := by decide +kernel
theorem dX0_side_63 : decode cX0_side 63 = .ok (.ior, 1) := by decide +kernel
theorem dX0_side_64 : decode cX0_side 64 = .ok (.istore_n 3, 1) := by decide +kernel
theorem dX0_side_65 : decode cX0_side 65 = .ok (.iinc 4 1, 3) := by decide +kernel
theorem dX0_side_68 : decode cX0_side 68 = .ok (.goto (-33), 3) := by decide +kernel
theorem dX0_side_71 : decode cX0_side 71 = .ok (.iload_n 3, 1) := by decide +kernel
theorem dX0_side_72 : decode cX0_side 72 = .ok (.ireturn, 1) := by decide +kernel
theorem q5 : (Jvm.Cond.initialized "FlowDesk") ∈ lw_all := lw_g (lw_at lw_m0 1 rfl) rfl
theorem q10 : (Jvm.Cond.instantiable "FlowDesk" (3 : Nat)) ∈ lw_all := lw_g (lw_at lw_m0 6 rfl) rfl
theorem q12 : (Jvm.Cond.instanceMethod ({ cls := "FlowDesk", name := "<init>", desc := "()V" } : Jvm.MethodName)) ∈ lw_all := lw_g (lw_at lw_m0 8 rfl) rfl
theorem q13 : (Jvm.Cond.code ({ cls := "FlowDesk", name := "<init>", desc := "()V" } : Jvm.MethodName) prog_1_method_1_code (1 : Nat) (Option.none : Option Jvm.ClassFile.FieldType)) ∈ lw_all := lw_g (lw_at lw_m0 9 rfl) rfl
theorem q14 : (Jvm.Cond.methodLink "FlowDesk" (1 : Nat) ({ cls := "java/lang/Object", name := "<init>", desc := "()V" } : Jvm.MethodName)) ∈ lw_all := lw_g (lw_at lw_m0 10 rfl) rfl
theorem q17 : (Jvm.Cond.classLink "FlowDesk" (13 : Nat) "FlowDesk$Net") ∈ lw_all := lw_g (lw_at lw_m0 13 rfl) rfl
theorem q19 : (Jvm.Cond.methodLinkNest "FlowDesk" (15 : Nat) ({ cls := "FlowDesk$Net", name := "<init>", desc := "()V" } : Jvm.MethodName) "FlowDesk") ∈ lw_tbl := lw_at lw_m0 15 rfl
theorem q24 : (Jvm.Cond.fieldLink "FlowDesk" (31 : Nat) "FlowDesk$Net" "left" "[I") ∈ lw_all := lw_g (lw_at lw_m0 20 rfl) rfl
theorem q26 : (Jvm.Cond.fieldLink "FlowDesk" (43 : Nat) "FlowDesk$Net" "level" "[I") ∈ lw_all := lw_g (lw_at lw_m0 22 rfl) rfl
theorem q30 : (Jvm.Cond.fieldLink "FlowDesk" (30 : Nat) "FlowDesk$Net" "n" "I") ∈ lw_all := lw_g (lw_at lw_m0 26 rfl) rfl
theorem q43 : (Jvm.Cond.fieldLink "FlowDesk" (9 : Nat) "FlowDesk" "pipe" "[I") ∈ lw_all := lw_g (lw_at lw_m0 39 rfl) rfl
theorem q44 : (Jvm.Cond.fieldLink "FlowDesk" (16 : Nat) "FlowDesk" "net" "LFlowDesk$Net;") ∈ lw_all := lw_g (lw_at lw_m0 40 rfl) rfl
theorem q45 : (Jvm.Cond.fieldLink "FlowDesk" (20 : Nat) "FlowDesk" "n" "I") ∈ lw_all := lw_g (lw_at lw_m0 41 rfl) rfl
theorem q46 : (Jvm.Cond.laysFinal "FlowDesk" "FlowDesk" "pipe" "[I") ∈ lw_all := lw_g (lw_at lw_m0 42 rfl) rfl
theorem q47 : (Jvm.Cond.soleField "FlowDesk" "pipe") ∈ lw_all := lw_g (lw_at lw_m0 43 rfl) rfl
theorem q48 : (Jvm.Cond.laysFinal "FlowDesk" "FlowDesk" "net" "LFlowDesk$Net;") ∈ lw_all := lw_g (lw_at lw_m0 44 rfl) rfl
theorem q49 : (Jvm.Cond.soleField "FlowDesk" "net") ∈ lw_all := lw_g (lw_at lw_m0 45 rfl) rfl
theorem q50 : (Jvm.Cond.lays "FlowDesk" "FlowDesk" "n" "I") ∈ lw_all := lw_g (lw_at lw_m0 46 rfl) rfl
theorem q51 : (Jvm.Cond.soleField "FlowDesk" "n") ∈ lw_all := lw_g (lw_at lw_m0 47 rfl) rfl
theorem q52 : (Jvm.Cond.superclass "FlowDesk" "java/lang/Object") ∈ lw_all := lw_g (lw_at lw_m0 48 rfl) rfl
theorem q54 : (Jvm.Cond.instanceMethod ({ cls := "FlowDesk", name := "places", desc := "(I)V" } : Jvm.MethodName)) ∈ lw_all := lw_g (lw_at lw_m0 50 rfl) rfl
theorem q55 : (Jvm.Cond.selects "FlowDesk" ({ cls := "FlowDesk", name := "places", desc := "(I)V" } : Jvm.MethodName) ({ cls := "FlowDesk", name := "places", desc := "(I)V" } : Jvm.MethodName)) ∈ lw_all := lw_g (lw_at lw_m0 51 rfl) rfl
theorem q56 : (Jvm.Cond.code ({ cls := "FlowDesk", name := "places", desc := "(I)V" } : Jvm.MethodName) prog_1_method_2_code (3 : Nat) (Option.none : Option Jvm.ClassFile.FieldType)) ∈ lw_all := lw_g (lw_at lw_m0 52 rfl) rfl
theorem q57 : (Jvm.Cond.constant "FlowDesk" (24 : Nat) (2147483647 : Int32)) ∈ lw_all := lw_g (lw_at lw_m0 53 rfl) rfl
theorem q59 : (Jvm.Cond.instanceMethod ({ cls := "FlowDesk", name := "pipe", desc := "(III)Z" } : Jvm.MethodName)) ∈ lw_all := lw_g (lw_at lw_m0 55 rfl) rfl
theorem q60 : (Jvm.Cond.selects "FlowDesk" ({ cls := "FlowDesk", name := "pipe", desc := "(III)Z" } : Jvm.MethodName) ({ cls := "FlowDesk", name := "pipe", desc := "(III)Z" } : Jvm.MethodName)) ∈ lw_all := lw_g (lw_at lw_m0 56 rfl) rfl
theorem q61 : (Jvm.Cond.code ({ cls := "FlowDesk", name := "pipe", desc := "(III)Z" } : Jvm.MethodName) prog_1_method_4_code (6 : Nat) (Option.some Jvm.ClassFile.FieldType.boolean)) ∈ lw_all := lw_g (lw_at lw_m0 57 rfl) rfl
theorem q62 : (Jvm.Cond.methodLink "FlowDesk" (25 : Nat) ({ cls := "FlowDesk", name := "place", desc := "(I)I" } : Jvm.MethodName)) ∈ lw_all := lw_g (lw_at lw_m0 58 rfl) rfl
theorem q63 : (Jvm.Cond.privateMethod ({ cls := "FlowDesk", name := "place", desc := "(I)I" } : Jvm.MethodName)) ∈ lw_tbl := lw_at lw_m0 59 rfl
theorem q64 : (Jvm.Cond.instanceMethod ({ cls := "FlowDesk", name := "place", desc := "(I)I" } : Jvm.MethodName)) ∈ lw_all := lw_g (lw_at lw_m0 60 rfl) rfl
theorem q65 : (Jvm.Cond.code ({ cls := "FlowDesk", name := "place", desc := "(I)I" } : Jvm.MethodName) prog_1_method_3_code (2 : Nat) (Option.some Jvm.ClassFile.FieldType.int)) ∈ lw_all := lw_g (lw_at lw_m0 61 rfl) rfl
theorem q66 : (Jvm.Cond.constant "FlowDesk" (29 : Nat) (1048575 : Int32)) ∈ lw_all := lw_g (lw_at lw_m0 62 rfl) rfl
theorem q68 : (Jvm.Cond.instanceMethod ({ cls := "FlowDesk", name := "room", desc := "(II)I" } : Jvm.MethodName)) ∈ lw_all := lw_g (lw_at lw_m0 64 rfl) rfl
theorem q69 : (Jvm.Cond.selects "FlowDesk" ({ cls := "FlowDesk", name := "room", desc := "(II)I" } : Jvm.MethodName) ({ cls := "FlowDesk", name := "room", desc := "(II)I" } : Jvm.MethodName)) ∈ lw_all := lw_g (lw_at lw_m0 65 rfl) rfl
theorem q70 : (Jvm.Cond.code ({ cls := "FlowDesk", name := "room", desc := "(II)I" } : Jvm.MethodName) prog_1_method_5_code (3 : Nat) (Option.some Jvm.ClassFile.FieldType.int)) ∈ lw_all := lw_g (lw_at lw_m0 66 rfl) rfl
theorem q72 : (Jvm.Cond.instanceMethod ({ cls := "FlowDesk", name := "most", desc := "(II)J" } : Jvm.MethodName)) ∈ lw_all := lw_g (lw_at lw_m0 68 rfl) rfl
theorem q73 : (Jvm.Cond.selects "FlowDesk" ({ cls := "FlowDesk", name := "most", desc := "(II)J" } : Jvm.MethodName) ({ cls := "FlowDesk", name := "most", desc := "(II)J" } : Jvm.MethodName)) ∈ lw_all := lw_g (lw_at lw_m0 69 rfl) rfl
theorem q74 : (Jvm.Cond.code ({ cls := "FlowDesk", name := "most", desc := "(II)J" } : Jvm.MethodName) prog_1_method_7_code (3 : Nat) (Option.some Jvm.ClassFile.FieldType.long)) ∈ lw_all := lw_g (lw_at lw_m0 70 rfl) rfl
theorem q75 : (Jvm.Cond.constantLong "FlowDesk" (38 : Nat) (-1 : Int64)) ∈ lw_all := lw_g (lw_at lw_m0 71 rfl) rfl
theorem q76 : (Jvm.Cond.methodLink "FlowDesk" (40 : Nat) ({ cls := "FlowDesk", name := "flow", desc := "(II)J" } : Jvm.MethodName)) ∈ lw_all := lw_g (lw_at lw_m0 72 rfl) rfl
theorem q77 : (Jvm.Cond.privateMethod ({ cls := "FlowDesk", name := "flow", desc := "(II)J" } : Jvm.MethodName)) ∈ lw_tbl := lw_at lw_m0 73 rfl
theorem q78 : (Jvm.Cond.instanceMethod ({ cls := "FlowDesk", name := "flow", desc := "(II)J" } : Jvm.MethodName)) ∈ lw_all := lw_g (lw_at lw_m0 74 rfl) rfl
theorem q79 : (Jvm.Cond.code ({ cls := "FlowDesk", name := "flow", desc := "(II)J" } : Jvm.MethodName) prog_1_method_6_code (4 : Nat) (Option.some Jvm.ClassFile.FieldType.long)) ∈ lw_all := lw_g (lw_at lw_m0 75 rfl) rfl
theorem q80 : (Jvm.Cond.methodLink "FlowDesk" (34 : Nat) ({ cls := "FlowDesk$Net", name := "run", desc := "(II)J" } : Jvm.MethodName)) ∈ lw_all := lw_g (lw_at lw_m0 76 rfl) rfl
theorem q97 : (Jvm.Cond.instanceMethod ({ cls := "FlowDesk", name := "side", desc := "(II)I" } : Jvm.MethodName)) ∈ lw_all := lw_g (lw_at lw_m0 93 rfl) rfl
theorem q98 : (Jvm.Cond.selects "FlowDesk" ({ cls := "FlowDesk", name := "side", desc := "(II)I" } : Jvm.MethodName) ({ cls := "FlowDesk", name := "side", desc := "(II)I" } : Jvm.MethodName)) ∈ lw_all := lw_g (lw_at lw_m0 94 rfl) rfl
theorem q99 : (Jvm.Cond.code ({ cls := "FlowDesk", name := "side", desc := "(II)I" } : Jvm.MethodName) prog_1_method_8_code (5 : Nat) (Option.some Jvm.ClassFile.FieldType.int)) ∈ lw_all := lw_g (lw_at lw_m0 95 rfl) rfl
theorem in_X0 : ∀ w ∈ wsX00, w ∈ lw_all := lw_in wsX00 [46, 48, 50] (by decide +kernel) (by decide +kernel)
end
section
/-! FlowDesk$Net -/
set_option maxRecDepth 100000
def RX1 : String := "FlowDesk$Net"
def TX1 : u_T := fun k => match k with
  | 0 => ("FlowDesk$Net", "left", "[I", true)
  | 1 => ("FlowDesk$Net", "level", "[I", true)
  | 2 => ("FlowDesk$Net", "next", "[I", true)
  | 3 => ("FlowDesk$Net", "row", "[I", true)
  | _ => ("FlowDesk$Net", "n", "I", false)
def tyX1 : Nat → FieldType := fun k => match k with
  | 0 => .array .int
  | 1 => .array .int
  | 2 => .array .int
  | 3 => .array .int
  | _ => .int
abbrev wsX10 : List Cond := u_ws RX1 TX1 5
theorem nmX1 : ∀ a, a < 5 → ∀ b, b < 5 → a ≠ b → (TX1 a).2.1 ≠ (TX1 b).2.1 := by decide +kernel
theorem tyX1_ok : ∀ k, k < 5 → parseFieldDescriptor (TX1 k).2.2.1 = some (tyX1 k) := by decide +kernel
abbrev cX1_init : ByteArray := prog_2_method_1_code
def yX1_init : MethodName := ⟨RX1, "<init>", "()V"⟩
theorem dX1_init_0 : decode cX1_init 0 = .ok (.aload_n 0, 1) := by decide +kernel
theorem dX1_init_1 : decode cX1_init 1 = .ok (.invokespecial 3, 3) := by decide +kernel
theorem dX1_init_4 : decode cX1_init 4 = .ok (.aload_n 0, 1) := by decide +kernel
theorem dX1_init_5 : decode cX1_init 5 = .ok (.bipush 100, 2) := by decide +kernel
theorem dX1_init_7 : decode cX1_init 7 = .ok (.newarray .int, 2) := by decide +kernel
theorem dX1_init_9 : decode cX1_init 9 = .ok (.putfield 9, 3) := by decide +kernel
theorem dX1_init_12 : decode cX1_init 12 = .ok (.aload_n 0, 1) := by decide +kernel
theorem dX1_init_13 : decode cX1_init 13 = .ok (.bipush 10, 2) := by decide +kernel
theorem dX1_init_15 : decode cX1_init 15 = .ok (.newarray .int, 2) := by decide +kernel
theorem dX1_init_17 : decode cX1_init 17 = .ok (.putfield 15, 3) := by decide +kernel
theorem dX1_init_20 : decode cX1_init 20 = .ok (.aload_n 0, 1) := by decide +kernel
theorem dX1_init_21 : decode cX1_init 21 = .ok (.bipush 10, 2) := by decide +kernel
theorem dX1_init_23 : decode cX1_init 23 = .ok (.newarray .int, 2) := by decide +kernel
theorem dX1_init_25 : decode cX1_init 25 = .ok (.putfield 18, 3) := by decide +kernel
theorem dX1_init_28 : decode cX1_init 28 = .ok (.aload_n 0, 1) := by decide +kernel
theorem dX1_init_29 : decode cX1_init 29 = .ok (.bipush 10, 2) := by decide +kernel
theorem dX1_init_31 : decode cX1_init 31 = .ok (.newarray .int, 2) := by decide +kernel
theorem dX1_init_33 : decode cX1_init 33 = .ok (.putfield 21, 3) := by decide +kernel
theorem dX1_init_36 : decode cX1_init 36 = .ok (.return_, 1) := by decide +kernel
abbrev cX1_run : ByteArray := prog_2_method_4_code
def yX1_run : MethodName := ⟨RX1, "run", "(II)J"⟩
theorem dX1_run_0 : decode cX1_run 0 = .ok (.lconst 0, 1) := by decide +kernel
theorem dX1_run_1 : decode cX1_run 1 = .ok (.lstore_n 3, 1) := by decide +kernel
theorem dX1_run_2 : decode cX1_run 2 = .ok (.aload_n 0, 1) := by decide +kernel
theorem dX1_run_3 : decode cX1_run 3 = .ok (.iload_n 1, 1) := by decide +kernel
theorem dX1_run_4 : decode cX1_run 4 = .ok (.iload_n 2, 1) := by decide +kernel
theorem dX1_run_5 : decode cX1_run 5 = .ok (.invokevirtual 38, 3) := by decide +kernel
theorem dX1_run_8 : decode cX1_run 8 = .ok (.ifCond .eq 44, 3) := by decide +kernel
theorem dX1_run_11 : decode cX1_run 11 = .ok (.iconst 0, 1) := by decide +kernel
theorem dX1_run_12 : decode cX1_run 12 = .ok (.istore 5, 2) := by decide +kernel
theorem dX1_run_14 : decode cX1_run 14 = .ok (.iload 5, 2) := by decide +kernel
theorem dX1_run_16 : decode cX1_run 16 = .ok (.aload_n 0, 1) := by decide +kernel
theorem dX1_run_17 : decode cX1_run 17 = .ok (.getfield 24, 3) := by decide +kernel
theorem dX1_run_20 : decode cX1_run 20 = .ok (.if_icmp .ge 17, 3) := by decide +kernel
theorem dX1_run_23 : decode cX1_run 23 = .ok (.aload_n 0, 1) := by decide +kernel
theorem dX1_run_24 : decode cX1_run 24 = .ok (.getfield 18, 3) := by decide +kernel
theorem dX1_run_27 : decode cX1_run 27 = .ok (.iload 5, 2) := by decide +kernel
theorem dX1_run_29 : decode cX1_run 29 = .ok (.iconst 0, 1) := by decide +kernel
theorem dX1_run_30 : decode cX1_run 30 = .ok (.iastore, 1) := by decide +kernel
theorem dX1_run_31 : decode cX1_run 31 = .ok (.iinc 5 1, 3) := by decide +kernel
theorem dX1_run_34 : decode cX1_run 34 = .ok (.goto (-20), 3) := by decide +kernel
theorem dX1_run_37 : decode cX1_run 37 = .ok (.lload_n 3, 1) := by decide +kernel
theorem dX1_run_38 : decode cX1_run 38 = .ok (.aload_n 0, 1) := by decide +kernel
theorem dX1_run_39 : decode cX1_run 39 = .ok (.iload_n 1, 1) := by decide +kernel
theorem dX1_run_40 : decode cX1_run 40 = .ok (.iload_n 2, 1) := by decide +kernel
theorem dX1_run_41 : decode cX1_run 41 = .ok (.ldc2_w 42, 3) := by decide +kernel
theorem dX1_run_44 : decode cX1_run 44 = .ok (.invokevirtual 34, 3) := by decide +kernel
theorem dX1_run_47 : decode cX1_run 47 = .ok (.ladd, 1) := by decide +kernel
theorem dX1_run_48 : decode cX1_run 48 = .ok (.lstore_n 3, 1) := by decide +kernel
theorem dX1_run_49 : decode cX1_run 49 = .ok (.goto (-47), 3) := by decide +kernel
theorem dX1_run_52 : decode cX1_run 52 = .ok (.lload_n 3, 1) := by decide +kernel
theorem dX1_run_53 : decode cX1_run 53 = .ok (.lreturn, 1) := by decide +kernel
abbrev cX1_levels : ByteArray := prog_2_method_2_code
def yX1_levels : MethodName := ⟨RX1, "levels", "(II)Z"⟩
theorem dX1_levels_0 : decode cX1_levels 0 = .ok (.iconst 0, 1) := by decide +kernel
theorem dX1_levels_1 : decode cX1_levels 1 = .ok (.istore_n 3, 1) := by decide +kernel
theorem dX1_levels_2 : decode cX1_levels 2 = .ok (.iload_n 3, 1) := by decide +kernel
theorem dX1_levels_3 : decode cX1_levels 3 = .ok (.aload_n 0, 1) := by decide +kernel
theorem dX1_levels_4 : decode cX1_levels 4 = .ok (.getfield 24, 3) := by decide +kernel
theorem dX1_levels_7 : decode cX1_levels 7 = .ok (.if_icmp .ge 16, 3) := by decide +kernel
theorem dX1_levels_10 : decode cX1_levels 10 = .ok (.aload_n 0, 1) := by decide +kernel
theorem dX1_levels_11 : decode cX1_levels 11 = .ok (.getfield 15, 3) := by decide +kernel
theorem dX1_levels_14 : decode cX1_levels 14 = .ok (.iload_n 3, 1) := by decide +kernel
theorem dX1_levels_15 : decode cX1_levels 15 = .ok (.iconst (-1), 1) := by decide +kernel
theorem dX1_levels_16 : decode cX1_levels 16 = .ok (.iastore, 1) := by decide +kernel
theorem dX1_levels_17 : decode cX1_levels 17 = .ok (.iinc 3 1, 3) := by decide +kernel
theorem dX1_levels_20 : decode cX1_levels 20 = .ok (.goto (-18), 3) := by decide +kernel
theorem dX1_levels_23 : decode cX1_levels 23 = .ok (.iconst 0, 1) := by decide +kernel
theorem dX1_levels_24 : decode cX1_levels 24 = .ok (.istore_n 3, 1) := by decide +kernel
theorem dX1_levels_25 : decode cX1_levels 25 = .ok (.iconst 1, 1) := by decide +kernel
theorem dX1_levels_26 : decode cX1_levels 26 = .ok (.istore 4, 2) := by decide +kernel
theorem dX1_levels_28 : decode cX1_levels 28 = .ok (.aload_n 0, 1) := by decide +kernel
theorem dX1_levels_29 : decode cX1_levels 29 = .ok (.getfield 21, 3) := by decide +kernel
theorem dX1_levels_32 : decode cX1_levels 32 = .ok (.iconst 0, 1) := by decide +kernel
theorem dX1_levels_33 : decode cX1_levels 33 = .ok (.iload_n 1, 1) := by decide +kernel
theorem dX1_levels_34 : decode cX1_levels 34 = .ok (.iastore, 1) := by decide +kernel
theorem dX1_levels_35 : decode cX1_levels 35 = .ok (.aload_n 0, 1) := by decide +kernel
theorem dX1_levels_36 : decode cX1_levels 36 = .ok (.getfield 15, 3) := by decide +kernel
theorem dX1_levels_39 : decode cX1_levels 39 = .ok (.iload_n 1, 1) := by decide +kernel
theorem dX1_levels_40 : decode cX1_levels 40 = .ok (.iconst 0, 1) := by decide +kernel
theorem dX1_levels_41 : decode cX1_levels 41 = .ok (.iastore, 1) := by decide +kernel
theorem dX1_levels_42 : decode cX1_levels 42 = .ok (.iload_n 3, 1) := by decide +kernel
theorem dX1_levels_43 : decode cX1_levels 43 = .ok (.iload 4, 2) := by decide +kernel
theorem dX1_levels_45 : decode cX1_levels 45 = .ok (.if_icmp .ge 93, 3) := by decide +kernel
theorem dX1_levels_48 : decode cX1_levels 48 = .ok (.aload_n 0, 1) := by decide +kernel
theorem dX1_levels_49 : decode cX1_levels 49 = .ok (.getfield 21, 3) := by decide +kernel
theorem dX1_levels_52 : decode cX1_levels 52 = .ok (.iload_n 3, 1) := by decide +kernel
theorem dX1_levels_53 : decode cX1_levels 53 = .ok (.iaload, 1) := by decide +kernel
theorem dX1_levels_54 : decode cX1_levels 54 = .ok (.istore 5, 2) := by decide +kernel
theorem dX1_levels_56 : decode cX1_levels 56 = .ok (.iinc 3 1, 3) := by decide +kernel
theorem dX1_levels_59 : decode cX1_levels 59 = .ok (.iconst 0, 1) := by decide +kernel
theorem dX1_levels_60 : decode cX1_levels 60 = .ok (.istore 6, 2) := by decide +kernel
theorem dX1_levels_62 : decode cX1_levels 62 = .ok (.iload 6, 2) := by decide +kernel
theorem dX1_levels_64 : decode cX1_levels 64 = .ok (.aload_n 0, 1) := by decide +kernel
theorem dX1_levels_65 : decode cX1_levels 65 = .ok (.getfield 24, 3) := by decide +kernel
theorem dX1_levels_68 : decode cX1_levels 68 = .ok (.if_icmp .ge 67, 3) := by decide +kernel
theorem dX1_levels_71 : decode cX1_levels 71 = .ok (.aload_n 0, 1) := by decide +kernel
theorem dX1_levels_72 : decode cX1_levels 72 = .ok (.getfield 15, 3) := by decide +kernel
theorem dX1_levels_75 : decode cX1_levels 75 = .ok (.iload 6, 2) := by decide +kernel
theorem dX1_levels_77 : decode cX1_levels 77 = .ok (.iaload, 1) := by decide +kernel
theorem dX1_levels_78 : decode cX1_levels 78 = .ok (.iconst (-1), 1) := by decide +kernel
theorem dX1_levels_79 : decode cX1_levels 79 = .ok (.if_icmp .ne 50, 3) := by decide +kernel
theorem dX1_levels_82 : decode cX1_levels 82 = .ok (.aload_n 0, 1) := by decide +kernel
theorem dX1_levels_83 : decode cX1_levels 83 = .ok (.getfield 9, 3) := by decide +kernel
theorem dX1_levels_86 : decode cX1_levels 86 = .ok (.bipush 10, 2) := by decide +kernel
theorem dX1_levels_88 : decode cX1_levels 88 = .ok (.iload 5, 2) := by decide +kernel
theorem dX1_levels_90 : decode cX1_levels 90 = .ok (.imul, 1) := by decide +kernel
theorem dX1_levels_91 : decode cX1_levels 91 = .ok (.iload 6, 2) := by decide +kernel
theorem dX1_levels_93 : decode cX1_levels 93 = .ok (.iadd, 1) := by decide +kernel
theorem dX1_levels_94 : decode cX1_levels 94 = .ok (.iaload, 1) := by decide +kernel
theorem dX1_levels_95 : decode cX1_levels 95 = .ok (.ifCond .ne 6, 3) := by decide +kernel
theorem dX1_levels_98 : decode cX1_levels 98 = .ok (.goto 31, 3) := by decide +kernel
theorem dX1_levels_101 : decode cX1_levels 101 = .ok (.aload_n 0, 1) := by decide +kernel
theorem dX1_levels_102 : decode cX1_levels 102 = .ok (.getfield 15, 3) := by decide +kernel
theorem dX1_levels_105 : decode cX1_levels 105 = .ok (.iload 6, 2) := by decide +kernel
theorem dX1_levels_107 : decode cX1_levels 107 = .ok (.aload_n 0, 1) := by decide +kernel
theorem dX1_levels_108 : decode cX1_levels 108 = .ok (.getfield 15, 3) := by decide +kernel
theorem dX1_levels_111 : decode cX1_levels 111 = .ok (.iload 5, 2) := by decide +kernel
theorem dX1_levels_113 : decode cX1_levels 113 = .ok (.iaload, 1) := by decide +kernel
theorem dX1_levels_114 : decode cX1_levels 114 = .ok (.iconst 1, 1) := by decide +kernel
theorem dX1_levels_115 : decode cX1_levels 115 = .ok (.iadd, 1) := by decide +kernel
theorem dX1_levels_116 : decode cX1_levels 116 = .ok (.iastore, 1) := by decide +kernel
theorem dX1_levels_117 : decode cX1_levels 117 = .ok (.aload_n 0, 1) := by decide +kernel
theorem dX1_levels_118 : decode cX1_levels 118 = .ok (.getfield 21, 3) := by decide +kernel
theorem dX1_levels_121 : decode cX1_levels 121 = .ok (.iload 4, 2) := by decide +kernel
theorem dX1_levels_123 : decode cX1_levels 123 = .ok (.iload 6, 2) := by decide +kernel
theorem dX1_levels_125 : decode cX1_levels 125 = .ok (.iastore, 1) := by decide +kernel
theorem dX1_levels_126 : decode cX1_levels 126 = .ok (.iinc 4 1, 3) := by decide +kernel
theorem dX1_levels_129 : decode cX1_levels 129 = .ok (.iinc 6 1, 3) := by decide +kernel
theorem dX1_levels_132 : decode cX1_levels 132 = .ok (.goto (-70), 3) := by decide +kernel
theorem dX1_levels_135 : decode cX1_levels 135 = .ok (.goto (-93), 3) := by decide +kernel
theorem dX1_levels_138 : decode cX1_levels 138 = .ok (.aload_n 0, 1) := by decide +kernel
theorem dX1_levels_139 : decode cX1_levels 139 = .ok (.getfield 15, 3) := by decide +kernel
theorem dX1_levels_142 : decode cX1_levels 142 = .ok (.iload_n 2, 1) := by decide +kernel
theorem dX1_levels_143 : decode cX1_levels 143 = .ok (.iaload, 1) := by decide +kernel
theorem dX1_levels_144 : decode cX1_levels 144 = .ok (.iconst (-1), 1) := by decide +kernel
theorem dX1_levels_145 : decode cX1_levels 145 = .ok (.if_icmp .eq 7, 3) := by decide +kernel
theorem dX1_levels_148 : decode cX1_levels 148 = .ok (.iconst 1, 1) := by decide +kernel
theorem dX1_levels_149 : decode cX1_levels 149 = .ok (.goto 4, 3) := by decide +kernel
theorem dX1_levels_152 : decode cX1_levels 152 = .ok (.iconst 0, 1) := by decide +kernel
theorem dX1_levels_153 : decode cX1_levels 153 = .ok (.ireturn, 1) := by decide +kernel
abbrev cX1_push : ByteArray := prog_2_method_3_code
def yX1_push : MethodName := ⟨RX1, "push", "(IIJ)J"⟩
theorem dX1_push_0 : decode cX1_push 0 = .ok (.iload_n 1, 1) := by decide +kernel
theorem dX1_push_1 : decode cX1_push 1 = .ok (.iload_n 2, 1) := by decide +kernel
theorem dX1_push_2 : decode cX1_push 2 = .ok (.if_icmp .ne 5, 3) := by decide +kernel
theorem dX1_push_5 : decode cX1_push 5 = .ok (.lload_n 3, 1) := by decide +kernel
theorem dX1_push_6 : decode cX1_push 6 = .ok (.lreturn, 1) := by decide +kernel
theorem dX1_push_7 : decode cX1_push 7 = .ok (.lconst 0, 1) := by decide +kernel
theorem dX1_push_8 : decode cX1_push 8 = .ok (.lstore 5, 2) := by decide +kernel
theorem dX1_push_10 : decode cX1_push 10 = .ok (.aload_n 0, 1) := by decide +kernel
theorem dX1_push_11 : decode cX1_push 11 = .ok (.getfield 18, 3) := by decide +kernel
theorem dX1_push_14 : decode cX1_push 14 = .ok (.iload_n 1, 1) := by decide +kernel
theorem dX1_push_15 : decode cX1_push 15 = .ok (.iaload, 1) := by decide +kernel
theorem dX1_push_16 : decode cX1_push 16 = .ok (.aload_n 0, 1) := by decide +kernel
theorem dX1_push_17 : decode cX1_push 17 = .ok (.getfield 24, 3) := by decide +kernel
theorem dX1_push_20 : decode cX1_push 20 = .ok (.if_icmp .ge 140, 3) := by decide +kernel
theorem dX1_push_23 : decode cX1_push 23 = .ok (.lload 5, 2) := by decide +kernel
theorem dX1_push_25 : decode cX1_push 25 = .ok (.lload_n 3, 1) := by decide +kernel
theorem dX1_push_26 : decode cX1_push 26 = .ok (.lcmp, 1) := by decide +kernel
theorem dX1_push_27 : decode cX1_push 27 = .ok (.ifCond .ge 133, 3) := by decide +kernel
theorem dX1_push_30 : decode cX1_push 30 = .ok (.aload_n 0, 1) := by decide +kernel
theorem dX1_push_31 : decode cX1_push 31 = .ok (.getfield 18, 3) := by decide +kernel
theorem dX1_push_34 : decode cX1_push 34 = .ok (.iload_n 1, 1) := by decide +kernel
theorem dX1_push_35 : decode cX1_push 35 = .ok (.iaload, 1) := by decide +kernel
theorem dX1_push_36 : decode cX1_push 36 = .ok (.istore 7, 2) := by decide +kernel
theorem dX1_push_38 : decode cX1_push 38 = .ok (.aload_n 0, 1) := by decide +kernel
theorem dX1_push_39 : decode cX1_push 39 = .ok (.getfield 9, 3) := by decide +kernel
theorem dX1_push_42 : decode cX1_push 42 = .ok (.bipush 10, 2) := by decide +kernel
theorem dX1_push_44 : decode cX1_push 44 = .ok (.iload_n 1, 1) := by decide +kernel
theorem dX1_push_45 : decode cX1_push 45 = .ok (.imul, 1) := by decide +kernel
theorem dX1_push_46 : decode cX1_push 46 = .ok (.iload 7, 2) := by decide +kernel
theorem dX1_push_48 : decode cX1_push 48 = .ok (.iadd, 1) := by decide +kernel
theorem dX1_push_49 : decode cX1_push 49 = .ok (.iaload, 1) := by decide +kernel
theorem dX1_push_50 : decode cX1_push 50 = .ok (.istore 8, 2) := by decide +kernel
theorem dX1_push_52 : decode cX1_push 52 = .ok (.lconst 0, 1) := by decide +kernel
theorem dX1_push_53 : decode cX1_push 53 = .ok (.lstore 9, 2) := by decide +kernel
theorem dX1_push_55 : decode cX1_push 55 = .ok (.iload 8, 2) := by decide +kernel
theorem dX1_push_57 : decode cX1_push 57 = .ok (.ifCond .le 83, 3) := by decide +kernel
theorem dX1_push_60 : decode cX1_push 60 = .ok (.aload_n 0, 1) := by decide +kernel
theorem dX1_push_61 : decode cX1_push 61 = .ok (.getfield 15, 3) := by decide +kernel
theorem dX1_push_64 : decode cX1_push 64 = .ok (.iload 7, 2) := by decide +kernel
theorem dX1_push_66 : decode cX1_push 66 = .ok (.iaload, 1) := by decide +kernel
theorem dX1_push_67 : decode cX1_push 67 = .ok (.aload_n 0, 1) := by decide +kernel
theorem dX1_push_68 : decode cX1_push 68 = .ok (.getfield 15, 3) := by decide +kernel
theorem dX1_push_71 : decode cX1_push 71 = .ok (.iload_n 1, 1) := by decide +kernel
theorem dX1_push_72 : decode cX1_push 72 = .ok (.iaload, 1) := by decide +kernel
theorem dX1_push_73 : decode cX1_push 73 = .ok (.iconst 1, 1) := by decide +kernel
theorem dX1_push_74 : decode cX1_push 74 = .ok (.iadd, 1) := by decide +kernel
theorem dX1_push_75 : decode cX1_push 75 = .ok (.if_icmp .ne 65, 3) := by decide +kernel
theorem dX1_push_78 : decode cX1_push 78 = .ok (.aload_n 0, 1) := by decide +kernel
theorem dX1_push_79 : decode cX1_push 79 = .ok (.iload 7, 2) := by decide +kernel
theorem dX1_push_81 : decode cX1_push 81 = .ok (.iload_n 2, 1) := by decide +kernel
theorem dX1_push_82 : decode cX1_push 82 = .ok (.lload_n 3, 1) := by decide +kernel
theorem dX1_push_83 : decode cX1_push 83 = .ok (.lload 5, 2) := by decide +kernel
theorem dX1_push_85 : decode cX1_push 85 = .ok (.lsub, 1) := by decide +kernel
theorem dX1_push_86 : decode cX1_push 86 = .ok (.iload 8, 2) := by decide +kernel
theorem dX1_push_88 : decode cX1_push 88 = .ok (.i2l, 1) := by decide +kernel
theorem dX1_push_89 : decode cX1_push 89 = .ok (.invokestatic 28, 3) := by decide +kernel
theorem dX1_push_92 : decode cX1_push 92 = .ok (.invokevirtual 34, 3) := by decide +kernel
theorem dX1_push_95 : decode cX1_push 95 = .ok (.lstore 9, 2) := by decide +kernel
theorem dX1_push_97 : decode cX1_push 97 = .ok (.aload_n 0, 1) := by decide +kernel
theorem dX1_push_98 : decode cX1_push 98 = .ok (.getfield 9, 3) := by decide +kernel
theorem dX1_push_101 : decode cX1_push 101 = .ok (.bipush 10, 2) := by decide +kernel
theorem dX1_push_103 : decode cX1_push 103 = .ok (.iload_n 1, 1) := by decide +kernel
theorem dX1_push_104 : decode cX1_push 104 = .ok (.imul, 1) := by decide +kernel
theorem dX1_push_105 : decode cX1_push 105 = .ok (.iload 7, 2) := by decide +kernel
theorem dX1_push_107 : decode cX1_push 107 = .ok (.iadd, 1) := by decide +kernel
theorem dX1_push_108 : decode cX1_push 108 = .ok (.dup2, 1) := by decide +kernel
theorem dX1_push_109 : decode cX1_push 109 = .ok (.iaload, 1) := by decide +kernel
theorem dX1_push_110 : decode cX1_push 110 = .ok (.lload 9, 2) := by decide +kernel
theorem dX1_push_112 : decode cX1_push 112 = .ok (.l2i, 1) := by decide +kernel
theorem dX1_push_113 : decode cX1_push 113 = .ok (.isub, 1) := by decide +kernel
theorem dX1_push_114 : decode cX1_push 114 = .ok (.iastore, 1) := by decide +kernel
theorem dX1_push_115 : decode cX1_push 115 = .ok (.aload_n 0, 1) := by decide +kernel
theorem dX1_push_116 : decode cX1_push 116 = .ok (.getfield 9, 3) := by decide +kernel
theorem dX1_push_119 : decode cX1_push 119 = .ok (.bipush 10, 2) := by decide +kernel
theorem dX1_push_121 : decode cX1_push 121 = .ok (.iload 7, 2) := by decide +kernel
theorem dX1_push_123 : decode cX1_push 123 = .ok (.imul, 1) := by decide +kernel
theorem dX1_push_124 : decode cX1_push 124 = .ok (.iload_n 1, 1) := by decide +kernel
theorem dX1_push_125 : decode cX1_push 125 = .ok (.iadd, 1) := by decide +kernel
theorem dX1_push_126 : decode cX1_push 126 = .ok (.dup2, 1) := by decide +kernel
theorem dX1_push_127 : decode cX1_push 127 = .ok (.iaload, 1) := by decide +kernel
theorem dX1_push_128 : decode cX1_push 128 = .ok (.lload 9, 2) := by decide +kernel
theorem dX1_push_130 : decode cX1_push 130 = .ok (.l2i, 1) := by decide +kernel
theorem dX1_push_131 : decode cX1_push 131 = .ok (.iadd, 1) := by decide +kernel
theorem dX1_push_132 : decode cX1_push 132 = .ok (.iastore, 1) := by decide +kernel
theorem dX1_push_133 : decode cX1_push 133 = .ok (.lload 5, 2) := by decide +kernel
theorem dX1_push_135 : decode cX1_push 135 = .ok (.lload 9, 2) := by decide +kernel
theorem dX1_push_137 : decode cX1_push 137 = .ok (.ladd, 1) := by decide +kernel
theorem dX1_push_138 : decode cX1_push 138 = .ok (.lstore 5, 2) := by decide +kernel
theorem dX1_push_140 : decode cX1_push 140 = .ok (.lload 5, 2) := by decide +kernel
theorem dX1_push_142 : decode cX1_push 142 = .ok (.lload_n 3, 1) := by decide +kernel
theorem dX1_push_143 : decode cX1_push 143 = .ok (.lcmp, 1) := by decide +kernel
theorem dX1_push_144 : decode cX1_push 144 = .ok (.ifCond .ge 13, 3) := by decide +kernel
theorem dX1_push_147 : decode cX1_push 147 = .ok (.aload_n 0, 1) := by decide +kernel
theorem dX1_push_148 : decode cX1_push 148 = .ok (.getfield 18, 3) := by decide +kernel
theorem dX1_push_151 : decode cX1_push 151 = .ok (.iload_n 1, 1) := by decide +kernel
theorem dX1_push_152 : decode cX1_push 152 = .ok (.dup2, 1) := by decide +kernel
theorem dX1_push_153 : decode cX1_push 153 = .ok (.iaload, 1) := by decide +kernel
theorem dX1_push_154 : decode cX1_push 154 = .ok (.iconst 1, 1) := by decide +kernel
theorem dX1_push_155 : decode cX1_push 155 = .ok (.iadd, 1) := by decide +kernel
theorem dX1_push_156 : decode cX1_push 156 = .ok (.iastore, 1) := by decide +kernel
theorem dX1_push_157 : decode cX1_push 157 = .ok (.goto (-147), 3) := by decide +kernel
theorem dX1_push_160 : decode cX1_push 160 = .ok (.lload 5, 2) := by decide +kernel
theorem dX1_push_162 : decode cX1_push 162 = .ok (.lreturn, 1) := by decide +kernel
theorem q6 : (Jvm.Cond.initialized "FlowDesk$Net") ∈ lw_all := lw_g (lw_at lw_m0 2 rfl) rfl
theorem q18 : (Jvm.Cond.instantiable "FlowDesk$Net" (5 : Nat)) ∈ lw_all := lw_g (lw_at lw_m0 14 rfl) rfl
theorem q20 : (Jvm.Cond.instanceMethod ({ cls := "FlowDesk$Net", name := "<init>", desc := "()V" } : Jvm.MethodName)) ∈ lw_all := lw_g (lw_at lw_m0 16 rfl) rfl
theorem q21 : (Jvm.Cond.code ({ cls := "FlowDesk$Net", name := "<init>", desc := "()V" } : Jvm.MethodName) prog_2_method_1_code (1 : Nat) (Option.none : Option Jvm.ClassFile.FieldType)) ∈ lw_all := lw_g (lw_at lw_m0 17 rfl) rfl
theorem q22 : (Jvm.Cond.methodLink "FlowDesk$Net" (3 : Nat) ({ cls := "java/lang/Object", name := "<init>", desc := "()V" } : Jvm.MethodName)) ∈ lw_all := lw_g (lw_at lw_m0 18 rfl) rfl
theorem q23 : (Jvm.Cond.fieldLink "FlowDesk$Net" (9 : Nat) "FlowDesk$Net" "left" "[I") ∈ lw_all := lw_g (lw_at lw_m0 19 rfl) rfl
theorem q25 : (Jvm.Cond.fieldLink "FlowDesk$Net" (15 : Nat) "FlowDesk$Net" "level" "[I") ∈ lw_all := lw_g (lw_at lw_m0 21 rfl) rfl
theorem q27 : (Jvm.Cond.fieldLink "FlowDesk$Net" (18 : Nat) "FlowDesk$Net" "next" "[I") ∈ lw_all := lw_g (lw_at lw_m0 23 rfl) rfl
theorem q28 : (Jvm.Cond.fieldLink "FlowDesk$Net" (21 : Nat) "FlowDesk$Net" "row" "[I") ∈ lw_all := lw_g (lw_at lw_m0 24 rfl) rfl
theorem q29 : (Jvm.Cond.fieldLink "FlowDesk$Net" (24 : Nat) "FlowDesk$Net" "n" "I") ∈ lw_all := lw_g (lw_at lw_m0 25 rfl) rfl
theorem q31 : (Jvm.Cond.laysFinal "FlowDesk$Net" "FlowDesk$Net" "left" "[I") ∈ lw_all := lw_g (lw_at lw_m0 27 rfl) rfl
theorem q32 : (Jvm.Cond.soleField "FlowDesk$Net" "left") ∈ lw_all := lw_g (lw_at lw_m0 28 rfl) rfl
theorem q33 : (Jvm.Cond.laysFinal "FlowDesk$Net" "FlowDesk$Net" "level" "[I") ∈ lw_all := lw_g (lw_at lw_m0 29 rfl) rfl
theorem q34 : (Jvm.Cond.soleField "FlowDesk$Net" "level") ∈ lw_all := lw_g (lw_at lw_m0 30 rfl) rfl
theorem q35 : (Jvm.Cond.laysFinal "FlowDesk$Net" "FlowDesk$Net" "next" "[I") ∈ lw_all := lw_g (lw_at lw_m0 31 rfl) rfl
theorem q36 : (Jvm.Cond.soleField "FlowDesk$Net" "next") ∈ lw_all := lw_g (lw_at lw_m0 32 rfl) rfl
theorem q37 : (Jvm.Cond.laysFinal "FlowDesk$Net" "FlowDesk$Net" "row" "[I") ∈ lw_all := lw_g (lw_at lw_m0 33 rfl) rfl
theorem q38 : (Jvm.Cond.soleField "FlowDesk$Net" "row") ∈ lw_all := lw_g (lw_at lw_m0 34 rfl) rfl
theorem q39 : (Jvm.Cond.lays "FlowDesk$Net" "FlowDesk$Net" "n" "I") ∈ lw_all := lw_g (lw_at lw_m0 35 rfl) rfl
theorem q40 : (Jvm.Cond.soleField "FlowDesk$Net" "n") ∈ lw_all := lw_g (lw_at lw_m0 36 rfl) rfl
theorem q41 : (Jvm.Cond.superclass "FlowDesk$Net" "java/lang/Object") ∈ lw_all := lw_g (lw_at lw_m0 37 rfl) rfl
theorem q81 : (Jvm.Cond.instanceMethod ({ cls := "FlowDesk$Net", name := "run", desc := "(II)J" } : Jvm.MethodName)) ∈ lw_all := lw_g (lw_at lw_m0 77 rfl) rfl
theorem q82 : (Jvm.Cond.selects "FlowDesk$Net" ({ cls := "FlowDesk$Net", name := "run", desc := "(II)J" } : Jvm.MethodName) ({ cls := "FlowDesk$Net", name := "run", desc := "(II)J" } : Jvm.MethodName)) ∈ lw_all := lw_g (lw_at lw_m0 78 rfl) rfl
theorem q83 : (Jvm.Cond.code ({ cls := "FlowDesk$Net", name := "run", desc := "(II)J" } : Jvm.MethodName) prog_2_method_4_code (6 : Nat) (Option.some Jvm.ClassFile.FieldType.long)) ∈ lw_all := lw_g (lw_at lw_m0 79 rfl) rfl
theorem q84 : (Jvm.Cond.methodLink "FlowDesk$Net" (38 : Nat) ({ cls := "FlowDesk$Net", name := "levels", desc := "(II)Z" } : Jvm.MethodName)) ∈ lw_all := lw_g (lw_at lw_m0 80 rfl) rfl
theorem q85 : (Jvm.Cond.instanceMethod ({ cls := "FlowDesk$Net", name := "levels", desc := "(II)Z" } : Jvm.MethodName)) ∈ lw_all := lw_g (lw_at lw_m0 81 rfl) rfl
theorem q86 : (Jvm.Cond.selects "FlowDesk$Net" ({ cls := "FlowDesk$Net", name := "levels", desc := "(II)Z" } : Jvm.MethodName) ({ cls := "FlowDesk$Net", name := "levels", desc := "(II)Z" } : Jvm.MethodName)) ∈ lw_all := lw_g (lw_at lw_m0 82 rfl) rfl
theorem q87 : (Jvm.Cond.code ({ cls := "FlowDesk$Net", name := "levels", desc := "(II)Z" } : Jvm.MethodName) prog_2_method_2_code (7 : Nat) (Option.some Jvm.ClassFile.FieldType.boolean)) ∈ lw_all := lw_g (lw_at lw_m0 83 rfl) rfl
theorem q88 : (Jvm.Cond.constantLong "FlowDesk$Net" (42 : Nat) (1099511627776 : Int64)) ∈ lw_all := lw_g (lw_at lw_m0 84 rfl) rfl
theorem q89 : (Jvm.Cond.methodLink "FlowDesk$Net" (34 : Nat) ({ cls := "FlowDesk$Net", name := "push", desc := "(IIJ)J" } : Jvm.MethodName)) ∈ lw_all := lw_g (lw_at lw_m0 85 rfl) rfl
theorem q90 : (Jvm.Cond.instanceMethod ({ cls := "FlowDesk$Net", name := "push", desc := "(IIJ)J" } : Jvm.MethodName)) ∈ lw_all := lw_g (lw_at lw_m0 86 rfl) rfl
theorem q91 : (Jvm.Cond.selects "FlowDesk$Net" ({ cls := "FlowDesk$Net", name := "push", desc := "(IIJ)J" } : Jvm.MethodName) ({ cls := "FlowDesk$Net", name := "push", desc := "(IIJ)J" } : Jvm.MethodName)) ∈ lw_all := lw_g (lw_at lw_m0 87 rfl) rfl
theorem q92 : (Jvm.Cond.code ({ cls := "FlowDesk$Net", name := "push", desc := "(IIJ)J" } : Jvm.MethodName) prog_2_method_3_code (11 : Nat) (Option.some Jvm.ClassFile.FieldType.long)) ∈ lw_all := lw_g (lw_at lw_m0 88 rfl) rfl
theorem q93 : (Jvm.Cond.methodLink "FlowDesk$Net" (28 : Nat) ({ cls := "java/lang/Math", name := "min", desc := "(JJ)J" } : Jvm.MethodName)) ∈ lw_all := lw_g (lw_at lw_m0 89 rfl) rfl
theorem in_X1 : ∀ w ∈ wsX10, w ∈ lw_all := lw_in wsX10 [31, 33, 35, 37, 39] (by decide +kernel) (by decide +kernel)
end
section
/-! FlowDeskModel -/
set_option maxRecDepth 100000
def RX2 : String := "FlowDeskModel"
def TX2 : u_T := fun k => match k with
  | 0 => ("FlowDeskModel", "room", "[I", true)
  | 1 => ("FlowDeskModel", "n", "I", false)
  | 2 => ("FlowDeskModel", "cut", "[J", true)
  | 3 => ("FlowDeskModel", "known", "Z", false)
  | 4 => ("FlowDeskModel", "best", "J", false)
  | _ => ("FlowDeskModel", "common", "I", false)
def tyX2 : Nat → FieldType := fun k => match k with
  | 0 => .array .int
  | 1 => .int
  | 2 => .array .long
  | 3 => .boolean
  | 4 => .long
  | _ => .int
abbrev wsX20 : List Cond := u_ws RX2 TX2 6
theorem nmX2 : ∀ a, a < 6 → ∀ b, b < 6 → a ≠ b → (TX2 a).2.1 ≠ (TX2 b).2.1 := by decide +kernel
theorem tyX2_ok : ∀ k, k < 6 → parseFieldDescriptor (TX2 k).2.2.1 = some (tyX2 k) := by decide +kernel
abbrev cX2_init : ByteArray := prog_4_method_1_code
def yX2_init : MethodName := ⟨RX2, "<init>", "()V"⟩
theorem dX2_init_0 : decode cX2_init 0 = .ok (.aload_n 0, 1) := by decide +kernel
theorem dX2_init_1 : decode cX2_init 1 = .ok (.invokespecial 1, 3) := by decide +kernel
theorem dX2_init_4 : decode cX2_init 4 = .ok (.aload_n 0, 1) := by decide +kernel
theorem dX2_init_5 : decode cX2_init 5 = .ok (.bipush 100, 2) := by decide +kernel
theorem dX2_init_7 : decode cX2_init 7 = .ok (.newarray .int, 2) := by decide +kernel
theorem dX2_init_9 : decode cX2_init 9 = .ok (.putfield 7, 3) := by decide +kernel
theorem dX2_init_12 : decode cX2_init 12 = .ok (.aload_n 0, 1) := by decide +kernel
theorem dX2_init_13 : decode cX2_init 13 = .ok (.iconst 2, 1) := by decide +kernel
theorem dX2_init_14 : decode cX2_init 14 = .ok (.putfield 13, 3) := by decide +kernel
theorem dX2_init_17 : decode cX2_init 17 = .ok (.aload_n 0, 1) := by decide +kernel
theorem dX2_init_18 : decode cX2_init 18 = .ok (.sipush 1024, 3) := by decide +kernel
theorem dX2_init_21 : decode cX2_init 21 = .ok (.newarray .long, 2) := by decide +kernel
theorem dX2_init_23 : decode cX2_init 23 = .ok (.putfield 17, 3) := by decide +kernel
theorem dX2_init_26 : decode cX2_init 26 = .ok (.return_, 1) := by decide +kernel
abbrev cX2_places : ByteArray := prog_4_method_2_code
def yX2_places : MethodName := ⟨RX2, "places", "(I)V"⟩
theorem dX2_places_0 : decode cX2_places 0 = .ok (.aload_n 0, 1) := by decide +kernel
theorem dX2_places_1 : decode cX2_places 1 = .ok (.iconst 2, 1) := by decide +kernel
theorem dX2_places_2 : decode cX2_places 2 = .ok (.iload_n 1, 1) := by decide +kernel
theorem dX2_places_3 : decode cX2_places 3 = .ok (.ldc 21, 2) := by decide +kernel
theorem dX2_places_5 : decode cX2_places 5 = .ok (.iand, 1) := by decide +kernel
theorem dX2_places_6 : decode cX2_places 6 = .ok (.bipush 9, 2) := by decide +kernel
theorem dX2_places_8 : decode cX2_places 8 = .ok (.irem, 1) := by decide +kernel
theorem dX2_places_9 : decode cX2_places 9 = .ok (.iadd, 1) := by decide +kernel
theorem dX2_places_10 : decode cX2_places 10 = .ok (.putfield 13, 3) := by decide +kernel
theorem dX2_places_13 : decode cX2_places 13 = .ok (.iconst 0, 1) := by decide +kernel
theorem dX2_places_14 : decode cX2_places 14 = .ok (.istore_n 2, 1) := by decide +kernel
theorem dX2_places_15 : decode cX2_places 15 = .ok (.iload_n 2, 1) := by decide +kernel
theorem dX2_places_16 : decode cX2_places 16 = .ok (.bipush 100, 2) := by decide +kernel
theorem dX2_places_18 : decode cX2_places 18 = .ok (.if_icmp .ge 16, 3) := by decide +kernel
theorem dX2_places_21 : decode cX2_places 21 = .ok (.aload_n 0, 1) := by decide +kernel
theorem dX2_places_22 : decode cX2_places 22 = .ok (.getfield 7, 3) := by decide +kernel
theorem dX2_places_25 : decode cX2_places 25 = .ok (.iload_n 2, 1) := by decide +kernel
theorem dX2_places_26 : decode cX2_places 26 = .ok (.iconst 0, 1) := by decide +kernel
theorem dX2_places_27 : decode cX2_places 27 = .ok (.iastore, 1) := by decide +kernel
theorem dX2_places_28 : decode cX2_places 28 = .ok (.iinc 2 1, 3) := by decide +kernel
theorem dX2_places_31 : decode cX2_places 31 = .ok (.goto (-16), 3) := by decide +kernel
theorem dX2_places_34 : decode cX2_places 34 = .ok (.aload_n 0, 1) := by decide +kernel
theorem dX2_places_35 : decode cX2_places 35 = .ok (.iconst 0, 1) := by decide +kernel
theorem dX2_places_36 : decode cX2_places 36 = .ok (.putfield 22, 3) := by decide +kernel
theorem dX2_places_39 : decode cX2_places 39 = .ok (.return_, 1) := by decide +kernel
abbrev cX2_pipe : ByteArray := prog_4_method_3_code
def yX2_pipe : MethodName := ⟨RX2, "pipe", "(III)Z"⟩
theorem dX2_pipe_0 : decode cX2_pipe 0 = .ok (.iload_n 1, 1) := by decide +kernel
theorem dX2_pipe_1 : decode cX2_pipe 1 = .ok (.ldc 21, 2) := by decide +kernel
theorem dX2_pipe_3 : decode cX2_pipe 3 = .ok (.iand, 1) := by decide +kernel
theorem dX2_pipe_4 : decode cX2_pipe 4 = .ok (.aload_n 0, 1) := by decide +kernel
theorem dX2_pipe_5 : decode cX2_pipe 5 = .ok (.getfield 13, 3) := by decide +kernel
theorem dX2_pipe_8 : decode cX2_pipe 8 = .ok (.irem, 1) := by decide +kernel
theorem dX2_pipe_9 : decode cX2_pipe 9 = .ok (.istore 4, 2) := by decide +kernel
theorem dX2_pipe_11 : decode cX2_pipe 11 = .ok (.iload_n 2, 1) := by decide +kernel
theorem dX2_pipe_12 : decode cX2_pipe 12 = .ok (.ldc 21, 2) := by decide +kernel
theorem dX2_pipe_14 : decode cX2_pipe 14 = .ok (.iand, 1) := by decide +kernel
theorem dX2_pipe_15 : decode cX2_pipe 15 = .ok (.aload_n 0, 1) := by decide +kernel
theorem dX2_pipe_16 : decode cX2_pipe 16 = .ok (.getfield 13, 3) := by decide +kernel
theorem dX2_pipe_19 : decode cX2_pipe 19 = .ok (.irem, 1) := by decide +kernel
theorem dX2_pipe_20 : decode cX2_pipe 20 = .ok (.istore 5, 2) := by decide +kernel
theorem dX2_pipe_22 : decode cX2_pipe 22 = .ok (.iload 4, 2) := by decide +kernel
theorem dX2_pipe_24 : decode cX2_pipe 24 = .ok (.iload 5, 2) := by decide +kernel
theorem dX2_pipe_26 : decode cX2_pipe 26 = .ok (.if_icmp .ne 5, 3) := by decide +kernel
theorem dX2_pipe_29 : decode cX2_pipe 29 = .ok (.iconst 0, 1) := by decide +kernel
theorem dX2_pipe_30 : decode cX2_pipe 30 = .ok (.ireturn, 1) := by decide +kernel
theorem dX2_pipe_31 : decode cX2_pipe 31 = .ok (.aload_n 0, 1) := by decide +kernel
theorem dX2_pipe_32 : decode cX2_pipe 32 = .ok (.getfield 7, 3) := by decide +kernel
theorem dX2_pipe_35 : decode cX2_pipe 35 = .ok (.bipush 10, 2) := by decide +kernel
theorem dX2_pipe_37 : decode cX2_pipe 37 = .ok (.iload 4, 2) := by decide +kernel
theorem dX2_pipe_39 : decode cX2_pipe 39 = .ok (.imul, 1) := by decide +kernel
theorem dX2_pipe_40 : decode cX2_pipe 40 = .ok (.iload 5, 2) := by decide +kernel
theorem dX2_pipe_42 : decode cX2_pipe 42 = .ok (.iadd, 1) := by decide +kernel
theorem dX2_pipe_43 : decode cX2_pipe 43 = .ok (.iload_n 3, 1) := by decide +kernel
theorem dX2_pipe_44 : decode cX2_pipe 44 = .ok (.ldc 26, 2) := by decide +kernel
theorem dX2_pipe_46 : decode cX2_pipe 46 = .ok (.iand, 1) := by decide +kernel
theorem dX2_pipe_47 : decode cX2_pipe 47 = .ok (.iastore, 1) := by decide +kernel
theorem dX2_pipe_48 : decode cX2_pipe 48 = .ok (.aload_n 0, 1) := by decide +kernel
theorem dX2_pipe_49 : decode cX2_pipe 49 = .ok (.iconst 0, 1) := by decide +kernel
theorem dX2_pipe_50 : decode cX2_pipe 50 = .ok (.putfield 22, 3) := by decide +kernel
theorem dX2_pipe_53 : decode cX2_pipe 53 = .ok (.iconst 1, 1) := by decide +kernel
theorem dX2_pipe_54 : decode cX2_pipe 54 = .ok (.ireturn, 1) := by decide +kernel
abbrev cX2_room : ByteArray := prog_4_method_4_code
def yX2_room : MethodName := ⟨RX2, "room", "(II)I"⟩
theorem dX2_room_0 : decode cX2_room 0 = .ok (.aload_n 0, 1) := by decide +kernel
theorem dX2_room_1 : decode cX2_room 1 = .ok (.getfield 7, 3) := by decide +kernel
theorem dX2_room_4 : decode cX2_room 4 = .ok (.bipush 10, 2) := by decide +kernel
theorem dX2_room_6 : decode cX2_room 6 = .ok (.iload_n 1, 1) := by decide +kernel
theorem dX2_room_7 : decode cX2_room 7 = .ok (.ldc 21, 2) := by decide +kernel
theorem dX2_room_9 : decode cX2_room 9 = .ok (.iand, 1) := by decide +kernel
theorem dX2_room_10 : decode cX2_room 10 = .ok (.aload_n 0, 1) := by decide +kernel
theorem dX2_room_11 : decode cX2_room 11 = .ok (.getfield 13, 3) := by decide +kernel
theorem dX2_room_14 : decode cX2_room 14 = .ok (.irem, 1) := by decide +kernel
theorem dX2_room_15 : decode cX2_room 15 = .ok (.imul, 1) := by decide +kernel
theorem dX2_room_16 : decode cX2_room 16 = .ok (.iload_n 2, 1) := by decide +kernel
theorem dX2_room_17 : decode cX2_room 17 = .ok (.ldc 21, 2) := by decide +kernel
theorem dX2_room_19 : decode cX2_room 19 = .ok (.iand, 1) := by decide +kernel
theorem dX2_room_20 : decode cX2_room 20 = .ok (.aload_n 0, 1) := by decide +kernel
theorem dX2_room_21 : decode cX2_room 21 = .ok (.getfield 13, 3) := by decide +kernel
theorem dX2_room_24 : decode cX2_room 24 = .ok (.irem, 1) := by decide +kernel
theorem dX2_room_25 : decode cX2_room 25 = .ok (.iadd, 1) := by decide +kernel
theorem dX2_room_26 : decode cX2_room 26 = .ok (.iaload, 1) := by decide +kernel
theorem dX2_room_27 : decode cX2_room 27 = .ok (.ireturn, 1) := by decide +kernel
abbrev cX2_most : ByteArray := prog_4_method_7_code
def yX2_most : MethodName := ⟨RX2, "most", "(II)J"⟩
theorem dX2_most_0 : decode cX2_most 0 = .ok (.iload_n 1, 1) := by decide +kernel
theorem dX2_most_1 : decode cX2_most 1 = .ok (.ldc 21, 2) := by decide +kernel
theorem dX2_most_3 : decode cX2_most 3 = .ok (.iand, 1) := by decide +kernel
theorem dX2_most_4 : decode cX2_most 4 = .ok (.aload_n 0, 1) := by decide +kernel
theorem dX2_most_5 : decode cX2_most 5 = .ok (.getfield 13, 3) := by decide +kernel
theorem dX2_most_8 : decode cX2_most 8 = .ok (.irem, 1) := by decide +kernel
theorem dX2_most_9 : decode cX2_most 9 = .ok (.istore_n 3, 1) := by decide +kernel
theorem dX2_most_10 : decode cX2_most 10 = .ok (.iload_n 2, 1) := by decide +kernel
theorem dX2_most_11 : decode cX2_most 11 = .ok (.ldc 21, 2) := by decide +kernel
theorem dX2_most_13 : decode cX2_most 13 = .ok (.iand, 1) := by decide +kernel
theorem dX2_most_14 : decode cX2_most 14 = .ok (.aload_n 0, 1) := by decide +kernel
theorem dX2_most_15 : decode cX2_most 15 = .ok (.getfield 13, 3) := by decide +kernel
theorem dX2_most_18 : decode cX2_most 18 = .ok (.irem, 1) := by decide +kernel
theorem dX2_most_19 : decode cX2_most 19 = .ok (.istore 4, 2) := by decide +kernel
theorem dX2_most_21 : decode cX2_most 21 = .ok (.iload_n 3, 1) := by decide +kernel
theorem dX2_most_22 : decode cX2_most 22 = .ok (.iload 4, 2) := by decide +kernel
theorem dX2_most_24 : decode cX2_most 24 = .ok (.if_icmp .ne 7, 3) := by decide +kernel
theorem dX2_most_27 : decode cX2_most 27 = .ok (.ldc2_w 30, 3) := by decide +kernel
theorem dX2_most_30 : decode cX2_most 30 = .ok (.lreturn, 1) := by decide +kernel
theorem dX2_most_31 : decode cX2_most 31 = .ok (.aload_n 0, 1) := by decide +kernel
theorem dX2_most_32 : decode cX2_most 32 = .ok (.iload_n 3, 1) := by decide +kernel
theorem dX2_most_33 : decode cX2_most 33 = .ok (.iload 4, 2) := by decide +kernel
theorem dX2_most_35 : decode cX2_most 35 = .ok (.invokevirtual 39, 3) := by decide +kernel
theorem dX2_most_38 : decode cX2_most 38 = .ok (.aload_n 0, 1) := by decide +kernel
theorem dX2_most_39 : decode cX2_most 39 = .ok (.getfield 32, 3) := by decide +kernel
theorem dX2_most_42 : decode cX2_most 42 = .ok (.lreturn, 1) := by decide +kernel
abbrev cX2_least : ByteArray := prog_4_method_6_code
def yX2_least : MethodName := ⟨RX2, "least", "(II)V"⟩
theorem dX2_least_0 : decode cX2_least 0 = .ok (.aload_n 0, 1) := by decide +kernel
theorem dX2_least_1 : decode cX2_least 1 = .ok (.invokevirtual 27, 3) := by decide +kernel
theorem dX2_least_4 : decode cX2_least 4 = .ok (.aload_n 0, 1) := by decide +kernel
theorem dX2_least_5 : decode cX2_least 5 = .ok (.ldc2_w 30, 3) := by decide +kernel
theorem dX2_least_8 : decode cX2_least 8 = .ok (.putfield 32, 3) := by decide +kernel
theorem dX2_least_11 : decode cX2_least 11 = .ok (.iconst 0, 1) := by decide +kernel
theorem dX2_least_12 : decode cX2_least 12 = .ok (.istore_n 3, 1) := by decide +kernel
theorem dX2_least_13 : decode cX2_least 13 = .ok (.iload_n 3, 1) := by decide +kernel
theorem dX2_least_14 : decode cX2_least 14 = .ok (.iconst 1, 1) := by decide +kernel
theorem dX2_least_15 : decode cX2_least 15 = .ok (.aload_n 0, 1) := by decide +kernel
theorem dX2_least_16 : decode cX2_least 16 = .ok (.getfield 13, 3) := by decide +kernel
theorem dX2_least_19 : decode cX2_least 19 = .ok (.ishl, 1) := by decide +kernel
theorem dX2_least_20 : decode cX2_least 20 = .ok (.if_icmp .ge 90, 3) := by decide +kernel
theorem dX2_least_23 : decode cX2_least 23 = .ok (.iload_n 3, 1) := by decide +kernel
theorem dX2_least_24 : decode cX2_least 24 = .ok (.iload_n 1, 1) := by decide +kernel
theorem dX2_least_25 : decode cX2_least 25 = .ok (.ishr, 1) := by decide +kernel
theorem dX2_least_26 : decode cX2_least 26 = .ok (.iconst 1, 1) := by decide +kernel
theorem dX2_least_27 : decode cX2_least 27 = .ok (.iand, 1) := by decide +kernel
theorem dX2_least_28 : decode cX2_least 28 = .ok (.ifCond .eq 76, 3) := by decide +kernel
theorem dX2_least_31 : decode cX2_least 31 = .ok (.iload_n 3, 1) := by decide +kernel
theorem dX2_least_32 : decode cX2_least 32 = .ok (.iload_n 2, 1) := by decide +kernel
theorem dX2_least_33 : decode cX2_least 33 = .ok (.ishr, 1) := by decide +kernel
theorem dX2_least_34 : decode cX2_least 34 = .ok (.iconst 1, 1) := by decide +kernel
theorem dX2_least_35 : decode cX2_least 35 = .ok (.iand, 1) := by decide +kernel
theorem dX2_least_36 : decode cX2_least 36 = .ok (.ifCond .ne 68, 3) := by decide +kernel
theorem dX2_least_39 : decode cX2_least 39 = .ok (.aload_n 0, 1) := by decide +kernel
theorem dX2_least_40 : decode cX2_least 40 = .ok (.getfield 32, 3) := by decide +kernel
theorem dX2_least_43 : decode cX2_least 43 = .ok (.lconst 0, 1) := by decide +kernel
theorem dX2_least_44 : decode cX2_least 44 = .ok (.lcmp, 1) := by decide +kernel
theorem dX2_least_45 : decode cX2_least 45 = .ok (.ifCond .lt 17, 3) := by decide +kernel
theorem dX2_least_48 : decode cX2_least 48 = .ok (.aload_n 0, 1) := by decide +kernel
theorem dX2_least_49 : decode cX2_least 49 = .ok (.getfield 17, 3) := by decide +kernel
theorem dX2_least_52 : decode cX2_least 52 = .ok (.iload_n 3, 1) := by decide +kernel
theorem dX2_least_53 : decode cX2_least 53 = .ok (.laload, 1) := by decide +kernel
theorem dX2_least_54 : decode cX2_least 54 = .ok (.aload_n 0, 1) := by decide +kernel
theorem dX2_least_55 : decode cX2_least 55 = .ok (.getfield 32, 3) := by decide +kernel
theorem dX2_least_58 : decode cX2_least 58 = .ok (.lcmp, 1) := by decide +kernel
theorem dX2_least_59 : decode cX2_least 59 = .ok (.ifCond .ge 21, 3) := by decide +kernel
theorem dX2_least_62 : decode cX2_least 62 = .ok (.aload_n 0, 1) := by decide +kernel
theorem dX2_least_63 : decode cX2_least 63 = .ok (.aload_n 0, 1) := by decide +kernel
theorem dX2_least_64 : decode cX2_least 64 = .ok (.getfield 17, 3) := by decide +kernel
theorem dX2_least_67 : decode cX2_least 67 = .ok (.iload_n 3, 1) := by decide +kernel
theorem dX2_least_68 : decode cX2_least 68 = .ok (.laload, 1) := by decide +kernel
theorem dX2_least_69 : decode cX2_least 69 = .ok (.putfield 32, 3) := by decide +kernel
theorem dX2_least_72 : decode cX2_least 72 = .ok (.aload_n 0, 1) := by decide +kernel
theorem dX2_least_73 : decode cX2_least 73 = .ok (.iload_n 3, 1) := by decide +kernel
theorem dX2_least_74 : decode cX2_least 74 = .ok (.putfield 36, 3) := by decide +kernel
theorem dX2_least_77 : decode cX2_least 77 = .ok (.goto 27, 3) := by decide +kernel
theorem dX2_least_80 : decode cX2_least 80 = .ok (.aload_n 0, 1) := by decide +kernel
theorem dX2_least_81 : decode cX2_least 81 = .ok (.getfield 17, 3) := by decide +kernel
theorem dX2_least_84 : decode cX2_least 84 = .ok (.iload_n 3, 1) := by decide +kernel
theorem dX2_least_85 : decode cX2_least 85 = .ok (.laload, 1) := by decide +kernel
theorem dX2_least_86 : decode cX2_least 86 = .ok (.aload_n 0, 1) := by decide +kernel
theorem dX2_least_87 : decode cX2_least 87 = .ok (.getfield 32, 3) := by decide +kernel
theorem dX2_least_90 : decode cX2_least 90 = .ok (.lcmp, 1) := by decide +kernel
theorem dX2_least_91 : decode cX2_least 91 = .ok (.ifCond .ne 13, 3) := by decide +kernel
theorem dX2_least_94 : decode cX2_least 94 = .ok (.aload_n 0, 1) := by decide +kernel
theorem dX2_least_95 : decode cX2_least 95 = .ok (.aload_n 0, 1) := by decide +kernel
theorem dX2_least_96 : decode cX2_least 96 = .ok (.getfield 36, 3) := by decide +kernel
theorem dX2_least_99 : decode cX2_least 99 = .ok (.iload_n 3, 1) := by decide +kernel
theorem dX2_least_100 : decode cX2_least 100 = .ok (.iand, 1) := by decide +kernel
theorem dX2_least_101 : decode cX2_least 101 = .ok (.putfield 36, 3) := by decide +kernel
theorem dX2_least_104 : decode cX2_least 104 = .ok (.iinc 3 1, 3) := by decide +kernel
theorem dX2_least_107 : decode cX2_least 107 = .ok (.goto (-94), 3) := by decide +kernel
theorem dX2_least_110 : decode cX2_least 110 = .ok (.return_, 1) := by decide +kernel
abbrev cX2_reckon : ByteArray := prog_4_method_5_code
def yX2_reckon : MethodName := ⟨RX2, "reckon", "()V"⟩
theorem dX2_reckon_0 : decode cX2_reckon 0 = .ok (.aload_n 0, 1) := by decide +kernel
theorem dX2_reckon_1 : decode cX2_reckon 1 = .ok (.getfield 22, 3) := by decide +kernel
theorem dX2_reckon_4 : decode cX2_reckon 4 = .ok (.ifCond .eq 4, 3) := by decide +kernel
theorem dX2_reckon_7 : decode cX2_reckon 7 = .ok (.return_, 1) := by decide +kernel
theorem dX2_reckon_8 : decode cX2_reckon 8 = .ok (.aload_n 0, 1) := by decide +kernel
theorem dX2_reckon_9 : decode cX2_reckon 9 = .ok (.iconst 1, 1) := by decide +kernel
theorem dX2_reckon_10 : decode cX2_reckon 10 = .ok (.putfield 22, 3) := by decide +kernel
theorem dX2_reckon_13 : decode cX2_reckon 13 = .ok (.aload_n 0, 1) := by decide +kernel
theorem dX2_reckon_14 : decode cX2_reckon 14 = .ok (.getfield 17, 3) := by decide +kernel
theorem dX2_reckon_17 : decode cX2_reckon 17 = .ok (.iconst 0, 1) := by decide +kernel
theorem dX2_reckon_18 : decode cX2_reckon 18 = .ok (.lconst 0, 1) := by decide +kernel
theorem dX2_reckon_19 : decode cX2_reckon 19 = .ok (.lastore, 1) := by decide +kernel
theorem dX2_reckon_20 : decode cX2_reckon 20 = .ok (.iconst 1, 1) := by decide +kernel
theorem dX2_reckon_21 : decode cX2_reckon 21 = .ok (.istore_n 1, 1) := by decide +kernel
theorem dX2_reckon_22 : decode cX2_reckon 22 = .ok (.iload_n 1, 1) := by decide +kernel
theorem dX2_reckon_23 : decode cX2_reckon 23 = .ok (.iconst 1, 1) := by decide +kernel
theorem dX2_reckon_24 : decode cX2_reckon 24 = .ok (.aload_n 0, 1) := by decide +kernel
theorem dX2_reckon_25 : decode cX2_reckon 25 = .ok (.getfield 13, 3) := by decide +kernel
theorem dX2_reckon_28 : decode cX2_reckon 28 = .ok (.ishl, 1) := by decide +kernel
theorem dX2_reckon_29 : decode cX2_reckon 29 = .ok (.if_icmp .ge 108, 3) := by decide +kernel
theorem dX2_reckon_32 : decode cX2_reckon 32 = .ok (.iconst 0, 1) := by decide +kernel
theorem dX2_reckon_33 : decode cX2_reckon 33 = .ok (.istore_n 2, 1) := by decide +kernel
theorem dX2_reckon_34 : decode cX2_reckon 34 = .ok (.iload_n 1, 1) := by decide +kernel
theorem dX2_reckon_35 : decode cX2_reckon 35 = .ok (.iload_n 2, 1) := by decide +kernel
theorem dX2_reckon_36 : decode cX2_reckon 36 = .ok (.ishr, 1) := by decide +kernel
theorem dX2_reckon_37 : decode cX2_reckon 37 = .ok (.iconst 1, 1) := by decide +kernel
theorem dX2_reckon_38 : decode cX2_reckon 38 = .ok (.iand, 1) := by decide +kernel
theorem dX2_reckon_39 : decode cX2_reckon 39 = .ok (.ifCond .ne 10, 3) := by decide +kernel
theorem dX2_reckon_42 : decode cX2_reckon 42 = .ok (.iload_n 2, 1) := by decide +kernel
theorem dX2_reckon_43 : decode cX2_reckon 43 = .ok (.iconst 1, 1) := by decide +kernel
theorem dX2_reckon_44 : decode cX2_reckon 44 = .ok (.iadd, 1) := by decide +kernel
theorem dX2_reckon_45 : decode cX2_reckon 45 = .ok (.istore_n 2, 1) := by decide +kernel
theorem dX2_reckon_46 : decode cX2_reckon 46 = .ok (.goto (-12), 3) := by decide +kernel
theorem dX2_reckon_49 : decode cX2_reckon 49 = .ok (.aload_n 0, 1) := by decide +kernel
theorem dX2_reckon_50 : decode cX2_reckon 50 = .ok (.getfield 17, 3) := by decide +kernel
theorem dX2_reckon_53 : decode cX2_reckon 53 = .ok (.iload_n 1, 1) := by decide +kernel
theorem dX2_reckon_54 : decode cX2_reckon 54 = .ok (.iconst 1, 1) := by decide +kernel
theorem dX2_reckon_55 : decode cX2_reckon 55 = .ok (.iload_n 2, 1) := by decide +kernel
theorem dX2_reckon_56 : decode cX2_reckon 56 = .ok (.ishl, 1) := by decide +kernel
theorem dX2_reckon_57 : decode cX2_reckon 57 = .ok (.iconst (-1), 1) := by decide +kernel
theorem dX2_reckon_58 : decode cX2_reckon 58 = .ok (.ixor, 1) := by decide +kernel
theorem dX2_reckon_59 : decode cX2_reckon 59 = .ok (.iand, 1) := by decide +kernel
theorem dX2_reckon_60 : decode cX2_reckon 60 = .ok (.laload, 1) := by decide +kernel
theorem dX2_reckon_61 : decode cX2_reckon 61 = .ok (.lstore_n 3, 1) := by decide +kernel
theorem dX2_reckon_62 : decode cX2_reckon 62 = .ok (.iconst 0, 1) := by decide +kernel
theorem dX2_reckon_63 : decode cX2_reckon 63 = .ok (.istore 5, 2) := by decide +kernel
theorem dX2_reckon_65 : decode cX2_reckon 65 = .ok (.iload 5, 2) := by decide +kernel
theorem dX2_reckon_67 : decode cX2_reckon 67 = .ok (.aload_n 0, 1) := by decide +kernel
theorem dX2_reckon_68 : decode cX2_reckon 68 = .ok (.getfield 13, 3) := by decide +kernel
theorem dX2_reckon_71 : decode cX2_reckon 71 = .ok (.if_icmp .ge 53, 3) := by decide +kernel
theorem dX2_reckon_74 : decode cX2_reckon 74 = .ok (.iload_n 1, 1) := by decide +kernel
theorem dX2_reckon_75 : decode cX2_reckon 75 = .ok (.iload 5, 2) := by decide +kernel
theorem dX2_reckon_77 : decode cX2_reckon 77 = .ok (.ishr, 1) := by decide +kernel
theorem dX2_reckon_78 : decode cX2_reckon 78 = .ok (.iconst 1, 1) := by decide +kernel
theorem dX2_reckon_79 : decode cX2_reckon 79 = .ok (.iand, 1) := by decide +kernel
theorem dX2_reckon_80 : decode cX2_reckon 80 = .ok (.ifCond .ne 22, 3) := by decide +kernel
theorem dX2_reckon_83 : decode cX2_reckon 83 = .ok (.lload_n 3, 1) := by decide +kernel
theorem dX2_reckon_84 : decode cX2_reckon 84 = .ok (.aload_n 0, 1) := by decide +kernel
theorem dX2_reckon_85 : decode cX2_reckon 85 = .ok (.getfield 7, 3) := by decide +kernel
theorem dX2_reckon_88 : decode cX2_reckon 88 = .ok (.bipush 10, 2) := by decide +kernel
theorem dX2_reckon_90 : decode cX2_reckon 90 = .ok (.iload_n 2, 1) := by decide +kernel
theorem dX2_reckon_91 : decode cX2_reckon 91 = .ok (.imul, 1) := by decide +kernel
theorem dX2_reckon_92 : decode cX2_reckon 92 = .ok (.iload 5, 2) := by decide +kernel
theorem dX2_reckon_94 : decode cX2_reckon 94 = .ok (.iadd, 1) := by decide +kernel
theorem dX2_reckon_95 : decode cX2_reckon 95 = .ok (.iaload, 1) := by decide +kernel
theorem dX2_reckon_96 : decode cX2_reckon 96 = .ok (.i2l, 1) := by decide +kernel
theorem dX2_reckon_97 : decode cX2_reckon 97 = .ok (.ladd, 1) := by decide +kernel
theorem dX2_reckon_98 : decode cX2_reckon 98 = .ok (.lstore_n 3, 1) := by decide +kernel
theorem dX2_reckon_99 : decode cX2_reckon 99 = .ok (.goto 19, 3) := by decide +kernel
theorem dX2_reckon_102 : decode cX2_reckon 102 = .ok (.lload_n 3, 1) := by decide +kernel
theorem dX2_reckon_103 : decode cX2_reckon 103 = .ok (.aload_n 0, 1) := by decide +kernel
theorem dX2_reckon_104 : decode cX2_reckon 104 = .ok (.getfield 7, 3) := by decide +kernel
theorem dX2_reckon_107 : decode cX2_reckon 107 = .ok (.bipush 10, 2) := by decide +kernel
theorem dX2_reckon_109 : decode cX2_reckon 109 = .ok (.iload 5, 2) := by decide +kernel
theorem dX2_reckon_111 : decode cX2_reckon 111 = .ok (.imul, 1) := by decide +kernel
theorem dX2_reckon_112 : decode cX2_reckon 112 = .ok (.iload_n 2, 1) := by decide +kernel
theorem dX2_reckon_113 : decode cX2_reckon 113 = .ok (.iadd, 1) := by decide +kernel
theorem dX2_reckon_114 : decode cX2_reckon 114 = .ok (.iaload, 1) := by decide +kernel
theorem dX2_reckon_115 : decode cX2_reckon 115 = .ok (.i2l, 1) := by decide +kernel
theorem dX2_reckon_116 : decode cX2_reckon 116 = .ok (.lsub, 1) := by decide +kernel
theorem dX2_reckon_117 : decode cX2_reckon 117 = .ok (.lstore_n 3, 1) := by decide +kernel
theorem dX2_reckon_118 : decode cX2_reckon 118 = .ok (.iinc 5 1, 3) := by decide +kernel
theorem dX2_reckon_121 : decode cX2_reckon 121 = .ok (.goto (-56), 3) := by decide +kernel
theorem dX2_reckon_124 : decode cX2_reckon 124 = .ok (.aload_n 0, 1) := by decide +kernel
theorem dX2_reckon_125 : decode cX2_reckon 125 = .ok (.getfield 17, 3) := by decide +kernel
theorem dX2_reckon_128 : decode cX2_reckon 128 = .ok (.iload_n 1, 1) := by decide +kernel
theorem dX2_reckon_129 : decode cX2_reckon 129 = .ok (.lload_n 3, 1) := by decide +kernel
theorem dX2_reckon_130 : decode cX2_reckon 130 = .ok (.lastore, 1) := by decide +kernel
theorem dX2_reckon_131 : decode cX2_reckon 131 = .ok (.iinc 1 1, 3) := by decide +kernel
theorem dX2_reckon_134 : decode cX2_reckon 134 = .ok (.goto (-112), 3) := by decide +kernel
theorem dX2_reckon_137 : decode cX2_reckon 137 = .ok (.return_, 1) := by decide +kernel
abbrev cX2_side : ByteArray := prog_4_method_8_code
def yX2_side : MethodName := ⟨RX2, "side", "(II)I"⟩
theorem dX2_side_0 : decode cX2_side 0 = .ok (.iload_n 1, 1) := by decide +kernel
theorem dX2_side_1 : decode cX2_side 1 = .ok (.ldc 21, 2) := by decide +kernel
theorem dX2_side_3 : decode cX2_side 3 = .ok (.iand, 1) := by decide +kernel
theorem dX2_side_4 : decode cX2_side 4 = .ok (.aload_n 0, 1) := by decide +kernel
theorem dX2_side_5 : decode cX2_side 5 = .ok (.getfield 13, 3) := by decide +kernel
theorem dX2_side_8 : decode cX2_side 8 = .ok (.irem, 1) := by decide +kernel
theorem dX2_side_9 : decode cX2_side 9 = .ok (.istore_n 3, 1) := by decide +kernel
theorem dX2_side_10 : decode cX2_side 10 = .ok (.iload_n 2, 1) := by decide +kernel
theorem dX2_side_11 : decode cX2_side 11 = .ok (.ldc 21, 2) := by decide +kernel
theorem dX2_side_13 : decode cX2_side 13 = .ok (.iand, 1) := by decide +kernel
theorem dX2_side_14 : decode cX2_side 14 = .ok (.aload_n 0, 1) := by decide +kernel
theorem dX2_side_15 : decode cX2_side 15 = .ok (.getfield 13, 3) := by decide +kernel
theorem dX2_side_18 : decode cX2_side 18 = .ok (.irem, 1) := by decide +kernel
theorem dX2_side_19 : decode cX2_side 19 = .ok (.istore 4, 2) := by decide +kernel
theorem dX2_side_21 : decode cX2_side 21 = .ok (.iload_n 3, 1) := by decide +kernel
theorem dX2_side_22 : decode cX2_side 22 = .ok (.iload 4, 2) := by decide +kernel
theorem dX2_side_24 : decode cX2_side 24 = .ok (.if_icmp .ne 5, 3) := by decide +kernel
theorem dX2_side_27 : decode cX2_side 27 = .ok (.iconst (-1), 1) := by decide +kernel
theorem dX2_side_28 : decode cX2_side 28 = .ok (.ireturn, 1) := by decide +kernel
theorem dX2_side_29 : decode cX2_side 29 = .ok (.aload_n 0, 1) := by decide +kernel
theorem dX2_side_30 : decode cX2_side 30 = .ok (.iload_n 3, 1) := by decide +kernel
theorem dX2_side_31 : decode cX2_side 31 = .ok (.iload 4, 2) := by decide +kernel
theorem dX2_side_33 : decode cX2_side 33 = .ok (.invokevirtual 39, 3) := by decide +kernel
theorem dX2_side_36 : decode cX2_side 36 = .ok (.aload_n 0, 1) := by decide +kernel
theorem dX2_side_37 : decode cX2_side 37 = .ok (.getfield 36, 3) := by decide +kernel
theorem dX2_side_40 : decode cX2_side 40 = .ok (.ireturn, 1) := by decide +kernel
theorem q7 : (Jvm.Cond.initialized "FlowDeskModel") ∈ lw_all := lw_g (lw_at lw_m0 3 rfl) rfl
theorem q101 : (Jvm.Cond.instantiable "FlowDeskModel" (6 : Nat)) ∈ lw_all := lw_g (lw_at lw_m0 97 rfl) rfl
theorem q103 : (Jvm.Cond.instanceMethod ({ cls := "FlowDeskModel", name := "<init>", desc := "()V" } : Jvm.MethodName)) ∈ lw_all := lw_g (lw_at lw_m0 99 rfl) rfl
theorem q104 : (Jvm.Cond.code ({ cls := "FlowDeskModel", name := "<init>", desc := "()V" } : Jvm.MethodName) prog_4_method_1_code (1 : Nat) (Option.none : Option Jvm.ClassFile.FieldType)) ∈ lw_all := lw_g (lw_at lw_m0 100 rfl) rfl
theorem q105 : (Jvm.Cond.methodLink "FlowDeskModel" (1 : Nat) ({ cls := "java/lang/Object", name := "<init>", desc := "()V" } : Jvm.MethodName)) ∈ lw_all := lw_g (lw_at lw_m0 101 rfl) rfl
theorem q106 : (Jvm.Cond.fieldLink "FlowDeskModel" (7 : Nat) "FlowDeskModel" "room" "[I") ∈ lw_all := lw_g (lw_at lw_m0 102 rfl) rfl
theorem q107 : (Jvm.Cond.fieldLink "FlowDeskModel" (13 : Nat) "FlowDeskModel" "n" "I") ∈ lw_all := lw_g (lw_at lw_m0 103 rfl) rfl
theorem q108 : (Jvm.Cond.fieldLink "FlowDeskModel" (17 : Nat) "FlowDeskModel" "cut" "[J") ∈ lw_all := lw_g (lw_at lw_m0 104 rfl) rfl
theorem q109 : (Jvm.Cond.fieldLink "FlowDeskModel" (22 : Nat) "FlowDeskModel" "known" "Z") ∈ lw_all := lw_g (lw_at lw_m0 105 rfl) rfl
theorem q110 : (Jvm.Cond.fieldLink "FlowDeskModel" (32 : Nat) "FlowDeskModel" "best" "J") ∈ lw_all := lw_g (lw_at lw_m0 106 rfl) rfl
theorem q111 : (Jvm.Cond.fieldLink "FlowDeskModel" (36 : Nat) "FlowDeskModel" "common" "I") ∈ lw_all := lw_g (lw_at lw_m0 107 rfl) rfl
theorem q112 : (Jvm.Cond.laysFinal "FlowDeskModel" "FlowDeskModel" "room" "[I") ∈ lw_all := lw_g (lw_at lw_m0 108 rfl) rfl
theorem q113 : (Jvm.Cond.soleField "FlowDeskModel" "room") ∈ lw_all := lw_g (lw_at lw_m0 109 rfl) rfl
theorem q114 : (Jvm.Cond.lays "FlowDeskModel" "FlowDeskModel" "n" "I") ∈ lw_all := lw_g (lw_at lw_m0 110 rfl) rfl
theorem q115 : (Jvm.Cond.soleField "FlowDeskModel" "n") ∈ lw_all := lw_g (lw_at lw_m0 111 rfl) rfl
theorem q116 : (Jvm.Cond.laysFinal "FlowDeskModel" "FlowDeskModel" "cut" "[J") ∈ lw_all := lw_g (lw_at lw_m0 112 rfl) rfl
theorem q117 : (Jvm.Cond.soleField "FlowDeskModel" "cut") ∈ lw_all := lw_g (lw_at lw_m0 113 rfl) rfl
theorem q118 : (Jvm.Cond.lays "FlowDeskModel" "FlowDeskModel" "known" "Z") ∈ lw_all := lw_g (lw_at lw_m0 114 rfl) rfl
theorem q119 : (Jvm.Cond.soleField "FlowDeskModel" "known") ∈ lw_all := lw_g (lw_at lw_m0 115 rfl) rfl
theorem q120 : (Jvm.Cond.lays "FlowDeskModel" "FlowDeskModel" "best" "J") ∈ lw_all := lw_g (lw_at lw_m0 116 rfl) rfl
theorem q121 : (Jvm.Cond.soleField "FlowDeskModel" "best") ∈ lw_all := lw_g (lw_at lw_m0 117 rfl) rfl
theorem q122 : (Jvm.Cond.lays "FlowDeskModel" "FlowDeskModel" "common" "I") ∈ lw_all := lw_g (lw_at lw_m0 118 rfl) rfl
theorem q123 : (Jvm.Cond.soleField "FlowDeskModel" "common") ∈ lw_all := lw_g (lw_at lw_m0 119 rfl) rfl
theorem q124 : (Jvm.Cond.superclass "FlowDeskModel" "java/lang/Object") ∈ lw_all := lw_g (lw_at lw_m0 120 rfl) rfl
theorem q127 : (Jvm.Cond.instanceMethod ({ cls := "FlowDeskModel", name := "places", desc := "(I)V" } : Jvm.MethodName)) ∈ lw_all := lw_g (lw_at lw_m0 123 rfl) rfl
theorem q128 : (Jvm.Cond.selects "FlowDeskModel" ({ cls := "FlowDeskModel", name := "places", desc := "(I)V" } : Jvm.MethodName) ({ cls := "FlowDeskModel", name := "places", desc := "(I)V" } : Jvm.MethodName)) ∈ lw_all := lw_g (lw_at lw_m0 124 rfl) rfl
theorem q129 : (Jvm.Cond.code ({ cls := "FlowDeskModel", name := "places", desc := "(I)V" } : Jvm.MethodName) prog_4_method_2_code (3 : Nat) (Option.none : Option Jvm.ClassFile.FieldType)) ∈ lw_all := lw_g (lw_at lw_m0 125 rfl) rfl
theorem q130 : (Jvm.Cond.constant "FlowDeskModel" (21 : Nat) (2147483647 : Int32)) ∈ lw_all := lw_g (lw_at lw_m0 126 rfl) rfl
theorem q132 : (Jvm.Cond.instanceMethod ({ cls := "FlowDeskModel", name := "pipe", desc := "(III)Z" } : Jvm.MethodName)) ∈ lw_all := lw_g (lw_at lw_m0 128 rfl) rfl
theorem q133 : (Jvm.Cond.selects "FlowDeskModel" ({ cls := "FlowDeskModel", name := "pipe", desc := "(III)Z" } : Jvm.MethodName) ({ cls := "FlowDeskModel", name := "pipe", desc := "(III)Z" } : Jvm.MethodName)) ∈ lw_all := lw_g (lw_at lw_m0 129 rfl) rfl
theorem q134 : (Jvm.Cond.code ({ cls := "FlowDeskModel", name := "pipe", desc := "(III)Z" } : Jvm.MethodName) prog_4_method_3_code (6 : Nat) (Option.some Jvm.ClassFile.FieldType.boolean)) ∈ lw_all := lw_g (lw_at lw_m0 130 rfl) rfl
theorem q135 : (Jvm.Cond.constant "FlowDeskModel" (26 : Nat) (1048575 : Int32)) ∈ lw_all := lw_g (lw_at lw_m0 131 rfl) rfl
theorem q137 : (Jvm.Cond.instanceMethod ({ cls := "FlowDeskModel", name := "room", desc := "(II)I" } : Jvm.MethodName)) ∈ lw_all := lw_g (lw_at lw_m0 133 rfl) rfl
theorem q138 : (Jvm.Cond.selects "FlowDeskModel" ({ cls := "FlowDeskModel", name := "room", desc := "(II)I" } : Jvm.MethodName) ({ cls := "FlowDeskModel", name := "room", desc := "(II)I" } : Jvm.MethodName)) ∈ lw_all := lw_g (lw_at lw_m0 134 rfl) rfl
theorem q139 : (Jvm.Cond.code ({ cls := "FlowDeskModel", name := "room", desc := "(II)I" } : Jvm.MethodName) prog_4_method_4_code (3 : Nat) (Option.some Jvm.ClassFile.FieldType.int)) ∈ lw_all := lw_g (lw_at lw_m0 135 rfl) rfl
theorem q141 : (Jvm.Cond.instanceMethod ({ cls := "FlowDeskModel", name := "most", desc := "(II)J" } : Jvm.MethodName)) ∈ lw_all := lw_g (lw_at lw_m0 137 rfl) rfl
theorem q142 : (Jvm.Cond.selects "FlowDeskModel" ({ cls := "FlowDeskModel", name := "most", desc := "(II)J" } : Jvm.MethodName) ({ cls := "FlowDeskModel", name := "most", desc := "(II)J" } : Jvm.MethodName)) ∈ lw_all := lw_g (lw_at lw_m0 138 rfl) rfl
theorem q143 : (Jvm.Cond.code ({ cls := "FlowDeskModel", name := "most", desc := "(II)J" } : Jvm.MethodName) prog_4_method_7_code (5 : Nat) (Option.some Jvm.ClassFile.FieldType.long)) ∈ lw_all := lw_g (lw_at lw_m0 139 rfl) rfl
theorem q144 : (Jvm.Cond.constantLong "FlowDeskModel" (30 : Nat) (-1 : Int64)) ∈ lw_all := lw_g (lw_at lw_m0 140 rfl) rfl
theorem q145 : (Jvm.Cond.methodLink "FlowDeskModel" (39 : Nat) ({ cls := "FlowDeskModel", name := "least", desc := "(II)V" } : Jvm.MethodName)) ∈ lw_all := lw_g (lw_at lw_m0 141 rfl) rfl
theorem q146 : (Jvm.Cond.privateMethod ({ cls := "FlowDeskModel", name := "least", desc := "(II)V" } : Jvm.MethodName)) ∈ lw_tbl := lw_at lw_m0 142 rfl
theorem q147 : (Jvm.Cond.instanceMethod ({ cls := "FlowDeskModel", name := "least", desc := "(II)V" } : Jvm.MethodName)) ∈ lw_all := lw_g (lw_at lw_m0 143 rfl) rfl
theorem q148 : (Jvm.Cond.code ({ cls := "FlowDeskModel", name := "least", desc := "(II)V" } : Jvm.MethodName) prog_4_method_6_code (4 : Nat) (Option.none : Option Jvm.ClassFile.FieldType)) ∈ lw_all := lw_g (lw_at lw_m0 144 rfl) rfl
theorem q149 : (Jvm.Cond.methodLink "FlowDeskModel" (27 : Nat) ({ cls := "FlowDeskModel", name := "reckon", desc := "()V" } : Jvm.MethodName)) ∈ lw_all := lw_g (lw_at lw_m0 145 rfl) rfl
theorem q150 : (Jvm.Cond.privateMethod ({ cls := "FlowDeskModel", name := "reckon", desc := "()V" } : Jvm.MethodName)) ∈ lw_tbl := lw_at lw_m0 146 rfl
theorem q151 : (Jvm.Cond.instanceMethod ({ cls := "FlowDeskModel", name := "reckon", desc := "()V" } : Jvm.MethodName)) ∈ lw_all := lw_g (lw_at lw_m0 147 rfl) rfl
theorem q152 : (Jvm.Cond.code ({ cls := "FlowDeskModel", name := "reckon", desc := "()V" } : Jvm.MethodName) prog_4_method_5_code (6 : Nat) (Option.none : Option Jvm.ClassFile.FieldType)) ∈ lw_all := lw_g (lw_at lw_m0 148 rfl) rfl
theorem q154 : (Jvm.Cond.instanceMethod ({ cls := "FlowDeskModel", name := "side", desc := "(II)I" } : Jvm.MethodName)) ∈ lw_all := lw_g (lw_at lw_m0 150 rfl) rfl
theorem q155 : (Jvm.Cond.selects "FlowDeskModel" ({ cls := "FlowDeskModel", name := "side", desc := "(II)I" } : Jvm.MethodName) ({ cls := "FlowDeskModel", name := "side", desc := "(II)I" } : Jvm.MethodName)) ∈ lw_all := lw_g (lw_at lw_m0 151 rfl) rfl
theorem q156 : (Jvm.Cond.code ({ cls := "FlowDeskModel", name := "side", desc := "(II)I" } : Jvm.MethodName) prog_4_method_8_code (5 : Nat) (Option.some Jvm.ClassFile.FieldType.int)) ∈ lw_all := lw_g (lw_at lw_m0 152 rfl) rfl
theorem in_X2 : ∀ w ∈ wsX20, w ∈ lw_all := lw_in wsX20 [112, 114, 116, 118, 120, 122] (by decide +kernel) (by decide +kernel)
end
section
/-! the law's own entry -/
set_option maxRecDepth 100000
abbrev cL_law : ByteArray := code
theorem dL_law_0 : decode cL_law 0 = .ok (.new 7, 3) := by decide +kernel
theorem dL_law_3 : decode cL_law 3 = .ok (.dup, 1) := by decide +kernel
theorem dL_law_4 : decode cL_law 4 = .ok (.invokespecial 9, 3) := by decide +kernel
theorem dL_law_7 : decode cL_law 7 = .ok (.astore_n 1, 1) := by decide +kernel
theorem dL_law_8 : decode cL_law 8 = .ok (.new 10, 3) := by decide +kernel
theorem dL_law_11 : decode cL_law 11 = .ok (.dup, 1) := by decide +kernel
theorem dL_law_12 : decode cL_law 12 = .ok (.invokespecial 12, 3) := by decide +kernel
theorem dL_law_15 : decode cL_law 15 = .ok (.astore_n 2, 1) := by decide +kernel
theorem dL_law_16 : decode cL_law 16 = .ok (.iconst 0, 1) := by decide +kernel
theorem dL_law_17 : decode cL_law 17 = .ok (.istore_n 3, 1) := by decide +kernel
theorem dL_law_18 : decode cL_law 18 = .ok (.iload_n 3, 1) := by decide +kernel
theorem dL_law_19 : decode cL_law 19 = .ok (.aload_n 0, 1) := by decide +kernel
theorem dL_law_20 : decode cL_law 20 = .ok (.arraylength, 1) := by decide +kernel
theorem dL_law_21 : decode cL_law 21 = .ok (.iconst 4, 1) := by decide +kernel
theorem dL_law_22 : decode cL_law 22 = .ok (.isub, 1) := by decide +kernel
theorem dL_law_23 : decode cL_law 23 = .ok (.if_icmp .gt 215, 3) := by decide +kernel
theorem dL_law_26 : decode cL_law 26 = .ok (.aload_n 0, 1) := by decide +kernel
theorem dL_law_27 : decode cL_law 27 = .ok (.iload_n 3, 1) := by decide +kernel
theorem dL_law_28 : decode cL_law 28 = .ok (.iaload, 1) := by decide +kernel
theorem dL_law_29 : decode cL_law 29 = .ok (.bipush 7, 2) := by decide +kernel
theorem dL_law_31 : decode cL_law 31 = .ok (.iand, 1) := by decide +kernel
theorem dL_law_32 : decode cL_law 32 = .ok (.tableswitch 200 0 4 #[36, 57, 100, 133, 167], 36) := by decide +kernel
theorem dL_law_68 : decode cL_law 68 = .ok (.aload_n 1, 1) := by decide +kernel
theorem dL_law_69 : decode cL_law 69 = .ok (.aload_n 0, 1) := by decide +kernel
theorem dL_law_70 : decode cL_law 70 = .ok (.iload_n 3, 1) := by decide +kernel
theorem dL_law_71 : decode cL_law 71 = .ok (.iconst 1, 1) := by decide +kernel
theorem dL_law_72 : decode cL_law 72 = .ok (.iadd, 1) := by decide +kernel
theorem dL_law_73 : decode cL_law 73 = .ok (.iaload, 1) := by decide +kernel
theorem dL_law_74 : decode cL_law 74 = .ok (.invokevirtual 13, 3) := by decide +kernel
theorem dL_law_77 : decode cL_law 77 = .ok (.aload_n 2, 1) := by decide +kernel
theorem dL_law_78 : decode cL_law 78 = .ok (.aload_n 0, 1) := by decide +kernel
theorem dL_law_79 : decode cL_law 79 = .ok (.iload_n 3, 1) := by decide +kernel
theorem dL_law_80 : decode cL_law 80 = .ok (.iconst 1, 1) := by decide +kernel
theorem dL_law_81 : decode cL_law 81 = .ok (.iadd, 1) := by decide +kernel
theorem dL_law_82 : decode cL_law 82 = .ok (.iaload, 1) := by decide +kernel
theorem dL_law_83 : decode cL_law 83 = .ok (.invokevirtual 17, 3) := by decide +kernel
theorem dL_law_86 : decode cL_law 86 = .ok (.goto 146, 3) := by decide +kernel
theorem dL_law_89 : decode cL_law 89 = .ok (.aload_n 1, 1) := by decide +kernel
theorem dL_law_90 : decode cL_law 90 = .ok (.aload_n 0, 1) := by decide +kernel
theorem dL_law_91 : decode cL_law 91 = .ok (.iload_n 3, 1) := by decide +kernel
theorem dL_law_92 : decode cL_law 92 = .ok (.iconst 1, 1) := by decide +kernel
theorem dL_law_93 : decode cL_law 93 = .ok (.iadd, 1) := by decide +kernel
theorem dL_law_94 : decode cL_law 94 = .ok (.iaload, 1) := by decide +kernel
theorem dL_law_95 : decode cL_law 95 = .ok (.aload_n 0, 1) := by decide +kernel
theorem dL_law_96 : decode cL_law 96 = .ok (.iload_n 3, 1) := by decide +kernel
theorem dL_law_97 : decode cL_law 97 = .ok (.iconst 2, 1) := by decide +kernel
theorem dL_law_98 : decode cL_law 98 = .ok (.iadd, 1) := by decide +kernel
theorem dL_law_99 : decode cL_law 99 = .ok (.iaload, 1) := by decide +kernel
theorem dL_law_100 : decode cL_law 100 = .ok (.aload_n 0, 1) := by decide +kernel
theorem dL_law_101 : decode cL_law 101 = .ok (.iload_n 3, 1) := by decide +kernel
theorem dL_law_102 : decode cL_law 102 = .ok (.iconst 3, 1) := by decide +kernel
theorem dL_law_103 : decode cL_law 103 = .ok (.iadd, 1) := by decide +kernel
theorem dL_law_104 : decode cL_law 104 = .ok (.iaload, 1) := by decide +kernel
theorem dL_law_105 : decode cL_law 105 = .ok (.invokevirtual 18, 3) := by decide +kernel
theorem dL_law_108 : decode cL_law 108 = .ok (.aload_n 2, 1) := by decide +kernel
theorem dL_law_109 : decode cL_law 109 = .ok (.aload_n 0, 1) := by decide +kernel
theorem dL_law_110 : decode cL_law 110 = .ok (.iload_n 3, 1) := by decide +kernel
theorem dL_law_111 : decode cL_law 111 = .ok (.iconst 1, 1) := by decide +kernel
theorem dL_law_112 : decode cL_law 112 = .ok (.iadd, 1) := by decide +kernel
theorem dL_law_113 : decode cL_law 113 = .ok (.iaload, 1) := by decide +kernel
theorem dL_law_114 : decode cL_law 114 = .ok (.aload_n 0, 1) := by decide +kernel
theorem dL_law_115 : decode cL_law 115 = .ok (.iload_n 3, 1) := by decide +kernel
theorem dL_law_116 : decode cL_law 116 = .ok (.iconst 2, 1) := by decide +kernel
theorem dL_law_117 : decode cL_law 117 = .ok (.iadd, 1) := by decide +kernel
theorem dL_law_118 : decode cL_law 118 = .ok (.iaload, 1) := by decide +kernel
theorem dL_law_119 : decode cL_law 119 = .ok (.aload_n 0, 1) := by decide +kernel
theorem dL_law_120 : decode cL_law 120 = .ok (.iload_n 3, 1) := by decide +kernel
theorem dL_law_121 : decode cL_law 121 = .ok (.iconst 3, 1) := by decide +kernel
theorem dL_law_122 : decode cL_law 122 = .ok (.iadd, 1) := by decide +kernel
theorem dL_law_123 : decode cL_law 123 = .ok (.iaload, 1) := by decide +kernel
theorem dL_law_124 : decode cL_law 124 = .ok (.invokevirtual 22, 3) := by decide +kernel
theorem dL_law_127 : decode cL_law 127 = .ok (.if_icmp .eq 105, 3) := by decide +kernel
theorem dL_law_130 : decode cL_law 130 = .ok (.iconst 0, 1) := by decide +kernel
theorem dL_law_131 : decode cL_law 131 = .ok (.ireturn, 1) := by decide +kernel
theorem dL_law_132 : decode cL_law 132 = .ok (.aload_n 1, 1) := by decide +kernel
theorem dL_law_133 : decode cL_law 133 = .ok (.aload_n 0, 1) := by decide +kernel
theorem dL_law_134 : decode cL_law 134 = .ok (.iload_n 3, 1) := by decide +kernel
theorem dL_law_135 : decode cL_law 135 = .ok (.iconst 1, 1) := by decide +kernel
theorem dL_law_136 : decode cL_law 136 = .ok (.iadd, 1) := by decide +kernel
theorem dL_law_137 : decode cL_law 137 = .ok (.iaload, 1) := by decide +kernel
theorem dL_law_138 : decode cL_law 138 = .ok (.aload_n 0, 1) := by decide +kernel
theorem dL_law_139 : decode cL_law 139 = .ok (.iload_n 3, 1) := by decide +kernel
theorem dL_law_140 : decode cL_law 140 = .ok (.iconst 2, 1) := by decide +kernel
theorem dL_law_141 : decode cL_law 141 = .ok (.iadd, 1) := by decide +kernel
theorem dL_law_142 : decode cL_law 142 = .ok (.iaload, 1) := by decide +kernel
theorem dL_law_143 : decode cL_law 143 = .ok (.invokevirtual 23, 3) := by decide +kernel
theorem dL_law_146 : decode cL_law 146 = .ok (.aload_n 2, 1) := by decide +kernel
theorem dL_law_147 : decode cL_law 147 = .ok (.aload_n 0, 1) := by decide +kernel
theorem dL_law_148 : decode cL_law 148 = .ok (.iload_n 3, 1) := by decide +kernel
theorem dL_law_149 : decode cL_law 149 = .ok (.iconst 1, 1) := by decide +kernel
theorem dL_law_150 : decode cL_law 150 = .ok (.iadd, 1) := by decide +kernel
theorem dL_law_151 : decode cL_law 151 = .ok (.iaload, 1) := by decide +kernel
theorem dL_law_152 : decode cL_law 152 = .ok (.aload_n 0, 1) := by decide +kernel
theorem dL_law_153 : decode cL_law 153 = .ok (.iload_n 3, 1) := by decide +kernel
theorem dL_law_154 : decode cL_law 154 = .ok (.iconst 2, 1) := by decide +kernel
theorem dL_law_155 : decode cL_law 155 = .ok (.iadd, 1) := by decide +kernel
theorem dL_law_156 : decode cL_law 156 = .ok (.iaload, 1) := by decide +kernel
theorem dL_law_157 : decode cL_law 157 = .ok (.invokevirtual 27, 3) := by decide +kernel
theorem dL_law_160 : decode cL_law 160 = .ok (.if_icmp .eq 72, 3) := by decide +kernel
theorem dL_law_163 : decode cL_law 163 = .ok (.iconst 0, 1) := by decide +kernel
theorem dL_law_164 : decode cL_law 164 = .ok (.ireturn, 1) := by decide +kernel
theorem dL_law_165 : decode cL_law 165 = .ok (.aload_n 1, 1) := by decide +kernel
theorem dL_law_166 : decode cL_law 166 = .ok (.aload_n 0, 1) := by decide +kernel
theorem dL_law_167 : decode cL_law 167 = .ok (.iload_n 3, 1) := by decide +kernel
theorem dL_law_168 : decode cL_law 168 = .ok (.iconst 1, 1) := by decide +kernel
theorem dL_law_169 : decode cL_law 169 = .ok (.iadd, 1) := by decide +kernel
theorem dL_law_170 : decode cL_law 170 = .ok (.iaload, 1) := by decide +kernel
theorem dL_law_171 : decode cL_law 171 = .ok (.aload_n 0, 1) := by decide +kernel
theorem dL_law_172 : decode cL_law 172 = .ok (.iload_n 3, 1) := by decide +kernel
theorem dL_law_173 : decode cL_law 173 = .ok (.iconst 2, 1) := by decide +kernel
theorem dL_law_174 : decode cL_law 174 = .ok (.iadd, 1) := by decide +kernel
theorem dL_law_175 : decode cL_law 175 = .ok (.iaload, 1) := by decide +kernel
theorem dL_law_176 : decode cL_law 176 = .ok (.invokevirtual 28, 3) := by decide +kernel
theorem dL_law_179 : decode cL_law 179 = .ok (.aload_n 2, 1) := by decide +kernel
theorem dL_law_180 : decode cL_law 180 = .ok (.aload_n 0, 1) := by decide +kernel
theorem dL_law_181 : decode cL_law 181 = .ok (.iload_n 3, 1) := by decide +kernel
theorem dL_law_182 : decode cL_law 182 = .ok (.iconst 1, 1) := by decide +kernel
theorem dL_law_183 : decode cL_law 183 = .ok (.iadd, 1) := by decide +kernel
theorem dL_law_184 : decode cL_law 184 = .ok (.iaload, 1) := by decide +kernel
theorem dL_law_185 : decode cL_law 185 = .ok (.aload_n 0, 1) := by decide +kernel
theorem dL_law_186 : decode cL_law 186 = .ok (.iload_n 3, 1) := by decide +kernel
theorem dL_law_187 : decode cL_law 187 = .ok (.iconst 2, 1) := by decide +kernel
theorem dL_law_188 : decode cL_law 188 = .ok (.iadd, 1) := by decide +kernel
theorem dL_law_189 : decode cL_law 189 = .ok (.iaload, 1) := by decide +kernel
theorem dL_law_190 : decode cL_law 190 = .ok (.invokevirtual 32, 3) := by decide +kernel
theorem dL_law_193 : decode cL_law 193 = .ok (.lcmp, 1) := by decide +kernel
theorem dL_law_194 : decode cL_law 194 = .ok (.ifCond .eq 38, 3) := by decide +kernel
theorem dL_law_197 : decode cL_law 197 = .ok (.iconst 0, 1) := by decide +kernel
theorem dL_law_198 : decode cL_law 198 = .ok (.ireturn, 1) := by decide +kernel
theorem dL_law_199 : decode cL_law 199 = .ok (.aload_n 1, 1) := by decide +kernel
theorem dL_law_200 : decode cL_law 200 = .ok (.aload_n 0, 1) := by decide +kernel
theorem dL_law_201 : decode cL_law 201 = .ok (.iload_n 3, 1) := by decide +kernel
theorem dL_law_202 : decode cL_law 202 = .ok (.iconst 1, 1) := by decide +kernel
theorem dL_law_203 : decode cL_law 203 = .ok (.iadd, 1) := by decide +kernel
theorem dL_law_204 : decode cL_law 204 = .ok (.iaload, 1) := by decide +kernel
theorem dL_law_205 : decode cL_law 205 = .ok (.aload_n 0, 1) := by decide +kernel
theorem dL_law_206 : decode cL_law 206 = .ok (.iload_n 3, 1) := by decide +kernel
theorem dL_law_207 : decode cL_law 207 = .ok (.iconst 2, 1) := by decide +kernel
theorem dL_law_208 : decode cL_law 208 = .ok (.iadd, 1) := by decide +kernel
theorem dL_law_209 : decode cL_law 209 = .ok (.iaload, 1) := by decide +kernel
theorem dL_law_210 : decode cL_law 210 = .ok (.invokevirtual 33, 3) := by decide +kernel
theorem dL_law_213 : decode cL_law 213 = .ok (.aload_n 2, 1) := by decide +kernel
theorem dL_law_214 : decode cL_law 214 = .ok (.aload_n 0, 1) := by decide +kernel
theorem dL_law_215 : decode cL_law 215 = .ok (.iload_n 3, 1) := by decide +kernel
theorem dL_law_216 : decode cL_law 216 = .ok (.iconst 1, 1) := by decide +kernel
theorem dL_law_217 : decode cL_law 217 = .ok (.iadd, 1) := by decide +kernel
theorem dL_law_218 : decode cL_law 218 = .ok (.iaload, 1) := by decide +kernel
theorem dL_law_219 : decode cL_law 219 = .ok (.aload_n 0, 1) := by decide +kernel
theorem dL_law_220 : decode cL_law 220 = .ok (.iload_n 3, 1) := by decide +kernel
theorem dL_law_221 : decode cL_law 221 = .ok (.iconst 2, 1) := by decide +kernel
theorem dL_law_222 : decode cL_law 222 = .ok (.iadd, 1) := by decide +kernel
theorem dL_law_223 : decode cL_law 223 = .ok (.iaload, 1) := by decide +kernel
theorem dL_law_224 : decode cL_law 224 = .ok (.invokevirtual 36, 3) := by decide +kernel
theorem dL_law_227 : decode cL_law 227 = .ok (.if_icmp .eq 5, 3) := by decide +kernel
theorem dL_law_230 : decode cL_law 230 = .ok (.iconst 0, 1) := by decide +kernel
theorem dL_law_231 : decode cL_law 231 = .ok (.ireturn, 1) := by decide +kernel
theorem dL_law_232 : decode cL_law 232 = .ok (.iinc 3 4, 3) := by decide +kernel
theorem dL_law_235 : decode cL_law 235 = .ok (.goto (-217), 3) := by decide +kernel
theorem dL_law_238 : decode cL_law 238 = .ok (.iconst 1, 1) := by decide +kernel
theorem dL_law_239 : decode cL_law 239 = .ok (.ireturn, 1) := by decide +kernel
theorem q4 : (Jvm.Cond.initialized "FlowDeskLaw") ∈ lw_all := lw_g (lw_at lw_m0 0 rfl) rfl
set_option maxRecDepth 100000
theorem q9 : (Jvm.Cond.classLink "FlowDeskLaw" (7 : Nat) "FlowDesk") ∈ lw_all := lw_g (lw_at lw_m0 5 rfl) rfl
theorem q11 : (Jvm.Cond.methodLink "FlowDeskLaw" (9 : Nat) ({ cls := "FlowDesk", name := "<init>", desc := "()V" } : Jvm.MethodName)) ∈ lw_all := lw_g (lw_at lw_m0 7 rfl) rfl
theorem q53 : (Jvm.Cond.methodLink "FlowDeskLaw" (13 : Nat) ({ cls := "FlowDesk", name := "places", desc := "(I)V" } : Jvm.MethodName)) ∈ lw_all := lw_g (lw_at lw_m0 49 rfl) rfl
theorem q58 : (Jvm.Cond.methodLink "FlowDeskLaw" (18 : Nat) ({ cls := "FlowDesk", name := "pipe", desc := "(III)Z" } : Jvm.MethodName)) ∈ lw_all := lw_g (lw_at lw_m0 54 rfl) rfl
theorem q67 : (Jvm.Cond.methodLink "FlowDeskLaw" (23 : Nat) ({ cls := "FlowDesk", name := "room", desc := "(II)I" } : Jvm.MethodName)) ∈ lw_all := lw_g (lw_at lw_m0 63 rfl) rfl
theorem q71 : (Jvm.Cond.methodLink "FlowDeskLaw" (28 : Nat) ({ cls := "FlowDesk", name := "most", desc := "(II)J" } : Jvm.MethodName)) ∈ lw_all := lw_g (lw_at lw_m0 67 rfl) rfl
theorem q96 : (Jvm.Cond.methodLink "FlowDeskLaw" (33 : Nat) ({ cls := "FlowDesk", name := "side", desc := "(II)I" } : Jvm.MethodName)) ∈ lw_all := lw_g (lw_at lw_m0 92 rfl) rfl
theorem q100 : (Jvm.Cond.classLink "FlowDeskLaw" (10 : Nat) "FlowDeskModel") ∈ lw_all := lw_g (lw_at lw_m0 96 rfl) rfl
theorem q102 : (Jvm.Cond.methodLink "FlowDeskLaw" (12 : Nat) ({ cls := "FlowDeskModel", name := "<init>", desc := "()V" } : Jvm.MethodName)) ∈ lw_all := lw_g (lw_at lw_m0 98 rfl) rfl
theorem q126 : (Jvm.Cond.methodLink "FlowDeskLaw" (17 : Nat) ({ cls := "FlowDeskModel", name := "places", desc := "(I)V" } : Jvm.MethodName)) ∈ lw_all := lw_g (lw_at lw_m0 122 rfl) rfl
theorem q131 : (Jvm.Cond.methodLink "FlowDeskLaw" (22 : Nat) ({ cls := "FlowDeskModel", name := "pipe", desc := "(III)Z" } : Jvm.MethodName)) ∈ lw_all := lw_g (lw_at lw_m0 127 rfl) rfl
theorem q136 : (Jvm.Cond.methodLink "FlowDeskLaw" (27 : Nat) ({ cls := "FlowDeskModel", name := "room", desc := "(II)I" } : Jvm.MethodName)) ∈ lw_all := lw_g (lw_at lw_m0 132 rfl) rfl
theorem q140 : (Jvm.Cond.methodLink "FlowDeskLaw" (32 : Nat) ({ cls := "FlowDeskModel", name := "most", desc := "(II)J" } : Jvm.MethodName)) ∈ lw_all := lw_g (lw_at lw_m0 136 rfl) rfl
theorem q153 : (Jvm.Cond.methodLink "FlowDeskLaw" (36 : Nat) ({ cls := "FlowDeskModel", name := "side", desc := "(II)I" } : Jvm.MethodName)) ∈ lw_all := lw_g (lw_at lw_m0 149 rfl) rfl
theorem q42 : (Jvm.Cond.arrayClass Jvm.ClassFile.FieldType.int) ∈ lw_all := lw_g (lw_at lw_m0 38 rfl) rfl
set_option maxRecDepth 100000
theorem q125 : (Jvm.Cond.arrayClass Jvm.ClassFile.FieldType.long) ∈ lw_all := lw_g (lw_at lw_m0 121 rfl) rfl
end
section
/-! ===== PURE: sums, cuts, flows by levels. No program in sight. ===== -/
section FDPURE
def fd_up (f : Nat → Nat) (k x : Nat) : Nat → Nat := fun j => if j = k then x else f j
theorem fd_us {f : Nat → Nat} {k x : Nat} : fd_up f k x k = x := by simp [fd_up]
theorem fd_un {f : Nat → Nat} {k x j : Nat} (h : j ≠ k) : fd_up f k x j = f j := by simp [fd_up, h]
def fd_sm (f : Nat → Nat) : Nat → Nat
  | 0 => 0
  | k + 1 => fd_sm f k + f k
theorem fd_sm_ext {f g : Nat → Nat} : ∀ k, (∀ j, j < k → f j = g j) → fd_sm f k = fd_sm g k
  | 0, _ => rfl
  | k + 1, h => by
    simp only [fd_sm]
    rw [fd_sm_ext k (fun j hj => h j (by omega)), h k (by omega)]
theorem fd_sm_pt {f g : Nat → Nat} {u a b : Nat} : ∀ k, u < k → (∀ j, j < k → j ≠ u → f j = g j) → f u + a = g u + b → fd_sm f k + a = fd_sm g k + b
  | 0, hu, _, _ => absurd hu (by omega)
  | k + 1, hu, h, e => by
    simp only [fd_sm]
    by_cases hk : u = k
    · subst hk
      rw [fd_sm_ext u (fun j hj => h j (by omega) (by omega))]
      omega
    · have h1 := fd_sm_pt k (by omega) (fun j hj hju => h j (by omega) hju) e
      have h2 := h k (by omega) (by omega)
      omega
theorem fd_sm_add {f g : Nat → Nat} : ∀ k, fd_sm (fun j => f j + g j) k = fd_sm f k + fd_sm g k
  | 0 => rfl
  | k + 1 => by
    simp only [fd_sm]
    rw [fd_sm_add k]
    omega
theorem fd_sm_zero {f : Nat → Nat} : ∀ k, (∀ j, j < k → f j = 0) → fd_sm f k = 0
  | 0, _ => rfl
  | k + 1, h => by
    simp only [fd_sm]
    rw [fd_sm_zero k (fun j hj => h j (by omega)), h k (by omega)]
theorem fd_sm_zero_of {f : Nat → Nat} : ∀ k, fd_sm f k = 0 → ∀ j, j < k → f j = 0
  | 0, _, j, hj => absurd hj (by omega)
  | k + 1, h, j, hj => by
    simp only [fd_sm] at h
    by_cases hk : j = k
    · subst hk
      omega
    · exact fd_sm_zero_of k (by omega) j (by omega)
theorem fd_sm_le {f : Nat → Nat} {B : Nat} : ∀ k, (∀ j, j < k → f j ≤ B) → fd_sm f k ≤ B * k
  | 0, _ => by simp [fd_sm]
  | k + 1, h => by
    simp only [fd_sm]
    have h1 := fd_sm_le k (fun j hj => h j (by omega))
    have h2 := h k (by omega)
    rw [Nat.mul_succ]
    omega
def fd_row (L : Nat → Nat) (n : Nat) (S : Nat → Bool) (x : Nat) : Nat := fd_sm (fun y => if S x && !S y then L (10 * x + y) else 0) n
/-- what the edges from S to the others let through -/
def fd_cut (L : Nat → Nat) (n : Nat) (S : Nat → Bool) : Nat := fd_sm (fd_row L n S) n
theorem fd_cut_ext {L L' : Nat → Nat} {n : Nat} {S S' : Nat → Bool} (hL : ∀ a b, a < n → b < n → L (10 * a + b) = L' (10 * a + b)) (hS : ∀ x, x < n → S x = S' x) : fd_cut L n S = fd_cut L' n S' := by
  unfold fd_cut
  refine fd_sm_ext n (fun x hx => ?_)
  unfold fd_row
  refine fd_sm_ext n (fun y hy => ?_)
  rw [hS x hx, hS y hy, hL x y hx hy]
theorem fd_cut_up {L : Nat → Nat} {n : Nat} {S : Nat → Bool} {u v x : Nat} (hn : n ≤ 10) (hu : u < n) (hv : v < n) :
    fd_cut (fd_up L (10 * u + v) x) n S + (if S u && !S v then L (10 * u + v) else 0) = fd_cut L n S + (if S u && !S v then x else 0) := by
  unfold fd_cut
  refine fd_sm_pt (u := u) n hu (fun a ha hau => ?_) ?_
  · unfold fd_row
    refine fd_sm_ext n (fun y hy => ?_)
    rw [fd_un (k := 10 * u + v) (j := 10 * a + y) (by omega)]
  · unfold fd_row
    refine fd_sm_pt (u := v) n hv (fun y hy hyv => ?_) ?_
    · rw [fd_un (k := 10 * u + v) (j := 10 * u + y) (by omega)]
    · rw [fd_us]
      cases S u <;> cases S v <;> simp <;> omega
/-- d units go along (u, v): that edge falls by d, its reverse grows by d -/
def fd_edge (L : Nat → Nat) (u v d : Nat) : Nat → Nat := fd_up (fd_up L (10 * u + v) (L (10 * u + v) - d)) (10 * v + u) (L (10 * v + u) + d)
theorem fd_edge_uv {L : Nat → Nat} {u v d : Nat} (hu : u < 10) (hv : v < 10) (huv : u ≠ v) : fd_edge L u v d (10 * u + v) = L (10 * u + v) - d := by
  unfold fd_edge
  rw [fd_un (k := 10 * v + u) (j := 10 * u + v) (by omega), fd_us]
theorem fd_edge_vu {L : Nat → Nat} {u v d : Nat} : fd_edge L u v d (10 * v + u) = L (10 * v + u) + d := by
  unfold fd_edge
  rw [fd_us]
theorem fd_edge_ne {L : Nat → Nat} {u v d a b : Nat} (hu : u < 10) (hv : v < 10) (ha : a < 10) (hb : b < 10) (h1 : ¬ (a = u ∧ b = v)) (h2 : ¬ (a = v ∧ b = u)) : fd_edge L u v d (10 * a + b) = L (10 * a + b) := by
  unfold fd_edge
  rw [fd_un (k := 10 * v + u) (j := 10 * a + b) (by omega), fd_un (k := 10 * u + v) (j := 10 * a + b) (by omega)]
theorem fd_cut_edge {L : Nat → Nat} {n : Nat} {S : Nat → Bool} {u v d : Nat} (hn : n ≤ 10) (hu : u < n) (hv : v < n) (huv : u ≠ v) (hd : d ≤ L (10 * u + v)) :
    fd_cut (fd_edge L u v d) n S + (if S u && !S v then d else 0) = fd_cut L n S + (if S v && !S u then d else 0) := by
  have h1 := fd_cut_up (L := L) (S := S) (x := L (10 * u + v) - d) hn hu hv
  have h2 := fd_cut_up (L := fd_up L (10 * u + v) (L (10 * u + v) - d)) (S := S) (x := L (10 * v + u) + d) hn hv hu
  rw [fd_un (f := L) (k := 10 * u + v) (j := 10 * v + u) (by omega)] at h2
  unfold fd_edge
  cases hSu : S u <;> cases hSv : S v <;> simp [hSu, hSv] at h1 h2 ⊢ <;> omega
/-- an edge that 'next' has passed, and that has room, leads to a place that has passed all of its own -/
def fd_Dead (n to : Nat) (lv L N : Nat → Nat) : Prop := ∀ x, x < n → ∀ y, y < n → y < N x → 0 < L (10 * x + y) → lv y = lv x + 1 → y ≠ to ∧ N y = n
def fd_Same (n : Nat) (L L' : Nat → Nat) : Prop := ∀ a b, a < n → b < n → L' (10 * a + b) = L (10 * a + b)
/-- push's loop: from L0, N0 to L, N, with 'sent' pushed on so far -/
def fd_PL (n to : Nat) (lv : Nat → Nat) (u most : Nat) (L0 N0 : Nat → Nat) (sent : Nat) (L N : Nat → Nat) : Prop :=
  sent ≤ most ∧
  (∀ a b, a < n → b < n → L (10 * a + b) + L (10 * b + a) = L0 (10 * a + b) + L0 (10 * b + a)) ∧
  (∀ a b, a < n → b < n → (lv a < lv u ∨ lv b < lv u) → L (10 * a + b) = L0 (10 * a + b)) ∧
  (∀ x, x < n → lv x < lv u → N x = N0 x) ∧
  (∀ x, x < n → N x ≤ n) ∧
  (∀ S : Nat → Bool, S to = false → fd_cut L0 n S = fd_cut L n S + (if S u then sent else 0)) ∧
  (sent = 0 → fd_Same n L0 L ∧ (fd_Dead n to lv L0 N0 → fd_Dead n to lv L0 N))
/-- what push(u, to, most) does to the net, and answers -/
def fd_Push (n to : Nat) (lv : Nat → Nat) (u most : Nat) (L N : Nat → Nat) (r : Nat) (L' N' : Nat → Nat) : Prop :=
  fd_PL n to lv u most L N r L' N' ∧ (0 < most → r = 0 → u ≠ to ∧ N' u = n)
theorem fd_Dead_ext {n to : Nat} {lv L L' N : Nat → Nat} (h : fd_Same n L L') : fd_Dead n to lv L N ↔ fd_Dead n to lv L' N := by
  unfold fd_Dead
  constructor
  · intro g x hx y hy h1 h2 h3
    rw [h x y hx hy] at h2
    exact g x hx y hy h1 h2 h3
  · intro g x hx y hy h1 h2 h3
    rw [← h x y hx hy] at h2
    exact g x hx y hy h1 h2 h3
theorem fd_PL_0 {n to : Nat} {lv : Nat → Nat} {u most : Nat} {L N : Nat → Nat} (hN : ∀ x, x < n → N x ≤ n) : fd_PL n to lv u most L N 0 L N :=
  ⟨Nat.zero_le _, fun _ _ _ _ => rfl, fun _ _ _ _ _ => rfl, fun _ _ _ => rfl, hN, fun S _ => by simp, fun _ => ⟨fun _ _ _ _ => rfl, fun h => h⟩⟩
theorem fd_PL_to {n to : Nat} {lv : Nat → Nat} {most : Nat} {L N : Nat → Nat} (hN : ∀ x, x < n → N x ≤ n) : fd_Push n to lv to most L N most L N :=
  ⟨⟨Nat.le_refl _, fun _ _ _ _ => rfl, fun _ _ _ _ _ => rfl, fun _ _ _ => rfl, hN, fun S h => by simp [h], fun _ => ⟨fun _ _ _ _ => rfl, fun h => h⟩⟩, fun h1 h2 => absurd h2 (by omega)⟩
theorem fd_PL_end {n to : Nat} {lv : Nat → Nat} {u most sent : Nat} {L0 N0 L N : Nat → Nat} (hu : u < n) (hut : u ≠ to) (h : fd_PL n to lv u most L0 N0 sent L N) (he : n ≤ N u ∨ most ≤ sent) : fd_Push n to lv u most L0 N0 sent L N := by
  refine ⟨h, fun h1 h2 => ⟨hut, ?_⟩⟩
  have h5 := h.2.2.2.2.1 u hu
  rcases he with he | he
  · omega
  · omega
theorem fd_PL_inc {n to : Nat} {lv : Nat → Nat} {u most sent v : Nat} {L0 N0 L N : Nat → Nat} (hu : u < n) (hv : v < n) (hNv : N u = v) (hc : sent = 0 → 0 < L0 (10 * u + v) → lv v = lv u + 1 → v ≠ to ∧ N v = n) (h : fd_PL n to lv u most L0 N0 sent L N) : fd_PL n to lv u most L0 N0 sent L (fd_up N u (v + 1)) := by
  obtain ⟨h1, h2, h3, h4, h5, h6, h7⟩ := h
  refine ⟨h1, h2, h3, fun x hx hl => ?_, fun x hx => ?_, h6, fun h0 => ⟨(h7 h0).1, fun hD => ?_⟩⟩
  · rw [fd_un (by intro e; subst e; omega)]
    exact h4 x hx hl
  · by_cases hxu : x = u
    · subst hxu
      rw [fd_us]
      omega
    · rw [fd_un hxu]
      exact h5 x hx
  · have hD' := (h7 h0).2 hD
    have key : ∀ y, N y = n → fd_up N u (v + 1) y = n := by
      intro y hy
      rw [fd_un (by intro e; subst e; omega)]
      exact hy
    intro x hx y hy g1 g2 g3
    by_cases hxu : x = u
    · subst hxu
      rw [fd_us] at g1
      by_cases hyv : y = v
      · subst hyv
        obtain ⟨k1, k2⟩ := hc h0 g2 g3
        exact ⟨k1, key y k2⟩
      · obtain ⟨k1, k2⟩ := hD' x hx y hy (by omega) g2 g3
        exact ⟨k1, key y k2⟩
    · rw [fd_un hxu] at g1
      obtain ⟨k1, k2⟩ := hD' x hx y hy g1 g2 g3
      exact ⟨k1, key y k2⟩
theorem fd_PL_rec {n to : Nat} {lv : Nat → Nat} {u most sent v d : Nat} {L0 N0 L N L1 N1 : Nat → Nat} (hn : n ≤ 10) (hu : u < n) (hv : v < n) (hlv : lv v = lv u + 1) (hL : 0 < L (10 * u + v)) (hs : sent < most) (h : fd_PL n to lv u most L0 N0 sent L N) (hp : fd_Push n to lv v (min (most - sent) (L (10 * u + v))) L N d L1 N1) :
    N1 u = N u ∧ d ≤ L1 (10 * u + v) ∧ fd_PL n to lv u most L0 N0 (sent + d) (fd_edge L1 u v d) N1 ∧ (sent + d = 0 → v ≠ to ∧ N1 v = n) := by
  obtain ⟨h1, h2, h3, h4, h5, h6, h7⟩ := h
  obtain ⟨⟨p1, p2, p3, p4, p5, p6, p7⟩, pz⟩ := hp
  have huv : u ≠ v := by intro e; subst e; omega
  have e1 : N1 u = N u := p4 u hu (by omega)
  have e2 : L1 (10 * u + v) = L (10 * u + v) := p3 u v hu hv (Or.inl (by omega))
  have hd1 : d ≤ L (10 * u + v) := Nat.le_trans p1 (Nat.min_le_right _ _)
  have hd2 : d ≤ most - sent := Nat.le_trans p1 (Nat.min_le_left _ _)
  have hm0 : 0 < min (most - sent) (L (10 * u + v)) := by
    rw [Nat.lt_min]
    omega
  refine ⟨e1, by omega, ⟨by omega, fun a b ha hb => ?_, fun a b ha hb hab => ?_, fun x hx hl => ?_, p5, fun S hS => ?_, fun h0 => ?_⟩, fun h0 => pz hm0 (by omega)⟩
  · rw [← h2 a b ha hb, ← p2 a b ha hb]
    by_cases c1 : a = u ∧ b = v
    · obtain ⟨rfl, rfl⟩ := c1
      rw [fd_edge_uv (by omega) (by omega) huv, fd_edge_vu]
      omega
    · by_cases c2 : a = v ∧ b = u
      · obtain ⟨rfl, rfl⟩ := c2
        rw [fd_edge_vu, fd_edge_uv (by omega) (by omega) huv]
        omega
      · rw [fd_edge_ne (by omega) (by omega) (by omega) (by omega) c1 c2, fd_edge_ne (by omega) (by omega) (by omega) (by omega) (by omega) (by omega)]
  · rw [← h3 a b ha hb hab, ← p3 a b ha hb (by omega)]
    refine fd_edge_ne (by omega) (by omega) (by omega) (by omega) ?_ ?_
    · rintro ⟨rfl, rfl⟩
      omega
    · rintro ⟨rfl, rfl⟩
      omega
  · rw [← h4 x hx hl]
    exact p4 x hx (by omega)
  · have g1 := h6 S hS
    have g2 := p6 S hS
    have g3 := fd_cut_edge (L := L1) (S := S) (d := d) hn hu hv huv (by omega)
    cases hSu : S u <;> cases hSv : S v <;> simp [hSu, hSv] at g1 g2 g3 ⊢ <;> omega
  · have hs0 : sent = 0 := by omega
    have hd0 : d = 0 := by omega
    obtain ⟨k1, k2⟩ := h7 hs0
    obtain ⟨k3, k4⟩ := p7 hd0
    refine ⟨fun a b ha hb => ?_, fun hD => ?_⟩
    · rw [← k1 a b ha hb, ← k3 a b ha hb]
      by_cases c1 : a = u ∧ b = v
      · obtain ⟨rfl, rfl⟩ := c1
        rw [fd_edge_uv (by omega) (by omega) huv]
        omega
      · by_cases c2 : a = v ∧ b = u
        · obtain ⟨rfl, rfl⟩ := c2
          rw [fd_edge_vu]
          omega
        · rw [fd_edge_ne (by omega) (by omega) (by omega) (by omega) c1 c2]
    · exact (fd_Dead_ext k1).mpr (k4 ((fd_Dead_ext k1).mp (k2 hD)))
/-! levels -/
def fd_Lev (n s : Nat) (L lv : Nat → Nat) : Prop :=
  lv s = 1 ∧ (∀ y, y < n → lv y ≤ 10) ∧ (∀ y, y < n → lv y = 1 → y = s) ∧
  (∀ y, y < n → 2 ≤ lv y → ∃ x, x < n ∧ lv y = lv x + 1 ∧ 0 < L (10 * x + y)) ∧
  (∀ x, x < n → 1 ≤ lv x → ∀ y, y < n → 0 < L (10 * x + y) → 1 ≤ lv y)
def fd_cnt (lv : Nat → Nat) (n : Nat) : Nat := fd_sm (fun x => if lv x = 0 then 0 else 1) n
theorem fd_cnt_le (lv : Nat → Nat) (n : Nat) : fd_cnt lv n ≤ n := by
  have h := fd_sm_le (f := fun x => if lv x = 0 then 0 else 1) (B := 1) n (fun j _ => by split <;> omega)
  unfold fd_cnt
  omega
theorem fd_cnt_up {lv : Nat → Nat} {n v x : Nat} (hv : v < n) (h0 : lv v = 0) (hx : x ≠ 0) : fd_cnt (fd_up lv v x) n = fd_cnt lv n + 1 := by
  have h := fd_sm_pt (f := fun y => if fd_up lv v x y = 0 then 0 else 1) (g := fun y => if lv y = 0 then 0 else 1) (u := v) (a := 0) (b := 1) n hv (fun j hj hjv => by simp [fd_un hjv]) (by simp [fd_us, h0, hx])
  unfold fd_cnt
  omega
theorem fd_cnt_lt {lv : Nat → Nat} {n v : Nat} (hv : v < n) (h0 : lv v = 0) : fd_cnt lv n < n := by
  have h1 := fd_cnt_up (x := 1) hv h0 (by omega)
  have h2 := fd_cnt_le (fd_up lv v 1) n
  omega
/-- the search, with the first h of the row's tail places looked at -/
def fd_BI (n s : Nat) (L : Nat → Nat) (h tail : Nat) (lv row : Nat → Nat) : Prop :=
  h ≤ tail ∧ fd_cnt lv n = tail ∧
  (∀ j, j < tail → row j < n ∧ 1 ≤ lv (row j) ∧ lv (row j) ≤ j + 1) ∧
  (∀ x, x < n → 1 ≤ lv x → ∃ j, j < tail ∧ row j = x) ∧
  lv s = 1 ∧ (∀ y, y < n → lv y = 1 → y = s) ∧
  (∀ y, y < n → 2 ≤ lv y → ∃ x, x < n ∧ lv y = lv x + 1 ∧ 0 < L (10 * x + y)) ∧
  (∀ j, j < h → ∀ y, y < n → 0 < L (10 * row j + y) → 1 ≤ lv y)
theorem fd_BI_0 {n s : Nat} {L lv row : Nat → Nat} (hs : s < n) (h0 : ∀ j, j < n → lv j = 0) : fd_BI n s L 0 1 (fd_up lv s 1) (fd_up row 0 s) := by
  refine ⟨by omega, ?_, fun j hj => ?_, fun x hx h => ?_, fd_us, fun y hy h => ?_, fun y hy h => ?_, fun j hj => absurd hj (by omega)⟩
  · rw [fd_cnt_up hs (h0 s hs) (by omega)]
    have h1 : fd_cnt lv n = 0 := fd_sm_zero n (fun j hj => by simp [h0 j hj])
    omega
  · have hj0 : j = 0 := by omega
    subst hj0
    rw [fd_us, fd_us]
    omega
  · by_cases hxs : x = s
    · exact ⟨0, by omega, by rw [fd_us, hxs]⟩
    · rw [fd_un hxs, h0 x hx] at h
      omega
  · by_cases hys : y = s
    · exact hys
    · rw [fd_un hys, h0 y hy] at h
      omega
  · by_cases hys : y = s
    · rw [hys, fd_us] at h
      omega
    · rw [fd_un hys, h0 y hy] at h
      omega
theorem fd_BI_add {n s hd tail v : Nat} {L lv row : Nat → Nat} (h : fd_BI n s L hd tail lv row) (hh : hd < tail) (hv : v < n) (hz : lv v = 0) (hL : 0 < L (10 * row hd + v)) :
    tail < n ∧ fd_BI n s L hd (tail + 1) (fd_up lv v (lv (row hd) + 1)) (fd_up row tail v) := by
  obtain ⟨h1, h2, h3, h4, h5, h6, h7, h8⟩ := h
  have ne : ∀ x, 1 ≤ lv x → x ≠ v := by
    intro x hx e
    subst e
    omega
  have hu := h3 hd hh
  refine ⟨by have := fd_cnt_lt hv hz; omega, by omega, by rw [fd_cnt_up hv hz (by omega)]; omega, fun j hj => ?_, fun x hx hl => ?_, ?_, fun y hy hl => ?_, fun y hy hl => ?_, fun j hj y hy hl => ?_⟩
  · by_cases hjt : j = tail
    · subst hjt
      rw [fd_us, fd_us]
      omega
    · rw [fd_un hjt]
      have h9 := h3 j (by omega)
      rw [fd_un (ne _ h9.2.1)]
      exact h9
  · by_cases hxv : x = v
    · exact ⟨tail, by omega, by rw [fd_us, hxv]⟩
    · rw [fd_un hxv] at hl
      obtain ⟨j, hj, e⟩ := h4 x hx hl
      exact ⟨j, by omega, by rw [fd_un (by omega)]; exact e⟩
  · rw [fd_un (ne s (by omega))]
    exact h5
  · by_cases hyv : y = v
    · rw [hyv, fd_us] at hl
      omega
    · rw [fd_un hyv] at hl
      exact h6 y hy hl
  · by_cases hyv : y = v
    · subst hyv
      exact ⟨row hd, hu.1, by rw [fd_us, fd_un (ne _ hu.2.1)], hL⟩
    · rw [fd_un hyv] at hl ⊢
      obtain ⟨x, hx, e, g⟩ := h7 y hy hl
      exact ⟨x, hx, by rw [fd_un (ne x (by omega))]; exact e, g⟩
  · rw [fd_un (by omega)] at hl
    have h9 := h8 j hj y hy hl
    rw [fd_un (ne y h9)]
    exact h9
theorem fd_BI_close {n s hd tail : Nat} {L lv row : Nat → Nat} (h : fd_BI n s L hd tail lv row) (hh : hd < tail) (hc : ∀ y, y < n → 0 < L (10 * row hd + y) → 1 ≤ lv y) : fd_BI n s L (hd + 1) tail lv row := by
  obtain ⟨h1, h2, h3, h4, h5, h6, h7, h8⟩ := h
  refine ⟨by omega, h2, h3, h4, h5, h6, h7, fun j hj y hy hl => ?_⟩
  by_cases hjh : j = hd
  · subst hjh
    exact hc y hy hl
  · exact h8 j (by omega) y hy hl
theorem fd_BI_end {n s tail : Nat} {L lv row : Nat → Nat} (hn : n ≤ 10) (h : fd_BI n s L tail tail lv row) : fd_Lev n s L lv := by
  obtain ⟨h1, h2, h3, h4, h5, h6, h7, h8⟩ := h
  have hc := fd_cnt_le lv n
  refine ⟨h5, fun y hy => ?_, h6, h7, fun x hx hl y hy g => ?_⟩
  · by_cases hz : lv y = 0
    · omega
    · obtain ⟨j, hj, e⟩ := h4 y hy (by omega)
      have h9 := (h3 j hj).2.2
      rw [e] at h9
      omega
  · obtain ⟨j, hj, e⟩ := h4 x hx hl
    subst e
    exact h8 j hj y hy g
/-- where the levels reach the end, a push from the start is not in vain -/
theorem fd_progress {n s t most : Nat} {lv L N L' N' : Nat → Nat} (hL : fd_Lev n s L lv) (ht : t < n) (hN : ∀ x, x < n → N x = 0) (hlt : lv t ≠ 0) (hm : 0 < most) (hp : fd_Push n t lv s most L N 0 L' N') : False := by
  obtain ⟨hu, hNs⟩ := hp.2 hm rfl
  have hD : fd_Dead n t lv L N' := (hp.1.2.2.2.2.2.2 rfl).2 (fun x hx y hy hyN => by rw [hN x hx] at hyN; omega)
  have key : ∀ k y, y < n → lv y = k + 1 → (y = t ∨ N' y ≠ n) → False := by
    intro k
    induction k with
    | zero =>
      intro y hy hl ha
      have e := hL.2.2.1 y hy hl
      subst e
      rcases ha with ha | ha
      · exact hu ha
      · exact ha hNs
    | succ k ih =>
      intro y hy hl ha
      obtain ⟨x, hx, e, g⟩ := hL.2.2.2.1 y hy (by omega)
      refine ih x hx (by omega) (Or.inr (fun hx' => ?_))
      obtain ⟨k1, k2⟩ := hD x hx y hy (by omega) g e
      rcases ha with ha | ha
      · exact k1 ha
      · exact ha k2
  exact key (lv t - 1) t ht (by omega) (Or.inl rfl)
/-- what run answers: the flow's size, and levels that say what is still reached -/
def fd_MF (C : Nat → Nat) (n s t size : Nat) (lv : Nat → Nat) : Prop := ∃ L : Nat → Nat, (∀ S : Nat → Bool, S s = true → S t = false → fd_cut C n S = size + fd_cut L n S) ∧ fd_Lev n s L lv ∧ lv t = 0
theorem fd_MF_R {C : Nat → Nat} {n s t size : Nat} {lv : Nat → Nat} (h : fd_MF C n s t size lv) : fd_cut C n (fun x => decide (lv x ≠ 0)) = size := by
  obtain ⟨L, h1, h2, h3⟩ := h
  rw [h1 (fun x => decide (lv x ≠ 0)) (by simp [h2.1]) (by simp [h3])]
  have h4 : fd_cut L n (fun x => decide (lv x ≠ 0)) = 0 := by
    refine fd_sm_zero n (fun x hx => fd_sm_zero n (fun y hy => ?_))
    by_cases hx0 : lv x = 0
    · simp [hx0]
    · by_cases hy0 : lv y = 0
      · have h5 : ¬ 0 < L (10 * x + y) := fun g => by
          have := h2.2.2.2.2 x hx (by omega) y hy g
          omega
        have h6 : L (10 * x + y) = 0 := by omega
        simp [h6]
      · simp [hy0]
  omega
theorem fd_MF_le {C : Nat → Nat} {n s t size : Nat} {lv : Nat → Nat} (h : fd_MF C n s t size lv) (S : Nat → Bool) (hs : S s = true) (ht : S t = false) : size ≤ fd_cut C n S := by
  obtain ⟨L, h1, h2, h3⟩ := h
  rw [h1 S hs ht]
  omega
theorem fd_MF_in {C : Nat → Nat} {n s t size : Nat} {lv : Nat → Nat} (h : fd_MF C n s t size lv) (S : Nat → Bool) (hs : S s = true) (ht : S t = false) (he : fd_cut C n S = size) : ∀ x, x < n → lv x ≠ 0 → S x = true := by
  obtain ⟨L, h1, h2, h3⟩ := h
  have h4 : fd_cut L n S = 0 := by
    have := h1 S hs ht
    omega
  have h5 : ∀ x y, x < n → y < n → S x = true → 0 < L (10 * x + y) → S y = true := by
    intro x y hx hy hSx g
    have h6 : fd_row L n S x = 0 := fd_sm_zero_of n h4 x hx
    have h7 := fd_sm_zero_of n h6 y hy
    cases hSy : S y with
    | true => rfl
    | false =>
      rw [hSx, hSy] at h7
      simp at h7
      omega
  have key : ∀ k y, y < n → lv y = k + 1 → S y = true := by
    intro k
    induction k with
    | zero =>
      intro y hy hl
      rw [h2.2.2.1 y hy hl]
      exact hs
    | succ k ih =>
      intro y hy hl
      obtain ⟨x, hx, e, g⟩ := h2.2.2.2.1 y hy (by omega)
      exact h5 x y hx hy (ih x hx (by omega)) g
  intro x hx hl
  exact key (lv x - 1) x hx (by omega)
/-! sides as masks -/
def fd_msk (lv : Nat → Nat) : Nat → Nat
  | 0 => 0
  | k + 1 => if lv k = 0 then fd_msk lv k else fd_msk lv k ||| 2 ^ k
theorem fd_msk_bit (lv : Nat → Nat) : ∀ k i, (fd_msk lv k).testBit i = (decide (i < k) && decide (lv i ≠ 0))
  | 0, i => by simp [fd_msk]
  | k + 1, i => by
    simp only [fd_msk]
    have ih := fd_msk_bit lv k i
    by_cases hik : i = k
    · subst hik
      by_cases h0 : lv i = 0
      · rw [if_pos h0, ih]
        simp [h0]
      · rw [if_neg h0, Nat.testBit_or, ih]
        simp [h0]
    · have e : decide (i < k + 1) = decide (i < k) := by
        by_cases h : i < k
        · simp [h, show i < k + 1 by omega]
        · simp [h, show ¬ i < k + 1 by omega]
      by_cases h0 : lv k = 0
      · rw [if_pos h0, ih, e]
      · rw [if_neg h0, Nat.testBit_or, ih, e, Nat.testBit_two_pow_of_ne (by omega)]
        simp
theorem fd_msk_lt (lv : Nat → Nat) (k : Nat) : fd_msk lv k < 2 ^ k := by
  refine Nat.lt_pow_two_of_testBit _ (fun i hi => ?_)
  rw [fd_msk_bit]
  simp [show ¬ i < k by omega]
/-! the model: all cuts, and the least of them -/
def fd_Vd (s t S : Nat) : Prop := S.testBit s = true ∧ S.testBit t = false
def fd_KO (n : Nat) (C : Nat → Nat) (K : Nat → Int) (k : Nat) : Prop := ∀ S, S < k → K S = (fd_cut C n (fun i => S.testBit i) : Int)
def fd_LI (s t : Nat) (K : Nat → Int) (i : Nat) (b : Int) (cm : Nat) : Prop :=
  (b = -1 ∧ ∀ S, S < i → ¬ fd_Vd s t S) ∨
  (0 ≤ b ∧ (∃ S, S < i ∧ fd_Vd s t S ∧ K S = b) ∧ (∀ S, S < i → fd_Vd s t S → b ≤ K S) ∧ cm < 1024 ∧ ∀ q, cm.testBit q = true ↔ ∀ S, S < i → fd_Vd s t S → K S = b → S.testBit q = true)
theorem fd_LI_0 {s t : Nat} {K : Nat → Int} {cm : Nat} : fd_LI s t K 0 (-1) cm := Or.inl ⟨rfl, fun S h => absurd h (by omega)⟩
theorem fd_LI_skip {s t : Nat} {K : Nat → Int} {i : Nat} {b : Int} {cm : Nat} (h : fd_LI s t K i b cm) (hv : ¬ fd_Vd s t i) : fd_LI s t K (i + 1) b cm := by
  have key : ∀ S, S < i + 1 → fd_Vd s t S → S < i := by
    intro S hS g
    rcases Nat.lt_or_ge S i with q | q
    · exact q
    · have : S = i := by omega
      subst this
      exact absurd g hv
  rcases h with ⟨h1, h2⟩ | ⟨h1, ⟨S0, g1, g2, g3⟩, h3, h4, h5⟩
  · exact Or.inl ⟨h1, fun S hS g => h2 S (key S hS g) g⟩
  · refine Or.inr ⟨h1, ⟨S0, by omega, g2, g3⟩, fun S hS g => h3 S (key S hS g) g, h4, fun q => ?_⟩
    rw [h5 q]
    exact ⟨fun a S hS g => a S (key S hS g) g, fun a S hS g => a S (by omega) g⟩
theorem fd_LI_new {s t : Nat} {K : Nat → Int} {i : Nat} {b : Int} {cm : Nat} (h : fd_LI s t K i b cm) (hv : fd_Vd s t i) (hi : i < 1024) (hk : 0 ≤ K i) (hb : b < 0 ∨ K i < b) : fd_LI s t K (i + 1) (K i) i := by
  have key : ∀ S, S < i → fd_Vd s t S → K i < K S := by
    intro S hS g
    rcases h with ⟨h1, h2⟩ | ⟨h1, -, h3, -⟩
    · exact absurd g (h2 S hS)
    · have := h3 S hS g
      omega
  refine Or.inr ⟨hk, ⟨i, by omega, hv, rfl⟩, fun S hS g => ?_, hi, fun q => ⟨fun a S hS g e => ?_, fun a => a i (by omega) hv rfl⟩⟩
  · rcases Nat.lt_or_ge S i with c | c
    · have := key S c g
      omega
    · have : S = i := by omega
      subst this
      omega
  · rcases Nat.lt_or_ge S i with c | c
    · have := key S c g
      omega
    · have : S = i := by omega
      subst this
      exact a
theorem fd_LI_and {s t : Nat} {K : Nat → Int} {i : Nat} {b : Int} {cm : Nat} (h : fd_LI s t K i b cm) (hv : fd_Vd s t i) (hb : ¬ b < 0) (hk : K i = b) : fd_LI s t K (i + 1) b (cm &&& i) := by
  rcases h with ⟨h1, h2⟩ | ⟨h1, ⟨S0, g1, g2, g3⟩, h3, h4, h5⟩
  · omega
  · refine Or.inr ⟨h1, ⟨S0, by omega, g2, g3⟩, fun S hS g => ?_, Nat.lt_of_le_of_lt Nat.and_le_left h4, fun q => ?_⟩
    · rcases Nat.lt_or_ge S i with c | c
      · exact h3 S c g
      · have : S = i := by omega
        subst this
        omega
    · rw [Nat.testBit_and, Bool.and_eq_true, h5 q]
      constructor
      · rintro ⟨a1, a2⟩ S hS g e
        rcases Nat.lt_or_ge S i with c | c
        · exact a1 S c g e
        · have : S = i := by omega
          subst this
          exact a2
      · exact fun a => ⟨fun S hS g e => a S (by omega) g e, a i (by omega) hv hk⟩
theorem fd_LI_over {s t : Nat} {K : Nat → Int} {i : Nat} {b : Int} {cm : Nat} (h : fd_LI s t K i b cm) (hb : ¬ b < 0) (h1 : ¬ K i < b) (h2 : ¬ K i = b) : fd_LI s t K (i + 1) b cm := by
  rcases h with ⟨h1, h2⟩ | ⟨h1, ⟨S0, g1, g2, g3⟩, h3, h4, h5⟩
  · omega
  · refine Or.inr ⟨h1, ⟨S0, by omega, g2, g3⟩, fun S hS g => ?_, h4, fun q => ?_⟩
    · rcases Nat.lt_or_ge S i with c | c
      · exact h3 S c g
      · have : S = i := by omega
        subst this
        omega
    · rw [h5 q]
      refine ⟨fun a S hS g e => ?_, fun a S hS g e => a S (by omega) g e⟩
      rcases Nat.lt_or_ge S i with c | c
      · exact a S c g e
      · have : S = i := by omega
        subst this
        exact absurd e h2
/-- BOTH SIDES AGREE: the flow's size is the least cut, what is still reached is what the least sides have in common -/
theorem fd_final {C : Nat → Nat} {n s t size : Nat} {lv : Nat → Nat} {K : Nat → Int} {b : Int} {cm : Nat} (hs : s < n) (h : fd_MF C n s t size lv) (hK : fd_KO n C K (2 ^ n)) (hL : fd_LI s t K (2 ^ n) b cm) : b = (size : Int) ∧ cm = fd_msk lv n := by
  have hlt := fd_msk_lt lv n
  have hlev := h.choose_spec.2.1
  have ht0 := h.choose_spec.2.2
  have hR : K (fd_msk lv n) = (size : Int) := by
    rw [hK _ hlt, ← fd_MF_R h]
    congr 1
    refine fd_cut_ext (fun _ _ _ _ => rfl) (fun x hx => ?_)
    rw [fd_msk_bit]
    simp [hx]
  have hVd : fd_Vd s t (fd_msk lv n) := by
    constructor
    · rw [fd_msk_bit]
      simp [hs, hlev.1]
    · rw [fd_msk_bit]
      simp [ht0]
  rcases hL with ⟨h1, h2⟩ | ⟨h1, ⟨S0, g1, g2, g3⟩, h3, h4, h5⟩
  · exact absurd hVd (h2 _ hlt)
  · have hb : b = (size : Int) := by
      have a1 := h3 _ hlt hVd
      have a2 := fd_MF_le h (fun i => S0.testBit i) g2.1 g2.2
      have a3 := hK S0 g1
      omega
    refine ⟨hb, Nat.eq_of_testBit_eq (fun i => ?_)⟩
    rw [Bool.eq_iff_iff, h5 i]
    constructor
    · intro a
      exact a _ hlt hVd (by rw [hR, hb])
    · intro a S hS g e
      rw [fd_msk_bit] at a
      simp at a
      have e2 : fd_cut C n (fun i => S.testBit i) = size := by
        have := hK S hS
        omega
      exact fd_MF_in h (fun i => S.testBit i) g.1 g.2 e2 i a.1 a.2
/-- reckon: a side's cut out of that of the side without v -/
def fd_acc (C : Nat → Nat) (S : Nat → Bool) (v : Nat) : Nat → Int
  | 0 => 0
  | y + 1 => fd_acc C S v y + (if S y then - (C (10 * y + v) : Int) else (C (10 * v + y) : Int))
theorem fd_acc_sum (C : Nat → Nat) (S : Nat → Bool) (v : Nat) : ∀ k, fd_acc C S v k = (fd_sm (fun y => if S y then 0 else C (10 * v + y)) k : Int) - (fd_sm (fun y => if S y then C (10 * y + v) else 0) k : Int)
  | 0 => rfl
  | k + 1 => by
    simp only [fd_acc, fd_sm]
    rw [fd_acc_sum C S v k]
    cases S k <;> simp <;> omega
theorem fd_cut_add {C : Nat → Nat} {n v : Nat} {S S' : Nat → Bool} (hv : v < n) (hSv : S v = true) (hS' : ∀ x, x < n → S' x = (S x && !decide (x = v))) (hd : C (10 * v + v) = 0) :
    (fd_cut C n S : Int) = (fd_cut C n S' : Int) + fd_acc C S v n := by
  rw [fd_acc_sum]
  have hA : ∀ A : Nat, fd_sm (fun x => if x = v then A else 0) n = A := by
    intro A
    have := fd_sm_pt (f := fun x => if x = v then A else 0) (g := fun _ => 0) (u := v) (a := 0) (b := A) n hv (fun j _ hj => by simp [hj]) (by simp)
    rw [fd_sm_zero (f := fun _ => 0) n (fun _ _ => rfl)] at this
    omega
  have key : fd_sm (fun x => fd_row C n S' x + (if x = v then fd_sm (fun y => if S y then 0 else C (10 * v + y)) n else 0)) n = fd_sm (fun x => fd_row C n S x + (if S x then C (10 * x + v) else 0)) n := by
    refine fd_sm_ext n (fun x hx => ?_)
    by_cases hxv : x = v
    · subst hxv
      rw [if_pos rfl, if_pos hSv, hd]
      have e1 : fd_row C n S' x = 0 := fd_sm_zero n (fun y hy => by simp [hS' x hx])
      have e2 : fd_row C n S x = fd_sm (fun y => if S y then 0 else C (10 * x + y)) n := fd_sm_ext n (fun y hy => by cases hSy : S y <;> simp [hSv])
      omega
    · rw [if_neg hxv]
      cases hSx : S x with
      | false =>
        have e1 : fd_row C n S' x = 0 := fd_sm_zero n (fun y hy => by simp [hS' x hx, hSx])
        have e2 : fd_row C n S x = 0 := fd_sm_zero n (fun y hy => by simp [hSx])
        simp [e1, e2]
      | true =>
        have e1 : fd_row C n S' x + 0 = fd_row C n S x + C (10 * x + v) := by
          unfold fd_row
          refine fd_sm_pt (u := v) n hv (fun y hy hyv => ?_) ?_
          · rw [hS' x hx, hS' y hy]
            simp [hxv, hyv]
          · rw [hS' x hx, hS' v hv]
            simp [hxv, hSx, hSv]
        simp
        omega
  rw [fd_sm_add, fd_sm_add, hA] at key
  have k2 : fd_cut C n S' + fd_sm (fun y => if S y then 0 else C (10 * v + y)) n = fd_cut C n S + fd_sm (fun x => if S x then C (10 * x + v) else 0) n := key
  omega
theorem fd_KO_step {n : Nat} {C : Nat → Nat} {K K' : Nat → Int} {S v : Nat} (h : fd_KO n C K S) (hv : v < n) (hb : S.testBit v = true) (hd : C (10 * v + v) = 0) (hlt : S ^^^ 2 ^ v < S) (h1 : ∀ j, j < S → K' j = K j) (h2 : K' S = K (S ^^^ 2 ^ v) + fd_acc C (fun i => S.testBit i) v n) : fd_KO n C K' (S + 1) := by
  intro j hj
  rcases Nat.lt_or_ge j S with c | c
  · rw [h1 j c]
    exact h j c
  · have : j = S := by omega
    subst this
    rw [h2, h _ hlt]
    refine (fd_cut_add hv hb (fun x hx => ?_) hd).symm
    rw [Nat.testBit_xor, Nat.testBit_two_pow]
    by_cases hxv : v = x
    · subst hxv
      simp [hb]
    · simp [hxv, Ne.symm hxv]
end FDPURE
end
section
/-! ===== this claim's worlds, contracts' forms, rows over Nat values ===== -/
abbrev vwCl : List vw_C := [(RX0, TX0, 3), (RX1, TX1, 5), (RX2, TX2, 6)]
abbrev fd_ty (dA dB : ClassId) : List (ClassId × FieldType) := [(dA, .int), (dB, .long)]
/-- a level as the machine has it: k = 0 is NONE -/
def fd_lI (k : Nat) : Int32 := nI k - 1
def fd_zL (z : Int) : Int64 := Int64.ofInt z
def fd_upZ (f : Nat → Int) (k : Nat) (x : Int) : Nat → Int := fun j => if j = k then x else f j
def fd_pos (x : Int32) : Nat := x.toBitVec.toNat % 2 ^ 31
def fd_cap (x : Int32) : Nat := x.toBitVec.toNat % 2 ^ 20
abbrev fd_wN (h0 h1 h2 h3 h4 : Nat) (dA : ClassId) (n : Nat) (L lv N row : Nat → Nat) : va_W := [(h0, .inr (1, [.ref h1, .ref h2, .ref h3, .ref h4, .int (nI n)])), (h1, .inl (dA, 100, .inl (fun j => nI (L j)))), (h2, .inl (dA, 10, .inl (fun j => fd_lI (lv j)))), (h3, .inl (dA, 10, .inl (fun j => nI (N j)))), (h4, .inl (dA, 10, .inl (fun j => nI (row j))))]
abbrev fd_wX (hx hp h0 h1 h2 h3 h4 : Nat) (dA : ClassId) (n : Nat) (P : Nat → Nat) (nn : Nat) (L lv N row : Nat → Nat) : va_W := [(hx, .inr (0, [.ref hp, .ref h0, .int (nI n)])), (hp, .inl (dA, 100, .inl (fun j => nI (P j)))), (h0, .inr (1, [.ref h1, .ref h2, .ref h3, .ref h4, .int (nI nn)])), (h1, .inl (dA, 100, .inl (fun j => nI (L j)))), (h2, .inl (dA, 10, .inl (fun j => fd_lI (lv j)))), (h3, .inl (dA, 10, .inl (fun j => nI (N j)))), (h4, .inl (dA, 10, .inl (fun j => nI (row j))))]
abbrev fd_wM (hm hr hc : Nat) (dA dB : ClassId) (n : Nat) (P : Nat → Nat) (K : Nat → Int) (kn : Nat) (b : Int) (cm : Nat) : va_W := [(hm, .inr (2, [.ref hr, .int (nI n), .ref hc, .int (nI kn), .long (fd_zL b), .int (nI cm)])), (hr, .inl (dA, 100, .inl (fun j => nI (P j)))), (hc, .inl (dB, 1024, .inr (.inl (fun j => fd_zL (K j)))))]
/-- a contract's start: the arguments, the heap's size, the world -/
abbrev fd_pC (D : va_G) (dA dB : ClassId) (av : List Value) (sz : Nat) (WS : va_W) : Array Value → State → Prop := va_Pc av (fun U => U.heap.size = sz ∧ va_P D vwCl WS U.heap ∧ va_K D vwCl (fd_ty dA dB) U ∧ va_D (fun _ => True) WS)
/-- the world behind a method -/
abbrev fd_B {S : Type} (D : va_G) (dA dB : ClassId) (A : Nat → Prop) (w1 : S → va_W) : S → State → Prop := fun u t => va_P D vwCl (w1 u) t.heap ∧ va_K D vwCl (fd_ty dA dB) t ∧ va_D A (w1 u)
theorem fd_ofW {l : Launch} {D : va_G} {dA dB : ClassId} {y : MethodName} {cc : ByteArray} {maxL : Nat} {ret : Option FieldType} {rm : Room} {As : List Value} {sz : Nat} {WS : va_W} {Qf : (Nat → Prop) → Array Value → State → Outcome → State → Prop} {mc ms : Nat}
    (hy : plainName y.cls = true) (hlen : (lg_sl As).length ≤ maxL)
    (body : ∀ (p : Program) (e : Env) (s : State) (m : MethodId) (below : List Frame) (meth : Method) (c : Code) (A : Nat → Prop) (ls : Array Slot), p.tables.exec = Jvm.exec → c.code = cc → meth.sig.returnType = ret → c.maxLocals = maxL → s.vm.findClass y.cls = some m.cls → meth.locks = false → (∀ w ∈ lw_all, w.before As.toArray s = true) → meth.name = y.name → va_P D vwCl WS s.heap → va_K D vwCl (fd_ty dA dB) s → va_D A WS → (∀ q : Nat, s.heap.size ≤ q → A q) → va_S A s.heap s.heap [] → lv_has ls maxL (lv_args 0 As) →
      W p l e rm s m As.toArray below meth c s.heap [] 0 0 (MQ below (Qf A) As.toArray s mc ms A) (F0 m 0 ls [])) :
    Met l y (ws_ y cc maxL ret) rm (fd_pC D dA dB As sz WS) (Qf (va_A WS sz)) mc ms (va_A WS sz) := by
  refine Met.ofW (cc := cc) (maxL := maxL) (ret := ret) hy rfl ?_
  intro p e s m args below meth c s₁ B hml hv
  obtain ⟨rfl, hsz, hP, hK, hD0⟩ := hv
  have hts := atoms_spec (ws := ws_ y cc maxL ret) B.pre
  subst hsz
  rw [lg_entry_eq]
  exact body p e s m below meth c (va_A WS s.heap.size) _ B.exec B.bytes B.returns hml (findClass_of_methodNamed B.named) B.notSynchronized (fun w h => hts w (List.mem_cons_of_mem _ h)) (name_of_methodNamed B.named B.method).1 hP hK hD0.self (fun q h => Or.inr h) va_S.rf (lv_entry As hlen)
theorem fd_psub {D : va_G} {cl : List vw_C} {ws wc : va_W} {H : Heap} (hP : va_P D cl ws H) (is : List Nat) (hC : is.map (fun i => ws[i]?) = wc.map some) : va_P D cl wc H := by
  intro k q hk
  have h1 : (is.map (fun i => ws[i]?))[k]? = some (some q) := by rw [hC, List.getElem?_map, hk]; rfl
  rw [List.getElem?_map] at h1
  cases hi : is[k]? with
  | none => rw [hi] at h1; cases h1
  | some i => rw [hi] at h1; exact hP i q (Option.some.inj h1)
section FDROWS
variable {p : Program} {l : Launch} {e : Env} {R : Room} {s : State} {m : MethodId} {args : Array Value} {below : List Frame} {meth : Method} {c : Code} {H : Heap} {locs : List Loc} {cells slots : Nat} {Q : State → Prop} {cc : ByteArray} {pc : Nat} {ls : Array Slot} {rest : List Value} {D : va_G} {A : Nat → Prop} {ws : va_W} {H0 : Heap} {a : Nat} {dA dB : ClassId}
theorem fd_iret {S : Type} {post : Int32 → S → Prop} {w1 : S → va_W} {v : Int32} (u : S) (hx : p.tables.exec = Jvm.exec) (hb : c.code = cc) (hr : meth.sig.returnType = some .int) (hlocks : meth.locks = false) (hK : va_K D vwCl (fd_ty dA dB) s) (hP : va_P D vwCl (w1 u) H) (hD : va_D A (w1 u)) (hS : va_S A s.heap H locs) (hpost : post v u) (hdg : decode cc pc = .ok (.ireturn, 1)) : W p l e R s m args below meth c H locs cells slots (MQ below (va_Qi post (fd_B D dA dB A w1) A) args s cells slots A) (F0 m pc ls [.int v]) :=
  W.iret (v := v) hx hb hr (fun t ht hW => ⟨⟨v, u, rfl, hpost, by rw [ht]; exact hP, va_K.moved hW.alike hK, hD⟩, hS.F ht⟩) hS.2.2 hdg hlocks
theorem fd_zret {S : Type} {post : Int32 → S → Prop} {w1 : S → va_W} {v : Int32} (u : S) (hx : p.tables.exec = Jvm.exec) (hb : c.code = cc) (hr : meth.sig.returnType = some .boolean) (hn : narrow .boolean (.int v) = .int v) (hlocks : meth.locks = false) (hK : va_K D vwCl (fd_ty dA dB) s) (hP : va_P D vwCl (w1 u) H) (hD : va_D A (w1 u)) (hS : va_S A s.heap H locs) (hpost : post v u) (hdg : decode cc pc = .ok (.ireturn, 1)) : W p l e R s m args below meth c H locs cells slots (MQ below (va_Qi post (fd_B D dA dB A w1) A) args s cells slots A) (F0 m pc ls [.int v]) :=
  W.zret (v := v) hx hb hr hn (fun t ht hW => ⟨⟨v, u, rfl, hpost, by rw [ht]; exact hP, va_K.moved hW.alike hK, hD⟩, hS.F ht⟩) hS.2.2 hdg hlocks
theorem fd_lret {S : Type} {post : Int64 → S → Prop} {w1 : S → va_W} {v : Int64} (u : S) (hx : p.tables.exec = Jvm.exec) (hb : c.code = cc) (hr : meth.sig.returnType = some .long) (hlocks : meth.locks = false) (hK : va_K D vwCl (fd_ty dA dB) s) (hP : va_P D vwCl (w1 u) H) (hD : va_D A (w1 u)) (hS : va_S A s.heap H locs) (hpost : post v u) (hdg : decode cc pc = .ok (.lreturn, 1)) : W p l e R s m args below meth c H locs cells slots (MQ below (va_Ql post (fd_B D dA dB A w1) A) args s cells slots A) (F0 m pc ls [.long v]) :=
  W.lret (v := v) hx hb hr (fun t ht hW => ⟨⟨v, u, rfl, hpost, by rw [ht]; exact hP, va_K.moved hW.alike hK, hD⟩, hS.F ht⟩) hS.2.2 hdg hlocks
theorem fd_vret {S : Type} {post : S → Prop} {w1 : S → va_W} (u : S) (hx : p.tables.exec = Jvm.exec) (hb : c.code = cc) (hr : meth.sig.returnType = none) (hlocks : meth.locks = false) (hK : va_K D vwCl (fd_ty dA dB) s) (hP : va_P D vwCl (w1 u) H) (hD : va_D A (w1 u)) (hS : va_S A s.heap H locs) (hpost : post u) (hdg : decode cc pc = .ok (.return_, 1)) : W p l e R s m args below meth c H locs cells slots (MQ below (va_Qv post (fd_B D dA dB A w1) A) args s cells slots A) (F0 m pc ls []) :=
  W.vret hx hb hr (fun t ht hW => ⟨⟨u, rfl, hpost, by rw [ht]; exact hP, va_K.moved hW.alike hK, hD⟩, hS.F ht⟩) hS.2.2 hdg hlocks
theorem fw_iald (hx : p.tables.exec = Jvm.exec) (hb : c.code = cc) {g : Nat → Int32} {f : Nat → Nat} {k N : Nat} (hK : va_K D vwCl (fd_ty dA dB) s) (hP : va_P D vwCl ws H) (q0 : Nat) (ha : ws[q0]? = some (a, .inl (dA, N, .inl (fun j => g (f j))))) (hk : k < N) (hN : N < 2 ^ 31) (hdg : decode cc pc = .ok (.iaload, 1))
    (kk : W p l e R s m args below meth c H locs cells slots Q (F0 m (pc + 1) ls (.int (g (f k)) :: rest))) : W p l e R s m args below meth c H locs cells slots Q (F0 m pc ls (.int (nI k) :: .ref a :: rest)) := by
  refine va_iald hx hb hK hP q0 0 ha rfl (vp_in_nI hk hN) hdg ?_
  rw [nI_clamp (by omega)]
  exact kk
theorem fw_lald (hx : p.tables.exec = Jvm.exec) (hb : c.code = cc) {f : Nat → Int} {k N : Nat} (hK : va_K D vwCl (fd_ty dA dB) s) (hP : va_P D vwCl ws H) (q0 : Nat) (ha : ws[q0]? = some (a, .inl (dB, N, .inr (.inl (fun j => fd_zL (f j)))))) (hk : k < N) (hN : N < 2 ^ 31) (hdg : decode cc pc = .ok (.laload, 1))
    (kk : W p l e R s m args below meth c H locs cells slots Q (F0 m (pc + 1) ls (.long (fd_zL (f k)) :: rest))) : W p l e R s m args below meth c H locs cells slots Q (F0 m pc ls (.int (nI k) :: .ref a :: rest)) := by
  refine va_lald hx hb hK hP q0 1 ha rfl (vp_in_nI hk hN) hdg ?_
  rw [nI_clamp (by omega)]
  exact kk
theorem fw_iast (hx : p.tables.exec = Jvm.exec) (hb : c.code = cc) {g : Nat → Int32} {f : Nat → Nat} {k x N : Nat} (hK : va_K D vwCl (fd_ty dA dB) s) (hP : va_P D vwCl ws H) (hD : va_D A ws) (hS : va_S A H0 H locs) (q0 : Nat) (ha : ws[q0]? = some (a, .inl (dA, N, .inl (fun j => g (f j))))) (hk : k < N) (hN : N < 2 ^ 31) (hdg : decode cc pc = .ok (.iastore, 1))
    (kk : ∀ (H1 : Heap) (locs1 : List Loc), va_P D vwCl (ws.set q0 (a, .inl (dA, N, .inl (fun j => g (fd_up f k x j))))) H1 → va_D A (ws.set q0 (a, .inl (dA, N, .inl (fun j => g (fd_up f k x j))))) → va_S A H0 H1 locs1 → W p l e R s m args below meth c H1 locs1 cells slots Q (F0 m (pc + 1) ls rest)) : W p l e R s m args below meth c H locs cells slots Q (F0 m pc ls (.int (g x) :: .int (nI k) :: .ref a :: rest)) := by
  refine va_iast hx hb hK hP hD hS q0 0 ha rfl (vp_in_nI hk hN) hdg (fun H1 locs1 hP1 hD1 hS1 => ?_)
  have e : upd (fun j => g (f j)) (nI k).toNatClampNeg (g x) = fun j => g (fd_up f k x j) := by
    rw [nI_clamp (by omega)]
    funext j
    by_cases hj : j = k
    · simp [upd, fd_up, hj]
    · simp [upd, fd_up, hj]
  rw [e] at hP1 hD1
  exact kk H1 locs1 hP1 hD1 hS1
theorem fw_last (hx : p.tables.exec = Jvm.exec) (hb : c.code = cc) {f : Nat → Int} {k N : Nat} {x : Int} (hK : va_K D vwCl (fd_ty dA dB) s) (hP : va_P D vwCl ws H) (hD : va_D A ws) (hS : va_S A H0 H locs) (q0 : Nat) (ha : ws[q0]? = some (a, .inl (dB, N, .inr (.inl (fun j => fd_zL (f j)))))) (hk : k < N) (hN : N < 2 ^ 31) (hdg : decode cc pc = .ok (.lastore, 1))
    (kk : ∀ (H1 : Heap) (locs1 : List Loc), va_P D vwCl (ws.set q0 (a, .inl (dB, N, .inr (.inl (fun j => fd_zL (fd_upZ f k x j)))))) H1 → va_D A (ws.set q0 (a, .inl (dB, N, .inr (.inl (fun j => fd_zL (fd_upZ f k x j)))))) → va_S A H0 H1 locs1 → W p l e R s m args below meth c H1 locs1 cells slots Q (F0 m (pc + 1) ls rest)) : W p l e R s m args below meth c H locs cells slots Q (F0 m pc ls (.long (fd_zL x) :: .int (nI k) :: .ref a :: rest)) := by
  refine va_last hx hb hK hP hD hS q0 1 ha rfl (vp_in_nI hk hN) hdg (fun H1 locs1 hP1 hD1 hS1 => ?_)
  have e : vp_updL (fun j => fd_zL (f j)) (nI k).toNatClampNeg (fd_zL x) = fun j => fd_zL (fd_upZ f k x j) := by
    rw [nI_clamp (by omega)]
    funext j
    by_cases hj : j = k
    · simp [vp_updL, fd_upZ, hj]
    · simp [vp_updL, fd_upZ, hj]
  rw [e] at hP1 hD1
  exact kk H1 locs1 hP1 hD1 hS1
/-- a new array: its class is the one known -/
theorem fw_newi (hx : p.tables.exec = Jvm.exec) (hb : c.code = cc) (harr : (Cond.arrayClass .int).before args s = true) (hK : va_K D vwCl (fd_ty dA dB) s) (hP : va_P D vwCl ws H) (hD : va_D A ws) (hS : va_S A H0 H locs) (hA : ∀ q, H0.size ≤ q → A q) {N x : Nat} {g : Nat → Int32} (hg : g x = 0) (hN : N ≤ 100) (hcells : cells + 1 ≤ R.cells) (hslots : slots + N ≤ R.slots) (hdg : decode cc pc = .ok (.newarray .int, 2))
    (kk : ∀ (q : Nat) (H1 : Heap), va_P D vwCl (ws ++ [(q, .inl (dA, N, .inl (fun _ => g x)))]) H1 → va_D A (ws ++ [(q, .inl (dA, N, .inl (fun _ => g x)))]) → va_S A H0 H1 locs → W p l e R s m args below meth c H1 locs (cells + 1) (slots + N) Q (F0 m (pc + 2) ls (.ref q :: rest))) : W p l e R s m args below meth c H locs cells slots Q (F0 m pc ls (.int (nI N) :: rest)) := by
  refine va_newa (atype := .int) (a0 := (N, .inl (fun _ => g x))) (N' := N) (ty := .int) hx hb harr rfl hK hP hD hS hA (fun cA => ?_) (nI_pos (by omega)) (nI_clamp (by omega)) (by simp only [componentBytes]; omega) hcells hslots hdg (fun q cA H1 hK1 hP1 hD1 hS1 => ?_)
  · rw [hg]
    rfl
  · have h1 := (hK1.2 2 (cA, .int) rfl).2
    have h2 := (hK.2 0 (dA, .int) rfl).2
    have e : cA = dA := Option.some.inj (h1.symm.trans h2)
    subst e
    exact kk q H1 hP1 hD1 hS1
theorem fw_newl (hx : p.tables.exec = Jvm.exec) (hb : c.code = cc) (harr : (Cond.arrayClass .long).before args s = true) (hK : va_K D vwCl (fd_ty dA dB) s) (hP : va_P D vwCl ws H) (hD : va_D A ws) (hS : va_S A H0 H locs) (hA : ∀ q, H0.size ≤ q → A q) {N : Nat} (hN : N ≤ 1024) (hcells : cells + 1 ≤ R.cells) (hslots : slots + N ≤ R.slots) (hdg : decode cc pc = .ok (.newarray .long, 2))
    (kk : ∀ (q : Nat) (H1 : Heap), va_P D vwCl (ws ++ [(q, .inl (dB, N, .inr (.inl (fun _ => fd_zL 0))))]) H1 → va_D A (ws ++ [(q, .inl (dB, N, .inr (.inl (fun _ => fd_zL 0))))]) → va_S A H0 H1 locs → W p l e R s m args below meth c H1 locs (cells + 1) (slots + N) Q (F0 m (pc + 2) ls (.ref q :: rest))) : W p l e R s m args below meth c H locs cells slots Q (F0 m pc ls (.int (nI N) :: rest)) := by
  refine va_newa (atype := .long) (a0 := (N, .inr (.inl (fun _ => fd_zL 0)))) (N' := N) (ty := .long) hx hb harr rfl hK hP hD hS hA (fun cA => rfl) (nI_pos (by omega)) (nI_clamp (by omega)) (by simp only [componentBytes]; omega) hcells hslots hdg (fun q cA H1 hK1 hP1 hD1 hS1 => ?_)
  have h1 := (hK1.2 2 (cA, .long) rfl).2
  have h2 := (hK.2 1 (dB, .long) rfl).2
  have e : cA = dB := Option.some.inj (h1.symm.trans h2)
  subst e
  exact kk q H1 hP1 hD1 hS1
theorem fw_iadd (hx : p.tables.exec = Jvm.exec) (hb : c.code = cc) {x y : Nat} (hdg : decode cc pc = .ok (.iadd, 1))
    (kk : W p l e R s m args below meth c H locs cells slots Q (F0 m (pc + 1) ls (.int (nI (x + y)) :: rest))) : W p l e R s m args below meth c H locs cells slots Q (F0 m pc ls (.int (nI y) :: .int (nI x) :: rest)) := by
  refine lv_iadd hx hb hdg ?_
  rw [nI_add]
  exact kk
theorem fw_imul (hx : p.tables.exec = Jvm.exec) (hb : c.code = cc) {x y : Nat} (hdg : decode cc pc = .ok (.imul, 1))
    (kk : W p l e R s m args below meth c H locs cells slots Q (F0 m (pc + 1) ls (.int (nI (x * y)) :: rest))) : W p l e R s m args below meth c H locs cells slots Q (F0 m pc ls (.int (nI y) :: .int (nI x) :: rest)) := by
  refine lv_imul hx hb hdg ?_
  rw [pk_mul]
  exact kk
theorem fw_isub (hx : p.tables.exec = Jvm.exec) (hb : c.code = cc) {x y : Nat} (h : y ≤ x) (hdg : decode cc pc = .ok (.isub, 1))
    (kk : W p l e R s m args below meth c H locs cells slots Q (F0 m (pc + 1) ls (.int (nI (x - y)) :: rest))) : W p l e R s m args below meth c H locs cells slots Q (F0 m pc ls (.int (nI y) :: .int (nI x) :: rest)) := by
  refine lv_isub hx hb hdg ?_
  rw [pk_sub h]
  exact kk
theorem fw_irem (hx : p.tables.exec = Jvm.exec) (hb : c.code = cc) {x y : Nat} (h1 : x < 2 ^ 31) (h2 : 0 < y) (h3 : y < 2 ^ 31) (hdg : decode cc pc = .ok (.irem, 1))
    (kk : W p l e R s m args below meth c H locs cells slots Q (F0 m (pc + 1) ls (.int (nI (x % y)) :: rest))) : W p l e R s m args below meth c H locs cells slots Q (F0 m pc ls (.int (nI y) :: .int (nI x) :: rest)) := by
  refine lv_irem hx hb hdg (nI_ne0 h2 h3) ?_
  rw [pk_rem h1 h2 h3]
  exact kk
theorem fw_pos (hx : p.tables.exec = Jvm.exec) (hb : c.code = cc) {x : Int32} (hdg : decode cc pc = .ok (.iand, 1))
    (kk : W p l e R s m args below meth c H locs cells slots Q (F0 m (pc + 1) ls (.int (nI (fd_pos x)) :: rest))) : W p l e R s m args below meth c H locs cells slots Q (F0 m pc ls (.int 2147483647 :: .int x :: rest)) := by
  refine lv_iand hx hb hdg ?_
  rw [pk_and x 31 (by decide +kernel)]
  exact kk
theorem fw_cap (hx : p.tables.exec = Jvm.exec) (hb : c.code = cc) {x : Int32} (hdg : decode cc pc = .ok (.iand, 1))
    (kk : W p l e R s m args below meth c H locs cells slots Q (F0 m (pc + 1) ls (.int (nI (fd_cap x)) :: rest))) : W p l e R s m args below meth c H locs cells slots Q (F0 m pc ls (.int 1048575 :: .int x :: rest)) := by
  refine lv_iand hx hb hdg ?_
  rw [pk_and x 20 (by decide +kernel)]
  exact kk
theorem fd_sh : ∀ n, n < 32 → ((nI n &&& 31).toBitVec.smod 32).toNat = n := by decide +kernel
theorem fd_lI1 (k : Nat) : fd_lI k + 1 = fd_lI (k + 1) := by
  unfold fd_lI
  rw [← nI_1]
  grind
theorem fd_lI_eq {x y : Nat} (hx : x < 2 ^ 31) (hy : y < 2 ^ 31) : fd_lI x = fd_lI y ↔ x = y := by
  unfold fd_lI
  constructor
  · intro h
    exact (nI_eq hx hy).mp (by grind)
  · intro h
    rw [h]
theorem fd_lI0 : fd_lI 0 = -1 := by decide +kernel
theorem fd_zL_add (x y : Int) : fd_zL x + fd_zL y = fd_zL (x + y) := (Int64.ofInt_add x y).symm
theorem fd_zL_sub (x y : Int) : fd_zL x - fd_zL y = fd_zL (x - y) := (Int64.ofInt_sub x y).symm
theorem fd_zL_nat (n : Nat) : fd_zL (n : Int) = lN n := Int64.ofInt_eq_ofNat
theorem fd_zL_toInt {z : Int} (h1 : -(2 ^ 62) ≤ z) (h2 : z < 2 ^ 62) : (fd_zL z).toInt = z := Int64.toInt_ofInt_of_le (by omega) (by omega)
theorem fw_shl (hx : p.tables.exec = Jvm.exec) (hb : c.code = cc) {x y : Nat} (hy : y < 32) (h : x * 2 ^ y < 2 ^ 32) (hdg : decode cc pc = .ok (.ishl, 1))
    (kk : W p l e R s m args below meth c H locs cells slots Q (F0 m (pc + 1) ls (.int (nI (x * 2 ^ y)) :: rest))) : W p l e R s m args below meth c H locs cells slots Q (F0 m pc ls (.int (nI y) :: .int (nI x) :: rest)) := by
  refine lv_ishl hx hb hdg ?_
  rw [pk_shlN _ y (fd_sh y hy) h]
  exact kk
theorem fw_shr (hx : p.tables.exec = Jvm.exec) (hb : c.code = cc) {x y : Nat} (hy : y < 32) (h : x < 2 ^ 31) (hdg : decode cc pc = .ok (.ishr, 1))
    (kk : W p l e R s m args below meth c H locs cells slots Q (F0 m (pc + 1) ls (.int (nI (x / 2 ^ y)) :: rest))) : W p l e R s m args below meth c H locs cells slots Q (F0 m pc ls (.int (nI y) :: .int (nI x) :: rest)) := by
  refine lv_ishr hx hb hdg ?_
  rw [pk_shrN h _ y (fd_sh y hy)]
  exact kk
theorem fw_and1 (hx : p.tables.exec = Jvm.exec) (hb : c.code = cc) {x : Nat} (h : x < 2 ^ 31) (hdg : decode cc pc = .ok (.iand, 1))
    (kk : W p l e R s m args below meth c H locs cells slots Q (F0 m (pc + 1) ls (.int (nI (x % 2)) :: rest))) : W p l e R s m args below meth c H locs cells slots Q (F0 m pc ls (.int (nI 1) :: .int (nI x) :: rest)) := by
  refine lv_iand hx hb hdg ?_
  rw [pk_andN (m := nI 1) (by omega) 1 (by decide +kernel)]
  exact kk
theorem fw_lI1 (hx : p.tables.exec = Jvm.exec) (hb : c.code = cc) {x : Nat} (hdg : decode cc pc = .ok (.iadd, 1))
    (kk : W p l e R s m args below meth c H locs cells slots Q (F0 m (pc + 1) ls (.int (fd_lI (x + 1)) :: rest))) : W p l e R s m args below meth c H locs cells slots Q (F0 m pc ls (.int 1 :: .int (fd_lI x) :: rest)) := by
  refine lv_iadd hx hb hdg ?_
  rw [fd_lI1]
  exact kk
theorem fw_i2l (hx : p.tables.exec = Jvm.exec) (hb : c.code = cc) {x : Nat} (h : x < 2 ^ 31) (hdg : decode cc pc = .ok (.i2l, 1))
    (kk : W p l e R s m args below meth c H locs cells slots Q (F0 m (pc + 1) ls (.long (lN x) :: rest))) : W p l e R s m args below meth c H locs cells slots Q (F0 m pc ls (.int (nI x) :: rest)) := by
  exact lv_i2l (v := lN x) hx hb hdg (nI_l h) kk
theorem fw_i2z (hx : p.tables.exec = Jvm.exec) (hb : c.code = cc) {x : Nat} (h : x < 2 ^ 31) (hdg : decode cc pc = .ok (.i2l, 1))
    (kk : W p l e R s m args below meth c H locs cells slots Q (F0 m (pc + 1) ls (.long (fd_zL (x : Int)) :: rest))) : W p l e R s m args below meth c H locs cells slots Q (F0 m pc ls (.int (nI x) :: rest)) := by
  exact lv_i2l (v := fd_zL (x : Int)) hx hb hdg (by rw [fd_zL_nat]; exact nI_l h) kk
theorem fw_l2i (hx : p.tables.exec = Jvm.exec) (hb : c.code = cc) {x : Nat} (hdg : decode cc pc = .ok (.l2i, 1))
    (kk : W p l e R s m args below meth c H locs cells slots Q (F0 m (pc + 1) ls (.int (nI x) :: rest))) : W p l e R s m args below meth c H locs cells slots Q (F0 m pc ls (.long (lN x) :: rest)) := by
  exact lv_l2i (v := nI x) hx hb hdg (lN_i x) kk
theorem fw_ladd (hx : p.tables.exec = Jvm.exec) (hb : c.code = cc) {x y : Nat} (hdg : decode cc pc = .ok (.ladd, 1))
    (kk : W p l e R s m args below meth c H locs cells slots Q (F0 m (pc + 1) ls (.long (lN (x + y)) :: rest))) : W p l e R s m args below meth c H locs cells slots Q (F0 m pc ls (.long (lN y) :: .long (lN x) :: rest)) := by
  refine lv_ladd hx hb hdg ?_
  rw [lN_add]
  exact kk
theorem fw_lsub (hx : p.tables.exec = Jvm.exec) (hb : c.code = cc) {x y : Nat} (h : y ≤ x) (hdg : decode cc pc = .ok (.lsub, 1))
    (kk : W p l e R s m args below meth c H locs cells slots Q (F0 m (pc + 1) ls (.long (lN (x - y)) :: rest))) : W p l e R s m args below meth c H locs cells slots Q (F0 m pc ls (.long (lN y) :: .long (lN x) :: rest)) := by
  refine lv_lsub hx hb hdg ?_
  rw [lN_sub h]
  exact kk
theorem fw_zadd (hx : p.tables.exec = Jvm.exec) (hb : c.code = cc) {x y : Int} (hdg : decode cc pc = .ok (.ladd, 1))
    (kk : W p l e R s m args below meth c H locs cells slots Q (F0 m (pc + 1) ls (.long (fd_zL (x + y)) :: rest))) : W p l e R s m args below meth c H locs cells slots Q (F0 m pc ls (.long (fd_zL y) :: .long (fd_zL x) :: rest)) := by
  refine lv_ladd hx hb hdg ?_
  rw [fd_zL_add]
  exact kk
theorem fw_zsub (hx : p.tables.exec = Jvm.exec) (hb : c.code = cc) {x y : Int} (hdg : decode cc pc = .ok (.lsub, 1))
    (kk : W p l e R s m args below meth c H locs cells slots Q (F0 m (pc + 1) ls (.long (fd_zL (x - y)) :: rest))) : W p l e R s m args below meth c H locs cells slots Q (F0 m pc ls (.long (fd_zL y) :: .long (fd_zL x) :: rest)) := by
  refine lv_lsub hx hb hdg ?_
  rw [fd_zL_sub]
  exact kk
theorem fw_topi {x y : Int32} (h : x = y) (kk : W p l e R s m args below meth c H locs cells slots Q (F0 m pc ls (.int y :: rest))) : W p l e R s m args below meth c H locs cells slots Q (F0 m pc ls (.int x :: rest)) := by rw [h]; exact kk
theorem fw_topl {x y : Int64} (h : x = y) (kk : W p l e R s m args below meth c H locs cells slots Q (F0 m pc ls (.long y :: rest))) : W p l e R s m args below meth c H locs cells slots Q (F0 m pc ls (.long x :: rest)) := by rw [h]; exact kk
theorem fw_icmp_ge (hx : p.tables.exec = Jvm.exec) (hb : c.code = cc) {x y : Nat} (h1 : x < 2 ^ 31) (h2 : y < 2 ^ 31) {off : Int} {tgt : Nat} (hdg : decode cc pc = .ok (.if_icmp .ge off, 3)) (ht : (pc : Int) + off = (tgt : Int))
    (kt : y ≤ x → W p l e R s m args below meth c H locs cells slots Q (F0 m tgt ls rest)) (kf : x < y → W p l e R s m args below meth c H locs cells slots Q (F0 m (pc + 3) ls rest)) : W p l e R s m args below meth c H locs cells slots Q (F0 m pc ls (.int (nI y) :: .int (nI x) :: rest)) :=
  lv_icmp_ge hx hb hdg ht (fun h => kt ((nI_leI h2 h1).mp h)) (fun h => kf (Nat.lt_of_not_le (fun q => h ((nI_leI h2 h1).mpr q))))
theorem fw_icmp_ne (hx : p.tables.exec = Jvm.exec) (hb : c.code = cc) {x y : Nat} (h1 : x < 2 ^ 31) (h2 : y < 2 ^ 31) {off : Int} {tgt : Nat} (hdg : decode cc pc = .ok (.if_icmp .ne off, 3)) (ht : (pc : Int) + off = (tgt : Int))
    (kt : x ≠ y → W p l e R s m args below meth c H locs cells slots Q (F0 m tgt ls rest)) (kf : x = y → W p l e R s m args below meth c H locs cells slots Q (F0 m (pc + 3) ls rest)) : W p l e R s m args below meth c H locs cells slots Q (F0 m pc ls (.int (nI y) :: .int (nI x) :: rest)) :=
  lv_icmp_ne hx hb hdg ht (fun h => kt (fun q => h (by rw [q]))) (fun h => kf ((nI_eq h1 h2).mp h))
theorem fw_icmp_eq (hx : p.tables.exec = Jvm.exec) (hb : c.code = cc) {x y : Nat} (h1 : x < 2 ^ 31) (h2 : y < 2 ^ 31) {off : Int} {tgt : Nat} (hdg : decode cc pc = .ok (.if_icmp .eq off, 3)) (ht : (pc : Int) + off = (tgt : Int))
    (kt : x = y → W p l e R s m args below meth c H locs cells slots Q (F0 m tgt ls rest)) (kf : x ≠ y → W p l e R s m args below meth c H locs cells slots Q (F0 m (pc + 3) ls rest)) : W p l e R s m args below meth c H locs cells slots Q (F0 m pc ls (.int (nI y) :: .int (nI x) :: rest)) :=
  lv_icmp_eq hx hb hdg ht (fun h => kt ((nI_eq h1 h2).mp h)) (fun h => kf (fun q => h (by rw [q])))
theorem fw_if_ne (hx : p.tables.exec = Jvm.exec) (hb : c.code = cc) {x : Nat} (h1 : x < 2 ^ 31) {off : Int} {tgt : Nat} (hdg : decode cc pc = .ok (.ifCond .ne off, 3)) (ht : (pc : Int) + off = (tgt : Int))
    (kt : x ≠ 0 → W p l e R s m args below meth c H locs cells slots Q (F0 m tgt ls rest)) (kf : x = 0 → W p l e R s m args below meth c H locs cells slots Q (F0 m (pc + 3) ls rest)) : W p l e R s m args below meth c H locs cells slots Q (F0 m pc ls (.int (nI x) :: rest)) :=
  lv_if_ne hx hb hdg ht (fun h => kt (fun q => h (by rw [q]; exact nI_0))) (fun h => kf (Nat.eq_zero_of_not_pos (fun q => nI_ne0 q h1 h)))
theorem fw_if_eq (hx : p.tables.exec = Jvm.exec) (hb : c.code = cc) {x : Nat} (h1 : x < 2 ^ 31) {off : Int} {tgt : Nat} (hdg : decode cc pc = .ok (.ifCond .eq off, 3)) (ht : (pc : Int) + off = (tgt : Int))
    (kt : x = 0 → W p l e R s m args below meth c H locs cells slots Q (F0 m tgt ls rest)) (kf : x ≠ 0 → W p l e R s m args below meth c H locs cells slots Q (F0 m (pc + 3) ls rest)) : W p l e R s m args below meth c H locs cells slots Q (F0 m pc ls (.int (nI x) :: rest)) :=
  lv_if_eq hx hb hdg ht (fun h => kt (Nat.eq_zero_of_not_pos (fun q => nI_ne0 q h1 h))) (fun h => kf (fun q => h (by rw [q]; exact nI_0)))
theorem fw_if_le (hx : p.tables.exec = Jvm.exec) (hb : c.code = cc) {x : Nat} (h1 : x < 2 ^ 31) {off : Int} {tgt : Nat} (hdg : decode cc pc = .ok (.ifCond .le off, 3)) (ht : (pc : Int) + off = (tgt : Int))
    (kt : x = 0 → W p l e R s m args below meth c H locs cells slots Q (F0 m tgt ls rest)) (kf : 0 < x → W p l e R s m args below meth c H locs cells slots Q (F0 m (pc + 3) ls rest)) : W p l e R s m args below meth c H locs cells slots Q (F0 m pc ls (.int (nI x) :: rest)) :=
  lv_if_le hx hb hdg ht (fun h => kt (Nat.eq_zero_of_not_pos (fun q => nI_nle q h1 h))) (fun h => kf (Nat.pos_of_ne_zero (fun q => h (by rw [q, nI_0]; decide +kernel))))
theorem fw_lcmp_ge (hx : p.tables.exec = Jvm.exec) (hb : c.code = cc) {x y : Int64} {off : Int} {tgt : Nat} (hd0 : decode cc pc = .ok (.lcmp, 1)) (hdg : decode cc (pc + 1) = .ok (.ifCond .ge off, 3)) (ht : ((pc + 1 : Nat) : Int) + off = (tgt : Int))
    (kt : y ≤ x → W p l e R s m args below meth c H locs cells slots Q (F0 m tgt ls rest)) (kf : ¬ y ≤ x → W p l e R s m args below meth c H locs cells slots Q (F0 m (pc + 4) ls rest)) : W p l e R s m args below meth c H locs cells slots Q (F0 m pc ls (.long y :: .long x :: rest)) :=
  W.lcmp hx hb hd0 (lv_if_ge hx hb hdg ht (fun h => kt ((lg_cmp_ge x y).mp h)) (fun h => kf (fun q => h ((lg_cmp_ge x y).mpr q))))
theorem fw_lcmp_geZ (hx : p.tables.exec = Jvm.exec) (hb : c.code = cc) {x y : Int} (hx1 : -(2 ^ 62) ≤ x) (hx2 : x < 2 ^ 62) (hy1 : -(2 ^ 62) ≤ y) (hy2 : y < 2 ^ 62) {off : Int} {tgt : Nat} (hd0 : decode cc pc = .ok (.lcmp, 1)) (hdg : decode cc (pc + 1) = .ok (.ifCond .ge off, 3)) (ht : ((pc + 1 : Nat) : Int) + off = (tgt : Int))
    (kt : y ≤ x → W p l e R s m args below meth c H locs cells slots Q (F0 m tgt ls rest)) (kf : x < y → W p l e R s m args below meth c H locs cells slots Q (F0 m (pc + 4) ls rest)) : W p l e R s m args below meth c H locs cells slots Q (F0 m pc ls (.long (fd_zL y) :: .long (fd_zL x) :: rest)) :=
  fw_lcmp_ge hx hb hd0 hdg ht (fun h => kt (by rw [Int64.le_iff_toInt_le, fd_zL_toInt hy1 hy2, fd_zL_toInt hx1 hx2] at h; omega)) (fun h => kf (by rw [Int64.le_iff_toInt_le, fd_zL_toInt hy1 hy2, fd_zL_toInt hx1 hx2] at h; omega))
theorem fw_lcmp_gt (hx : p.tables.exec = Jvm.exec) (hb : c.code = cc) {x y : Int64} {off : Int} {tgt : Nat} (hd0 : decode cc pc = .ok (.lcmp, 1)) (hdg : decode cc (pc + 1) = .ok (.ifCond .gt off, 3)) (ht : ((pc + 1 : Nat) : Int) + off = (tgt : Int))
    (kt : y < x → W p l e R s m args below meth c H locs cells slots Q (F0 m tgt ls rest)) (kf : ¬ y < x → W p l e R s m args below meth c H locs cells slots Q (F0 m (pc + 4) ls rest)) : W p l e R s m args below meth c H locs cells slots Q (F0 m pc ls (.long y :: .long x :: rest)) :=
  W.lcmp hx hb hd0 (lv_if_gt hx hb hdg ht (fun h => kt ((lg_cmp_gt x y).mp h)) (fun h => kf (fun q => h ((lg_cmp_gt x y).mpr q))))
theorem fw_lcmp_gtZ (hx : p.tables.exec = Jvm.exec) (hb : c.code = cc) {x y : Int} (hx1 : -(2 ^ 62) ≤ x) (hx2 : x < 2 ^ 62) (hy1 : -(2 ^ 62) ≤ y) (hy2 : y < 2 ^ 62) {off : Int} {tgt : Nat} (hd0 : decode cc pc = .ok (.lcmp, 1)) (hdg : decode cc (pc + 1) = .ok (.ifCond .gt off, 3)) (ht : ((pc + 1 : Nat) : Int) + off = (tgt : Int))
    (kt : y < x → W p l e R s m args below meth c H locs cells slots Q (F0 m tgt ls rest)) (kf : x ≤ y → W p l e R s m args below meth c H locs cells slots Q (F0 m (pc + 4) ls rest)) : W p l e R s m args below meth c H locs cells slots Q (F0 m pc ls (.long (fd_zL y) :: .long (fd_zL x) :: rest)) :=
  fw_lcmp_gt hx hb hd0 hdg ht (fun h => kt (by rw [Int64.lt_iff_toInt_lt, fd_zL_toInt hy1 hy2, fd_zL_toInt hx1 hx2] at h; omega)) (fun h => kf (by rw [Int64.lt_iff_toInt_lt, fd_zL_toInt hy1 hy2, fd_zL_toInt hx1 hx2] at h; omega))
theorem fw_lcmp_lt (hx : p.tables.exec = Jvm.exec) (hb : c.code = cc) {x y : Int64} {off : Int} {tgt : Nat} (hd0 : decode cc pc = .ok (.lcmp, 1)) (hdg : decode cc (pc + 1) = .ok (.ifCond .lt off, 3)) (ht : ((pc + 1 : Nat) : Int) + off = (tgt : Int))
    (kt : x < y → W p l e R s m args below meth c H locs cells slots Q (F0 m tgt ls rest)) (kf : ¬ x < y → W p l e R s m args below meth c H locs cells slots Q (F0 m (pc + 4) ls rest)) : W p l e R s m args below meth c H locs cells slots Q (F0 m pc ls (.long y :: .long x :: rest)) :=
  W.lcmp hx hb hd0 (lv_if_lt hx hb hdg ht (fun h => kt ((lg_cmp_lt x y).mp h)) (fun h => kf (fun q => h ((lg_cmp_lt x y).mpr q))))
theorem fw_lcmp_ltZ (hx : p.tables.exec = Jvm.exec) (hb : c.code = cc) {x y : Int} (hx1 : -(2 ^ 62) ≤ x) (hx2 : x < 2 ^ 62) (hy1 : -(2 ^ 62) ≤ y) (hy2 : y < 2 ^ 62) {off : Int} {tgt : Nat} (hd0 : decode cc pc = .ok (.lcmp, 1)) (hdg : decode cc (pc + 1) = .ok (.ifCond .lt off, 3)) (ht : ((pc + 1 : Nat) : Int) + off = (tgt : Int))
    (kt : x < y → W p l e R s m args below meth c H locs cells slots Q (F0 m tgt ls rest)) (kf : y ≤ x → W p l e R s m args below meth c H locs cells slots Q (F0 m (pc + 4) ls rest)) : W p l e R s m args below meth c H locs cells slots Q (F0 m pc ls (.long (fd_zL y) :: .long (fd_zL x) :: rest)) :=
  fw_lcmp_lt hx hb hd0 hdg ht (fun h => kt (by rw [Int64.lt_iff_toInt_lt, fd_zL_toInt hx1 hx2, fd_zL_toInt hy1 hy2] at h; omega)) (fun h => kf (by rw [Int64.lt_iff_toInt_lt, fd_zL_toInt hx1 hx2, fd_zL_toInt hy1 hy2] at h; omega))
theorem fw_lcmp_ne (hx : p.tables.exec = Jvm.exec) (hb : c.code = cc) {x y : Int64} {off : Int} {tgt : Nat} (hd0 : decode cc pc = .ok (.lcmp, 1)) (hdg : decode cc (pc + 1) = .ok (.ifCond .ne off, 3)) (ht : ((pc + 1 : Nat) : Int) + off = (tgt : Int))
    (kt : x ≠ y → W p l e R s m args below meth c H locs cells slots Q (F0 m tgt ls rest)) (kf : x = y → W p l e R s m args below meth c H locs cells slots Q (F0 m (pc + 4) ls rest)) : W p l e R s m args below meth c H locs cells slots Q (F0 m pc ls (.long y :: .long x :: rest)) :=
  W.lcmp hx hb hd0 (lv_if_ne hx hb hdg ht (fun h => kt (fun q => h ((lg_cmp_eq x y).mpr q))) (fun h => kf ((lg_cmp_eq x y).mp h)))
theorem fw_lcmp_neZ (hx : p.tables.exec = Jvm.exec) (hb : c.code = cc) {x y : Int} (hx1 : -(2 ^ 62) ≤ x) (hx2 : x < 2 ^ 62) (hy1 : -(2 ^ 62) ≤ y) (hy2 : y < 2 ^ 62) {off : Int} {tgt : Nat} (hd0 : decode cc pc = .ok (.lcmp, 1)) (hdg : decode cc (pc + 1) = .ok (.ifCond .ne off, 3)) (ht : ((pc + 1 : Nat) : Int) + off = (tgt : Int))
    (kt : x ≠ y → W p l e R s m args below meth c H locs cells slots Q (F0 m tgt ls rest)) (kf : x = y → W p l e R s m args below meth c H locs cells slots Q (F0 m (pc + 4) ls rest)) : W p l e R s m args below meth c H locs cells slots Q (F0 m pc ls (.long (fd_zL y) :: .long (fd_zL x) :: rest)) :=
  fw_lcmp_ne hx hb hd0 hdg ht (fun h => kt (fun q => h (by rw [q]))) (fun h => kf (by rw [← Int64.toInt_inj, fd_zL_toInt hx1 hx2, fd_zL_toInt hy1 hy2] at h; exact h))
theorem fw_lcmp_eq (hx : p.tables.exec = Jvm.exec) (hb : c.code = cc) {x y : Int64} {off : Int} {tgt : Nat} (hd0 : decode cc pc = .ok (.lcmp, 1)) (hdg : decode cc (pc + 1) = .ok (.ifCond .eq off, 3)) (ht : ((pc + 1 : Nat) : Int) + off = (tgt : Int))
    (kt : x = y → W p l e R s m args below meth c H locs cells slots Q (F0 m tgt ls rest)) (kf : x ≠ y → W p l e R s m args below meth c H locs cells slots Q (F0 m (pc + 4) ls rest)) : W p l e R s m args below meth c H locs cells slots Q (F0 m pc ls (.long y :: .long x :: rest)) :=
  W.lcmp hx hb hd0 (lv_if_eq hx hb hdg ht (fun h => kt ((lg_cmp_eq x y).mp h)) (fun h => kf (fun q => h ((lg_cmp_eq x y).mpr q))))
theorem fw_lcmp_eqZ (hx : p.tables.exec = Jvm.exec) (hb : c.code = cc) {x y : Int} (hx1 : -(2 ^ 62) ≤ x) (hx2 : x < 2 ^ 62) (hy1 : -(2 ^ 62) ≤ y) (hy2 : y < 2 ^ 62) {off : Int} {tgt : Nat} (hd0 : decode cc pc = .ok (.lcmp, 1)) (hdg : decode cc (pc + 1) = .ok (.ifCond .eq off, 3)) (ht : ((pc + 1 : Nat) : Int) + off = (tgt : Int))
    (kt : x = y → W p l e R s m args below meth c H locs cells slots Q (F0 m tgt ls rest)) (kf : x ≠ y → W p l e R s m args below meth c H locs cells slots Q (F0 m (pc + 4) ls rest)) : W p l e R s m args below meth c H locs cells slots Q (F0 m pc ls (.long (fd_zL y) :: .long (fd_zL x) :: rest)) :=
  fw_lcmp_eq hx hb hd0 hdg ht (fun h => kt (by rw [← Int64.toInt_inj, fd_zL_toInt hx1 hx2, fd_zL_toInt hy1 hy2] at h; exact h)) (fun h => kf (fun q => h (by rw [q])))
theorem fw_lcmp_geN (hx : p.tables.exec = Jvm.exec) (hb : c.code = cc) {x y : Nat} (h1 : x < 2 ^ 63) (h2 : y < 2 ^ 63) {off : Int} {tgt : Nat} (hd0 : decode cc pc = .ok (.lcmp, 1)) (hdg : decode cc (pc + 1) = .ok (.ifCond .ge off, 3)) (ht : ((pc + 1 : Nat) : Int) + off = (tgt : Int))
    (kt : y ≤ x → W p l e R s m args below meth c H locs cells slots Q (F0 m tgt ls rest)) (kf : x < y → W p l e R s m args below meth c H locs cells slots Q (F0 m (pc + 4) ls rest)) : W p l e R s m args below meth c H locs cells slots Q (F0 m pc ls (.long (lN y) :: .long (lN x) :: rest)) :=
  fw_lcmp_ge hx hb hd0 hdg ht (fun h => kt ((pk_lLE h2 h1).mp h)) (fun h => kf (Nat.lt_of_not_le (fun q => h ((pk_lLE h2 h1).mpr q))))
theorem fw_lcmp_gtN (hx : p.tables.exec = Jvm.exec) (hb : c.code = cc) {x y : Nat} (h1 : x < 2 ^ 63) (h2 : y < 2 ^ 63) {off : Int} {tgt : Nat} (hd0 : decode cc pc = .ok (.lcmp, 1)) (hdg : decode cc (pc + 1) = .ok (.ifCond .gt off, 3)) (ht : ((pc + 1 : Nat) : Int) + off = (tgt : Int))
    (kt : y < x → W p l e R s m args below meth c H locs cells slots Q (F0 m tgt ls rest)) (kf : x ≤ y → W p l e R s m args below meth c H locs cells slots Q (F0 m (pc + 4) ls rest)) : W p l e R s m args below meth c H locs cells slots Q (F0 m pc ls (.long (lN y) :: .long (lN x) :: rest)) :=
  fw_lcmp_gt hx hb hd0 hdg ht (fun h => kt ((pk_lLT h2 h1).mp h)) (fun h => kf (Nat.le_of_not_lt (fun q => h ((pk_lLT h2 h1).mpr q))))
theorem fd_cVv {S : Type} {post : S → Prop} {w1 : S → va_W} {wc wr : va_W} {y : MethodName} {bytes : ByteArray} {maxL nL mc ms idx : Nat} {ret : Option FieldType} {rm : Room} {own : String} {b : Nat} {As rest st : List Value}
    (S0 : CallFix p m c cc nL s args lw_all own)
    (hM : Met l y (ws_ y bytes maxL ret) rm (fd_pC D dA dB (.ref b :: As) H.size wc) (va_Qv post (fd_B D dA dB (va_A wc H.size) w1) (va_A wc H.size)) mc ms (va_A wc H.size))
    (n : Nat) (h1 : Cond.methodLink own idx y ∈ lw_all) (h2 : Cond.instanceMethod y ∈ lw_all) (h3 : Cond.selects y.cls y y ∈ lw_all) (h4 : Cond.initialized y.cls ∈ lw_all) (h5 : Cond.code y bytes maxL ret ∈ lw_all) (hrm : rm.cells = mc ∧ rm.slots = ms)
    (hd : y.cls ≠ "java/lang/invoke/MethodHandle" ∧ y.cls ≠ "java/lang/invoke/VarHandle" ∧ (parseMethodDescriptor y.desc).map (fun d => d.parameters.length) = some n)
    (hR : rm.frames + 1 ≤ R.frames ∧ 8 + (maxL + 11) + rm.locals ≤ R.locals)
    (hK : va_K D vwCl (fd_ty dA dB) s) (hP : va_P D vwCl ws H) (hD : va_D A ws) (hS : va_S A s.heap H locs) (hA : ∀ q, s.heap.size ≤ q → A q)
    (isC isR : List Nat) (hC : isC.map (fun i => ws[i]?) = wc.map some) (hRr : isR.map (fun i => ws[i]?) = wr.map some) (hnC : va_nd isC = true) (hnR : va_nd isR = true) (hdis : ∀ i ∈ isR, i ∉ isC)
    {ci q0 : Nat} {fs : List Value} {q : vw_C} (hc : vwCl[ci]? = some q) (hqc : q.1 = y.cls) (he : wc[q0]? = some (b, .inr (ci, fs)))
    (hlen : As.length = n) (hsize : ls.size = nL) (hst : st = As.reverse ++ .ref b :: rest) (hW : (rest.map fun v => v.category).sum ≤ 8) (hdg : decode cc pc = .ok (.invokevirtual idx, 3)) (hf : cells + mc ≤ R.cells ∧ slots + ms ≤ R.slots)
    (kk : ∀ (u : S) (H1 : Heap) (locs1 : List Loc), post u → va_P D vwCl (wr ++ w1 u) H1 → va_D A (wr ++ w1 u) → va_S A s.heap H1 locs1 → W p l e R s m args below meth c H1 locs1 (cells + mc) (slots + ms) Q (F0 m (pc + 3) ls (rest))) :
    W p l e R s m args below meth c H locs cells slots Q (F0 m pc ls st) := by
  have hPc : va_P D vwCl wc H := fd_psub hP isC hC
  have hDc : va_D A wc := hD.sub isC hnC hC
  have hFc := va_free hD hS hA isC hC
  refine va_callv (va_runV (As := As) (rest := rest) S0 hM (cwV n S0.2.2.2.2 (lw_V h1 h2 h3 h4 h5) rfl hrm.1 hrm.2 ⟨rfl, hd⟩ hR) ⟨fun a U g mk q => ?_, ?_, fun U hU hW => ?_⟩ rfl hlen hsize hst (lv_room hW) hdg hf) hS (fun q _ h => hFc q h) hFc (fun u t H1 locs1 ht hvm hw hB hz1 hk1 hS1 => ?_)
  · obtain ⟨q0, q1, qP, qK, qD⟩ := q
    exact ⟨q0, q1, qP, va_K.moved (u := U) (U := U.calling g mk a) (Vm.Alike.refl U.vm) qK, qD⟩
  · have h9 := va_recv hK hPc hc he
    rw [hqc] at h9
    exact h9
  · exact ⟨rfl, by rw [hU], by rw [hU]; exact hPc, va_K.moved hW.alike hK, hDc.weaken (fun _ _ _ _ => trivial)⟩
  · obtain ⟨hP1, hK1, hD1⟩ := hB
    rw [ht] at hP1
    obtain ⟨hP2, hD2⟩ := va_join hP hD isC isR hC hRr hnR hdis hk1 hFc hP1 hD1
    exact kk u H1 locs1 hw hP2 hD2 hS1
theorem fd_cVi {S : Type} {post : Int32 → S → Prop} {w1 : S → va_W} {wc wr : va_W} {y : MethodName} {bytes : ByteArray} {maxL nL mc ms idx : Nat} {ret : Option FieldType} {rm : Room} {own : String} {b : Nat} {As rest st : List Value}
    (S0 : CallFix p m c cc nL s args lw_all own)
    (hM : Met l y (ws_ y bytes maxL ret) rm (fd_pC D dA dB (.ref b :: As) H.size wc) (va_Qi post (fd_B D dA dB (va_A wc H.size) w1) (va_A wc H.size)) mc ms (va_A wc H.size))
    (n : Nat) (h1 : Cond.methodLink own idx y ∈ lw_all) (h2 : Cond.instanceMethod y ∈ lw_all) (h3 : Cond.selects y.cls y y ∈ lw_all) (h4 : Cond.initialized y.cls ∈ lw_all) (h5 : Cond.code y bytes maxL ret ∈ lw_all) (hrm : rm.cells = mc ∧ rm.slots = ms)
    (hd : y.cls ≠ "java/lang/invoke/MethodHandle" ∧ y.cls ≠ "java/lang/invoke/VarHandle" ∧ (parseMethodDescriptor y.desc).map (fun d => d.parameters.length) = some n)
    (hR : rm.frames + 1 ≤ R.frames ∧ 8 + (maxL + 11) + rm.locals ≤ R.locals)
    (hK : va_K D vwCl (fd_ty dA dB) s) (hP : va_P D vwCl ws H) (hD : va_D A ws) (hS : va_S A s.heap H locs) (hA : ∀ q, s.heap.size ≤ q → A q)
    (isC isR : List Nat) (hC : isC.map (fun i => ws[i]?) = wc.map some) (hRr : isR.map (fun i => ws[i]?) = wr.map some) (hnC : va_nd isC = true) (hnR : va_nd isR = true) (hdis : ∀ i ∈ isR, i ∉ isC)
    {ci q0 : Nat} {fs : List Value} {q : vw_C} (hc : vwCl[ci]? = some q) (hqc : q.1 = y.cls) (he : wc[q0]? = some (b, .inr (ci, fs)))
    (hlen : As.length = n) (hsize : ls.size = nL) (hst : st = As.reverse ++ .ref b :: rest) (hW : (rest.map fun v => v.category).sum ≤ 8) (hdg : decode cc pc = .ok (.invokevirtual idx, 3)) (hf : cells + mc ≤ R.cells ∧ slots + ms ≤ R.slots)
    (kk : ∀ (r : Int32) (u : S) (H1 : Heap) (locs1 : List Loc), post r u → va_P D vwCl (wr ++ w1 u) H1 → va_D A (wr ++ w1 u) → va_S A s.heap H1 locs1 → W p l e R s m args below meth c H1 locs1 (cells + mc) (slots + ms) Q (F0 m (pc + 3) ls (.int r :: rest))) :
    W p l e R s m args below meth c H locs cells slots Q (F0 m pc ls st) := by
  have hPc : va_P D vwCl wc H := fd_psub hP isC hC
  have hDc : va_D A wc := hD.sub isC hnC hC
  have hFc := va_free hD hS hA isC hC
  refine va_calli (va_runV (As := As) (rest := rest) S0 hM (cwV n S0.2.2.2.2 (lw_V h1 h2 h3 h4 h5) rfl hrm.1 hrm.2 ⟨rfl, hd⟩ hR) ⟨fun a U g mk q => ?_, ?_, fun U hU hW => ?_⟩ rfl hlen hsize hst (lv_room hW) hdg hf) hS (fun q _ h => hFc q h) hFc (fun r u t H1 locs1 ht hvm hw hB hz1 hk1 hS1 => ?_)
  · obtain ⟨q0, q1, qP, qK, qD⟩ := q
    exact ⟨q0, q1, qP, va_K.moved (u := U) (U := U.calling g mk a) (Vm.Alike.refl U.vm) qK, qD⟩
  · have h9 := va_recv hK hPc hc he
    rw [hqc] at h9
    exact h9
  · exact ⟨rfl, by rw [hU], by rw [hU]; exact hPc, va_K.moved hW.alike hK, hDc.weaken (fun _ _ _ _ => trivial)⟩
  · obtain ⟨hP1, hK1, hD1⟩ := hB
    rw [ht] at hP1
    obtain ⟨hP2, hD2⟩ := va_join hP hD isC isR hC hRr hnR hdis hk1 hFc hP1 hD1
    exact kk r u H1 locs1 hw hP2 hD2 hS1
theorem fd_cVl {S : Type} {post : Int64 → S → Prop} {w1 : S → va_W} {wc wr : va_W} {y : MethodName} {bytes : ByteArray} {maxL nL mc ms idx : Nat} {ret : Option FieldType} {rm : Room} {own : String} {b : Nat} {As rest st : List Value}
    (S0 : CallFix p m c cc nL s args lw_all own)
    (hM : Met l y (ws_ y bytes maxL ret) rm (fd_pC D dA dB (.ref b :: As) H.size wc) (va_Ql post (fd_B D dA dB (va_A wc H.size) w1) (va_A wc H.size)) mc ms (va_A wc H.size))
    (n : Nat) (h1 : Cond.methodLink own idx y ∈ lw_all) (h2 : Cond.instanceMethod y ∈ lw_all) (h3 : Cond.selects y.cls y y ∈ lw_all) (h4 : Cond.initialized y.cls ∈ lw_all) (h5 : Cond.code y bytes maxL ret ∈ lw_all) (hrm : rm.cells = mc ∧ rm.slots = ms)
    (hd : y.cls ≠ "java/lang/invoke/MethodHandle" ∧ y.cls ≠ "java/lang/invoke/VarHandle" ∧ (parseMethodDescriptor y.desc).map (fun d => d.parameters.length) = some n)
    (hR : rm.frames + 1 ≤ R.frames ∧ 8 + (maxL + 11) + rm.locals ≤ R.locals)
    (hK : va_K D vwCl (fd_ty dA dB) s) (hP : va_P D vwCl ws H) (hD : va_D A ws) (hS : va_S A s.heap H locs) (hA : ∀ q, s.heap.size ≤ q → A q)
    (isC isR : List Nat) (hC : isC.map (fun i => ws[i]?) = wc.map some) (hRr : isR.map (fun i => ws[i]?) = wr.map some) (hnC : va_nd isC = true) (hnR : va_nd isR = true) (hdis : ∀ i ∈ isR, i ∉ isC)
    {ci q0 : Nat} {fs : List Value} {q : vw_C} (hc : vwCl[ci]? = some q) (hqc : q.1 = y.cls) (he : wc[q0]? = some (b, .inr (ci, fs)))
    (hlen : As.length = n) (hsize : ls.size = nL) (hst : st = As.reverse ++ .ref b :: rest) (hW : (rest.map fun v => v.category).sum ≤ 8) (hdg : decode cc pc = .ok (.invokevirtual idx, 3)) (hf : cells + mc ≤ R.cells ∧ slots + ms ≤ R.slots)
    (kk : ∀ (r : Int64) (u : S) (H1 : Heap) (locs1 : List Loc), post r u → va_P D vwCl (wr ++ w1 u) H1 → va_D A (wr ++ w1 u) → va_S A s.heap H1 locs1 → W p l e R s m args below meth c H1 locs1 (cells + mc) (slots + ms) Q (F0 m (pc + 3) ls (.long r :: rest))) :
    W p l e R s m args below meth c H locs cells slots Q (F0 m pc ls st) := by
  have hPc : va_P D vwCl wc H := fd_psub hP isC hC
  have hDc : va_D A wc := hD.sub isC hnC hC
  have hFc := va_free hD hS hA isC hC
  refine va_calll (va_runV (As := As) (rest := rest) S0 hM (cwV n S0.2.2.2.2 (lw_V h1 h2 h3 h4 h5) rfl hrm.1 hrm.2 ⟨rfl, hd⟩ hR) ⟨fun a U g mk q => ?_, ?_, fun U hU hW => ?_⟩ rfl hlen hsize hst (lv_room hW) hdg hf) hS (fun q _ h => hFc q h) hFc (fun r u t H1 locs1 ht hvm hw hB hz1 hk1 hS1 => ?_)
  · obtain ⟨q0, q1, qP, qK, qD⟩ := q
    exact ⟨q0, q1, qP, va_K.moved (u := U) (U := U.calling g mk a) (Vm.Alike.refl U.vm) qK, qD⟩
  · have h9 := va_recv hK hPc hc he
    rw [hqc] at h9
    exact h9
  · exact ⟨rfl, by rw [hU], by rw [hU]; exact hPc, va_K.moved hW.alike hK, hDc.weaken (fun _ _ _ _ => trivial)⟩
  · obtain ⟨hP1, hK1, hD1⟩ := hB
    rw [ht] at hP1
    obtain ⟨hP2, hD2⟩ := va_join hP hD isC isR hC hRr hnR hdis hk1 hFc hP1 hD1
    exact kk r u H1 locs1 hw hP2 hD2 hS1
theorem fd_cI {S : Type} {post : S → Prop} {w1 : S → va_W} {wc wr : va_W} {y : MethodName} {bytes : ByteArray} {maxL nL mc ms idx : Nat} {ret : Option FieldType} {rm : Room} {own : String} {b : Nat} {As rest st : List Value}
    (S0 : CallFix p m c cc nL s args lw_all own)
    (hM : Met l y (ws_ y bytes maxL none) rm (fd_pC D dA dB (.ref b :: As) H.size wc) (va_Qv post (fd_B D dA dB (va_A wc H.size) w1) (va_A wc H.size)) mc ms (va_A wc H.size))
    (n : Nat) (h1 : Cond.methodLink own idx y ∈ lw_all) (h2 : Cond.instanceMethod y ∈ lw_all) (h4 : Cond.initialized y.cls ∈ lw_all) (h5 : Cond.code y bytes maxL none ∈ lw_all) (hy1 : y.name = "<init>") (hrm : rm.cells = mc ∧ rm.slots = ms)
    (hd : y.cls ≠ "java/lang/invoke/MethodHandle" ∧ y.cls ≠ "java/lang/invoke/VarHandle" ∧ (parseMethodDescriptor y.desc).map (fun d => d.parameters.length) = some n)
    (hR : rm.frames + 1 ≤ R.frames ∧ 8 + (maxL + 11) + rm.locals ≤ R.locals)
    (hK : va_K D vwCl (fd_ty dA dB) s) (hP : va_P D vwCl ws H) (hD : va_D A ws) (hS : va_S A s.heap H locs) (hA : ∀ q, s.heap.size ≤ q → A q)
    (isC isR : List Nat) (hC : isC.map (fun i => ws[i]?) = wc.map some) (hRr : isR.map (fun i => ws[i]?) = wr.map some) (hnC : va_nd isC = true) (hnR : va_nd isR = true) (hdis : ∀ i ∈ isR, i ∉ isC)
    
    (hlen : As.length = n) (hsize : ls.size = nL) (hst : st = As.reverse ++ .ref b :: rest) (hW : (rest.map fun v => v.category).sum ≤ 8) (hdg : decode cc pc = .ok (.invokespecial idx, 3)) (hf : cells + mc ≤ R.cells ∧ slots + ms ≤ R.slots)
    (kk : ∀ (u : S) (H1 : Heap) (locs1 : List Loc), post u → va_P D vwCl (wr ++ w1 u) H1 → va_D A (wr ++ w1 u) → va_S A s.heap H1 locs1 → W p l e R s m args below meth c H1 locs1 (cells + mc) (slots + ms) Q (F0 m (pc + 3) ls (rest))) :
    W p l e R s m args below meth c H locs cells slots Q (F0 m pc ls st) := by
  have hPc : va_P D vwCl wc H := fd_psub hP isC hC
  have hDc : va_D A wc := hD.sub isC hnC hC
  have hFc := va_free hD hS hA isC hC
  refine va_callv (va_runI (As := As) (rest := rest) S0 hM (cwI n S0.2.2.2.2 (lw_meth h5) rfl hrm.1 hrm.2 (S0.2.2.2.2 _ h4) (S0.2.2.2.2 _ h1) (S0.2.2.2.2 _ h2) hy1 hd hR) ⟨fun a U g mk q => ?_, fun U hU hW => ?_⟩ rfl hlen hsize hst (lv_room hW) hdg hf) hS (fun q _ h => hFc q h) hFc (fun u t H1 locs1 ht hvm hw hB hz1 hk1 hS1 => ?_)
  · obtain ⟨q0, q1, qP, qK, qD⟩ := q
    exact ⟨q0, q1, qP, va_K.moved (u := U) (U := U.calling g mk a) (Vm.Alike.refl U.vm) qK, qD⟩
  · exact ⟨rfl, by rw [hU], by rw [hU]; exact hPc, va_K.moved hW.alike hK, hDc.weaken (fun _ _ _ _ => trivial)⟩
  · obtain ⟨hP1, hK1, hD1⟩ := hB
    rw [ht] at hP1
    obtain ⟨hP2, hD2⟩ := va_join hP hD isC isR hC hRr hnR hdis hk1 hFc hP1 hD1
    exact kk u H1 locs1 hw hP2 hD2 hS1
theorem fd_cIN {S : Type} {post : S → Prop} {w1 : S → va_W} {wc wr : va_W} {y : MethodName} {bytes : ByteArray} {maxL nL mc ms idx : Nat} {ret : Option FieldType} {rm : Room} {own host : String} {b : Nat} {As rest st : List Value}
    (S0 : CallFix p m c cc nL s args lw_all own)
    (hM : Met l y (ws_ y bytes maxL none) rm (fd_pC D dA dB (.ref b :: As) H.size wc) (va_Qv post (fd_B D dA dB (va_A wc H.size) w1) (va_A wc H.size)) mc ms (va_A wc H.size))
    (n : Nat) (h1 : va_Nw (.methodLinkNest own idx y host) s) (h2 : Cond.instanceMethod y ∈ lw_all) (h4 : Cond.initialized y.cls ∈ lw_all) (h5 : Cond.code y bytes maxL none ∈ lw_all) (hy1 : y.name = "<init>") (hrm : rm.cells = mc ∧ rm.slots = ms)
    (hd : y.cls ≠ "java/lang/invoke/MethodHandle" ∧ y.cls ≠ "java/lang/invoke/VarHandle" ∧ (parseMethodDescriptor y.desc).map (fun d => d.parameters.length) = some n)
    (hR : rm.frames + 1 ≤ R.frames ∧ 8 + (maxL + 11) + rm.locals ≤ R.locals)
    (hK : va_K D vwCl (fd_ty dA dB) s) (hP : va_P D vwCl ws H) (hD : va_D A ws) (hS : va_S A s.heap H locs) (hA : ∀ q, s.heap.size ≤ q → A q)
    (isC isR : List Nat) (hC : isC.map (fun i => ws[i]?) = wc.map some) (hRr : isR.map (fun i => ws[i]?) = wr.map some) (hnC : va_nd isC = true) (hnR : va_nd isR = true) (hdis : ∀ i ∈ isR, i ∉ isC)
    
    (hlen : As.length = n) (hsize : ls.size = nL) (hst : st = As.reverse ++ .ref b :: rest) (hW : (rest.map fun v => v.category).sum ≤ 8) (hdg : decode cc pc = .ok (.invokespecial idx, 3)) (hf : cells + mc ≤ R.cells ∧ slots + ms ≤ R.slots)
    (kk : ∀ (u : S) (H1 : Heap) (locs1 : List Loc), post u → va_P D vwCl (wr ++ w1 u) H1 → va_D A (wr ++ w1 u) → va_S A s.heap H1 locs1 → W p l e R s m args below meth c H1 locs1 (cells + mc) (slots + ms) Q (F0 m (pc + 3) ls (rest))) :
    W p l e R s m args below meth c H locs cells slots Q (F0 m pc ls st) := by
  have hPc : va_P D vwCl wc H := fd_psub hP isC hC
  have hDc : va_D A wc := hD.sub isC hnC hC
  have hFc := va_free hD hS hA isC hC
  refine va_callv (va_runIN (As := As) (rest := rest) S0 hM ⟨va_cnB n S0.2.2.2.2 (lw_meth h5) rfl hrm.1 hrm.2 h1 (S0.2.2.2.2 _ h4) hd hR, hy1, S0.2.2.2.2 _ h2⟩ ⟨fun a U g mk q => ?_, fun U hU hW => ?_⟩ rfl hlen hsize hst (lv_room hW) hdg hf) hS (fun q _ h => hFc q h) hFc (fun u t H1 locs1 ht hvm hw hB hz1 hk1 hS1 => ?_)
  · obtain ⟨q0, q1, qP, qK, qD⟩ := q
    exact ⟨q0, q1, qP, va_K.moved (u := U) (U := U.calling g mk a) (Vm.Alike.refl U.vm) qK, qD⟩
  · exact ⟨rfl, by rw [hU], by rw [hU]; exact hPc, va_K.moved hW.alike hK, hDc.weaken (fun _ _ _ _ => trivial)⟩
  · obtain ⟨hP1, hK1, hD1⟩ := hB
    rw [ht] at hP1
    obtain ⟨hP2, hD2⟩ := va_join hP hD isC isR hC hRr hnR hdis hk1 hFc hP1 hD1
    exact kk u H1 locs1 hw hP2 hD2 hS1
theorem fd_cSl {S : Type} {post : Int64 → S → Prop} {w1 : S → va_W} {wc wr : va_W} {y : MethodName} {bytes : ByteArray} {maxL nL mc ms idx : Nat} {ret : Option FieldType} {rm : Room} {own : String} {b : Nat} {As rest st : List Value}
    (S0 : CallFix p m c cc nL s args lw_all own)
    (hM : Met l y (ws_ y bytes maxL ret) rm (fd_pC D dA dB (As) H.size wc) (va_Ql post (fd_B D dA dB (va_A wc H.size) w1) (va_A wc H.size)) mc ms (va_A wc H.size))
    (n : Nat) (h1 : Cond.methodLink own idx y ∈ lw_all) (h2 : Cond.static y ∈ lw_all) (h4 : Cond.initialized y.cls ∈ lw_all) (h5 : Cond.code y bytes maxL ret ∈ lw_all) (hrm : rm.cells = mc ∧ rm.slots = ms)
    (hd : y.cls ≠ "java/lang/invoke/MethodHandle" ∧ y.cls ≠ "java/lang/invoke/VarHandle" ∧ (parseMethodDescriptor y.desc).map (fun d => d.parameters.length) = some n)
    (hR : rm.frames + 1 ≤ R.frames ∧ 8 + (maxL + 11) + rm.locals ≤ R.locals)
    (hK : va_K D vwCl (fd_ty dA dB) s) (hP : va_P D vwCl ws H) (hD : va_D A ws) (hS : va_S A s.heap H locs) (hA : ∀ q, s.heap.size ≤ q → A q)
    (isC isR : List Nat) (hC : isC.map (fun i => ws[i]?) = wc.map some) (hRr : isR.map (fun i => ws[i]?) = wr.map some) (hnC : va_nd isC = true) (hnR : va_nd isR = true) (hdis : ∀ i ∈ isR, i ∉ isC)
    
    (hlen : As.length = n) (hsize : ls.size = nL) (hst : st = As.reverse ++ rest) (hW : (rest.map fun v => v.category).sum ≤ 8) (hdg : decode cc pc = .ok (.invokestatic idx, 3)) (hf : cells + mc ≤ R.cells ∧ slots + ms ≤ R.slots)
    (kk : ∀ (r : Int64) (u : S) (H1 : Heap) (locs1 : List Loc), post r u → va_P D vwCl (wr ++ w1 u) H1 → va_D A (wr ++ w1 u) → va_S A s.heap H1 locs1 → W p l e R s m args below meth c H1 locs1 (cells + mc) (slots + ms) Q (F0 m (pc + 3) ls (.long r :: rest))) :
    W p l e R s m args below meth c H locs cells slots Q (F0 m pc ls st) := by
  have hPc : va_P D vwCl wc H := fd_psub hP isC hC
  have hDc : va_D A wc := hD.sub isC hnC hC
  have hFc := va_free hD hS hA isC hC
  refine va_calll (va_runS (As := As) (rest := rest) S0 hM (va_cwS n S0.2.2.2.2 (lw_S h1 h2 h4 h5) rfl hrm.1 hrm.2 hd hR) ⟨fun a U g mk q => ?_, fun U hU hW => ?_⟩ rfl hlen hsize hst (lv_room hW) hdg hf) hS (fun q _ h => hFc q h) hFc (fun r u t H1 locs1 ht hvm hw hB hz1 hk1 hS1 => ?_)
  · obtain ⟨q0, q1, qP, qK, qD⟩ := q
    exact ⟨q0, q1, qP, va_K.moved (u := U) (U := U.calling g mk a) (Vm.Alike.refl U.vm) qK, qD⟩
  · exact ⟨rfl, by rw [hU], by rw [hU]; exact hPc, va_K.moved hW.alike hK, hDc.weaken (fun _ _ _ _ => trivial)⟩
  · obtain ⟨hP1, hK1, hD1⟩ := hB
    rw [ht] at hP1
    obtain ⟨hP2, hD2⟩ := va_join hP hD isC isR hC hRr hnR hdis hk1 hFc hP1 hD1
    exact kk r u H1 locs1 hw hP2 hD2 hS1
end FDROWS
end
section
/-! ===== FlowDesk$Net.levels ===== -/
section FDLEV
variable {p : Program} {l : Launch} {e : Env} {R : Room} {s : State} {m : MethodId} {args : Array Value} {below : List Frame} {meth : Method} {c : Code} {cells slots : Nat} {Q : State → Prop} {D : va_G} {A : Nat → Prop} {dA dB : ClassId}
set_option maxHeartbeats 4000000 in
set_option maxRecDepth 100000 in
theorem fd_lev_1 (hx : p.tables.exec = Jvm.exec) (hb : c.code = cX1_levels) (hown : s.vm.findClass RX1 = some m.cls) (hts : ∀ w ∈ lw_all, w.before args s = true) (hK : va_K D vwCl (fd_ty dA dB) s) {b0 b1 b2 b3 b4 : Nat} {n sr tg : Nat} {L N row : Nat → Nat} (hn : n ≤ 10)
    (kk : ∀ (lv : Nat → Nat) (H : Heap) (locs : List Loc) (ls : Array Slot), (∀ j, j < n → lv j = 0) → va_P D vwCl (fd_wN b0 b1 b2 b3 b4 dA n L lv N row) H → va_D A (fd_wN b0 b1 b2 b3 b4 dA n L lv N row) → va_S A s.heap H locs → lv_has ls 7 [(0, .ref b0), (1, .int (nI sr)), (2, .int (nI tg))] → W p l e R s m args below meth c H locs cells slots Q (F0 m 23 ls [])) :
    ∀ (k i : Nat) (lv : Nat → Nat), n + 1 ≤ i + k → i ≤ n → (∀ j, j < i → lv j = 0) → ∀ (H : Heap) (locs : List Loc) (ls : Array Slot), va_P D vwCl (fd_wN b0 b1 b2 b3 b4 dA n L lv N row) H → va_D A (fd_wN b0 b1 b2 b3 b4 dA n L lv N row) → va_S A s.heap H locs → lv_has ls 7 [(3, .int (nI i)), (0, .ref b0), (1, .int (nI sr)), (2, .int (nI tg))] → W p l e R s m args below meth c H locs cells slots Q (F0 m 2 ls []) := by
  intro k
  induction k with
  | zero =>
    intro i lv h1 h2
    omega
  | succ k ih =>
    intro i lv h1 h2 h3 H locs ls hP hD hS hl
    refine lv_iload_n hx hb dX1_levels_2 rfl (lv_at hl 0 rfl) ?_
    refine lv_aload_n hx hb dX1_levels_3 rfl (lv_at hl 1 rfl) ?_
    refine va_get (D := D) (ci := 1) (v := .int (nI n)) (C := RX1) (T := TX1) (N := 5) hx hb hts in_X1 hown hK hP 0 rfl rfl 4 (by decide) (hts _ q29) (fun _ h9 => h9) rfl dX1_levels_4 ?_
    refine fw_icmp_ge (tgt := 23) hx hb (by omega) (by omega) dX1_levels_7 (by decide) (fun c1 => ?_) (fun c1 => ?_)
    · exact kk lv H locs ls (fun j hj => h3 j (by omega)) hP hD hS (lv_sub hl [1, 2, 3] rfl)
    · refine lv_aload_n hx hb dX1_levels_10 rfl (lv_at hl 1 rfl) ?_
      refine va_get (D := D) (ci := 1) (v := .ref b2) (C := RX1) (T := TX1) (N := 5) hx hb hts in_X1 hown hK hP 0 rfl rfl 1 (by decide) (hts _ q25) (fun _ h9 => h9) rfl dX1_levels_11 ?_
      refine lv_iload_n hx hb dX1_levels_14 rfl (lv_at hl 0 rfl) ?_
      refine lv_iconst (v := (fd_lI 0)) hx hb dX1_levels_15 (by decide +kernel) ?_
      refine fw_iast (g := fd_lI) (x := 0) (k := i) hx hb hK hP hD hS 2 rfl (by omega) (by decide) dX1_levels_16 (fun H locs hP hD hS => ?_)
      have hP : va_P D vwCl (fd_wN b0 b1 b2 b3 b4 dA n L (fd_up lv i 0) N row) H := hP
      have hD : va_D A (fd_wN b0 b1 b2 b3 b4 dA n L (fd_up lv i 0) N row) := hD
      refine lv_iinc (v := nI (i + 1)) (lv' := [(3, .int (nI (i + 1))), (0, .ref b0), (1, .int (nI sr)), (2, .int (nI tg))]) hx hb dX1_levels_17 hl (k := 0) rfl (nI_1 _) (by decide) rfl (fun ls hl => ?_)
      refine lv_goto (tgt := 2) hx hb dX1_levels_20 (by decide) ?_
      exact ih (i + 1) (fd_up lv i 0) (by omega) (by omega) (fun j hj => by
        by_cases e : j = i
        · rw [e, fd_us]
        · rw [fd_un e]; exact h3 j (by omega)) H locs ls hP hD hS (lv_sub hl [0, 1, 2, 3] rfl)
theorem fd_BI_lv {n s tail hd : Nat} {L lv row : Nat → Nat} (h : fd_BI n s L hd tail lv row) : tail ≤ n ∧ ∀ y, y < n → lv y ≤ n := by
  obtain ⟨h1, h2, h3, h4, -⟩ := h
  have hc := fd_cnt_le lv n
  refine ⟨by omega, fun y hy => ?_⟩
  by_cases hz : lv y = 0
  · omega
  · obtain ⟨j, hj, e⟩ := h4 y hy (by omega)
    have h9 := (h3 j hj).2.2
    rw [e] at h9
    omega
set_option maxHeartbeats 4000000 in
set_option maxRecDepth 100000 in
theorem fd_lev_2 (hx : p.tables.exec = Jvm.exec) (hb : c.code = cX1_levels) (hown : s.vm.findClass RX1 = some m.cls) (hts : ∀ w ∈ lw_all, w.before args s = true) (hK : va_K D vwCl (fd_ty dA dB) s) {b0 b1 b2 b3 b4 : Nat} {n sr tg hd u : Nat} {L N : Nat → Nat} (hn : n ≤ 10) (hLb : ∀ a b, a < n → b < n → L (10 * a + b) < 2 ^ 22)
    (kk : ∀ (tl : Nat) (lv row : Nat → Nat) (H : Heap) (locs : List Loc) (ls : Array Slot), fd_BI n sr L hd tl lv row → hd < tl → row hd = u → (∀ y, y < n → 0 < L (10 * u + y) → 1 ≤ lv y) → va_P D vwCl (fd_wN b0 b1 b2 b3 b4 dA n L lv N row) H → va_D A (fd_wN b0 b1 b2 b3 b4 dA n L lv N row) → va_S A s.heap H locs → lv_has ls 7 [(4, .int (nI tl)), (3, .int (nI (hd + 1))), (0, .ref b0), (1, .int (nI sr)), (2, .int (nI tg))] → W p l e R s m args below meth c H locs cells slots Q (F0 m 135 ls [])) :
    ∀ (k v tl : Nat) (lv row : Nat → Nat), n + 1 ≤ v + k → v ≤ n → fd_BI n sr L hd tl lv row → hd < tl → row hd = u → (∀ y, y < v → 0 < L (10 * u + y) → 1 ≤ lv y) → ∀ (H : Heap) (locs : List Loc) (ls : Array Slot), va_P D vwCl (fd_wN b0 b1 b2 b3 b4 dA n L lv N row) H → va_D A (fd_wN b0 b1 b2 b3 b4 dA n L lv N row) → va_S A s.heap H locs → lv_has ls 7 [(6, .int (nI v)), (4, .int (nI tl)), (3, .int (nI (hd + 1))), (5, .int (nI u)), (0, .ref b0), (1, .int (nI sr)), (2, .int (nI tg))] → W p l e R s m args below meth c H locs cells slots Q (F0 m 62 ls []) := by
  intro k
  induction k with
  | zero =>
    intro v tl lv row h1 h2
    omega
  | succ k ih =>
    intro v tl lv row h1 h2 hB hh hu hc H locs ls hP hD hS hl
    obtain ⟨htl, hlvb⟩ := fd_BI_lv hB
    have hun : u < n := by rw [← hu]; exact (hB.2.2.1 hd hh).1
    refine lv_iload hx hb dX1_levels_62 (lv_at hl 0 rfl) ?_
    refine lv_aload_n hx hb dX1_levels_64 rfl (lv_at hl 4 rfl) ?_
    refine va_get (D := D) (ci := 1) (v := .int (nI n)) (C := RX1) (T := TX1) (N := 5) hx hb hts in_X1 hown hK hP 0 rfl rfl 4 (by decide) (hts _ q29) (fun _ h9 => h9) rfl dX1_levels_65 ?_
    refine fw_icmp_ge (tgt := 135) hx hb (by omega) (by omega) dX1_levels_68 (by decide) (fun c1 => ?_) (fun c1 => ?_)
    · exact kk tl lv row H locs ls hB hh hu (fun y hy g => hc y (by omega) g) hP hD hS (lv_sub hl [1, 2, 4, 5, 6] rfl)
    · have hlv := hlvb v c1
      have hLv := hLb u v hun c1
      refine lv_aload_n hx hb dX1_levels_71 rfl (lv_at hl 4 rfl) ?_
      refine va_get (D := D) (ci := 1) (v := .ref b2) (C := RX1) (T := TX1) (N := 5) hx hb hts in_X1 hown hK hP 0 rfl rfl 1 (by decide) (hts _ q25) (fun _ h9 => h9) rfl dX1_levels_72 ?_
      refine lv_iload hx hb dX1_levels_75 (lv_at hl 0 rfl) ?_
      refine fw_iald (g := fd_lI) hx hb hK hP 2 rfl (by omega) (by decide) dX1_levels_77 ?_
      refine lv_iconst (v := (fd_lI 0)) hx hb dX1_levels_78 (by decide +kernel) ?_
      refine lv_icmp_ne (tgt := 129) hx hb dX1_levels_79 (by decide) (fun c2 => ?_) (fun c2 => ?_)
      · have c3 : lv v ≠ 0 := fun q => c2 (by rw [q])
        refine lv_iinc (v := nI (v + 1)) (lv' := [(6, .int (nI (v + 1))), (4, .int (nI tl)), (3, .int (nI (hd + 1))), (5, .int (nI u)), (0, .ref b0), (1, .int (nI sr)), (2, .int (nI tg))]) hx hb dX1_levels_129 hl (k := 0) rfl (nI_1 _) (by decide) rfl (fun ls hl => ?_)
        refine lv_goto (tgt := 62) hx hb dX1_levels_132 (by decide) ?_
        exact ih (v + 1) tl lv row (by omega) (by omega) hB hh hu (fun y hy g => by
          by_cases e : y = v
          · subst e; omega
          · exact hc y (by omega) g) H locs ls hP hD hS (lv_sub hl [0, 1, 2, 3, 4, 5, 6] rfl)
      · have c3 : lv v = 0 := (fd_lI_eq (by omega) (by omega)).mp c2
        refine lv_aload_n hx hb dX1_levels_82 rfl (lv_at hl 4 rfl) ?_
        refine va_get (D := D) (ci := 1) (v := .ref b1) (C := RX1) (T := TX1) (N := 5) hx hb hts in_X1 hown hK hP 0 rfl rfl 0 (by decide) (hts _ q23) (fun _ h9 => h9) rfl dX1_levels_83 ?_
        refine lv_bipush (v := (nI 10)) hx hb dX1_levels_86 (by decide +kernel) ?_
        refine lv_iload hx hb dX1_levels_88 (lv_at hl 3 rfl) ?_
        refine fw_imul hx hb dX1_levels_90 ?_
        refine lv_iload hx hb dX1_levels_91 (lv_at hl 0 rfl) ?_
        refine fw_iadd hx hb dX1_levels_93 ?_
        refine fw_iald (g := nI) hx hb hK hP 1 rfl (by omega) (by decide) dX1_levels_94 ?_
        refine fw_if_ne (tgt := 101) hx hb (by omega) dX1_levels_95 (by decide) (fun c4 => ?_) (fun c4 => ?_)
        · refine lv_aload_n hx hb dX1_levels_101 rfl (lv_at hl 4 rfl) ?_
          refine va_get (D := D) (ci := 1) (v := .ref b2) (C := RX1) (T := TX1) (N := 5) hx hb hts in_X1 hown hK hP 0 rfl rfl 1 (by decide) (hts _ q25) (fun _ h9 => h9) rfl dX1_levels_102 ?_
          refine lv_iload hx hb dX1_levels_105 (lv_at hl 0 rfl) ?_
          refine lv_aload_n hx hb dX1_levels_107 rfl (lv_at hl 4 rfl) ?_
          refine va_get (D := D) (ci := 1) (v := .ref b2) (C := RX1) (T := TX1) (N := 5) hx hb hts in_X1 hown hK hP 0 rfl rfl 1 (by decide) (hts _ q25) (fun _ h9 => h9) rfl dX1_levels_108 ?_
          refine lv_iload hx hb dX1_levels_111 (lv_at hl 3 rfl) ?_
          refine fw_iald (g := fd_lI) hx hb hK hP 2 rfl (by omega) (by decide) dX1_levels_113 ?_
          refine lv_iconst (v := 1) hx hb dX1_levels_114 (by decide +kernel) ?_
          refine fw_lI1 hx hb dX1_levels_115 ?_
          refine fw_iast (g := fd_lI) (x := lv u + 1) (k := v) hx hb hK hP hD hS 2 rfl (by omega) (by decide) dX1_levels_116 (fun H locs hP hD hS => ?_)
          have hP : va_P D vwCl (fd_wN b0 b1 b2 b3 b4 dA n L (fd_up lv v (lv u + 1)) N row) H := hP
          have hD : va_D A (fd_wN b0 b1 b2 b3 b4 dA n L (fd_up lv v (lv u + 1)) N row) := hD
          obtain ⟨g1, g2⟩ := fd_BI_add hB hh c1 c3 (by rw [hu]; omega)
          rw [hu] at g2
          refine lv_aload_n hx hb dX1_levels_117 rfl (lv_at hl 4 rfl) ?_
          refine va_get (D := D) (ci := 1) (v := .ref b4) (C := RX1) (T := TX1) (N := 5) hx hb hts in_X1 hown hK hP 0 rfl rfl 3 (by decide) (hts _ q28) (fun _ h9 => h9) rfl dX1_levels_118 ?_
          refine lv_iload hx hb dX1_levels_121 (lv_at hl 1 rfl) ?_
          refine lv_iload hx hb dX1_levels_123 (lv_at hl 0 rfl) ?_
          refine fw_iast (g := nI) (x := v) (k := tl) hx hb hK hP hD hS 4 rfl (by omega) (by decide) dX1_levels_125 (fun H locs hP hD hS => ?_)
          have hP : va_P D vwCl (fd_wN b0 b1 b2 b3 b4 dA n L (fd_up lv v (lv u + 1)) N (fd_up row tl v)) H := hP
          have hD : va_D A (fd_wN b0 b1 b2 b3 b4 dA n L (fd_up lv v (lv u + 1)) N (fd_up row tl v)) := hD
          refine lv_iinc (v := nI (tl + 1)) (lv' := [(4, .int (nI (tl + 1))), (6, .int (nI v)), (3, .int (nI (hd + 1))), (5, .int (nI u)), (0, .ref b0), (1, .int (nI sr)), (2, .int (nI tg))]) hx hb dX1_levels_126 hl (k := 1) rfl (nI_1 _) (by decide) rfl (fun ls hl => ?_)
          refine lv_iinc (v := nI (v + 1)) (lv' := [(6, .int (nI (v + 1))), (4, .int (nI (tl + 1))), (3, .int (nI (hd + 1))), (5, .int (nI u)), (0, .ref b0), (1, .int (nI sr)), (2, .int (nI tg))]) hx hb dX1_levels_129 hl (k := 1) rfl (nI_1 _) (by decide) rfl (fun ls hl => ?_)
          refine lv_goto (tgt := 62) hx hb dX1_levels_132 (by decide) ?_
          exact ih (v + 1) (tl + 1) (fd_up lv v (lv u + 1)) (fd_up row tl v) (by omega) (by omega) g2 (by omega) (by rw [fd_un (by omega)]; exact hu) (fun y hy g => by
            by_cases e : y = v
            · rw [e, fd_us]; omega
            · rw [fd_un e]; exact hc y (by omega) g) H locs ls hP hD hS (lv_sub hl [0, 1, 2, 3, 4, 5, 6] rfl)
        · refine lv_goto (tgt := 129) hx hb dX1_levels_98 (by decide) ?_
          refine lv_iinc (v := nI (v + 1)) (lv' := [(6, .int (nI (v + 1))), (4, .int (nI tl)), (3, .int (nI (hd + 1))), (5, .int (nI u)), (0, .ref b0), (1, .int (nI sr)), (2, .int (nI tg))]) hx hb dX1_levels_129 hl (k := 0) rfl (nI_1 _) (by decide) rfl (fun ls hl => ?_)
          refine lv_goto (tgt := 62) hx hb dX1_levels_132 (by decide) ?_
          exact ih (v + 1) tl lv row (by omega) (by omega) hB hh hu (fun y hy g => by
            by_cases e : y = v
            · subst e; omega
            · exact hc y (by omega) g) H locs ls hP hD hS (lv_sub hl [0, 1, 2, 3, 4, 5, 6] rfl)
set_option maxHeartbeats 4000000 in
set_option maxRecDepth 100000 in
theorem fd_lev_3 (hx : p.tables.exec = Jvm.exec) (hb : c.code = cX1_levels) (hown : s.vm.findClass RX1 = some m.cls) (hts : ∀ w ∈ lw_all, w.before args s = true) (hK : va_K D vwCl (fd_ty dA dB) s) {b0 b1 b2 b3 b4 : Nat} {n sr tg : Nat} {L N : Nat → Nat} (hn : n ≤ 10) (hLb : ∀ a b, a < n → b < n → L (10 * a + b) < 2 ^ 22)
    (kk : ∀ (lv row : Nat → Nat) (H : Heap) (locs : List Loc) (ls : Array Slot), fd_Lev n sr L lv → va_P D vwCl (fd_wN b0 b1 b2 b3 b4 dA n L lv N row) H → va_D A (fd_wN b0 b1 b2 b3 b4 dA n L lv N row) → va_S A s.heap H locs → lv_has ls 7 [(0, .ref b0), (1, .int (nI sr)), (2, .int (nI tg))] → W p l e R s m args below meth c H locs cells slots Q (F0 m 138 ls [])) :
    ∀ (k hd tl : Nat) (lv row : Nat → Nat), n + 1 ≤ hd + k → fd_BI n sr L hd tl lv row → ∀ (H : Heap) (locs : List Loc) (ls : Array Slot), va_P D vwCl (fd_wN b0 b1 b2 b3 b4 dA n L lv N row) H → va_D A (fd_wN b0 b1 b2 b3 b4 dA n L lv N row) → va_S A s.heap H locs → lv_has ls 7 [(3, .int (nI hd)), (4, .int (nI tl)), (0, .ref b0), (1, .int (nI sr)), (2, .int (nI tg))] → W p l e R s m args below meth c H locs cells slots Q (F0 m 42 ls []) := by
  intro k
  induction k with
  | zero =>
    intro hd tl lv row h1 hB
    obtain ⟨htl, -⟩ := fd_BI_lv hB
    have := hB.1
    omega
  | succ k ih =>
    intro hd tl lv row h1 hB H locs ls hP hD hS hl
    obtain ⟨htl, hlvb⟩ := fd_BI_lv hB
    have hle := hB.1
    refine lv_iload_n hx hb dX1_levels_42 rfl (lv_at hl 0 rfl) ?_
    refine lv_iload hx hb dX1_levels_43 (lv_at hl 1 rfl) ?_
    refine fw_icmp_ge (tgt := 138) hx hb (by omega) (by omega) dX1_levels_45 (by decide) (fun c1 => ?_) (fun c1 => ?_)
    · have e1 : hd = tl := by omega
      subst e1
      exact kk lv row H locs ls (fd_BI_end hn hB) hP hD hS (lv_sub hl [2, 3, 4] rfl)
    · refine lv_aload_n hx hb dX1_levels_48 rfl (lv_at hl 2 rfl) ?_
      refine va_get (D := D) (ci := 1) (v := .ref b4) (C := RX1) (T := TX1) (N := 5) hx hb hts in_X1 hown hK hP 0 rfl rfl 3 (by decide) (hts _ q28) (fun _ h9 => h9) rfl dX1_levels_49 ?_
      refine lv_iload_n hx hb dX1_levels_52 rfl (lv_at hl 0 rfl) ?_
      refine fw_iald (g := nI) hx hb hK hP 4 rfl (by omega) (by decide) dX1_levels_53 ?_
      refine lv_istore (lv' := [(5, .int (nI (row hd))), (3, .int (nI hd)), (4, .int (nI tl)), (0, .ref b0), (1, .int (nI sr)), (2, .int (nI tg))]) hx hb dX1_levels_54 hl (by decide) rfl (fun ls hl => ?_)
      refine lv_iinc (v := nI (hd + 1)) (lv' := [(3, .int (nI (hd + 1))), (5, .int (nI (row hd))), (4, .int (nI tl)), (0, .ref b0), (1, .int (nI sr)), (2, .int (nI tg))]) hx hb dX1_levels_56 hl (k := 1) rfl (nI_1 _) (by decide) rfl (fun ls hl => ?_)
      refine lv_iconst (v := (nI 0)) hx hb dX1_levels_59 (by decide +kernel) ?_
      refine lv_istore (lv' := [(6, .int (nI 0)), (3, .int (nI (hd + 1))), (5, .int (nI (row hd))), (4, .int (nI tl)), (0, .ref b0), (1, .int (nI sr)), (2, .int (nI tg))]) hx hb dX1_levels_60 hl (by decide) rfl (fun ls hl => ?_)
      refine fd_lev_2 (hd := hd) (u := row hd) hx hb hown hts hK hn hLb ?_ (n + 1) 0 tl lv row (by omega) (by omega) hB c1 rfl (fun y hy => absurd hy (by omega)) H locs ls hP hD hS (lv_sub hl [0, 3, 1, 2, 4, 5, 6] rfl)
      intro tl2 lv2 row2 H locs ls hB2 hh2 hu2 hc2 hP hD hS hl
      refine lv_goto (tgt := 42) hx hb dX1_levels_135 (by decide) ?_
      exact ih (hd + 1) tl2 lv2 row2 (by omega) (fd_BI_close hB2 hh2 (by rw [hu2]; exact hc2)) H locs ls hP hD hS (lv_sub hl [1, 0, 2, 3, 4] rfl)
end FDLEV
set_option maxHeartbeats 4000000 in
set_option maxRecDepth 100000 in
/-- levels(from, to): the levels of what is left; whether 'to' is reached -/
theorem met_levels (l : Launch) (D : va_G) (dA dB : ClassId) (b0 b1 b2 b3 b4 n : Nat) (L lv N row : Nat → Nat) (sr tg sz : Nat) (hn : n ≤ 10) (hs : sr < n) (ht : tg < n) (hLb : ∀ a b, a < n → b < n → L (10 * a + b) < 2 ^ 22) :
    Met l yX1_levels (ws_ yX1_levels cX1_levels 7 (some .boolean)) ({ frames := 0, cells := 0, slots := 0, locals := 0 }) (fd_pC D dA dB [.ref b0, .int (nI sr), .int (nI tg)] sz (fd_wN b0 b1 b2 b3 b4 dA n L lv N row)) (va_Qi (fun (r : Int32) (u : (Nat → Nat) × (Nat → Nat)) => fd_Lev n sr L u.1 ∧ r = (if u.1 tg = 0 then 0 else 1)) (fd_B D dA dB (va_A (fd_wN b0 b1 b2 b3 b4 dA n L lv N row) sz) (fun u => fd_wN b0 b1 b2 b3 b4 dA n L u.1 N u.2)) (va_A (fd_wN b0 b1 b2 b3 b4 dA n L lv N row) sz)) 0 0 (va_A (fd_wN b0 b1 b2 b3 b4 dA n L lv N row) sz) := by
  refine fd_ofW (Qf := fun A => va_Qi (fun (r : Int32) (u : (Nat → Nat) × (Nat → Nat)) => fd_Lev n sr L u.1 ∧ r = (if u.1 tg = 0 then 0 else 1)) (fd_B D dA dB A (fun u => fd_wN b0 b1 b2 b3 b4 dA n L u.1 N u.2)) A) (by decide) (Nat.le_of_ble_eq_true rfl) ?_
  intro p e s m below meth c A ls hx hb hr hml hown hlocks hts hname hP hK hD hA hS hl
  have hl : lv_has ls 7 [(0, .ref b0), (1, .int (nI sr)), (2, .int (nI tg))] := hl
  refine lv_iconst (v := (nI 0)) hx hb dX1_levels_0 (by decide +kernel) ?_
  refine lv_istore_n (lv' := [(3, .int (nI 0)), (0, .ref b0), (1, .int (nI sr)), (2, .int (nI tg))]) hx hb dX1_levels_1 rfl hl (by decide) rfl (fun ls hl => ?_)
  refine fd_lev_1 hx hb hown hts hK hn ?_ (n + 1) 0 lv (by omega) (by omega) (fun j hj => absurd hj (by omega)) s.heap [] ls hP hD hS (lv_sub hl [0, 1, 2, 3] rfl)
  intro lv1 H locs ls hz hP hD hS hl
  refine lv_iconst (v := (nI 0)) hx hb dX1_levels_23 (by decide +kernel) ?_
  refine lv_istore_n (lv' := [(3, .int (nI 0)), (0, .ref b0), (1, .int (nI sr)), (2, .int (nI tg))]) hx hb dX1_levels_24 rfl hl (by decide) rfl (fun ls hl => ?_)
  refine lv_iconst (v := (nI 1)) hx hb dX1_levels_25 (by decide +kernel) ?_
  refine lv_istore (lv' := [(4, .int (nI 1)), (3, .int (nI 0)), (0, .ref b0), (1, .int (nI sr)), (2, .int (nI tg))]) hx hb dX1_levels_26 hl (by decide) rfl (fun ls hl => ?_)
  refine lv_aload_n hx hb dX1_levels_28 rfl (lv_at hl 2 rfl) ?_
  refine va_get (D := D) (ci := 1) (v := .ref b4) (C := RX1) (T := TX1) (N := 5) hx hb hts in_X1 hown hK hP 0 rfl rfl 3 (by decide) (hts _ q28) (fun _ h9 => h9) rfl dX1_levels_29 ?_
  refine lv_iconst (v := (nI 0)) hx hb dX1_levels_32 (by decide +kernel) ?_
  refine lv_iload_n hx hb dX1_levels_33 rfl (lv_at hl 3 rfl) ?_
  refine fw_iast (g := nI) (x := sr) (k := 0) hx hb hK hP hD hS 4 rfl (by omega) (by decide) dX1_levels_34 (fun H locs hP hD hS => ?_)
  have hP : va_P D vwCl (fd_wN b0 b1 b2 b3 b4 dA n L lv1 N (fd_up row 0 sr)) H := hP
  have hD : va_D A (fd_wN b0 b1 b2 b3 b4 dA n L lv1 N (fd_up row 0 sr)) := hD
  refine lv_aload_n hx hb dX1_levels_35 rfl (lv_at hl 2 rfl) ?_
  refine va_get (D := D) (ci := 1) (v := .ref b2) (C := RX1) (T := TX1) (N := 5) hx hb hts in_X1 hown hK hP 0 rfl rfl 1 (by decide) (hts _ q25) (fun _ h9 => h9) rfl dX1_levels_36 ?_
  refine lv_iload_n hx hb dX1_levels_39 rfl (lv_at hl 3 rfl) ?_
  refine lv_iconst (v := (fd_lI 1)) hx hb dX1_levels_40 (by decide +kernel) ?_
  refine fw_iast (g := fd_lI) (x := 1) (k := sr) hx hb hK hP hD hS 2 rfl (by omega) (by decide) dX1_levels_41 (fun H locs hP hD hS => ?_)
  have hP : va_P D vwCl (fd_wN b0 b1 b2 b3 b4 dA n L (fd_up lv1 sr 1) N (fd_up row 0 sr)) H := hP
  have hD : va_D A (fd_wN b0 b1 b2 b3 b4 dA n L (fd_up lv1 sr 1) N (fd_up row 0 sr)) := hD
  refine fd_lev_3 hx hb hown hts hK hn hLb ?_ (n + 1) 0 1 (fd_up lv1 sr 1) (fd_up row 0 sr) (by omega) (fd_BI_0 hs hz) H locs ls hP hD hS (lv_sub hl [1, 0, 2, 3, 4] rfl)
  intro lv2 row2 H locs ls hL hP hD hS hl
  have hlt := hL.2.1 tg ht
  refine lv_aload_n hx hb dX1_levels_138 rfl (lv_at hl 0 rfl) ?_
  refine va_get (D := D) (ci := 1) (v := .ref b2) (C := RX1) (T := TX1) (N := 5) hx hb hts in_X1 hown hK hP 0 rfl rfl 1 (by decide) (hts _ q25) (fun _ h9 => h9) rfl dX1_levels_139 ?_
  refine lv_iload_n hx hb dX1_levels_142 rfl (lv_at hl 2 rfl) ?_
  refine fw_iald (g := fd_lI) hx hb hK hP 2 rfl (by omega) (by decide) dX1_levels_143 ?_
  refine lv_iconst (v := (fd_lI 0)) hx hb dX1_levels_144 (by decide +kernel) ?_
  refine lv_icmp_eq (tgt := 152) hx hb dX1_levels_145 (by decide) (fun c1 => ?_) (fun c1 => ?_)
  · have c2 : lv2 tg = 0 := (fd_lI_eq (by omega) (by omega)).mp c1
    refine lv_iconst (v := 0) hx hb dX1_levels_152 (by decide +kernel) ?_
    exact fd_zret (lv2, row2) hx hb hr rfl hlocks hK hP hD hS ⟨hL, by rw [if_pos c2]⟩ dX1_levels_153
  · have c2 : lv2 tg ≠ 0 := fun q => c1 (by rw [q])
    refine lv_iconst (v := 1) hx hb dX1_levels_148 (by decide +kernel) ?_
    refine lv_goto (tgt := 153) hx hb dX1_levels_149 (by decide) ?_
    exact fd_zret (lv2, row2) hx hb hr rfl hlocks hK hP hD hS ⟨hL, by rw [if_neg c2]⟩ dX1_levels_153
end
section
theorem fd_minl {x y : Nat} (h1 : x < 2 ^ 63) (h2 : y < 2 ^ 63) : (if lN y < lN x then lN y else lN x) = lN (min x y) := by
  by_cases h : lN y < lN x
  · rw [if_pos h]
    have := (pk_lLT h2 h1).mp h
    rw [Nat.min_eq_right (by omega)]
  · rw [if_neg h]
    have : ¬ y < x := fun q => h ((pk_lLT h2 h1).mpr q)
    rw [Nat.min_eq_left (by omega)]
/-! ===== FlowDesk$Net.push ===== -/
abbrev fd_rP (d : Nat) : Room := { frames := d + 1, cells := 0, slots := 0, locals := 30 * d + 30 }
/-- push's contract, down to depth d -/
def fd_CP (l : Launch) (D : va_G) (dA dB : ClassId) (d : Nat) : Prop := ∀ (b0 b1 b2 b3 b4 n : Nat) (L lv N row : Nat → Nat) (u tg most sz : Nat), n ≤ 10 → u < n → tg < n → (∀ x, x < n → N x ≤ n) → (∀ y, y < n → lv y ≤ 10) → (∀ a b, a < n → b < n → L (10 * a + b) + L (10 * b + a) < 2 ^ 22) → most ≤ 2 ^ 40 → 10 ≤ lv u + d →
    Met l yX1_push (ws_ yX1_push cX1_push 11 (some .long)) (fd_rP d) (fd_pC D dA dB [.ref b0, .int (nI u), .int (nI tg), .long (lN most)] sz (fd_wN b0 b1 b2 b3 b4 dA n L lv N row)) (va_Ql (fun (r : Int64) (w : (Nat → Nat) × (Nat → Nat)) => ∃ d, r = lN d ∧ fd_Push n tg lv u most L N d w.1 w.2) (fd_B D dA dB (va_A (fd_wN b0 b1 b2 b3 b4 dA n L lv N row) sz) (fun w => fd_wN b0 b1 b2 b3 b4 dA n w.1 lv w.2 row)) (va_A (fd_wN b0 b1 b2 b3 b4 dA n L lv N row) sz)) 0 0 (va_A (fd_wN b0 b1 b2 b3 b4 dA n L lv N row) sz)
section FDPUSH
variable {p : Program} {l : Launch} {e : Env} {R : Room} {s : State} {m : MethodId} {args : Array Value} {below : List Frame} {meth : Method} {c : Code} {cells slots : Nat} {Q : State → Prop} {D : va_G} {A : Nat → Prop} {dA dB : ClassId}
set_option maxHeartbeats 4000000 in
set_option maxRecDepth 100000 in
theorem fd_push_1 (hx : p.tables.exec = Jvm.exec) (hb : c.code = cX1_push) (hown : s.vm.findClass RX1 = some m.cls) (hts : ∀ w ∈ lw_all, w.before args s = true) (hK : va_K D vwCl (fd_ty dA dB) s) {b0 b1 b2 b3 b4 : Nat} {n u tg most : Nat} {L lv N row : Nat → Nat} (hn : n ≤ 10) (hu : u < n) (hm : most ≤ 2 ^ 40) {k v : Nat} (hv : v < n) (hk : n ≤ v + k)
    (kk : ∀ (sent : Nat) (Lc Nc : Nat → Nat) (H : Heap) (locs : List Loc) (ls : Array Slot), fd_PL n tg lv u most L N sent Lc Nc → (n + 1 ≤ Nc u + k ∨ (most ≤ sent ∧ 1 ≤ k)) → va_P D vwCl (fd_wN b0 b1 b2 b3 b4 dA n Lc lv Nc row) H → va_D A (fd_wN b0 b1 b2 b3 b4 dA n Lc lv Nc row) → va_S A s.heap H locs → lv_has ls 11 [(0, .ref b0), (1, .int (nI u)), (2, .int (nI tg)), (3, .long (lN most)), (5, .long (lN sent))] → W p l e R s m args below meth c H locs cells slots Q (F0 m 10 ls [])) :
    ∀ (sent : Nat) (Lc Nc : Nat → Nat) (H : Heap) (locs : List Loc) (ls : Array Slot), fd_PL n tg lv u most L N sent Lc Nc → Nc u = v → (sent = 0 → 0 < L (10 * u + v) → lv v = lv u + 1 → v ≠ tg ∧ Nc v = n) → va_P D vwCl (fd_wN b0 b1 b2 b3 b4 dA n Lc lv Nc row) H → va_D A (fd_wN b0 b1 b2 b3 b4 dA n Lc lv Nc row) → va_S A s.heap H locs → lv_has ls 11 [(0, .ref b0), (1, .int (nI u)), (2, .int (nI tg)), (3, .long (lN most)), (5, .long (lN sent))] → W p l e R s m args below meth c H locs cells slots Q (F0 m 140 ls []) := by
  intro sent Lc Nc H locs ls hPL hNv hc hP hD hS hl
  have hsm := hPL.1
  refine lv_lload hx hb dX1_push_140 (lv_at hl 4 rfl) ?_
  refine lv_lload_n hx hb dX1_push_142 rfl (lv_at hl 3 rfl) ?_
  refine fw_lcmp_geN (tgt := 157) hx hb (by omega) (by omega) dX1_push_143 dX1_push_144 (by decide) (fun c1 => ?_) (fun c1 => ?_)
  · refine lv_goto (tgt := 10) hx hb dX1_push_157 (by decide) ?_
    exact kk sent Lc Nc H locs ls hPL (Or.inr ⟨c1, by omega⟩) hP hD hS (lv_sub hl [0, 1, 2, 3, 4] rfl)
  · refine lv_aload_n hx hb dX1_push_147 rfl (lv_at hl 0 rfl) ?_
    refine va_get (D := D) (ci := 1) (v := .ref b3) (C := RX1) (T := TX1) (N := 5) hx hb hts in_X1 hown hK hP 0 rfl rfl 2 (by decide) (hts _ q27) (fun _ h9 => h9) rfl dX1_push_148 ?_
    refine lv_iload_n hx hb dX1_push_151 rfl (lv_at hl 1 rfl) ?_
    refine lv_dup2_11 hx hb dX1_push_152 rfl rfl ?_
    refine fw_iald (g := nI) hx hb hK hP 3 rfl (by omega) (by decide) dX1_push_153 ?_
    refine lv_iconst (v := (nI 1)) hx hb dX1_push_154 (by decide +kernel) ?_
    refine fw_iadd hx hb dX1_push_155 ?_
    refine fw_iast (g := nI) (x := (Nc u) + 1) (k := u) hx hb hK hP hD hS 3 rfl (by omega) (by decide) dX1_push_156 (fun H locs hP hD hS => ?_)
    have hP : va_P D vwCl (fd_wN b0 b1 b2 b3 b4 dA n Lc lv (fd_up Nc u ((Nc u) + 1)) row) H := hP
    have hD : va_D A (fd_wN b0 b1 b2 b3 b4 dA n Lc lv (fd_up Nc u ((Nc u) + 1)) row) := hD
    refine lv_goto (tgt := 10) hx hb dX1_push_157 (by decide) ?_
    have g := fd_PL_inc hu hv hNv hc hPL
    rw [← hNv] at g
    exact kk sent Lc (fd_up Nc u (Nc u + 1)) H locs ls g (Or.inl (by rw [fd_us]; omega)) hP hD hS (lv_sub hl [0, 1, 2, 3, 4] rfl)
set_option maxHeartbeats 4000000 in
set_option maxRecDepth 100000 in
theorem fd_push_2 (hx : p.tables.exec = Jvm.exec) (hb : c.code = cX1_push) (hown : s.vm.findClass RX1 = some m.cls) (hts : ∀ w ∈ lw_all, w.before args s = true) (hK : va_K D vwCl (fd_ty dA dB) s) (hml : c.maxLocals = 11) (hA : ∀ q : Nat, s.heap.size ≤ q → A q) {b0 b1 b2 b3 b4 : Nat} {n u tg most d : Nat} {L lv N row : Nat → Nat} (hR : R = fd_rP d) (hrec : ∀ d', d = d' + 1 → fd_CP l D dA dB d') (hn : n ≤ 10) (hu : u < n) (ht : tg < n) (hlv : ∀ y, y < n → lv y ≤ 10) (hLb : ∀ a b, a < n → b < n → L (10 * a + b) + L (10 * b + a) < 2 ^ 22) (hm : most ≤ 2 ^ 40) (hd : 10 ≤ lv u + d)
    (kk : ∀ (sent : Nat) (Lc Nc : Nat → Nat) (H : Heap) (locs : List Loc) (ls : Array Slot), fd_PL n tg lv u most L N sent Lc Nc → (n ≤ Nc u ∨ most ≤ sent) → va_P D vwCl (fd_wN b0 b1 b2 b3 b4 dA n Lc lv Nc row) H → va_D A (fd_wN b0 b1 b2 b3 b4 dA n Lc lv Nc row) → va_S A s.heap H locs → lv_has ls 11 [(0, .ref b0), (1, .int (nI u)), (2, .int (nI tg)), (3, .long (lN most)), (5, .long (lN sent))] → W p l e R s m args below meth c H locs 0 0 Q (F0 m 160 ls [])) :
    ∀ (k sent : Nat) (Lc Nc : Nat → Nat) (H : Heap) (locs : List Loc) (ls : Array Slot), fd_PL n tg lv u most L N sent Lc Nc → (n + 1 ≤ Nc u + k ∨ (most ≤ sent ∧ 1 ≤ k)) → va_P D vwCl (fd_wN b0 b1 b2 b3 b4 dA n Lc lv Nc row) H → va_D A (fd_wN b0 b1 b2 b3 b4 dA n Lc lv Nc row) → va_S A s.heap H locs → lv_has ls 11 [(0, .ref b0), (1, .int (nI u)), (2, .int (nI tg)), (3, .long (lN most)), (5, .long (lN sent))] → W p l e R s m args below meth c H locs 0 0 Q (F0 m 10 ls []) := by
  intro k
  induction k with
  | zero =>
    intro sent Lc Nc H locs ls hPL hk
    have := hPL.2.2.2.2.1 u hu
    omega
  | succ k ih =>
    intro sent Lc Nc H locs ls hPL hk hP hD hS hl
    have hsm := hPL.1
    have hNu := hPL.2.2.2.2.1 u hu
    refine lv_aload_n hx hb dX1_push_10 rfl (lv_at hl 0 rfl) ?_
    refine va_get (D := D) (ci := 1) (v := .ref b3) (C := RX1) (T := TX1) (N := 5) hx hb hts in_X1 hown hK hP 0 rfl rfl 2 (by decide) (hts _ q27) (fun _ h9 => h9) rfl dX1_push_11 ?_
    refine lv_iload_n hx hb dX1_push_14 rfl (lv_at hl 1 rfl) ?_
    refine fw_iald (g := nI) hx hb hK hP 3 rfl (by omega) (by decide) dX1_push_15 ?_
    refine lv_aload_n hx hb dX1_push_16 rfl (lv_at hl 0 rfl) ?_
    refine va_get (D := D) (ci := 1) (v := .int (nI n)) (C := RX1) (T := TX1) (N := 5) hx hb hts in_X1 hown hK hP 0 rfl rfl 4 (by decide) (hts _ q29) (fun _ h9 => h9) rfl dX1_push_17 ?_
    refine fw_icmp_ge (tgt := 160) hx hb (by omega) (by omega) dX1_push_20 (by decide) (fun c1 => ?_) (fun c1 => ?_)
    · exact kk sent Lc Nc H locs ls hPL (Or.inl c1) hP hD hS hl
    · refine lv_lload hx hb dX1_push_23 (lv_at hl 4 rfl) ?_
      refine lv_lload_n hx hb dX1_push_25 rfl (lv_at hl 3 rfl) ?_
      refine fw_lcmp_geN (tgt := 160) hx hb (by omega) (by omega) dX1_push_26 dX1_push_27 (by decide) (fun c2 => ?_) (fun c2 => ?_)
      · exact kk sent Lc Nc H locs ls hPL (Or.inr c2) hP hD hS hl
      · have hlv1 := hlv (Nc u) c1
        have hlv2 := hlv u hu
        have hsum := hPL.2.1 u (Nc u) hu c1
        have hLb1 := hLb u (Nc u) hu c1
        refine lv_aload_n hx hb dX1_push_30 rfl (lv_at hl 0 rfl) ?_
        refine va_get (D := D) (ci := 1) (v := .ref b3) (C := RX1) (T := TX1) (N := 5) hx hb hts in_X1 hown hK hP 0 rfl rfl 2 (by decide) (hts _ q27) (fun _ h9 => h9) rfl dX1_push_31 ?_
        refine lv_iload_n hx hb dX1_push_34 rfl (lv_at hl 1 rfl) ?_
        refine fw_iald (g := nI) hx hb hK hP 3 rfl (by omega) (by decide) dX1_push_35 ?_
        refine lv_istore (lv' := [(7, .int (nI (Nc u))), (0, .ref b0), (1, .int (nI u)), (2, .int (nI tg)), (3, .long (lN most)), (5, .long (lN sent))]) hx hb dX1_push_36 hl (by decide) rfl (fun ls hl => ?_)
        refine lv_aload_n hx hb dX1_push_38 rfl (lv_at hl 1 rfl) ?_
        refine va_get (D := D) (ci := 1) (v := .ref b1) (C := RX1) (T := TX1) (N := 5) hx hb hts in_X1 hown hK hP 0 rfl rfl 0 (by decide) (hts _ q23) (fun _ h9 => h9) rfl dX1_push_39 ?_
        refine lv_bipush (v := (nI 10)) hx hb dX1_push_42 (by decide +kernel) ?_
        refine lv_iload_n hx hb dX1_push_44 rfl (lv_at hl 2 rfl) ?_
        refine fw_imul hx hb dX1_push_45 ?_
        refine lv_iload hx hb dX1_push_46 (lv_at hl 0 rfl) ?_
        refine fw_iadd hx hb dX1_push_48 ?_
        refine fw_iald (g := nI) hx hb hK hP 1 rfl (by omega) (by decide) dX1_push_49 ?_
        refine lv_istore (lv' := [(8, .int (nI (Lc ((10 * u) + (Nc u))))), (7, .int (nI (Nc u))), (0, .ref b0), (1, .int (nI u)), (2, .int (nI tg)), (3, .long (lN most)), (5, .long (lN sent))]) hx hb dX1_push_50 hl (by decide) rfl (fun ls hl => ?_)
        refine lv_lconst (v := (lN 0)) hx hb dX1_push_52 (by decide +kernel) ?_
        refine lv_lstore (lv' := [(9, .long (lN 0)), (8, .int (nI (Lc ((10 * u) + (Nc u))))), (7, .int (nI (Nc u))), (0, .ref b0), (1, .int (nI u)), (2, .int (nI tg)), (3, .long (lN most)), (5, .long (lN sent))]) hx hb dX1_push_53 hl (by decide) rfl (fun ls hl => ?_)
        refine lv_iload hx hb dX1_push_55 (lv_at hl 1 rfl) ?_
        refine fw_if_le (tgt := 140) hx hb (by omega) dX1_push_57 (by decide) (fun c3 => ?_) (fun c3 => ?_)
        · exact fd_push_1 hx hb hown hts hK hn hu hm (v := Nc u) c1 (by omega) ih sent Lc Nc H locs ls hPL rfl (fun h0 g => by rw [← (hPL.2.2.2.2.2.2 h0).1 u (Nc u) hu c1] at g; omega) hP hD hS (lv_sub hl [3, 4, 5, 6, 7] rfl)
        · refine lv_aload_n hx hb dX1_push_60 rfl (lv_at hl 3 rfl) ?_
          refine va_get (D := D) (ci := 1) (v := .ref b2) (C := RX1) (T := TX1) (N := 5) hx hb hts in_X1 hown hK hP 0 rfl rfl 1 (by decide) (hts _ q25) (fun _ h9 => h9) rfl dX1_push_61 ?_
          refine lv_iload hx hb dX1_push_64 (lv_at hl 2 rfl) ?_
          refine fw_iald (g := fd_lI) hx hb hK hP 2 rfl (by omega) (by decide) dX1_push_66 ?_
          refine lv_aload_n hx hb dX1_push_67 rfl (lv_at hl 3 rfl) ?_
          refine va_get (D := D) (ci := 1) (v := .ref b2) (C := RX1) (T := TX1) (N := 5) hx hb hts in_X1 hown hK hP 0 rfl rfl 1 (by decide) (hts _ q25) (fun _ h9 => h9) rfl dX1_push_68 ?_
          refine lv_iload_n hx hb dX1_push_71 rfl (lv_at hl 4 rfl) ?_
          refine fw_iald (g := fd_lI) hx hb hK hP 2 rfl (by omega) (by decide) dX1_push_72 ?_
          refine lv_iconst (v := 1) hx hb dX1_push_73 (by decide +kernel) ?_
          refine fw_lI1 hx hb dX1_push_74 ?_
          refine lv_icmp_ne (tgt := 140) hx hb dX1_push_75 (by decide) (fun c4 => ?_) (fun c4 => ?_)
          · exact fd_push_1 hx hb hown hts hK hn hu hm (v := Nc u) c1 (by omega) ih sent Lc Nc H locs ls hPL rfl (fun _ _ q => absurd (by rw [q]) c4) hP hD hS (lv_sub hl [3, 4, 5, 6, 7] rfl)
          · have c5 : lv (Nc u) = lv u + 1 := (fd_lI_eq (by omega) (by omega)).mp c4
            obtain ⟨d', rfl⟩ : ∃ d', d = d' + 1 := ⟨d - 1, by omega⟩
            refine lv_aload_n hx hb dX1_push_78 rfl (lv_at hl 3 rfl) ?_
            refine lv_iload hx hb dX1_push_79 (lv_at hl 2 rfl) ?_
            refine lv_iload_n hx hb dX1_push_81 rfl (lv_at hl 5 rfl) ?_
            refine lv_lload_n hx hb dX1_push_82 rfl (lv_at hl 6 rfl) ?_
            refine lv_lload hx hb dX1_push_83 (lv_at hl 7 rfl) ?_
            refine fw_lsub hx hb (by omega) dX1_push_85 ?_
            refine lv_iload hx hb dX1_push_86 (lv_at hl 1 rfl) ?_
            refine fw_i2l hx hb (by omega) dX1_push_88 ?_
            refine va_mmin_long hx hb (by rw [hml, hl.1]) hown (hts _ q93) (hts _ q94) (hts _ q8) (hts _ q95) (by rw [hR]; show 1 ≤ d' + 1 + 1; omega) (by rw [hR]; show 3 + 15 ≤ 30 * (d' + 1) + 30; omega) (Nat.zero_le _) (Nat.zero_le _) dX1_push_89 ?_
            refine fw_topl (y := (lN (min (most - sent) (Lc (10 * u + Nc u))))) (fd_minl (by omega) (by omega)) ?_
            have hPm : fd_PL n tg lv u most L N sent Lc Nc := hPL
            refine fd_cVl (wr := []) (rest := []) ⟨hx, hb, hml, hown, hts⟩ (hrec d' rfl b0 b1 b2 b3 b4 n Lc lv Nc row (Nc u) tg (min (most - sent) (Lc (10 * u + Nc u))) H.size hn c1 ht hPL.2.2.2.2.1 hlv (fun a b ha hb => by rw [hPL.2.1 a b ha hb]; exact hLb a b ha hb) (Nat.le_trans (Nat.min_le_left _ _) (by omega)) (by omega)) 3 q89 q90 q91 q6 q92 ⟨rfl, rfl⟩ (by decide +kernel) ⟨by rw [hR]; show d' + 1 + 1 ≤ d' + 1 + 1; omega, by rw [hR]; show 8 + (11 + 11) + (30 * d' + 30) ≤ 30 * (d' + 1) + 30; omega⟩ hK hP hD hS hA [0, 1, 2, 3, 4] [] rfl rfl (by decide) (by decide) (by decide) (ci := 1) (q0 := 0) rfl rfl rfl rfl hl.1 rfl (Nat.le_of_ble_eq_true rfl) dX1_push_92 ⟨Nat.zero_le _, Nat.zero_le _⟩ (fun r1 w H locs hw hP hD hS => ?_)
            obtain ⟨L1, N1⟩ := w
            obtain ⟨dd, rfl, hpush⟩ := hw
            obtain ⟨k1, k2, k3, k4⟩ := fd_PL_rec hn hu c1 c5 c3 c2 hPL hpush
            have hsum1 := k3.2.1
            have hP : va_P D vwCl (fd_wN b0 b1 b2 b3 b4 dA n L1 lv N1 row) H := hP
            have hD : va_D A (fd_wN b0 b1 b2 b3 b4 dA n L1 lv N1 row) := hD
            have hb1 : L1 (10 * u + Nc u) + L1 (10 * Nc u + u) < 2 ^ 22 := by
              rw [hpush.1.2.1 u (Nc u) hu c1, hsum]; exact hLb1
            refine lv_lstore (lv' := [(9, .long (lN dd)), (8, .int (nI (Lc ((10 * u) + (Nc u))))), (7, .int (nI (Nc u))), (0, .ref b0), (1, .int (nI u)), (2, .int (nI tg)), (3, .long (lN most)), (5, .long (lN sent))]) hx hb dX1_push_95 hl (by decide) rfl (fun ls hl => ?_)
            refine lv_aload_n hx hb dX1_push_97 rfl (lv_at hl 3 rfl) ?_
            refine va_get (D := D) (ci := 1) (v := .ref b1) (C := RX1) (T := TX1) (N := 5) hx hb hts in_X1 hown hK hP 0 rfl rfl 0 (by decide) (hts _ q23) (fun _ h9 => h9) rfl dX1_push_98 ?_
            refine lv_bipush (v := (nI 10)) hx hb dX1_push_101 (by decide +kernel) ?_
            refine lv_iload_n hx hb dX1_push_103 rfl (lv_at hl 4 rfl) ?_
            refine fw_imul hx hb dX1_push_104 ?_
            refine lv_iload hx hb dX1_push_105 (lv_at hl 2 rfl) ?_
            refine fw_iadd hx hb dX1_push_107 ?_
            refine lv_dup2_11 hx hb dX1_push_108 rfl rfl ?_
            refine fw_iald (g := nI) hx hb hK hP 1 rfl (by omega) (by decide) dX1_push_109 ?_
            refine lv_lload hx hb dX1_push_110 (lv_at hl 0 rfl) ?_
            refine fw_l2i hx hb dX1_push_112 ?_
            refine fw_isub hx hb (by omega) dX1_push_113 ?_
            refine fw_iast (g := nI) (x := (L1 ((10 * u) + (Nc u))) - dd) (k := (10 * u) + (Nc u)) hx hb hK hP hD hS 1 rfl (by omega) (by decide) dX1_push_114 (fun H locs hP hD hS => ?_)
            have hP : va_P D vwCl (fd_wN b0 b1 b2 b3 b4 dA n (fd_up L1 ((10 * u) + (Nc u)) ((L1 ((10 * u) + (Nc u))) - dd)) lv N1 row) H := hP
            have hD : va_D A (fd_wN b0 b1 b2 b3 b4 dA n (fd_up L1 ((10 * u) + (Nc u)) ((L1 ((10 * u) + (Nc u))) - dd)) lv N1 row) := hD
            refine lv_aload_n hx hb dX1_push_115 rfl (lv_at hl 3 rfl) ?_
            refine va_get (D := D) (ci := 1) (v := .ref b1) (C := RX1) (T := TX1) (N := 5) hx hb hts in_X1 hown hK hP 0 rfl rfl 0 (by decide) (hts _ q23) (fun _ h9 => h9) rfl dX1_push_116 ?_
            refine lv_bipush (v := (nI 10)) hx hb dX1_push_119 (by decide +kernel) ?_
            refine lv_iload hx hb dX1_push_121 (lv_at hl 2 rfl) ?_
            refine fw_imul hx hb dX1_push_123 ?_
            refine lv_iload_n hx hb dX1_push_124 rfl (lv_at hl 4 rfl) ?_
            refine fw_iadd hx hb dX1_push_125 ?_
            refine lv_dup2_11 hx hb dX1_push_126 rfl rfl ?_
            refine fw_iald (g := nI) hx hb hK hP 1 rfl (by omega) (by decide) dX1_push_127 ?_
            refine lv_lload hx hb dX1_push_128 (lv_at hl 0 rfl) ?_
            refine fw_l2i hx hb dX1_push_130 ?_
            refine fw_iadd hx hb dX1_push_131 ?_
            refine fw_iast (g := nI) (x := ((fd_up L1 ((10 * u) + (Nc u)) ((L1 ((10 * u) + (Nc u))) - dd)) ((10 * (Nc u)) + u)) + dd) (k := (10 * (Nc u)) + u) hx hb hK hP hD hS 1 rfl (by omega) (by decide) dX1_push_132 (fun H locs hP hD hS => ?_)
            have hP : va_P D vwCl (fd_wN b0 b1 b2 b3 b4 dA n (fd_up (fd_up L1 ((10 * u) + (Nc u)) ((L1 ((10 * u) + (Nc u))) - dd)) ((10 * (Nc u)) + u) (((fd_up L1 ((10 * u) + (Nc u)) ((L1 ((10 * u) + (Nc u))) - dd)) ((10 * (Nc u)) + u)) + dd)) lv N1 row) H := hP
            have hD : va_D A (fd_wN b0 b1 b2 b3 b4 dA n (fd_up (fd_up L1 ((10 * u) + (Nc u)) ((L1 ((10 * u) + (Nc u))) - dd)) ((10 * (Nc u)) + u) (((fd_up L1 ((10 * u) + (Nc u)) ((L1 ((10 * u) + (Nc u))) - dd)) ((10 * (Nc u)) + u)) + dd)) lv N1 row) := hD
            refine lv_lload hx hb dX1_push_133 (lv_at hl 7 rfl) ?_
            refine lv_lload hx hb dX1_push_135 (lv_at hl 0 rfl) ?_
            refine fw_ladd hx hb dX1_push_137 ?_
            refine lv_lstore (lv' := [(5, .long (lN (sent + dd))), (9, .long (lN dd)), (8, .int (nI (Lc ((10 * u) + (Nc u))))), (7, .int (nI (Nc u))), (0, .ref b0), (1, .int (nI u)), (2, .int (nI tg)), (3, .long (lN most))]) hx hb dX1_push_138 hl (by decide) rfl (fun ls hl => ?_)
            have eL : fd_up (fd_up L1 (10 * u + Nc u) (L1 (10 * u + Nc u) - dd)) (10 * Nc u + u) (fd_up L1 (10 * u + Nc u) (L1 (10 * u + Nc u) - dd) (10 * Nc u + u) + dd) = fd_edge L1 u (Nc u) dd := by
              have hne : u ≠ Nc u := by intro q; rw [← q] at c5; omega
              unfold fd_edge; rw [fd_un (f := L1) (k := 10 * u + Nc u) (j := 10 * Nc u + u) (by omega)]
            rw [eL] at hP hD
            exact fd_push_1 hx hb hown hts hK hn hu hm (v := Nc u) c1 (by omega) ih (sent + dd) (fd_edge L1 u (Nc u) dd) N1 H locs ls k3 k1 (fun h0 _ _ => k4 h0) hP hD hS (lv_sub hl [4, 5, 6, 7, 0] rfl)
end FDPUSH
set_option maxHeartbeats 4000000 in
set_option maxRecDepth 100000 in
theorem met_push_step (l : Launch) (D : va_G) (dA dB : ClassId) (d : Nat) (hrec : ∀ d', d = d' + 1 → fd_CP l D dA dB d') : fd_CP l D dA dB d := by
  intro b0 b1 b2 b3 b4 n L lv N row u tg most sz hn hu ht hN hlv hLb hm hd
  refine fd_ofW (Qf := fun A => va_Ql (fun (r : Int64) (w : (Nat → Nat) × (Nat → Nat)) => ∃ d, r = lN d ∧ fd_Push n tg lv u most L N d w.1 w.2) (fd_B D dA dB A (fun w => fd_wN b0 b1 b2 b3 b4 dA n w.1 lv w.2 row)) A) (by decide) (Nat.le_of_ble_eq_true rfl) ?_
  intro p e s m below meth c A ls hx hb hr hml hown hlocks hts hname hP hK hD hA hS hl
  have hl : lv_has ls 11 [(0, .ref b0), (1, .int (nI u)), (2, .int (nI tg)), (3, .long (lN most))] := hl
  refine lv_iload_n hx hb dX1_push_0 rfl (lv_at hl 1 rfl) ?_
  refine lv_iload_n hx hb dX1_push_1 rfl (lv_at hl 2 rfl) ?_
  refine fw_icmp_ne (tgt := 7) hx hb (by omega) (by omega) dX1_push_2 (by decide) (fun c1 => ?_) (fun c1 => ?_)
  · refine lv_lconst (v := (lN 0)) hx hb dX1_push_7 (by decide +kernel) ?_
    refine lv_lstore (lv' := [(5, .long (lN 0)), (0, .ref b0), (1, .int (nI u)), (2, .int (nI tg)), (3, .long (lN most))]) hx hb dX1_push_8 hl (by decide) rfl (fun ls hl => ?_)
    refine fd_push_2 hx hb hown hts hK hml hA (d := d) rfl hrec hn hu ht hlv hLb hm hd ?_ (n + 1) 0 L N s.heap [] ls (fd_PL_0 hN) (Or.inl (by omega)) hP hD hS (lv_sub hl [1, 2, 3, 4, 0] rfl)
    intro sent Lc Nc H locs ls hPL he hP hD hS hl
    refine lv_lload hx hb dX1_push_160 (lv_at hl 4 rfl) ?_
    exact fd_lret (Lc, Nc) hx hb hr hlocks hK hP hD hS ⟨sent, rfl, fd_PL_end hu c1 hPL he⟩ dX1_push_162
  · subst c1
    refine lv_lload_n hx hb dX1_push_5 rfl (lv_at hl 3 rfl) ?_
    exact fd_lret (L, N) hx hb hr hlocks hK hP hD hS ⟨most, rfl, fd_PL_to hN⟩ dX1_push_6
theorem met_push (l : Launch) (D : va_G) (dA dB : ClassId) : ∀ d, fd_CP l D dA dB d
  | 0 => met_push_step l D dA dB 0 (fun _ h => by omega)
  | d + 1 => met_push_step l D dA dB (d + 1) (fun d' h => by
    have e : d' = d := by omega
    rw [e]
    exact met_push l D dA dB d)
end
section
/-! ===== FlowDesk$Net.run ===== -/
section FDRUN
variable {p : Program} {l : Launch} {e : Env} {R : Room} {s : State} {m : MethodId} {args : Array Value} {below : List Frame} {meth : Method} {c : Code} {cells slots : Nat} {Q : State → Prop} {D : va_G} {A : Nat → Prop} {dA dB : ClassId}
set_option maxHeartbeats 4000000 in
set_option maxRecDepth 100000 in
theorem fd_run_1 (hx : p.tables.exec = Jvm.exec) (hb : c.code = cX1_run) (hown : s.vm.findClass RX1 = some m.cls) (hts : ∀ w ∈ lw_all, w.before args s = true) (hK : va_K D vwCl (fd_ty dA dB) s) {b0 b1 b2 b3 b4 : Nat} {n sr tg size : Nat} {L lv row : Nat → Nat} (hn : n ≤ 10)
    (kk : ∀ (N : Nat → Nat) (H : Heap) (locs : List Loc) (ls : Array Slot), (∀ j, j < n → N j = 0) → va_P D vwCl (fd_wN b0 b1 b2 b3 b4 dA n L lv N row) H → va_D A (fd_wN b0 b1 b2 b3 b4 dA n L lv N row) → va_S A s.heap H locs → lv_has ls 6 [(3, .long (lN size)), (0, .ref b0), (1, .int (nI sr)), (2, .int (nI tg))] → W p l e R s m args below meth c H locs cells slots Q (F0 m 37 ls [])) :
    ∀ (k i : Nat) (N : Nat → Nat), n + 1 ≤ i + k → i ≤ n → (∀ j, j < i → N j = 0) → ∀ (H : Heap) (locs : List Loc) (ls : Array Slot), va_P D vwCl (fd_wN b0 b1 b2 b3 b4 dA n L lv N row) H → va_D A (fd_wN b0 b1 b2 b3 b4 dA n L lv N row) → va_S A s.heap H locs → lv_has ls 6 [(5, .int (nI i)), (3, .long (lN size)), (0, .ref b0), (1, .int (nI sr)), (2, .int (nI tg))] → W p l e R s m args below meth c H locs cells slots Q (F0 m 14 ls []) := by
  intro k
  induction k with
  | zero =>
    intro i N h1 h2
    omega
  | succ k ih =>
    intro i N h1 h2 h3 H locs ls hP hD hS hl
    refine lv_iload hx hb dX1_run_14 (lv_at hl 0 rfl) ?_
    refine lv_aload_n hx hb dX1_run_16 rfl (lv_at hl 2 rfl) ?_
    refine va_get (D := D) (ci := 1) (v := .int (nI n)) (C := RX1) (T := TX1) (N := 5) hx hb hts in_X1 hown hK hP 0 rfl rfl 4 (by decide) (hts _ q29) (fun _ h9 => h9) rfl dX1_run_17 ?_
    refine fw_icmp_ge (tgt := 37) hx hb (by omega) (by omega) dX1_run_20 (by decide) (fun c1 => ?_) (fun c1 => ?_)
    · exact kk N H locs ls (fun j hj => h3 j (by omega)) hP hD hS (lv_sub hl [1, 2, 3, 4] rfl)
    · refine lv_aload_n hx hb dX1_run_23 rfl (lv_at hl 2 rfl) ?_
      refine va_get (D := D) (ci := 1) (v := .ref b3) (C := RX1) (T := TX1) (N := 5) hx hb hts in_X1 hown hK hP 0 rfl rfl 2 (by decide) (hts _ q27) (fun _ h9 => h9) rfl dX1_run_24 ?_
      refine lv_iload hx hb dX1_run_27 (lv_at hl 0 rfl) ?_
      refine lv_iconst (v := (nI 0)) hx hb dX1_run_29 (by decide +kernel) ?_
      refine fw_iast (g := nI) (x := 0) (k := i) hx hb hK hP hD hS 3 rfl (by omega) (by decide) dX1_run_30 (fun H locs hP hD hS => ?_)
      have hP : va_P D vwCl (fd_wN b0 b1 b2 b3 b4 dA n L lv (fd_up N i 0) row) H := hP
      have hD : va_D A (fd_wN b0 b1 b2 b3 b4 dA n L lv (fd_up N i 0) row) := hD
      refine lv_iinc (v := nI (i + 1)) (lv' := [(5, .int (nI (i + 1))), (3, .long (lN size)), (0, .ref b0), (1, .int (nI sr)), (2, .int (nI tg))]) hx hb dX1_run_31 hl (k := 0) rfl (nI_1 _) (by decide) rfl (fun ls hl => ?_)
      refine lv_goto (tgt := 14) hx hb dX1_run_34 (by decide) ?_
      exact ih (i + 1) (fd_up N i 0) (by omega) (by omega) (fun j hj => by
        by_cases e : j = i
        · rw [e, fd_us]
        · rw [fd_un e]; exact h3 j (by omega)) H locs ls hP hD hS (lv_sub hl [0, 1, 2, 3, 4] rfl)
abbrev fd_rR : Room := { frames := 12, cells := 0, slots := 0, locals := 360 }
set_option maxHeartbeats 4000000 in
set_option maxRecDepth 100000 in
theorem fd_run_2 (hx : p.tables.exec = Jvm.exec) (hb : c.code = cX1_run) (hown : s.vm.findClass RX1 = some m.cls) (hts : ∀ w ∈ lw_all, w.before args s = true) (hK : va_K D vwCl (fd_ty dA dB) s) (hml : c.maxLocals = 6) (hA : ∀ q : Nat, s.heap.size ≤ q → A q) {b0 b1 b2 b3 b4 : Nat} {n sr tg : Nat} {L : Nat → Nat} (hR : R = fd_rR) (hn : n ≤ 10) (hs : sr < n) (ht : tg < n) (hst : sr ≠ tg) (hLb : ∀ a b, a < n → b < n → L (10 * a + b) + L (10 * b + a) < 2 ^ 22)
    (kk : ∀ (size : Nat) (Lc lv N row : Nat → Nat) (H : Heap) (locs : List Loc) (ls : Array Slot), fd_MF L n sr tg size lv → va_P D vwCl (fd_wN b0 b1 b2 b3 b4 dA n Lc lv N row) H → va_D A (fd_wN b0 b1 b2 b3 b4 dA n Lc lv N row) → va_S A s.heap H locs → lv_has ls 6 [(3, .long (lN size)), (0, .ref b0), (1, .int (nI sr)), (2, .int (nI tg))] → W p l e R s m args below meth c H locs 0 0 Q (F0 m 52 ls [])) :
    ∀ (k size : Nat) (Lc lv N row : Nat → Nat), fd_cut Lc n (fun x => decide (x = sr)) < k → (∀ S : Nat → Bool, S sr = true → S tg = false → fd_cut L n S = size + fd_cut Lc n S) → (∀ a b, a < n → b < n → Lc (10 * a + b) + Lc (10 * b + a) = L (10 * a + b) + L (10 * b + a)) → ∀ (H : Heap) (locs : List Loc) (ls : Array Slot), va_P D vwCl (fd_wN b0 b1 b2 b3 b4 dA n Lc lv N row) H → va_D A (fd_wN b0 b1 b2 b3 b4 dA n Lc lv N row) → va_S A s.heap H locs → lv_has ls 6 [(3, .long (lN size)), (0, .ref b0), (1, .int (nI sr)), (2, .int (nI tg))] → W p l e R s m args below meth c H locs 0 0 Q (F0 m 2 ls []) := by
  intro k
  induction k with
  | zero =>
    intro size Lc lv N row h1
    omega
  | succ k ih =>
    intro size Lc lv N row h1 h2 h3 H locs ls hP hD hS hl
    refine lv_aload_n hx hb dX1_run_2 rfl (lv_at hl 1 rfl) ?_
    refine lv_iload_n hx hb dX1_run_3 rfl (lv_at hl 2 rfl) ?_
    refine lv_iload_n hx hb dX1_run_4 rfl (lv_at hl 3 rfl) ?_
    refine fd_cVi (wr := []) (rest := []) ⟨hx, hb, hml, hown, hts⟩ (met_levels l D dA dB b0 b1 b2 b3 b4 n Lc lv N row sr tg H.size hn hs ht (fun a b ha hb => by have q1 := h3 a b ha hb; have q2 := hLb a b ha hb; omega)) 2 q84 q85 q86 q6 q87 ⟨rfl, rfl⟩ (by decide +kernel) ⟨by rw [hR]; decide, by rw [hR]; decide⟩ hK hP hD hS hA [0, 1, 2, 3, 4] [] rfl rfl (by decide) (by decide) (by decide) (ci := 1) (q0 := 0) rfl rfl rfl rfl hl.1 rfl (Nat.le_of_ble_eq_true rfl) dX1_run_5 ⟨Nat.zero_le _, Nat.zero_le _⟩ (fun r1 w H locs hw hP hD hS => ?_)
    obtain ⟨lv1, row1⟩ := w
    obtain ⟨hL, rfl⟩ := hw
    have hP : va_P D vwCl (fd_wN b0 b1 b2 b3 b4 dA n Lc lv1 N row1) H := hP
    have hD : va_D A (fd_wN b0 b1 b2 b3 b4 dA n Lc lv1 N row1) := hD
    refine lv_if_eq (tgt := 52) hx hb dX1_run_8 (by decide) (fun c1 => ?_) (fun c1 => ?_)
    · have c2 : lv1 tg = 0 := by
        by_cases q : lv1 tg = 0
        · exact q
        · rw [if_neg q] at c1; exact absurd c1 (by decide)
      exact kk size Lc lv1 N row1 H locs ls ⟨Lc, h2, hL, c2⟩ hP hD hS (lv_sub hl [0, 1, 2, 3] rfl)
    · have c2 : lv1 tg ≠ 0 := fun q => c1 (by rw [if_pos q])
      refine lv_iconst (v := (nI 0)) hx hb dX1_run_11 (by decide +kernel) ?_
      refine lv_istore (lv' := [(5, .int (nI 0)), (3, .long (lN size)), (0, .ref b0), (1, .int (nI sr)), (2, .int (nI tg))]) hx hb dX1_run_12 hl (by decide) rfl (fun ls hl => ?_)
      refine fd_run_1 hx hb hown hts hK hn ?_ (n + 1) 0 N (by omega) (by omega) (fun j hj => absurd hj (by omega)) H locs ls hP hD hS (lv_sub hl [0, 1, 2, 3, 4] rfl)
      intro N1 H locs ls hz hP hD hS hl
      refine lv_lload_n hx hb dX1_run_37 rfl (lv_at hl 0 rfl) ?_
      refine lv_aload_n hx hb dX1_run_38 rfl (lv_at hl 1 rfl) ?_
      refine lv_iload_n hx hb dX1_run_39 rfl (lv_at hl 2 rfl) ?_
      refine lv_iload_n hx hb dX1_run_40 rfl (lv_at hl 3 rfl) ?_
      refine lv_ldc2 (v := 1099511627776) hx hb hown (hts _ q88) dX1_run_41 ?_
      refine fw_topl (y := (lN (2 ^ 40))) (by decide +kernel) ?_
      refine fd_cVl (wr := []) (rest := [.long (lN size)]) ⟨hx, hb, hml, hown, hts⟩ (met_push l D dA dB 10 b0 b1 b2 b3 b4 n Lc lv1 N1 row1 sr tg (2 ^ 40) H.size hn hs ht (fun x hx => by rw [hz x hx]; omega) hL.2.1 (fun a b ha hb => by rw [h3 a b ha hb]; exact hLb a b ha hb) (Nat.le_refl _) (by omega)) 3 q89 q90 q91 q6 q92 ⟨rfl, rfl⟩ (by decide +kernel) ⟨by rw [hR]; decide, by rw [hR]; decide⟩ hK hP hD hS hA [0, 1, 2, 3, 4] [] rfl rfl (by decide) (by decide) (by decide) (ci := 1) (q0 := 0) rfl rfl rfl rfl hl.1 rfl (Nat.le_of_ble_eq_true rfl) dX1_run_44 ⟨Nat.zero_le _, Nat.zero_le _⟩ (fun r1 w H locs hw hP hD hS => ?_)
      obtain ⟨L2, N2⟩ := w
      obtain ⟨dd, rfl, hpush⟩ := hw
      have hpush : fd_Push n tg lv1 sr (2 ^ 40) Lc N1 dd L2 N2 := hpush
      have hP : va_P D vwCl (fd_wN b0 b1 b2 b3 b4 dA n L2 lv1 N2 row1) H := hP
      have hD : va_D A (fd_wN b0 b1 b2 b3 b4 dA n L2 lv1 N2 row1) := hD
      refine fw_ladd hx hb dX1_run_47 ?_
      refine lv_lstore_n (lv' := [(3, .long (lN (size + dd))), (0, .ref b0), (1, .int (nI sr)), (2, .int (nI tg))]) hx hb dX1_run_48 rfl hl (by decide) rfl (fun ls hl => ?_)
      refine lv_goto (tgt := 2) hx hb dX1_run_49 (by decide) ?_
      have hdd : dd ≠ 0 := by
        intro q
        rw [q] at hpush
        exact fd_progress hL ht hz c2 (by omega) hpush
      have hcut := hpush.1.2.2.2.2.2.1
      have hc0 := hcut (fun x => decide (x = sr)) (by simp [Ne.symm hst])
      simp at hc0
      refine ih (size + dd) L2 lv1 N2 row1 (by omega) (fun S hS1 hS2 => ?_) (fun a b ha hb => ?_) H locs ls hP hD hS (lv_sub hl [0, 1, 2, 3] rfl)
      · have q1 := h2 S hS1 hS2
        have q2 := hcut S hS2
        rw [if_pos hS1] at q2
        omega
      · rw [hpush.1.2.1 a b ha hb]
        exact h3 a b ha hb
end FDRUN
set_option maxHeartbeats 4000000 in
set_option maxRecDepth 100000 in
/-- run(from, to): the largest flow's size; the levels say what is still reached -/
theorem met_run (l : Launch) (D : va_G) (dA dB : ClassId) (b0 b1 b2 b3 b4 n : Nat) (L lv N row : Nat → Nat) (sr tg sz : Nat) (hn : n ≤ 10) (hs : sr < n) (ht : tg < n) (hst : sr ≠ tg) (hLb : ∀ a b, a < n → b < n → L (10 * a + b) + L (10 * b + a) < 2 ^ 22) :
    Met l yX1_run (ws_ yX1_run cX1_run 6 (some .long)) fd_rR (fd_pC D dA dB [.ref b0, .int (nI sr), .int (nI tg)] sz (fd_wN b0 b1 b2 b3 b4 dA n L lv N row)) (va_Ql (fun (r : Int64) (w : (Nat → Nat) × (Nat → Nat) × (Nat → Nat) × (Nat → Nat)) => ∃ size, r = lN size ∧ fd_MF L n sr tg size w.2.1) (fd_B D dA dB (va_A (fd_wN b0 b1 b2 b3 b4 dA n L lv N row) sz) (fun w => fd_wN b0 b1 b2 b3 b4 dA n w.1 w.2.1 w.2.2.1 w.2.2.2)) (va_A (fd_wN b0 b1 b2 b3 b4 dA n L lv N row) sz)) 0 0 (va_A (fd_wN b0 b1 b2 b3 b4 dA n L lv N row) sz) := by
  refine fd_ofW (Qf := fun A => va_Ql (fun (r : Int64) (w : (Nat → Nat) × (Nat → Nat) × (Nat → Nat) × (Nat → Nat)) => ∃ size, r = lN size ∧ fd_MF L n sr tg size w.2.1) (fd_B D dA dB A (fun w => fd_wN b0 b1 b2 b3 b4 dA n w.1 w.2.1 w.2.2.1 w.2.2.2)) A) (by decide) (Nat.le_of_ble_eq_true rfl) ?_
  intro p e s m below meth c A ls hx hb hr hml hown hlocks hts hname hP hK hD hA hS hl
  have hl : lv_has ls 6 [(0, .ref b0), (1, .int (nI sr)), (2, .int (nI tg))] := hl
  refine lv_lconst (v := (lN 0)) hx hb dX1_run_0 (by decide +kernel) ?_
  refine lv_lstore_n (lv' := [(3, .long (lN 0)), (0, .ref b0), (1, .int (nI sr)), (2, .int (nI tg))]) hx hb dX1_run_1 rfl hl (by decide) rfl (fun ls hl => ?_)
  refine fd_run_2 hx hb hown hts hK hml hA rfl hn hs ht hst hLb ?_ (fd_cut L n (fun x => decide (x = sr)) + 1) 0 L lv N row (by omega) (fun S _ _ => by omega) (fun _ _ _ _ => rfl) s.heap [] ls hP hD hS (lv_sub hl [0, 1, 2, 3] rfl)
  intro size Lc lv2 N2 row2 H locs ls hMF hP hD hS hl
  refine lv_lload_n hx hb dX1_run_52 rfl (lv_at hl 0 rfl) ?_
  exact fd_lret (Lc, lv2, N2, row2) hx hb hr hlocks hK hP hD hS ⟨size, rfl, hMF⟩ dX1_run_53
end
section
/-! ===== FlowDesk$Net.<init> ===== -/
set_option maxHeartbeats 4000000 in
set_option maxRecDepth 100000 in
/-- Net(): four new arrays -/
theorem met_netinit (l : Launch) (D : va_G) (dA dB : ClassId) (b0 sz : Nat) :
    Met l yX1_init (ws_ yX1_init cX1_init 1 none) ({ frames := 1, cells := 4, slots := 130, locals := 12 }) (fd_pC D dA dB [.ref b0] sz [(b0, .inr (1, [.null, .null, .null, .null, .int (nI 0)]))]) (va_Qv (fun (w : Nat × Nat × Nat × Nat) => True) (fd_B D dA dB (va_A [(b0, .inr (1, [.null, .null, .null, .null, .int (nI 0)]))] sz) (fun w => fd_wN b0 w.1 w.2.1 w.2.2.1 w.2.2.2 dA 0 (fun _ => 0) (fun _ => 1) (fun _ => 0) (fun _ => 0))) (va_A [(b0, .inr (1, [.null, .null, .null, .null, .int (nI 0)]))] sz)) 4 130 (va_A [(b0, .inr (1, [.null, .null, .null, .null, .int (nI 0)]))] sz) := by
  refine fd_ofW (Qf := fun A => va_Qv (fun (w : Nat × Nat × Nat × Nat) => True) (fd_B D dA dB A (fun w => fd_wN b0 w.1 w.2.1 w.2.2.1 w.2.2.2 dA 0 (fun _ => 0) (fun _ => 1) (fun _ => 0) (fun _ => 0))) A) (by decide) (Nat.le_of_ble_eq_true rfl) ?_
  intro p e s m below meth c A ls hx hb hr hml hown hlocks hts hin hP hK hD hA hS hl
  have hl : lv_has ls 1 [(0, .ref b0)] := hl
  have hin : meth.name = "<init>" := hin
  refine lv_aload_n hx hb dX1_init_0 rfl (lv_at hl 0 rfl) ?_
  refine W.objInit hx hb hown (hts _ q22) (hts _ q15) (hts _ q16) rfl (by rw [hml]; exact hl.1) rfl dX1_init_1 (Nat.le_of_ble_eq_true rfl) (Nat.le_of_ble_eq_true rfl) ?_
  refine W.eq (g2 := F0 m 4 ls []) rfl ?_
  refine lv_aload_n hx hb dX1_init_4 rfl (lv_at hl 0 rfl) ?_
  refine lv_bipush (v := (nI 100)) hx hb dX1_init_5 (by decide +kernel) ?_
  refine fw_newi (g := nI) (x := 0) (N := 100) hx hb (hts _ q42) hK hP hD hS hA (by decide +kernel) (by decide) (Nat.le_of_ble_eq_true rfl) (Nat.le_of_ble_eq_true rfl) dX1_init_7 (fun b1 H hP hD hS => ?_)
  have hP : va_P D vwCl ([(b0, .inr (1, [.null, .null, .null, .null, .int (nI 0)])), (b1, .inl (dA, 100, .inl (fun _ => nI 0)))]) H := hP
  have hD : va_D A ([(b0, .inr (1, [.null, .null, .null, .null, .int (nI 0)])), (b1, .inl (dA, 100, .inl (fun _ => nI 0)))]) := hD
  refine va_putF (D := D) (ci := 1) (v := .ref b1) (ty := .array .int) (C := RX1) (T := TX1) (N := 5) hx hb hts in_X1 tyX1 tyX1_ok nmX1 hown hK hP hD hS 0 rfl rfl 0 (by decide) (hts _ q23) (fun _ h9 => h9) rfl hin rfl (by decide +kernel) rfl rfl (Nat.le_of_ble_eq_true rfl) dX1_init_9 (fun H locs hP hD hS => ?_)
  have hP : va_P D vwCl ([(b0, .inr (1, [.ref b1, .null, .null, .null, .int (nI 0)])), (b1, .inl (dA, 100, .inl (fun _ => nI 0)))]) H := hP
  have hD : va_D A ([(b0, .inr (1, [.ref b1, .null, .null, .null, .int (nI 0)])), (b1, .inl (dA, 100, .inl (fun _ => nI 0)))]) := hD
  refine lv_aload_n hx hb dX1_init_12 rfl (lv_at hl 0 rfl) ?_
  refine lv_bipush (v := (nI 10)) hx hb dX1_init_13 (by decide +kernel) ?_
  refine fw_newi (g := fd_lI) (x := 1) (N := 10) hx hb (hts _ q42) hK hP hD hS hA (by decide +kernel) (by decide) (Nat.le_of_ble_eq_true rfl) (Nat.le_of_ble_eq_true rfl) dX1_init_15 (fun b2 H hP hD hS => ?_)
  have hP : va_P D vwCl ([(b0, .inr (1, [.ref b1, .null, .null, .null, .int (nI 0)])), (b1, .inl (dA, 100, .inl (fun _ => nI 0))), (b2, .inl (dA, 10, .inl (fun _ => fd_lI 1)))]) H := hP
  have hD : va_D A ([(b0, .inr (1, [.ref b1, .null, .null, .null, .int (nI 0)])), (b1, .inl (dA, 100, .inl (fun _ => nI 0))), (b2, .inl (dA, 10, .inl (fun _ => fd_lI 1)))]) := hD
  refine va_putF (D := D) (ci := 1) (v := .ref b2) (ty := .array .int) (C := RX1) (T := TX1) (N := 5) hx hb hts in_X1 tyX1 tyX1_ok nmX1 hown hK hP hD hS 0 rfl rfl 1 (by decide) (hts _ q25) (fun _ h9 => h9) rfl hin rfl (by decide +kernel) rfl rfl (Nat.le_of_ble_eq_true rfl) dX1_init_17 (fun H locs hP hD hS => ?_)
  have hP : va_P D vwCl ([(b0, .inr (1, [.ref b1, .ref b2, .null, .null, .int (nI 0)])), (b1, .inl (dA, 100, .inl (fun _ => nI 0))), (b2, .inl (dA, 10, .inl (fun _ => fd_lI 1)))]) H := hP
  have hD : va_D A ([(b0, .inr (1, [.ref b1, .ref b2, .null, .null, .int (nI 0)])), (b1, .inl (dA, 100, .inl (fun _ => nI 0))), (b2, .inl (dA, 10, .inl (fun _ => fd_lI 1)))]) := hD
  refine lv_aload_n hx hb dX1_init_20 rfl (lv_at hl 0 rfl) ?_
  refine lv_bipush (v := (nI 10)) hx hb dX1_init_21 (by decide +kernel) ?_
  refine fw_newi (g := nI) (x := 0) (N := 10) hx hb (hts _ q42) hK hP hD hS hA (by decide +kernel) (by decide) (Nat.le_of_ble_eq_true rfl) (Nat.le_of_ble_eq_true rfl) dX1_init_23 (fun b3 H hP hD hS => ?_)
  have hP : va_P D vwCl ([(b0, .inr (1, [.ref b1, .ref b2, .null, .null, .int (nI 0)])), (b1, .inl (dA, 100, .inl (fun _ => nI 0))), (b2, .inl (dA, 10, .inl (fun _ => fd_lI 1))), (b3, .inl (dA, 10, .inl (fun _ => nI 0)))]) H := hP
  have hD : va_D A ([(b0, .inr (1, [.ref b1, .ref b2, .null, .null, .int (nI 0)])), (b1, .inl (dA, 100, .inl (fun _ => nI 0))), (b2, .inl (dA, 10, .inl (fun _ => fd_lI 1))), (b3, .inl (dA, 10, .inl (fun _ => nI 0)))]) := hD
  refine va_putF (D := D) (ci := 1) (v := .ref b3) (ty := .array .int) (C := RX1) (T := TX1) (N := 5) hx hb hts in_X1 tyX1 tyX1_ok nmX1 hown hK hP hD hS 0 rfl rfl 2 (by decide) (hts _ q27) (fun _ h9 => h9) rfl hin rfl (by decide +kernel) rfl rfl (Nat.le_of_ble_eq_true rfl) dX1_init_25 (fun H locs hP hD hS => ?_)
  have hP : va_P D vwCl ([(b0, .inr (1, [.ref b1, .ref b2, .ref b3, .null, .int (nI 0)])), (b1, .inl (dA, 100, .inl (fun _ => nI 0))), (b2, .inl (dA, 10, .inl (fun _ => fd_lI 1))), (b3, .inl (dA, 10, .inl (fun _ => nI 0)))]) H := hP
  have hD : va_D A ([(b0, .inr (1, [.ref b1, .ref b2, .ref b3, .null, .int (nI 0)])), (b1, .inl (dA, 100, .inl (fun _ => nI 0))), (b2, .inl (dA, 10, .inl (fun _ => fd_lI 1))), (b3, .inl (dA, 10, .inl (fun _ => nI 0)))]) := hD
  refine lv_aload_n hx hb dX1_init_28 rfl (lv_at hl 0 rfl) ?_
  refine lv_bipush (v := (nI 10)) hx hb dX1_init_29 (by decide +kernel) ?_
  refine fw_newi (g := nI) (x := 0) (N := 10) hx hb (hts _ q42) hK hP hD hS hA (by decide +kernel) (by decide) (Nat.le_of_ble_eq_true rfl) (Nat.le_of_ble_eq_true rfl) dX1_init_31 (fun b4 H hP hD hS => ?_)
  have hP : va_P D vwCl ([(b0, .inr (1, [.ref b1, .ref b2, .ref b3, .null, .int (nI 0)])), (b1, .inl (dA, 100, .inl (fun _ => nI 0))), (b2, .inl (dA, 10, .inl (fun _ => fd_lI 1))), (b3, .inl (dA, 10, .inl (fun _ => nI 0))), (b4, .inl (dA, 10, .inl (fun _ => nI 0)))]) H := hP
  have hD : va_D A ([(b0, .inr (1, [.ref b1, .ref b2, .ref b3, .null, .int (nI 0)])), (b1, .inl (dA, 100, .inl (fun _ => nI 0))), (b2, .inl (dA, 10, .inl (fun _ => fd_lI 1))), (b3, .inl (dA, 10, .inl (fun _ => nI 0))), (b4, .inl (dA, 10, .inl (fun _ => nI 0)))]) := hD
  refine va_putF (D := D) (ci := 1) (v := .ref b4) (ty := .array .int) (C := RX1) (T := TX1) (N := 5) hx hb hts in_X1 tyX1 tyX1_ok nmX1 hown hK hP hD hS 0 rfl rfl 3 (by decide) (hts _ q28) (fun _ h9 => h9) rfl hin rfl (by decide +kernel) rfl rfl (Nat.le_of_ble_eq_true rfl) dX1_init_33 (fun H locs hP hD hS => ?_)
  have hP : va_P D vwCl ([(b0, .inr (1, [.ref b1, .ref b2, .ref b3, .ref b4, .int (nI 0)])), (b1, .inl (dA, 100, .inl (fun _ => nI 0))), (b2, .inl (dA, 10, .inl (fun _ => fd_lI 1))), (b3, .inl (dA, 10, .inl (fun _ => nI 0))), (b4, .inl (dA, 10, .inl (fun _ => nI 0)))]) H := hP
  have hD : va_D A ([(b0, .inr (1, [.ref b1, .ref b2, .ref b3, .ref b4, .int (nI 0)])), (b1, .inl (dA, 100, .inl (fun _ => nI 0))), (b2, .inl (dA, 10, .inl (fun _ => fd_lI 1))), (b3, .inl (dA, 10, .inl (fun _ => nI 0))), (b4, .inl (dA, 10, .inl (fun _ => nI 0)))]) := hD
  exact fd_vret (b1, b2, b3, b4) hx hb hr hlocks hK hP hD hS trivial dX1_init_36
end
section
/-! ===== FlowDesk ===== -/
theorem fd_pos_lt (x : Int32) : fd_pos x < 2 ^ 31 := Nat.mod_lt _ (by decide)
theorem fd_cap_lt (x : Int32) : fd_cap x < 2 ^ 20 := Nat.mod_lt _ (by decide)
theorem fd_nor (a b : Nat) : nI a ||| nI b = nI (a ||| b) := by
  apply Int32.toBitVec_inj.1
  show BitVec.ofNat 32 a ||| BitVec.ofNat 32 b = BitVec.ofNat 32 (a ||| b)
  rw [BitVec.ofNat_or]
theorem fd_nand (a b : Nat) : nI a &&& nI b = nI (a &&& b) := by
  apply Int32.toBitVec_inj.1
  show BitVec.ofNat 32 a &&& BitVec.ofNat 32 b = BitVec.ofNat 32 (a &&& b)
  rw [BitVec.ofNat_and]
theorem fd_MF_ext {C C' : Nat → Nat} {n s t size : Nat} {lv : Nat → Nat} (hn : n ≤ 10) (hC : ∀ j, j < 100 → C j = C' j) (h : fd_MF C n s t size lv) : fd_MF C' n s t size lv := by
  obtain ⟨L, h1, h2, h3⟩ := h
  refine ⟨L, fun S a b => ?_, h2, h3⟩
  rw [← h1 S a b]
  exact fd_cut_ext (fun x y hx hy => (hC _ (by omega)).symm) (fun _ _ => rfl)
set_option maxHeartbeats 4000000 in
set_option maxRecDepth 100000 in
/-- place(a): the place of a number -/
theorem met_place (l : Launch) (D : va_G) (dA dB : ClassId) (bx bp b0 b1 b2 b3 b4 : Nat) (n nn : Nat) (P L lv N row : Nat → Nat) (x1 : Int32) (hn0 : 2 ≤ n) (hn : n ≤ 10) (sz : Nat) :
    Met l yX0_place (ws_ yX0_place cX0_place 2 (some .int)) ({ frames := 0, cells := 0, slots := 0, locals := 0 }) (fd_pC D dA dB [.ref bx, .int x1] sz (fd_wX bx bp b0 b1 b2 b3 b4 dA n P nn L lv N row)) (va_Qi (fun (r : Int32) (_ : Unit) => r = nI (fd_pos x1 % n)) (fd_B D dA dB (va_A (fd_wX bx bp b0 b1 b2 b3 b4 dA n P nn L lv N row) sz) (fun _ => fd_wX bx bp b0 b1 b2 b3 b4 dA n P nn L lv N row)) (va_A (fd_wX bx bp b0 b1 b2 b3 b4 dA n P nn L lv N row) sz)) 0 0 (va_A (fd_wX bx bp b0 b1 b2 b3 b4 dA n P nn L lv N row) sz) := by
  refine fd_ofW (Qf := fun A => va_Qi (fun (r : Int32) (_ : Unit) => r = nI (fd_pos x1 % n)) (fd_B D dA dB A (fun _ => fd_wX bx bp b0 b1 b2 b3 b4 dA n P nn L lv N row)) A) (by decide) (Nat.le_of_ble_eq_true rfl) ?_
  intro p e s m below meth c A ls hx hb hr hml hown hlocks hts hname hP hK hD hA hS hl
  have hl : lv_has ls 2 [(0, .ref bx), (1, .int x1)] := hl
  refine lv_iload_n hx hb dX0_place_0 rfl (lv_at hl 1 rfl) ?_
  refine lv_ldc (v := 2147483647) hx hb hown (hts _ q57) dX0_place_1 ?_
  refine fw_pos hx hb dX0_place_3 ?_
  refine lv_aload_n hx hb dX0_place_4 rfl (lv_at hl 0 rfl) ?_
  refine va_get (D := D) (ci := 0) (v := .int (nI n)) (C := RX0) (T := TX0) (N := 3) hx hb hts in_X0 hown hK hP 0 rfl rfl 2 (by decide) (hts _ q45) (fun _ h9 => h9) rfl dX0_place_5 ?_
  refine fw_irem hx hb (fd_pos_lt x1) (by omega) (by omega) dX0_place_8 ?_
  exact fd_iret () hx hb hr hlocks hK hP hD hS rfl dX0_place_9
section FDPLS
variable {p : Program} {l : Launch} {e : Env} {R : Room} {s : State} {m : MethodId} {args : Array Value} {below : List Frame} {meth : Method} {c : Code} {cells slots : Nat} {Q : State → Prop} {D : va_G} {A : Nat → Prop} {dA dB : ClassId}
set_option maxHeartbeats 4000000 in
set_option maxRecDepth 100000 in
theorem fd_pls_1 (hx : p.tables.exec = Jvm.exec) (hb : c.code = cX0_places) (hown : s.vm.findClass RX0 = some m.cls) (hts : ∀ w ∈ lw_all, w.before args s = true) (hK : va_K D vwCl (fd_ty dA dB) s) {bx bp b0 b1 b2 b3 b4 : Nat} {n nn : Nat} {L lv N row : Nat → Nat}
    (kk : ∀ (P : Nat → Nat) (H : Heap) (locs : List Loc) (ls : Array Slot), (∀ j, j < 100 → P j = 0) → va_P D vwCl (fd_wX bx bp b0 b1 b2 b3 b4 dA n P nn L lv N row) H → va_D A (fd_wX bx bp b0 b1 b2 b3 b4 dA n P nn L lv N row) → va_S A s.heap H locs → lv_has ls 3 [(0, .ref bx)] → W p l e R s m args below meth c H locs cells slots Q (F0 m 34 ls [])) :
    ∀ (k i : Nat) (P : Nat → Nat), 101 ≤ i + k → i ≤ 100 → (∀ j, j < i → P j = 0) → ∀ (H : Heap) (locs : List Loc) (ls : Array Slot), va_P D vwCl (fd_wX bx bp b0 b1 b2 b3 b4 dA n P nn L lv N row) H → va_D A (fd_wX bx bp b0 b1 b2 b3 b4 dA n P nn L lv N row) → va_S A s.heap H locs → lv_has ls 3 [(2, .int (nI i)), (0, .ref bx)] → W p l e R s m args below meth c H locs cells slots Q (F0 m 15 ls []) := by
  intro k
  induction k with
  | zero =>
    intro i P h1 h2
    omega
  | succ k ih =>
    intro i P h1 h2 h3 H locs ls hP hD hS hl
    refine lv_iload_n hx hb dX0_places_15 rfl (lv_at hl 0 rfl) ?_
    refine lv_bipush (v := (nI 100)) hx hb dX0_places_16 (by decide +kernel) ?_
    refine fw_icmp_ge (tgt := 34) hx hb (by omega) (by omega) dX0_places_18 (by decide) (fun c1 => ?_) (fun c1 => ?_)
    · exact kk P H locs ls (fun j hj => h3 j (by omega)) hP hD hS (lv_sub hl [1] rfl)
    · refine lv_aload_n hx hb dX0_places_21 rfl (lv_at hl 1 rfl) ?_
      refine va_get (D := D) (ci := 0) (v := .ref bp) (C := RX0) (T := TX0) (N := 3) hx hb hts in_X0 hown hK hP 0 rfl rfl 0 (by decide) (hts _ q43) (fun _ h9 => h9) rfl dX0_places_22 ?_
      refine lv_iload_n hx hb dX0_places_25 rfl (lv_at hl 0 rfl) ?_
      refine lv_iconst (v := (nI 0)) hx hb dX0_places_26 (by decide +kernel) ?_
      refine fw_iast (g := nI) (x := 0) (k := i) hx hb hK hP hD hS 1 rfl (by omega) (by decide) dX0_places_27 (fun H locs hP hD hS => ?_)
      have hP : va_P D vwCl (fd_wX bx bp b0 b1 b2 b3 b4 dA n (fd_up P i 0) nn L lv N row) H := hP
      have hD : va_D A (fd_wX bx bp b0 b1 b2 b3 b4 dA n (fd_up P i 0) nn L lv N row) := hD
      refine lv_iinc (v := nI (i + 1)) (lv' := [(2, .int (nI (i + 1))), (0, .ref bx)]) hx hb dX0_places_28 hl (k := 0) rfl (nI_1 _) (by decide) rfl (fun ls hl => ?_)
      refine lv_goto (tgt := 15) hx hb dX0_places_31 (by decide) ?_
      exact ih (i + 1) (fd_up P i 0) (by omega) (by omega) (fun j hj => by
        by_cases e : j = i
        · rw [e, fd_us]
        · rw [fd_un e]; exact h3 j (by omega)) H locs ls hP hD hS (lv_sub hl [0, 1] rfl)
end FDPLS
set_option maxHeartbeats 4000000 in
set_option maxRecDepth 100000 in
/-- places(k): a new number of places, no pipes -/
theorem met_places (l : Launch) (D : va_G) (dA dB : ClassId) (bx bp b0 b1 b2 b3 b4 : Nat) (n nn : Nat) (P L lv N row : Nat → Nat) (x1 : Int32) (sz : Nat) :
    Met l yX0_places (ws_ yX0_places cX0_places 3 none) ({ frames := 0, cells := 0, slots := 0, locals := 0 }) (fd_pC D dA dB [.ref bx, .int x1] sz (fd_wX bx bp b0 b1 b2 b3 b4 dA n P nn L lv N row)) (va_Qv (fun (P2 : Nat → Nat) => ∀ j, j < 100 → P2 j = 0) (fd_B D dA dB (va_A (fd_wX bx bp b0 b1 b2 b3 b4 dA n P nn L lv N row) sz) (fun P2 => fd_wX bx bp b0 b1 b2 b3 b4 dA (2 + fd_pos x1 % 9) P2 nn L lv N row)) (va_A (fd_wX bx bp b0 b1 b2 b3 b4 dA n P nn L lv N row) sz)) 0 0 (va_A (fd_wX bx bp b0 b1 b2 b3 b4 dA n P nn L lv N row) sz) := by
  refine fd_ofW (Qf := fun A => va_Qv (fun (P2 : Nat → Nat) => ∀ j, j < 100 → P2 j = 0) (fd_B D dA dB A (fun P2 => fd_wX bx bp b0 b1 b2 b3 b4 dA (2 + fd_pos x1 % 9) P2 nn L lv N row)) A) (by decide) (Nat.le_of_ble_eq_true rfl) ?_
  intro p e s m below meth c A ls hx hb hr hml hown hlocks hts hname hP hK hD hA hS hl
  have hl : lv_has ls 3 [(0, .ref bx), (1, .int x1)] := hl
  refine lv_aload_n hx hb dX0_places_0 rfl (lv_at hl 0 rfl) ?_
  refine lv_iconst (v := (nI 2)) hx hb dX0_places_1 (by decide +kernel) ?_
  refine lv_iload_n hx hb dX0_places_2 rfl (lv_at hl 1 rfl) ?_
  refine lv_ldc (v := 2147483647) hx hb hown (hts _ q57) dX0_places_3 ?_
  refine fw_pos hx hb dX0_places_5 ?_
  refine lv_bipush (v := (nI 9)) hx hb dX0_places_6 (by decide +kernel) ?_
  refine fw_irem hx hb (fd_pos_lt x1) (by omega) (by omega) dX0_places_8 ?_
  refine fw_iadd hx hb dX0_places_9 ?_
  refine va_put (D := D) (ci := 0) (v := .int (nI (2 + ((fd_pos x1) % 9)))) (ty := .int) (C := RX0) (T := TX0) (N := 3) hx hb hts in_X0 tyX0 tyX0_ok nmX0 hown hK hP hD hS 0 rfl rfl 2 (by decide) (hts _ q45) (fun _ h9 => h9) rfl (by decide +kernel) rfl rfl (Nat.le_of_ble_eq_true rfl) dX0_places_10 (fun H locs hP hD hS => ?_)
  have hP : va_P D vwCl (fd_wX bx bp b0 b1 b2 b3 b4 dA (2 + ((fd_pos x1) % 9)) P nn L lv N row) H := hP
  have hD : va_D A (fd_wX bx bp b0 b1 b2 b3 b4 dA (2 + ((fd_pos x1) % 9)) P nn L lv N row) := hD
  refine lv_iconst (v := (nI 0)) hx hb dX0_places_13 (by decide +kernel) ?_
  refine lv_istore_n (lv' := [(2, .int (nI 0)), (0, .ref bx), (1, .int x1)]) hx hb dX0_places_14 rfl hl (by decide) rfl (fun ls hl => ?_)
  refine fd_pls_1 hx hb hown hts hK ?_ 101 0 P (by omega) (by omega) (fun j hj => absurd hj (by omega)) H locs ls hP hD hS (lv_sub hl [0, 1] rfl)
  intro P2 H locs ls hz hP hD hS hl
  exact fd_vret P2 hx hb hr hlocks hK hP hD hS hz dX0_places_34
set_option maxHeartbeats 4000000 in
set_option maxRecDepth 100000 in
/-- pipe(a, b, c) -/
theorem met_pipe (l : Launch) (D : va_G) (dA dB : ClassId) (bx bp b0 b1 b2 b3 b4 : Nat) (n nn : Nat) (P L lv N row : Nat → Nat) (x1 x2 x3 : Int32) (hn0 : 2 ≤ n) (hn : n ≤ 10) (sz : Nat) :
    Met l yX0_pipe (ws_ yX0_pipe cX0_pipe 6 (some .boolean)) ({ frames := 1, cells := 0, slots := 0, locals := 21 }) (fd_pC D dA dB [.ref bx, .int x1, .int x2, .int x3] sz (fd_wX bx bp b0 b1 b2 b3 b4 dA n P nn L lv N row)) (va_Qi (fun (r : Int32) (P2 : Nat → Nat) => r = (if fd_pos x1 % n = fd_pos x2 % n then 0 else 1) ∧ P2 = (if fd_pos x1 % n = fd_pos x2 % n then P else fd_up P (10 * (fd_pos x1 % n) + fd_pos x2 % n) (fd_cap x3))) (fd_B D dA dB (va_A (fd_wX bx bp b0 b1 b2 b3 b4 dA n P nn L lv N row) sz) (fun P2 => fd_wX bx bp b0 b1 b2 b3 b4 dA n P2 nn L lv N row)) (va_A (fd_wX bx bp b0 b1 b2 b3 b4 dA n P nn L lv N row) sz)) 0 0 (va_A (fd_wX bx bp b0 b1 b2 b3 b4 dA n P nn L lv N row) sz) := by
  refine fd_ofW (Qf := fun A => va_Qi (fun (r : Int32) (P2 : Nat → Nat) => r = (if fd_pos x1 % n = fd_pos x2 % n then 0 else 1) ∧ P2 = (if fd_pos x1 % n = fd_pos x2 % n then P else fd_up P (10 * (fd_pos x1 % n) + fd_pos x2 % n) (fd_cap x3))) (fd_B D dA dB A (fun P2 => fd_wX bx bp b0 b1 b2 b3 b4 dA n P2 nn L lv N row)) A) (by decide) (Nat.le_of_ble_eq_true rfl) ?_
  intro p e s m below meth c A ls hx hb hr hml hown hlocks hts hname hP hK hD hA hS hl
  have hl : lv_has ls 6 [(0, .ref bx), (1, .int x1), (2, .int x2), (3, .int x3)] := hl
  have hu : fd_pos x1 % n < n := Nat.mod_lt _ (by omega)
  have hv : fd_pos x2 % n < n := Nat.mod_lt _ (by omega)
  refine lv_aload_n hx hb dX0_pipe_0 rfl (lv_at hl 0 rfl) ?_
  refine lv_iload_n hx hb dX0_pipe_1 rfl (lv_at hl 1 rfl) ?_
  refine fd_cVi (wr := []) (rest := []) ⟨hx, hb, hml, hown, hts⟩ (met_place l D dA dB bx bp b0 b1 b2 b3 b4 n nn P L lv N row x1 hn0 hn _) 1 q62 q64 qs0 q5 q65 ⟨rfl, rfl⟩ (by decide +kernel) ⟨Nat.le_of_ble_eq_true rfl, Nat.le_of_ble_eq_true rfl⟩ hK hP hD hS hA [0, 1, 2, 3, 4, 5, 6] [] rfl rfl (by decide) (by decide) (by decide) (ci := 0) (q0 := 0) rfl rfl rfl rfl hl.1 rfl (Nat.le_of_ble_eq_true rfl) dX0_pipe_2 ⟨Nat.zero_le _, Nat.zero_le _⟩ (fun r1 _ H locs hw hP hD hS => ?_)
  subst hw
  have hP : va_P D vwCl (fd_wX bx bp b0 b1 b2 b3 b4 dA n P nn L lv N row) H := hP
  have hD : va_D A (fd_wX bx bp b0 b1 b2 b3 b4 dA n P nn L lv N row) := hD
  refine lv_istore (lv' := [(4, .int (nI (fd_pos x1 % n))), (0, .ref bx), (1, .int x1), (2, .int x2), (3, .int x3)]) hx hb dX0_pipe_5 hl (by decide) rfl (fun ls hl => ?_)
  refine lv_aload_n hx hb dX0_pipe_7 rfl (lv_at hl 1 rfl) ?_
  refine lv_iload_n hx hb dX0_pipe_8 rfl (lv_at hl 3 rfl) ?_
  refine fd_cVi (wr := []) (rest := []) ⟨hx, hb, hml, hown, hts⟩ (met_place l D dA dB bx bp b0 b1 b2 b3 b4 n nn P L lv N row x2 hn0 hn _) 1 q62 q64 qs0 q5 q65 ⟨rfl, rfl⟩ (by decide +kernel) ⟨Nat.le_of_ble_eq_true rfl, Nat.le_of_ble_eq_true rfl⟩ hK hP hD hS hA [0, 1, 2, 3, 4, 5, 6] [] rfl rfl (by decide) (by decide) (by decide) (ci := 0) (q0 := 0) rfl rfl rfl rfl hl.1 rfl (Nat.le_of_ble_eq_true rfl) dX0_pipe_9 ⟨Nat.zero_le _, Nat.zero_le _⟩ (fun r1 _ H locs hw hP hD hS => ?_)
  subst hw
  have hP : va_P D vwCl (fd_wX bx bp b0 b1 b2 b3 b4 dA n P nn L lv N row) H := hP
  have hD : va_D A (fd_wX bx bp b0 b1 b2 b3 b4 dA n P nn L lv N row) := hD
  refine lv_istore (lv' := [(5, .int (nI (fd_pos x2 % n))), (4, .int (nI (fd_pos x1 % n))), (0, .ref bx), (1, .int x1), (2, .int x2), (3, .int x3)]) hx hb dX0_pipe_12 hl (by decide) rfl (fun ls hl => ?_)
  refine lv_iload hx hb dX0_pipe_14 (lv_at hl 1 rfl) ?_
  refine lv_iload hx hb dX0_pipe_16 (lv_at hl 0 rfl) ?_
  refine fw_icmp_ne (tgt := 23) hx hb (by omega) (by omega) dX0_pipe_18 (by decide) (fun c1 => ?_) (fun c1 => ?_)
  · refine lv_aload_n hx hb dX0_pipe_23 rfl (lv_at hl 2 rfl) ?_
    refine va_get (D := D) (ci := 0) (v := .ref bp) (C := RX0) (T := TX0) (N := 3) hx hb hts in_X0 hown hK hP 0 rfl rfl 0 (by decide) (hts _ q43) (fun _ h9 => h9) rfl dX0_pipe_24 ?_
    refine lv_bipush (v := (nI 10)) hx hb dX0_pipe_27 (by decide +kernel) ?_
    refine lv_iload hx hb dX0_pipe_29 (lv_at hl 1 rfl) ?_
    refine fw_imul hx hb dX0_pipe_31 ?_
    refine lv_iload hx hb dX0_pipe_32 (lv_at hl 0 rfl) ?_
    refine fw_iadd hx hb dX0_pipe_34 ?_
    refine lv_iload_n hx hb dX0_pipe_35 rfl (lv_at hl 5 rfl) ?_
    refine lv_ldc (v := 1048575) hx hb hown (hts _ q66) dX0_pipe_36 ?_
    refine fw_cap hx hb dX0_pipe_38 ?_
    refine fw_iast (g := nI) (x := fd_cap x3) (k := (10 * (fd_pos x1 % n)) + (fd_pos x2 % n)) hx hb hK hP hD hS 1 rfl (by omega) (by decide) dX0_pipe_39 (fun H locs hP hD hS => ?_)
    have hP : va_P D vwCl (fd_wX bx bp b0 b1 b2 b3 b4 dA n (fd_up P ((10 * (fd_pos x1 % n)) + (fd_pos x2 % n)) (fd_cap x3)) nn L lv N row) H := hP
    have hD : va_D A (fd_wX bx bp b0 b1 b2 b3 b4 dA n (fd_up P ((10 * (fd_pos x1 % n)) + (fd_pos x2 % n)) (fd_cap x3)) nn L lv N row) := hD
    refine lv_iconst (v := 1) hx hb dX0_pipe_40 (by decide +kernel) ?_
    exact fd_zret _ hx hb hr rfl hlocks hK hP hD hS ⟨by rw [if_neg c1], by rw [if_neg c1]⟩ dX0_pipe_41
  · refine lv_iconst (v := 0) hx hb dX0_pipe_21 (by decide +kernel) ?_
    exact fd_zret _ hx hb hr rfl hlocks hK hP hD hS ⟨by rw [if_pos c1], by rw [if_pos c1]⟩ dX0_pipe_22
set_option maxHeartbeats 4000000 in
set_option maxRecDepth 100000 in
/-- room(a, b) -/
theorem met_room (l : Launch) (D : va_G) (dA dB : ClassId) (bx bp b0 b1 b2 b3 b4 : Nat) (n nn : Nat) (P L lv N row : Nat → Nat) (x1 x2 : Int32) (hn0 : 2 ≤ n) (hn : n ≤ 10) (sz : Nat) :
    Met l yX0_room (ws_ yX0_room cX0_room 3 (some .int)) ({ frames := 1, cells := 0, slots := 0, locals := 21 }) (fd_pC D dA dB [.ref bx, .int x1, .int x2] sz (fd_wX bx bp b0 b1 b2 b3 b4 dA n P nn L lv N row)) (va_Qi (fun (r : Int32) (_ : Unit) => r = nI (P (10 * (fd_pos x1 % n) + fd_pos x2 % n))) (fd_B D dA dB (va_A (fd_wX bx bp b0 b1 b2 b3 b4 dA n P nn L lv N row) sz) (fun _ => fd_wX bx bp b0 b1 b2 b3 b4 dA n P nn L lv N row)) (va_A (fd_wX bx bp b0 b1 b2 b3 b4 dA n P nn L lv N row) sz)) 0 0 (va_A (fd_wX bx bp b0 b1 b2 b3 b4 dA n P nn L lv N row) sz) := by
  refine fd_ofW (Qf := fun A => va_Qi (fun (r : Int32) (_ : Unit) => r = nI (P (10 * (fd_pos x1 % n) + fd_pos x2 % n))) (fd_B D dA dB A (fun _ => fd_wX bx bp b0 b1 b2 b3 b4 dA n P nn L lv N row)) A) (by decide) (Nat.le_of_ble_eq_true rfl) ?_
  intro p e s m below meth c A ls hx hb hr hml hown hlocks hts hname hP hK hD hA hS hl
  have hl : lv_has ls 3 [(0, .ref bx), (1, .int x1), (2, .int x2)] := hl
  have hu : fd_pos x1 % n < n := Nat.mod_lt _ (by omega)
  have hv : fd_pos x2 % n < n := Nat.mod_lt _ (by omega)
  refine lv_aload_n hx hb dX0_room_0 rfl (lv_at hl 0 rfl) ?_
  refine va_get (D := D) (ci := 0) (v := .ref bp) (C := RX0) (T := TX0) (N := 3) hx hb hts in_X0 hown hK hP 0 rfl rfl 0 (by decide) (hts _ q43) (fun _ h9 => h9) rfl dX0_room_1 ?_
  refine lv_bipush (v := (nI 10)) hx hb dX0_room_4 (by decide +kernel) ?_
  refine lv_aload_n hx hb dX0_room_6 rfl (lv_at hl 0 rfl) ?_
  refine lv_iload_n hx hb dX0_room_7 rfl (lv_at hl 1 rfl) ?_
  refine fd_cVi (wr := []) (rest := [.int (nI 10), .ref bp]) ⟨hx, hb, hml, hown, hts⟩ (met_place l D dA dB bx bp b0 b1 b2 b3 b4 n nn P L lv N row x1 hn0 hn _) 1 q62 q64 qs0 q5 q65 ⟨rfl, rfl⟩ (by decide +kernel) ⟨Nat.le_of_ble_eq_true rfl, Nat.le_of_ble_eq_true rfl⟩ hK hP hD hS hA [0, 1, 2, 3, 4, 5, 6] [] rfl rfl (by decide) (by decide) (by decide) (ci := 0) (q0 := 0) rfl rfl rfl rfl hl.1 rfl (Nat.le_of_ble_eq_true rfl) dX0_room_8 ⟨Nat.zero_le _, Nat.zero_le _⟩ (fun r1 _ H locs hw hP hD hS => ?_)
  subst hw
  have hP : va_P D vwCl (fd_wX bx bp b0 b1 b2 b3 b4 dA n P nn L lv N row) H := hP
  have hD : va_D A (fd_wX bx bp b0 b1 b2 b3 b4 dA n P nn L lv N row) := hD
  refine fw_imul hx hb dX0_room_11 ?_
  refine lv_aload_n hx hb dX0_room_12 rfl (lv_at hl 0 rfl) ?_
  refine lv_iload_n hx hb dX0_room_13 rfl (lv_at hl 2 rfl) ?_
  refine fd_cVi (wr := []) (rest := [.int (nI (10 * (fd_pos x1 % n))), .ref bp]) ⟨hx, hb, hml, hown, hts⟩ (met_place l D dA dB bx bp b0 b1 b2 b3 b4 n nn P L lv N row x2 hn0 hn _) 1 q62 q64 qs0 q5 q65 ⟨rfl, rfl⟩ (by decide +kernel) ⟨Nat.le_of_ble_eq_true rfl, Nat.le_of_ble_eq_true rfl⟩ hK hP hD hS hA [0, 1, 2, 3, 4, 5, 6] [] rfl rfl (by decide) (by decide) (by decide) (ci := 0) (q0 := 0) rfl rfl rfl rfl hl.1 rfl (Nat.le_of_ble_eq_true rfl) dX0_room_14 ⟨Nat.zero_le _, Nat.zero_le _⟩ (fun r1 _ H locs hw hP hD hS => ?_)
  subst hw
  have hP : va_P D vwCl (fd_wX bx bp b0 b1 b2 b3 b4 dA n P nn L lv N row) H := hP
  have hD : va_D A (fd_wX bx bp b0 b1 b2 b3 b4 dA n P nn L lv N row) := hD
  refine fw_iadd hx hb dX0_room_17 ?_
  refine fw_iald (g := nI) hx hb hK hP 1 rfl (by omega) (by decide) dX0_room_18 ?_
  exact fd_iret () hx hb hr hlocks hK hP hD hS rfl dX0_room_19
section FDFLW
variable {p : Program} {l : Launch} {e : Env} {R : Room} {s : State} {m : MethodId} {args : Array Value} {below : List Frame} {meth : Method} {c : Code} {cells slots : Nat} {Q : State → Prop} {D : va_G} {A : Nat → Prop} {dA dB : ClassId}
set_option maxHeartbeats 4000000 in
set_option maxRecDepth 100000 in
theorem fd_flw_1 (hx : p.tables.exec = Jvm.exec) (hb : c.code = cX0_flow) (hown : s.vm.findClass RX0 = some m.cls) (hts : ∀ w ∈ lw_all, w.before args s = true) (hK : va_K D vwCl (fd_ty dA dB) s) {bx bp b0 b1 b2 b3 b4 : Nat} {n nn sr tg : Nat} {P lv N row : Nat → Nat}
    (kk : ∀ (L : Nat → Nat) (H : Heap) (locs : List Loc) (ls : Array Slot), (∀ j, j < 100 → L j = P j) → va_P D vwCl (fd_wX bx bp b0 b1 b2 b3 b4 dA n P nn L lv N row) H → va_D A (fd_wX bx bp b0 b1 b2 b3 b4 dA n P nn L lv N row) → va_S A s.heap H locs → lv_has ls 4 [(0, .ref bx), (1, .int (nI sr)), (2, .int (nI tg))] → W p l e R s m args below meth c H locs cells slots Q (F0 m 40 ls [])) :
    ∀ (k i : Nat) (L : Nat → Nat), 101 ≤ i + k → i ≤ 100 → (∀ j, j < i → L j = P j) → ∀ (H : Heap) (locs : List Loc) (ls : Array Slot), va_P D vwCl (fd_wX bx bp b0 b1 b2 b3 b4 dA n P nn L lv N row) H → va_D A (fd_wX bx bp b0 b1 b2 b3 b4 dA n P nn L lv N row) → va_S A s.heap H locs → lv_has ls 4 [(3, .int (nI i)), (0, .ref bx), (1, .int (nI sr)), (2, .int (nI tg))] → W p l e R s m args below meth c H locs cells slots Q (F0 m 13 ls []) := by
  intro k
  induction k with
  | zero =>
    intro i L h1 h2
    omega
  | succ k ih =>
    intro i L h1 h2 h3 H locs ls hP hD hS hl
    refine lv_iload_n hx hb dX0_flow_13 rfl (lv_at hl 0 rfl) ?_
    refine lv_bipush (v := (nI 100)) hx hb dX0_flow_14 (by decide +kernel) ?_
    refine fw_icmp_ge (tgt := 40) hx hb (by omega) (by omega) dX0_flow_16 (by decide) (fun c1 => ?_) (fun c1 => ?_)
    · exact kk L H locs ls (fun j hj => h3 j (by omega)) hP hD hS (lv_sub hl [1, 2, 3] rfl)
    · refine lv_aload_n hx hb dX0_flow_19 rfl (lv_at hl 1 rfl) ?_
      refine va_get (D := D) (ci := 0) (v := .ref b0) (C := RX0) (T := TX0) (N := 3) hx hb hts in_X0 hown hK hP 0 rfl rfl 1 (by decide) (hts _ q44) (fun _ h9 => h9) rfl dX0_flow_20 ?_
      refine va_get (D := D) (ci := 1) (v := .ref b1) (C := RX1) (T := TX1) (N := 5) hx hb hts in_X1 hown hK hP 2 rfl rfl 0 (by decide) (hts _ q24) (fun _ h9 => h9) rfl dX0_flow_23 ?_
      refine lv_iload_n hx hb dX0_flow_26 rfl (lv_at hl 0 rfl) ?_
      refine lv_aload_n hx hb dX0_flow_27 rfl (lv_at hl 1 rfl) ?_
      refine va_get (D := D) (ci := 0) (v := .ref bp) (C := RX0) (T := TX0) (N := 3) hx hb hts in_X0 hown hK hP 0 rfl rfl 0 (by decide) (hts _ q43) (fun _ h9 => h9) rfl dX0_flow_28 ?_
      refine lv_iload_n hx hb dX0_flow_31 rfl (lv_at hl 0 rfl) ?_
      refine fw_iald (g := nI) hx hb hK hP 1 rfl (by omega) (by decide) dX0_flow_32 ?_
      refine fw_iast (g := nI) (x := P i) (k := i) hx hb hK hP hD hS 3 rfl (by omega) (by decide) dX0_flow_33 (fun H locs hP hD hS => ?_)
      have hP : va_P D vwCl (fd_wX bx bp b0 b1 b2 b3 b4 dA n P nn (fd_up L i (P i)) lv N row) H := hP
      have hD : va_D A (fd_wX bx bp b0 b1 b2 b3 b4 dA n P nn (fd_up L i (P i)) lv N row) := hD
      refine lv_iinc (v := nI (i + 1)) (lv' := [(3, .int (nI (i + 1))), (0, .ref bx), (1, .int (nI sr)), (2, .int (nI tg))]) hx hb dX0_flow_34 hl (k := 0) rfl (nI_1 _) (by decide) rfl (fun ls hl => ?_)
      refine lv_goto (tgt := 13) hx hb dX0_flow_37 (by decide) ?_
      exact ih (i + 1) (fd_up L i (P i)) (by omega) (by omega) (fun j hj => by
        by_cases e : j = i
        · rw [e, fd_us]
        · rw [fd_un e]; exact h3 j (by omega)) H locs ls hP hD hS (lv_sub hl [0, 1, 2, 3] rfl)
end FDFLW
set_option maxHeartbeats 4000000 in
set_option maxRecDepth 100000 in
/-- flow(from, to): the largest flow through the pipes -/
theorem met_flow (l : Launch) (D : va_G) (dA dB : ClassId) (bx bp b0 b1 b2 b3 b4 : Nat) (n nn : Nat) (P L lv N row : Nat → Nat) (sr tg : Nat) (hn0 : 2 ≤ n) (hn : n ≤ 10) (hs : sr < n) (ht : tg < n) (hst : sr ≠ tg) (hPb : ∀ j, j < 100 → P j < 2 ^ 20) (sz : Nat) :
    Met l yX0_flow (ws_ yX0_flow cX0_flow 4 (some .long)) ({ frames := 13, cells := 0, slots := 0, locals := 385 }) (fd_pC D dA dB [.ref bx, .int (nI sr), .int (nI tg)] sz (fd_wX bx bp b0 b1 b2 b3 b4 dA n P nn L lv N row)) (va_Ql (fun (r : Int64) (w : (Nat → Nat) × (Nat → Nat) × (Nat → Nat) × (Nat → Nat)) => ∃ size, r = lN size ∧ fd_MF P n sr tg size w.2.1) (fd_B D dA dB (va_A (fd_wX bx bp b0 b1 b2 b3 b4 dA n P nn L lv N row) sz) (fun w => fd_wX bx bp b0 b1 b2 b3 b4 dA n P n w.1 w.2.1 w.2.2.1 w.2.2.2)) (va_A (fd_wX bx bp b0 b1 b2 b3 b4 dA n P nn L lv N row) sz)) 0 0 (va_A (fd_wX bx bp b0 b1 b2 b3 b4 dA n P nn L lv N row) sz) := by
  refine fd_ofW (Qf := fun A => va_Ql (fun (r : Int64) (w : (Nat → Nat) × (Nat → Nat) × (Nat → Nat) × (Nat → Nat)) => ∃ size, r = lN size ∧ fd_MF P n sr tg size w.2.1) (fd_B D dA dB A (fun w => fd_wX bx bp b0 b1 b2 b3 b4 dA n P n w.1 w.2.1 w.2.2.1 w.2.2.2)) A) (by decide) (Nat.le_of_ble_eq_true rfl) ?_
  intro p e s m below meth c A ls hx hb hr hml hown hlocks hts hname hP hK hD hA hS hl
  have hl : lv_has ls 4 [(0, .ref bx), (1, .int (nI sr)), (2, .int (nI tg))] := hl
  refine lv_aload_n hx hb dX0_flow_0 rfl (lv_at hl 0 rfl) ?_
  refine va_get (D := D) (ci := 0) (v := .ref b0) (C := RX0) (T := TX0) (N := 3) hx hb hts in_X0 hown hK hP 0 rfl rfl 1 (by decide) (hts _ q44) (fun _ h9 => h9) rfl dX0_flow_1 ?_
  refine lv_aload_n hx hb dX0_flow_4 rfl (lv_at hl 0 rfl) ?_
  refine va_get (D := D) (ci := 0) (v := .int (nI n)) (C := RX0) (T := TX0) (N := 3) hx hb hts in_X0 hown hK hP 0 rfl rfl 2 (by decide) (hts _ q45) (fun _ h9 => h9) rfl dX0_flow_5 ?_
  refine va_put (D := D) (ci := 1) (v := .int (nI n)) (ty := .int) (C := RX1) (T := TX1) (N := 5) hx hb hts in_X1 tyX1 tyX1_ok nmX1 hown hK hP hD hS 2 rfl rfl 4 (by decide) (hts _ q30) (fun _ h9 => h9) rfl (by decide +kernel) rfl rfl (Nat.le_of_ble_eq_true rfl) dX0_flow_8 (fun H locs hP hD hS => ?_)
  have hP : va_P D vwCl (fd_wX bx bp b0 b1 b2 b3 b4 dA n P n L lv N row) H := hP
  have hD : va_D A (fd_wX bx bp b0 b1 b2 b3 b4 dA n P n L lv N row) := hD
  refine lv_iconst (v := (nI 0)) hx hb dX0_flow_11 (by decide +kernel) ?_
  refine lv_istore_n (lv' := [(3, .int (nI 0)), (0, .ref bx), (1, .int (nI sr)), (2, .int (nI tg))]) hx hb dX0_flow_12 rfl hl (by decide) rfl (fun ls hl => ?_)
  refine fd_flw_1 hx hb hown hts hK ?_ 101 0 L (by omega) (by omega) (fun j hj => absurd hj (by omega)) H locs ls hP hD hS (lv_sub hl [0, 1, 2, 3] rfl)
  intro L2 H locs ls hL hP hD hS hl
  refine lv_aload_n hx hb dX0_flow_40 rfl (lv_at hl 0 rfl) ?_
  refine va_get (D := D) (ci := 0) (v := .ref b0) (C := RX0) (T := TX0) (N := 3) hx hb hts in_X0 hown hK hP 0 rfl rfl 1 (by decide) (hts _ q44) (fun _ h9 => h9) rfl dX0_flow_41 ?_
  refine lv_iload_n hx hb dX0_flow_44 rfl (lv_at hl 1 rfl) ?_
  refine lv_iload_n hx hb dX0_flow_45 rfl (lv_at hl 2 rfl) ?_
  refine fd_cVl (wr := [(bx, .inr (0, [.ref bp, .ref b0, .int (nI n)])), (bp, .inl (dA, 100, .inl (fun j => nI (P j))))]) (rest := []) ⟨hx, hb, hml, hown, hts⟩ (met_run l D dA dB b0 b1 b2 b3 b4 n L2 lv N row sr tg H.size hn hs ht hst (fun a b ha hb => by rw [hL _ (by omega), hL _ (by omega)]; have q1 := hPb (10 * a + b) (by omega); have q2 := hPb (10 * b + a) (by omega); omega)) 2 q80 q81 q82 q6 q83 ⟨rfl, rfl⟩ (by decide +kernel) ⟨Nat.le_of_ble_eq_true rfl, Nat.le_of_ble_eq_true rfl⟩ hK hP hD hS hA [2, 3, 4, 5, 6] [0, 1] rfl rfl (by decide) (by decide) (by decide) (ci := 1) (q0 := 0) rfl rfl rfl rfl hl.1 rfl (Nat.le_of_ble_eq_true rfl) dX0_flow_46 ⟨Nat.zero_le _, Nat.zero_le _⟩ (fun r1 w H locs hw hP hD hS => ?_)
  obtain ⟨L3, lv3, N3, row3⟩ := w
  obtain ⟨size, rfl, hMF⟩ := hw
  have hP : va_P D vwCl (fd_wX bx bp b0 b1 b2 b3 b4 dA n P n L3 lv3 N3 row3) H := hP
  have hD : va_D A (fd_wX bx bp b0 b1 b2 b3 b4 dA n P n L3 lv3 N3 row3) := hD
  exact fd_lret (L3, lv3, N3, row3) hx hb hr hlocks hK hP hD hS ⟨size, rfl, fd_MF_ext hn hL hMF⟩ dX0_flow_49
set_option maxHeartbeats 4000000 in
set_option maxRecDepth 100000 in
/-- most(a, b) -/
theorem met_most (l : Launch) (D : va_G) (dA dB : ClassId) (bx bp b0 b1 b2 b3 b4 : Nat) (n nn : Nat) (P L lv N row : Nat → Nat) (x1 x2 : Int32) (hn0 : 2 ≤ n) (hn : n ≤ 10) (hPb : ∀ j, j < 100 → P j < 2 ^ 20) (sz : Nat) :
    Met l yX0_most (ws_ yX0_most cX0_most 3 (some .long)) ({ frames := 14, cells := 0, slots := 0, locals := 408 }) (fd_pC D dA dB [.ref bx, .int x1, .int x2] sz (fd_wX bx bp b0 b1 b2 b3 b4 dA n P nn L lv N row)) (va_Ql (fun (r : Int64) (w : Nat × (Nat → Nat) × (Nat → Nat) × (Nat → Nat) × (Nat → Nat)) => (fd_pos x1 % n = fd_pos x2 % n → r = -1) ∧ (fd_pos x1 % n ≠ fd_pos x2 % n → ∃ size lv2, r = lN size ∧ fd_MF P n (fd_pos x1 % n) (fd_pos x2 % n) size lv2)) (fd_B D dA dB (va_A (fd_wX bx bp b0 b1 b2 b3 b4 dA n P nn L lv N row) sz) (fun w => fd_wX bx bp b0 b1 b2 b3 b4 dA n P w.1 w.2.1 w.2.2.1 w.2.2.2.1 w.2.2.2.2)) (va_A (fd_wX bx bp b0 b1 b2 b3 b4 dA n P nn L lv N row) sz)) 0 0 (va_A (fd_wX bx bp b0 b1 b2 b3 b4 dA n P nn L lv N row) sz) := by
  refine fd_ofW (Qf := fun A => va_Ql (fun (r : Int64) (w : Nat × (Nat → Nat) × (Nat → Nat) × (Nat → Nat) × (Nat → Nat)) => (fd_pos x1 % n = fd_pos x2 % n → r = -1) ∧ (fd_pos x1 % n ≠ fd_pos x2 % n → ∃ size lv2, r = lN size ∧ fd_MF P n (fd_pos x1 % n) (fd_pos x2 % n) size lv2)) (fd_B D dA dB A (fun w => fd_wX bx bp b0 b1 b2 b3 b4 dA n P w.1 w.2.1 w.2.2.1 w.2.2.2.1 w.2.2.2.2)) A) (by decide) (Nat.le_of_ble_eq_true rfl) ?_
  intro p e s m below meth c A ls hx hb hr hml hown hlocks hts hname hP hK hD hA hS hl
  have hl : lv_has ls 3 [(0, .ref bx), (1, .int x1), (2, .int x2)] := hl
  have hu : fd_pos x1 % n < n := Nat.mod_lt _ (by omega)
  have hv : fd_pos x2 % n < n := Nat.mod_lt _ (by omega)
  refine lv_aload_n hx hb dX0_most_0 rfl (lv_at hl 0 rfl) ?_
  refine lv_iload_n hx hb dX0_most_1 rfl (lv_at hl 1 rfl) ?_
  refine fd_cVi (wr := []) (rest := []) ⟨hx, hb, hml, hown, hts⟩ (met_place l D dA dB bx bp b0 b1 b2 b3 b4 n nn P L lv N row x1 hn0 hn _) 1 q62 q64 qs0 q5 q65 ⟨rfl, rfl⟩ (by decide +kernel) ⟨Nat.le_of_ble_eq_true rfl, Nat.le_of_ble_eq_true rfl⟩ hK hP hD hS hA [0, 1, 2, 3, 4, 5, 6] [] rfl rfl (by decide) (by decide) (by decide) (ci := 0) (q0 := 0) rfl rfl rfl rfl hl.1 rfl (Nat.le_of_ble_eq_true rfl) dX0_most_2 ⟨Nat.zero_le _, Nat.zero_le _⟩ (fun r1 _ H locs hw hP hD hS => ?_)
  subst hw
  have hP : va_P D vwCl (fd_wX bx bp b0 b1 b2 b3 b4 dA n P nn L lv N row) H := hP
  have hD : va_D A (fd_wX bx bp b0 b1 b2 b3 b4 dA n P nn L lv N row) := hD
  refine lv_aload_n hx hb dX0_most_5 rfl (lv_at hl 0 rfl) ?_
  refine lv_iload_n hx hb dX0_most_6 rfl (lv_at hl 2 rfl) ?_
  refine fd_cVi (wr := []) (rest := [.int (nI (fd_pos x1 % n))]) ⟨hx, hb, hml, hown, hts⟩ (met_place l D dA dB bx bp b0 b1 b2 b3 b4 n nn P L lv N row x2 hn0 hn _) 1 q62 q64 qs0 q5 q65 ⟨rfl, rfl⟩ (by decide +kernel) ⟨Nat.le_of_ble_eq_true rfl, Nat.le_of_ble_eq_true rfl⟩ hK hP hD hS hA [0, 1, 2, 3, 4, 5, 6] [] rfl rfl (by decide) (by decide) (by decide) (ci := 0) (q0 := 0) rfl rfl rfl rfl hl.1 rfl (Nat.le_of_ble_eq_true rfl) dX0_most_7 ⟨Nat.zero_le _, Nat.zero_le _⟩ (fun r1 _ H locs hw hP hD hS => ?_)
  subst hw
  have hP : va_P D vwCl (fd_wX bx bp b0 b1 b2 b3 b4 dA n P nn L lv N row) H := hP
  have hD : va_D A (fd_wX bx bp b0 b1 b2 b3 b4 dA n P nn L lv N row) := hD
  refine fw_icmp_ne (tgt := 19) hx hb (by omega) (by omega) dX0_most_10 (by decide) (fun c1 => ?_) (fun c1 => ?_)
  · refine lv_aload_n hx hb dX0_most_19 rfl (lv_at hl 0 rfl) ?_
    refine lv_aload_n hx hb dX0_most_20 rfl (lv_at hl 0 rfl) ?_
    refine lv_iload_n hx hb dX0_most_21 rfl (lv_at hl 1 rfl) ?_
    refine fd_cVi (wr := []) (rest := [.ref bx]) ⟨hx, hb, hml, hown, hts⟩ (met_place l D dA dB bx bp b0 b1 b2 b3 b4 n nn P L lv N row x1 hn0 hn _) 1 q62 q64 qs0 q5 q65 ⟨rfl, rfl⟩ (by decide +kernel) ⟨Nat.le_of_ble_eq_true rfl, Nat.le_of_ble_eq_true rfl⟩ hK hP hD hS hA [0, 1, 2, 3, 4, 5, 6] [] rfl rfl (by decide) (by decide) (by decide) (ci := 0) (q0 := 0) rfl rfl rfl rfl hl.1 rfl (Nat.le_of_ble_eq_true rfl) dX0_most_22 ⟨Nat.zero_le _, Nat.zero_le _⟩ (fun r1 _ H locs hw hP hD hS => ?_)
    subst hw
    have hP : va_P D vwCl (fd_wX bx bp b0 b1 b2 b3 b4 dA n P nn L lv N row) H := hP
    have hD : va_D A (fd_wX bx bp b0 b1 b2 b3 b4 dA n P nn L lv N row) := hD
    refine lv_aload_n hx hb dX0_most_25 rfl (lv_at hl 0 rfl) ?_
    refine lv_iload_n hx hb dX0_most_26 rfl (lv_at hl 2 rfl) ?_
    refine fd_cVi (wr := []) (rest := [.int (nI (fd_pos x1 % n)), .ref bx]) ⟨hx, hb, hml, hown, hts⟩ (met_place l D dA dB bx bp b0 b1 b2 b3 b4 n nn P L lv N row x2 hn0 hn _) 1 q62 q64 qs0 q5 q65 ⟨rfl, rfl⟩ (by decide +kernel) ⟨Nat.le_of_ble_eq_true rfl, Nat.le_of_ble_eq_true rfl⟩ hK hP hD hS hA [0, 1, 2, 3, 4, 5, 6] [] rfl rfl (by decide) (by decide) (by decide) (ci := 0) (q0 := 0) rfl rfl rfl rfl hl.1 rfl (Nat.le_of_ble_eq_true rfl) dX0_most_27 ⟨Nat.zero_le _, Nat.zero_le _⟩ (fun r1 _ H locs hw hP hD hS => ?_)
    subst hw
    have hP : va_P D vwCl (fd_wX bx bp b0 b1 b2 b3 b4 dA n P nn L lv N row) H := hP
    have hD : va_D A (fd_wX bx bp b0 b1 b2 b3 b4 dA n P nn L lv N row) := hD
    refine fd_cVl (wr := []) (rest := []) ⟨hx, hb, hml, hown, hts⟩ (met_flow l D dA dB bx bp b0 b1 b2 b3 b4 n nn P L lv N row (fd_pos x1 % n) (fd_pos x2 % n) hn0 hn hu hv c1 hPb _) 2 q76 q78 qs1 q5 q79 ⟨rfl, rfl⟩ (by decide +kernel) ⟨Nat.le_of_ble_eq_true rfl, Nat.le_of_ble_eq_true rfl⟩ hK hP hD hS hA [0, 1, 2, 3, 4, 5, 6] [] rfl rfl (by decide) (by decide) (by decide) (ci := 0) (q0 := 0) rfl rfl rfl rfl hl.1 rfl (Nat.le_of_ble_eq_true rfl) dX0_most_30 ⟨Nat.zero_le _, Nat.zero_le _⟩ (fun r1 w H locs hw hP hD hS => ?_)
    obtain ⟨L3, lv3, N3, row3⟩ := w
    obtain ⟨size, rfl, hMF⟩ := hw
    have hP : va_P D vwCl (fd_wX bx bp b0 b1 b2 b3 b4 dA n P n L3 lv3 N3 row3) H := hP
    have hD : va_D A (fd_wX bx bp b0 b1 b2 b3 b4 dA n P n L3 lv3 N3 row3) := hD
    exact fd_lret (n, L3, lv3, N3, row3) hx hb hr hlocks hK hP hD hS ⟨fun q => absurd q c1, fun _ => ⟨size, lv3, rfl, hMF⟩⟩ dX0_most_33
  · refine lv_ldc2 (v := (-1)) hx hb hown (hts _ q75) dX0_most_13 ?_
    refine lv_goto (tgt := 33) hx hb dX0_most_16 (by decide) ?_
    exact fd_lret (nn, L, lv, N, row) hx hb hr hlocks hK hP hD hS ⟨fun _ => rfl, fun q => absurd c1 q⟩ dX0_most_33
section FDSID
variable {p : Program} {l : Launch} {e : Env} {R : Room} {s : State} {m : MethodId} {args : Array Value} {below : List Frame} {meth : Method} {c : Code} {cells slots : Nat} {Q : State → Prop} {D : va_G} {A : Nat → Prop} {dA dB : ClassId}
set_option maxHeartbeats 4000000 in
set_option maxRecDepth 100000 in
theorem fd_sid_1 (hx : p.tables.exec = Jvm.exec) (hb : c.code = cX0_side) (hown : s.vm.findClass RX0 = some m.cls) (hts : ∀ w ∈ lw_all, w.before args s = true) (hK : va_K D vwCl (fd_ty dA dB) s) {bx bp b0 b1 b2 b3 b4 : Nat} {n nn : Nat} {P L lv N row : Nat → Nat} (hn : n ≤ 10) (hlv : ∀ y, y < n → lv y ≤ 10)
    (kk : ∀ (H : Heap) (locs : List Loc) (ls : Array Slot), va_P D vwCl (fd_wX bx bp b0 b1 b2 b3 b4 dA n P nn L lv N row) H → va_D A (fd_wX bx bp b0 b1 b2 b3 b4 dA n P nn L lv N row) → va_S A s.heap H locs → lv_has ls 5 [(3, .int (nI (fd_msk lv n))), (0, .ref bx)] → W p l e R s m args below meth c H locs cells slots Q (F0 m 71 ls [])) :
    ∀ (k i : Nat), n + 1 ≤ i + k → i ≤ n → ∀ (H : Heap) (locs : List Loc) (ls : Array Slot), va_P D vwCl (fd_wX bx bp b0 b1 b2 b3 b4 dA n P nn L lv N row) H → va_D A (fd_wX bx bp b0 b1 b2 b3 b4 dA n P nn L lv N row) → va_S A s.heap H locs → lv_has ls 5 [(4, .int (nI i)), (3, .int (nI (fd_msk lv i))), (0, .ref bx)] → W p l e R s m args below meth c H locs cells slots Q (F0 m 35 ls []) := by
  intro k
  induction k with
  | zero =>
    intro i h1 h2
    omega
  | succ k ih =>
    intro i h1 h2 H locs ls hP hD hS hl
    refine lv_iload hx hb dX0_side_35 (lv_at hl 0 rfl) ?_
    refine lv_aload_n hx hb dX0_side_37 rfl (lv_at hl 2 rfl) ?_
    refine va_get (D := D) (ci := 0) (v := .int (nI n)) (C := RX0) (T := TX0) (N := 3) hx hb hts in_X0 hown hK hP 0 rfl rfl 2 (by decide) (hts _ q45) (fun _ h9 => h9) rfl dX0_side_38 ?_
    refine fw_icmp_ge (tgt := 71) hx hb (by omega) (by omega) dX0_side_41 (by decide) (fun c1 => ?_) (fun c1 => ?_)
    · have e1 : i = n := by omega
      subst e1
      exact kk H locs ls hP hD hS (lv_sub hl [1, 2] rfl)
    · have hlvi := hlv i c1
      have hp2 : 2 ^ i < 2 ^ 10 := Nat.pow_lt_pow_right (by omega) (by omega)
      refine lv_aload_n hx hb dX0_side_44 rfl (lv_at hl 2 rfl) ?_
      refine va_get (D := D) (ci := 0) (v := .ref b0) (C := RX0) (T := TX0) (N := 3) hx hb hts in_X0 hown hK hP 0 rfl rfl 1 (by decide) (hts _ q44) (fun _ h9 => h9) rfl dX0_side_45 ?_
      refine va_get (D := D) (ci := 1) (v := .ref b2) (C := RX1) (T := TX1) (N := 5) hx hb hts in_X1 hown hK hP 2 rfl rfl 1 (by decide) (hts _ q26) (fun _ h9 => h9) rfl dX0_side_48 ?_
      refine lv_iload hx hb dX0_side_51 (lv_at hl 0 rfl) ?_
      refine fw_iald (g := fd_lI) hx hb hK hP 4 rfl (by omega) (by decide) dX0_side_53 ?_
      refine lv_iconst (v := (fd_lI 0)) hx hb dX0_side_54 (by decide +kernel) ?_
      refine lv_icmp_eq (tgt := 65) hx hb dX0_side_55 (by decide) (fun c2 => ?_) (fun c2 => ?_)
      · have c3 : lv i = 0 := (fd_lI_eq (by omega) (by omega)).mp c2
        have e2 : fd_msk lv i = fd_msk lv (i + 1) := by simp [fd_msk, c3]
        rw [e2] at hl
        refine lv_iinc (v := nI (i + 1)) (lv' := [(4, .int (nI (i + 1))), (3, .int (nI (fd_msk lv (i + 1)))), (0, .ref bx)]) hx hb dX0_side_65 hl (k := 0) rfl (nI_1 _) (by decide) rfl (fun ls hl => ?_)
        refine lv_goto (tgt := 35) hx hb dX0_side_68 (by decide) ?_
        exact ih (i + 1) (by omega) (by omega) H locs ls hP hD hS (lv_sub hl [0, 1, 2] rfl)
      · have c3 : lv i ≠ 0 := fun q => c2 (by rw [q])
        refine lv_iload_n hx hb dX0_side_58 rfl (lv_at hl 1 rfl) ?_
        refine lv_iconst (v := (nI 1)) hx hb dX0_side_59 (by decide +kernel) ?_
        refine lv_iload hx hb dX0_side_60 (lv_at hl 0 rfl) ?_
        refine fw_shl hx hb (by omega) (by omega) dX0_side_62 ?_
        refine lv_ior hx hb dX0_side_63 ?_
        refine fw_topi (y := (nI (fd_msk lv (i + 1)))) (by rw [fd_nor]; simp [fd_msk, c3]) ?_
        refine lv_istore_n (lv' := [(3, .int (nI (fd_msk lv (i + 1)))), (4, .int (nI i)), (0, .ref bx)]) hx hb dX0_side_64 rfl hl (by decide) rfl (fun ls hl => ?_)
        refine lv_iinc (v := nI (i + 1)) (lv' := [(4, .int (nI (i + 1))), (3, .int (nI (fd_msk lv (i + 1)))), (0, .ref bx)]) hx hb dX0_side_65 hl (k := 1) rfl (nI_1 _) (by decide) rfl (fun ls hl => ?_)
        refine lv_goto (tgt := 35) hx hb dX0_side_68 (by decide) ?_
        exact ih (i + 1) (by omega) (by omega) H locs ls hP hD hS (lv_sub hl [0, 1, 2] rfl)
end FDSID
set_option maxHeartbeats 4000000 in
set_option maxRecDepth 100000 in
/-- side(a, b) -/
theorem met_side (l : Launch) (D : va_G) (dA dB : ClassId) (bx bp b0 b1 b2 b3 b4 : Nat) (n nn : Nat) (P L lv N row : Nat → Nat) (x1 x2 : Int32) (hn0 : 2 ≤ n) (hn : n ≤ 10) (hPb : ∀ j, j < 100 → P j < 2 ^ 20) (sz : Nat) :
    Met l yX0_side (ws_ yX0_side cX0_side 5 (some .int)) ({ frames := 14, cells := 0, slots := 0, locals := 408 }) (fd_pC D dA dB [.ref bx, .int x1, .int x2] sz (fd_wX bx bp b0 b1 b2 b3 b4 dA n P nn L lv N row)) (va_Qi (fun (r : Int32) (w : Nat × (Nat → Nat) × (Nat → Nat) × (Nat → Nat) × (Nat → Nat)) => (fd_pos x1 % n = fd_pos x2 % n → r = -1) ∧ (fd_pos x1 % n ≠ fd_pos x2 % n → ∃ size lv2, r = nI (fd_msk lv2 n) ∧ fd_MF P n (fd_pos x1 % n) (fd_pos x2 % n) size lv2)) (fd_B D dA dB (va_A (fd_wX bx bp b0 b1 b2 b3 b4 dA n P nn L lv N row) sz) (fun w => fd_wX bx bp b0 b1 b2 b3 b4 dA n P w.1 w.2.1 w.2.2.1 w.2.2.2.1 w.2.2.2.2)) (va_A (fd_wX bx bp b0 b1 b2 b3 b4 dA n P nn L lv N row) sz)) 0 0 (va_A (fd_wX bx bp b0 b1 b2 b3 b4 dA n P nn L lv N row) sz) := by
  refine fd_ofW (Qf := fun A => va_Qi (fun (r : Int32) (w : Nat × (Nat → Nat) × (Nat → Nat) × (Nat → Nat) × (Nat → Nat)) => (fd_pos x1 % n = fd_pos x2 % n → r = -1) ∧ (fd_pos x1 % n ≠ fd_pos x2 % n → ∃ size lv2, r = nI (fd_msk lv2 n) ∧ fd_MF P n (fd_pos x1 % n) (fd_pos x2 % n) size lv2)) (fd_B D dA dB A (fun w => fd_wX bx bp b0 b1 b2 b3 b4 dA n P w.1 w.2.1 w.2.2.1 w.2.2.2.1 w.2.2.2.2)) A) (by decide) (Nat.le_of_ble_eq_true rfl) ?_
  intro p e s m below meth c A ls hx hb hr hml hown hlocks hts hname hP hK hD hA hS hl
  have hl : lv_has ls 5 [(0, .ref bx), (1, .int x1), (2, .int x2)] := hl
  have hu : fd_pos x1 % n < n := Nat.mod_lt _ (by omega)
  have hv : fd_pos x2 % n < n := Nat.mod_lt _ (by omega)
  refine lv_aload_n hx hb dX0_side_0 rfl (lv_at hl 0 rfl) ?_
  refine lv_iload_n hx hb dX0_side_1 rfl (lv_at hl 1 rfl) ?_
  refine fd_cVi (wr := []) (rest := []) ⟨hx, hb, hml, hown, hts⟩ (met_place l D dA dB bx bp b0 b1 b2 b3 b4 n nn P L lv N row x1 hn0 hn _) 1 q62 q64 qs0 q5 q65 ⟨rfl, rfl⟩ (by decide +kernel) ⟨Nat.le_of_ble_eq_true rfl, Nat.le_of_ble_eq_true rfl⟩ hK hP hD hS hA [0, 1, 2, 3, 4, 5, 6] [] rfl rfl (by decide) (by decide) (by decide) (ci := 0) (q0 := 0) rfl rfl rfl rfl hl.1 rfl (Nat.le_of_ble_eq_true rfl) dX0_side_2 ⟨Nat.zero_le _, Nat.zero_le _⟩ (fun r1 _ H locs hw hP hD hS => ?_)
  subst hw
  have hP : va_P D vwCl (fd_wX bx bp b0 b1 b2 b3 b4 dA n P nn L lv N row) H := hP
  have hD : va_D A (fd_wX bx bp b0 b1 b2 b3 b4 dA n P nn L lv N row) := hD
  refine lv_aload_n hx hb dX0_side_5 rfl (lv_at hl 0 rfl) ?_
  refine lv_iload_n hx hb dX0_side_6 rfl (lv_at hl 2 rfl) ?_
  refine fd_cVi (wr := []) (rest := [.int (nI (fd_pos x1 % n))]) ⟨hx, hb, hml, hown, hts⟩ (met_place l D dA dB bx bp b0 b1 b2 b3 b4 n nn P L lv N row x2 hn0 hn _) 1 q62 q64 qs0 q5 q65 ⟨rfl, rfl⟩ (by decide +kernel) ⟨Nat.le_of_ble_eq_true rfl, Nat.le_of_ble_eq_true rfl⟩ hK hP hD hS hA [0, 1, 2, 3, 4, 5, 6] [] rfl rfl (by decide) (by decide) (by decide) (ci := 0) (q0 := 0) rfl rfl rfl rfl hl.1 rfl (Nat.le_of_ble_eq_true rfl) dX0_side_7 ⟨Nat.zero_le _, Nat.zero_le _⟩ (fun r1 _ H locs hw hP hD hS => ?_)
  subst hw
  have hP : va_P D vwCl (fd_wX bx bp b0 b1 b2 b3 b4 dA n P nn L lv N row) H := hP
  have hD : va_D A (fd_wX bx bp b0 b1 b2 b3 b4 dA n P nn L lv N row) := hD
  refine fw_icmp_ne (tgt := 15) hx hb (by omega) (by omega) dX0_side_10 (by decide) (fun c1 => ?_) (fun c1 => ?_)
  · refine lv_aload_n hx hb dX0_side_15 rfl (lv_at hl 0 rfl) ?_
    refine lv_aload_n hx hb dX0_side_16 rfl (lv_at hl 0 rfl) ?_
    refine lv_iload_n hx hb dX0_side_17 rfl (lv_at hl 1 rfl) ?_
    refine fd_cVi (wr := []) (rest := [.ref bx]) ⟨hx, hb, hml, hown, hts⟩ (met_place l D dA dB bx bp b0 b1 b2 b3 b4 n nn P L lv N row x1 hn0 hn _) 1 q62 q64 qs0 q5 q65 ⟨rfl, rfl⟩ (by decide +kernel) ⟨Nat.le_of_ble_eq_true rfl, Nat.le_of_ble_eq_true rfl⟩ hK hP hD hS hA [0, 1, 2, 3, 4, 5, 6] [] rfl rfl (by decide) (by decide) (by decide) (ci := 0) (q0 := 0) rfl rfl rfl rfl hl.1 rfl (Nat.le_of_ble_eq_true rfl) dX0_side_18 ⟨Nat.zero_le _, Nat.zero_le _⟩ (fun r1 _ H locs hw hP hD hS => ?_)
    subst hw
    have hP : va_P D vwCl (fd_wX bx bp b0 b1 b2 b3 b4 dA n P nn L lv N row) H := hP
    have hD : va_D A (fd_wX bx bp b0 b1 b2 b3 b4 dA n P nn L lv N row) := hD
    refine lv_aload_n hx hb dX0_side_21 rfl (lv_at hl 0 rfl) ?_
    refine lv_iload_n hx hb dX0_side_22 rfl (lv_at hl 2 rfl) ?_
    refine fd_cVi (wr := []) (rest := [.int (nI (fd_pos x1 % n)), .ref bx]) ⟨hx, hb, hml, hown, hts⟩ (met_place l D dA dB bx bp b0 b1 b2 b3 b4 n nn P L lv N row x2 hn0 hn _) 1 q62 q64 qs0 q5 q65 ⟨rfl, rfl⟩ (by decide +kernel) ⟨Nat.le_of_ble_eq_true rfl, Nat.le_of_ble_eq_true rfl⟩ hK hP hD hS hA [0, 1, 2, 3, 4, 5, 6] [] rfl rfl (by decide) (by decide) (by decide) (ci := 0) (q0 := 0) rfl rfl rfl rfl hl.1 rfl (Nat.le_of_ble_eq_true rfl) dX0_side_23 ⟨Nat.zero_le _, Nat.zero_le _⟩ (fun r1 _ H locs hw hP hD hS => ?_)
    subst hw
    have hP : va_P D vwCl (fd_wX bx bp b0 b1 b2 b3 b4 dA n P nn L lv N row) H := hP
    have hD : va_D A (fd_wX bx bp b0 b1 b2 b3 b4 dA n P nn L lv N row) := hD
    refine fd_cVl (wr := []) (rest := []) ⟨hx, hb, hml, hown, hts⟩ (met_flow l D dA dB bx bp b0 b1 b2 b3 b4 n nn P L lv N row (fd_pos x1 % n) (fd_pos x2 % n) hn0 hn hu hv c1 hPb _) 2 q76 q78 qs1 q5 q79 ⟨rfl, rfl⟩ (by decide +kernel) ⟨Nat.le_of_ble_eq_true rfl, Nat.le_of_ble_eq_true rfl⟩ hK hP hD hS hA [0, 1, 2, 3, 4, 5, 6] [] rfl rfl (by decide) (by decide) (by decide) (ci := 0) (q0 := 0) rfl rfl rfl rfl hl.1 rfl (Nat.le_of_ble_eq_true rfl) dX0_side_26 ⟨Nat.zero_le _, Nat.zero_le _⟩ (fun r1 w H locs hw hP hD hS => ?_)
    obtain ⟨L3, lv3, N3, row3⟩ := w
    obtain ⟨size, rfl, hMF⟩ := hw
    have hP : va_P D vwCl (fd_wX bx bp b0 b1 b2 b3 b4 dA n P n L3 lv3 N3 row3) H := hP
    have hD : va_D A (fd_wX bx bp b0 b1 b2 b3 b4 dA n P n L3 lv3 N3 row3) := hD
    refine lv_pop2_2 hx hb dX0_side_29 rfl ?_
    refine lv_iconst (v := (nI 0)) hx hb dX0_side_30 (by decide +kernel) ?_
    refine lv_istore_n (lv' := [(3, .int (nI 0)), (0, .ref bx), (1, .int x1), (2, .int x2)]) hx hb dX0_side_31 rfl hl (by decide) rfl (fun ls hl => ?_)
    refine lv_iconst (v := (nI 0)) hx hb dX0_side_32 (by decide +kernel) ?_
    refine lv_istore (lv' := [(4, .int (nI 0)), (3, .int (nI 0)), (0, .ref bx), (1, .int x1), (2, .int x2)]) hx hb dX0_side_33 hl (by decide) rfl (fun ls hl => ?_)
    refine fd_sid_1 hx hb hown hts hK hn (by obtain ⟨_, _, q, _⟩ := hMF; exact q.2.1) ?_ (n + 1) 0 (by omega) (by omega) H locs ls hP hD hS (lv_sub hl [0, 1, 2] rfl)
    intro H locs ls hP hD hS hl
    refine lv_iload_n hx hb dX0_side_71 rfl (lv_at hl 0 rfl) ?_
    exact fd_iret (n, L3, lv3, N3, row3) hx hb hr hlocks hK hP hD hS ⟨fun q => absurd q c1, fun _ => ⟨size, lv3, rfl, hMF⟩⟩ dX0_side_72
  · refine lv_iconst (v := (-1)) hx hb dX0_side_13 (by decide +kernel) ?_
    exact fd_iret (nn, L, lv, N, row) hx hb hr hlocks hK hP hD hS ⟨fun _ => rfl, fun q => absurd c1 q⟩ dX0_side_14
end
section
/-! ===== FlowDeskModel ===== -/
theorem fd_clr {S v : Nat} (hv : v < 32) (hb : S.testBit v = true) : nI S &&& (nI (1 * 2 ^ v) ^^^ (-1)) = nI (S ^^^ 2 ^ v) := by
  apply Int32.toBitVec_inj.1
  show BitVec.ofNat 32 S &&& (BitVec.ofNat 32 (1 * 2 ^ v) ^^^ (-1 : Int32).toBitVec) = BitVec.ofNat 32 (S ^^^ 2 ^ v)
  have e : (-1 : Int32).toBitVec = BitVec.allOnes 32 := by decide +kernel
  rw [e]
  apply BitVec.eq_of_getLsbD_eq
  intro i hi
  simp only [BitVec.getLsbD_and, BitVec.getLsbD_xor, BitVec.getLsbD_ofNat, BitVec.getLsbD_allOnes, Nat.testBit_xor, Nat.one_mul, hi, decide_true, Bool.true_and]
  by_cases h : v = i
  · subst h
    simp [hb, Nat.testBit_two_pow_self]
  · simp [Nat.testBit_two_pow_of_ne h]
theorem fd_clr_lt {S v : Nat} (hb : S.testBit v = true) : S ^^^ 2 ^ v < S := by
  have hle : S ^^^ 2 ^ v ≤ S := Nat.le_of_testBit (fun i hi => by
    rw [Nat.testBit_xor] at hi
    by_cases h : v = i
    · subst h
      exact hb
    · rw [Nat.testBit_two_pow_of_ne h] at hi
      simpa using hi)
  have hne : S ^^^ 2 ^ v ≠ S := fun q => by
    have h1 : (S ^^^ 2 ^ v).testBit v = true := by rw [q]; exact hb
    rw [Nat.testBit_xor, hb, Nat.testBit_two_pow_self] at h1
    exact absurd h1 (by decide)
  omega
theorem fd_bit0 {S v : Nat} (h : S / 2 ^ v % 2 = 0) : S.testBit v = false := by
  rw [Nat.testBit_eq_decide_div_mod_eq]; simp; omega
theorem fd_bit1 {S v : Nat} (h : S / 2 ^ v % 2 ≠ 0) : S.testBit v = true := by
  rw [Nat.testBit_eq_decide_div_mod_eq]; simp; omega
theorem fd_low {S v n : Nat} (h : ∀ j, j < v → S.testBit j = false) (h1 : 1 ≤ S) (h2 : S < 2 ^ n) : v < n := by
  obtain ⟨i, hi⟩ := Nat.exists_testBit_of_ne_zero (x := S) (by omega)
  rcases Nat.lt_or_ge v n with c | c
  · exact c
  · have hin : i < n := by
      rcases Nat.lt_or_ge i n with q | q
      · exact q
      · have := Nat.testBit_lt_two_pow (Nat.lt_of_lt_of_le h2 (Nat.pow_le_pow_right (by omega) q))
        rw [this] at hi
        exact absurd hi (by decide)
    rw [h i (by omega)] at hi
    exact absurd hi (by decide)
theorem fd_acc_0 {C : Nat → Nat} {S : Nat → Bool} {v y : Nat} (h : S y = false) : fd_acc C S v (y + 1) = fd_acc C S v y + (C (10 * v + y) : Int) := by simp [fd_acc, h]
theorem fd_acc_1 {C : Nat → Nat} {S : Nat → Bool} {v y : Nat} (h : S y = true) : fd_acc C S v (y + 1) = fd_acc C S v y - (C (10 * y + v) : Int) := by simp [fd_acc, h]; omega
theorem fd_KO_le {n : Nat} {C : Nat → Nat} {K : Nat → Int} {a b : Nat} (h : fd_KO n C K a) (hb : b ≤ a) : fd_KO n C K b := fun S hS => h S (by omega)
theorem fd_p2 {n : Nat} (hn : n ≤ 10) : 2 ^ n ≤ 1024 := Nat.pow_le_pow_right (n := 2) (by omega) hn
theorem fd_cut_b {C : Nat → Nat} {n : Nat} (hn : n ≤ 10) (h : ∀ j, j < 100 → C j < 2 ^ 20) (S : Nat → Bool) : fd_cut C n S < 2 ^ 40 := by
  have h1 : fd_cut C n S ≤ (2 ^ 20 * 10) * n := by
    refine fd_sm_le n (fun x hx => ?_)
    refine Nat.le_trans (fd_sm_le (B := 2 ^ 20) n (fun y hy => ?_)) (by omega)
    have := h (10 * x + y) (by omega)
    split <;> omega
  have h2 : (2 ^ 20 * 10) * n ≤ (2 ^ 20 * 10) * 10 := Nat.mul_le_mul_left _ hn
  omega
theorem fd_KO_b {n : Nat} {C : Nat → Nat} {K : Nat → Int} (hn : n ≤ 10) (hC : ∀ j, j < 100 → C j < 2 ^ 20) (h : fd_KO n C K (2 ^ n)) : ∀ S, S < 2 ^ n → 0 ≤ K S ∧ K S < 2 ^ 40 := by
  intro S hS
  have h1 := h S hS
  have h2 := fd_cut_b hn hC (fun i => S.testBit i)
  omega
section FDMPL
variable {p : Program} {l : Launch} {e : Env} {R : Room} {s : State} {m : MethodId} {args : Array Value} {below : List Frame} {meth : Method} {c : Code} {cells slots : Nat} {Q : State → Prop} {D : va_G} {A : Nat → Prop} {dA dB : ClassId}
set_option maxHeartbeats 4000000 in
set_option maxRecDepth 100000 in
theorem fd_mpl_1 (hx : p.tables.exec = Jvm.exec) (hb : c.code = cX2_places) (hown : s.vm.findClass RX2 = some m.cls) (hts : ∀ w ∈ lw_all, w.before args s = true) (hK : va_K D vwCl (fd_ty dA dB) s) {bm br bc : Nat} {n : Nat} {K : Nat → Int} {kn : Nat} {b : Int} {cm : Nat}
    (kk : ∀ (P : Nat → Nat) (H : Heap) (locs : List Loc) (ls : Array Slot), (∀ j, j < 100 → P j = 0) → va_P D vwCl (fd_wM bm br bc dA dB n P K kn b cm) H → va_D A (fd_wM bm br bc dA dB n P K kn b cm) → va_S A s.heap H locs → lv_has ls 3 [(0, .ref bm)] → W p l e R s m args below meth c H locs cells slots Q (F0 m 34 ls [])) :
    ∀ (k i : Nat) (P : Nat → Nat), 101 ≤ i + k → i ≤ 100 → (∀ j, j < i → P j = 0) → ∀ (H : Heap) (locs : List Loc) (ls : Array Slot), va_P D vwCl (fd_wM bm br bc dA dB n P K kn b cm) H → va_D A (fd_wM bm br bc dA dB n P K kn b cm) → va_S A s.heap H locs → lv_has ls 3 [(2, .int (nI i)), (0, .ref bm)] → W p l e R s m args below meth c H locs cells slots Q (F0 m 15 ls []) := by
  intro k
  induction k with
  | zero =>
    intro i P h1 h2
    omega
  | succ k ih =>
    intro i P h1 h2 h3 H locs ls hP hD hS hl
    refine lv_iload_n hx hb dX2_places_15 rfl (lv_at hl 0 rfl) ?_
    refine lv_bipush (v := (nI 100)) hx hb dX2_places_16 (by decide +kernel) ?_
    refine fw_icmp_ge (tgt := 34) hx hb (by omega) (by omega) dX2_places_18 (by decide) (fun c1 => ?_) (fun c1 => ?_)
    · exact kk P H locs ls (fun j hj => h3 j (by omega)) hP hD hS (lv_sub hl [1] rfl)
    · refine lv_aload_n hx hb dX2_places_21 rfl (lv_at hl 1 rfl) ?_
      refine va_get (D := D) (ci := 2) (v := .ref br) (C := RX2) (T := TX2) (N := 6) hx hb hts in_X2 hown hK hP 0 rfl rfl 0 (by decide) (hts _ q106) (fun _ h9 => h9) rfl dX2_places_22 ?_
      refine lv_iload_n hx hb dX2_places_25 rfl (lv_at hl 0 rfl) ?_
      refine lv_iconst (v := (nI 0)) hx hb dX2_places_26 (by decide +kernel) ?_
      refine fw_iast (g := nI) (x := 0) (k := i) hx hb hK hP hD hS 1 rfl (by omega) (by decide) dX2_places_27 (fun H locs hP hD hS => ?_)
      have hP : va_P D vwCl (fd_wM bm br bc dA dB n (fd_up P i 0) K kn b cm) H := hP
      have hD : va_D A (fd_wM bm br bc dA dB n (fd_up P i 0) K kn b cm) := hD
      refine lv_iinc (v := nI (i + 1)) (lv' := [(2, .int (nI (i + 1))), (0, .ref bm)]) hx hb dX2_places_28 hl (k := 0) rfl (nI_1 _) (by decide) rfl (fun ls hl => ?_)
      refine lv_goto (tgt := 15) hx hb dX2_places_31 (by decide) ?_
      exact ih (i + 1) (fd_up P i 0) (by omega) (by omega) (fun j hj => by
        by_cases e : j = i
        · rw [e, fd_us]
        · rw [fd_un e]; exact h3 j (by omega)) H locs ls hP hD hS (lv_sub hl [0, 1] rfl)
end FDMPL
set_option maxHeartbeats 4000000 in
set_option maxRecDepth 100000 in
/-- places(k): a new number of places, no pipes, nothing known -/
theorem met_mplaces (l : Launch) (D : va_G) (dA dB : ClassId) (bm br bc : Nat) (n : Nat) (P : Nat → Nat) (K : Nat → Int) (kn : Nat) (b : Int) (cm : Nat) (x1 : Int32) (sz : Nat) :
    Met l yX2_places (ws_ yX2_places cX2_places 3 none) ({ frames := 0, cells := 0, slots := 0, locals := 0 }) (fd_pC D dA dB [.ref bm, .int x1] sz (fd_wM bm br bc dA dB n P K kn b cm)) (va_Qv (fun (P2 : Nat → Nat) => ∀ j, j < 100 → P2 j = 0) (fd_B D dA dB (va_A (fd_wM bm br bc dA dB n P K kn b cm) sz) (fun P2 => fd_wM bm br bc dA dB (2 + fd_pos x1 % 9) P2 K 0 b cm)) (va_A (fd_wM bm br bc dA dB n P K kn b cm) sz)) 0 0 (va_A (fd_wM bm br bc dA dB n P K kn b cm) sz) := by
  refine fd_ofW (Qf := fun A => va_Qv (fun (P2 : Nat → Nat) => ∀ j, j < 100 → P2 j = 0) (fd_B D dA dB A (fun P2 => fd_wM bm br bc dA dB (2 + fd_pos x1 % 9) P2 K 0 b cm)) A) (by decide) (Nat.le_of_ble_eq_true rfl) ?_
  intro p e s m below meth c A ls hx hb hr hml hown hlocks hts hname hP hK hD hA hS hl
  have hl : lv_has ls 3 [(0, .ref bm), (1, .int x1)] := hl
  refine lv_aload_n hx hb dX2_places_0 rfl (lv_at hl 0 rfl) ?_
  refine lv_iconst (v := (nI 2)) hx hb dX2_places_1 (by decide +kernel) ?_
  refine lv_iload_n hx hb dX2_places_2 rfl (lv_at hl 1 rfl) ?_
  refine lv_ldc (v := 2147483647) hx hb hown (hts _ q130) dX2_places_3 ?_
  refine fw_pos hx hb dX2_places_5 ?_
  refine lv_bipush (v := (nI 9)) hx hb dX2_places_6 (by decide +kernel) ?_
  refine fw_irem hx hb (fd_pos_lt x1) (by omega) (by omega) dX2_places_8 ?_
  refine fw_iadd hx hb dX2_places_9 ?_
  refine va_put (D := D) (ci := 2) (v := .int (nI (2 + ((fd_pos x1) % 9)))) (ty := .int) (C := RX2) (T := TX2) (N := 6) hx hb hts in_X2 tyX2 tyX2_ok nmX2 hown hK hP hD hS 0 rfl rfl 1 (by decide) (hts _ q107) (fun _ h9 => h9) rfl (by decide +kernel) rfl rfl (Nat.le_of_ble_eq_true rfl) dX2_places_10 (fun H locs hP hD hS => ?_)
  have hP : va_P D vwCl (fd_wM bm br bc dA dB (2 + ((fd_pos x1) % 9)) P K kn b cm) H := hP
  have hD : va_D A (fd_wM bm br bc dA dB (2 + ((fd_pos x1) % 9)) P K kn b cm) := hD
  refine lv_iconst (v := (nI 0)) hx hb dX2_places_13 (by decide +kernel) ?_
  refine lv_istore_n (lv' := [(2, .int (nI 0)), (0, .ref bm), (1, .int x1)]) hx hb dX2_places_14 rfl hl (by decide) rfl (fun ls hl => ?_)
  refine fd_mpl_1 hx hb hown hts hK ?_ 101 0 P (by omega) (by omega) (fun j hj => absurd hj (by omega)) H locs ls hP hD hS (lv_sub hl [0, 1] rfl)
  intro P2 H locs ls hz hP hD hS hl
  refine lv_aload_n hx hb dX2_places_34 rfl (lv_at hl 0 rfl) ?_
  refine lv_iconst (v := (nI 0)) hx hb dX2_places_35 (by decide +kernel) ?_
  refine va_put (D := D) (ci := 2) (v := .int (nI 0)) (ty := .boolean) (C := RX2) (T := TX2) (N := 6) hx hb hts in_X2 tyX2 tyX2_ok nmX2 hown hK hP hD hS 0 rfl rfl 3 (by decide) (hts _ q109) (fun _ h9 => h9) rfl (by decide +kernel) rfl rfl (Nat.le_of_ble_eq_true rfl) dX2_places_36 (fun H locs hP hD hS => ?_)
  have hP : va_P D vwCl (fd_wM bm br bc dA dB (2 + ((fd_pos x1) % 9)) P2 K 0 b cm) H := hP
  have hD : va_D A (fd_wM bm br bc dA dB (2 + ((fd_pos x1) % 9)) P2 K 0 b cm) := hD
  exact fd_vret P2 hx hb hr hlocks hK hP hD hS hz dX2_places_39
set_option maxHeartbeats 4000000 in
set_option maxRecDepth 100000 in
/-- pipe(a, b, c) -/
theorem met_mpipe (l : Launch) (D : va_G) (dA dB : ClassId) (bm br bc : Nat) (n : Nat) (P : Nat → Nat) (K : Nat → Int) (kn : Nat) (b : Int) (cm : Nat) (x1 x2 x3 : Int32) (hn0 : 2 ≤ n) (hn : n ≤ 10) (sz : Nat) :
    Met l yX2_pipe (ws_ yX2_pipe cX2_pipe 6 (some .boolean)) ({ frames := 0, cells := 0, slots := 0, locals := 0 }) (fd_pC D dA dB [.ref bm, .int x1, .int x2, .int x3] sz (fd_wM bm br bc dA dB n P K kn b cm)) (va_Qi (fun (r : Int32) (w : (Nat → Nat) × Nat) => r = (if fd_pos x1 % n = fd_pos x2 % n then 0 else 1) ∧ w.1 = (if fd_pos x1 % n = fd_pos x2 % n then P else fd_up P (10 * (fd_pos x1 % n) + fd_pos x2 % n) (fd_cap x3)) ∧ w.2 = (if fd_pos x1 % n = fd_pos x2 % n then kn else 0)) (fd_B D dA dB (va_A (fd_wM bm br bc dA dB n P K kn b cm) sz) (fun w => fd_wM bm br bc dA dB n w.1 K w.2 b cm)) (va_A (fd_wM bm br bc dA dB n P K kn b cm) sz)) 0 0 (va_A (fd_wM bm br bc dA dB n P K kn b cm) sz) := by
  refine fd_ofW (Qf := fun A => va_Qi (fun (r : Int32) (w : (Nat → Nat) × Nat) => r = (if fd_pos x1 % n = fd_pos x2 % n then 0 else 1) ∧ w.1 = (if fd_pos x1 % n = fd_pos x2 % n then P else fd_up P (10 * (fd_pos x1 % n) + fd_pos x2 % n) (fd_cap x3)) ∧ w.2 = (if fd_pos x1 % n = fd_pos x2 % n then kn else 0)) (fd_B D dA dB A (fun w => fd_wM bm br bc dA dB n w.1 K w.2 b cm)) A) (by decide) (Nat.le_of_ble_eq_true rfl) ?_
  intro p e s m below meth c A ls hx hb hr hml hown hlocks hts hname hP hK hD hA hS hl
  have hl : lv_has ls 6 [(0, .ref bm), (1, .int x1), (2, .int x2), (3, .int x3)] := hl
  have hu : fd_pos x1 % n < n := Nat.mod_lt _ (by omega)
  have hv : fd_pos x2 % n < n := Nat.mod_lt _ (by omega)
  refine lv_iload_n hx hb dX2_pipe_0 rfl (lv_at hl 1 rfl) ?_
  refine lv_ldc (v := 2147483647) hx hb hown (hts _ q130) dX2_pipe_1 ?_
  refine fw_pos hx hb dX2_pipe_3 ?_
  refine lv_aload_n hx hb dX2_pipe_4 rfl (lv_at hl 0 rfl) ?_
  refine va_get (D := D) (ci := 2) (v := .int (nI n)) (C := RX2) (T := TX2) (N := 6) hx hb hts in_X2 hown hK hP 0 rfl rfl 1 (by decide) (hts _ q107) (fun _ h9 => h9) rfl dX2_pipe_5 ?_
  refine fw_irem hx hb (fd_pos_lt x1) (by omega) (by omega) dX2_pipe_8 ?_
  refine lv_istore (lv' := [(4, .int (nI ((fd_pos x1) % n))), (0, .ref bm), (1, .int x1), (2, .int x2), (3, .int x3)]) hx hb dX2_pipe_9 hl (by decide) rfl (fun ls hl => ?_)
  refine lv_iload_n hx hb dX2_pipe_11 rfl (lv_at hl 3 rfl) ?_
  refine lv_ldc (v := 2147483647) hx hb hown (hts _ q130) dX2_pipe_12 ?_
  refine fw_pos hx hb dX2_pipe_14 ?_
  refine lv_aload_n hx hb dX2_pipe_15 rfl (lv_at hl 1 rfl) ?_
  refine va_get (D := D) (ci := 2) (v := .int (nI n)) (C := RX2) (T := TX2) (N := 6) hx hb hts in_X2 hown hK hP 0 rfl rfl 1 (by decide) (hts _ q107) (fun _ h9 => h9) rfl dX2_pipe_16 ?_
  refine fw_irem hx hb (fd_pos_lt x2) (by omega) (by omega) dX2_pipe_19 ?_
  refine lv_istore (lv' := [(5, .int (nI ((fd_pos x2) % n))), (4, .int (nI ((fd_pos x1) % n))), (0, .ref bm), (1, .int x1), (2, .int x2), (3, .int x3)]) hx hb dX2_pipe_20 hl (by decide) rfl (fun ls hl => ?_)
  refine lv_iload hx hb dX2_pipe_22 (lv_at hl 1 rfl) ?_
  refine lv_iload hx hb dX2_pipe_24 (lv_at hl 0 rfl) ?_
  refine fw_icmp_ne (tgt := 31) hx hb (by omega) (by omega) dX2_pipe_26 (by decide) (fun c1 => ?_) (fun c1 => ?_)
  · refine lv_aload_n hx hb dX2_pipe_31 rfl (lv_at hl 2 rfl) ?_
    refine va_get (D := D) (ci := 2) (v := .ref br) (C := RX2) (T := TX2) (N := 6) hx hb hts in_X2 hown hK hP 0 rfl rfl 0 (by decide) (hts _ q106) (fun _ h9 => h9) rfl dX2_pipe_32 ?_
    refine lv_bipush (v := (nI 10)) hx hb dX2_pipe_35 (by decide +kernel) ?_
    refine lv_iload hx hb dX2_pipe_37 (lv_at hl 1 rfl) ?_
    refine fw_imul hx hb dX2_pipe_39 ?_
    refine lv_iload hx hb dX2_pipe_40 (lv_at hl 0 rfl) ?_
    refine fw_iadd hx hb dX2_pipe_42 ?_
    refine lv_iload_n hx hb dX2_pipe_43 rfl (lv_at hl 5 rfl) ?_
    refine lv_ldc (v := 1048575) hx hb hown (hts _ q135) dX2_pipe_44 ?_
    refine fw_cap hx hb dX2_pipe_46 ?_
    refine fw_iast (g := nI) (x := fd_cap x3) (k := (10 * ((fd_pos x1) % n)) + ((fd_pos x2) % n)) hx hb hK hP hD hS 1 rfl (by omega) (by decide) dX2_pipe_47 (fun H locs hP hD hS => ?_)
    have hP : va_P D vwCl (fd_wM bm br bc dA dB n (fd_up P ((10 * ((fd_pos x1) % n)) + ((fd_pos x2) % n)) (fd_cap x3)) K kn b cm) H := hP
    have hD : va_D A (fd_wM bm br bc dA dB n (fd_up P ((10 * ((fd_pos x1) % n)) + ((fd_pos x2) % n)) (fd_cap x3)) K kn b cm) := hD
    refine lv_aload_n hx hb dX2_pipe_48 rfl (lv_at hl 2 rfl) ?_
    refine lv_iconst (v := (nI 0)) hx hb dX2_pipe_49 (by decide +kernel) ?_
    refine va_put (D := D) (ci := 2) (v := .int (nI 0)) (ty := .boolean) (C := RX2) (T := TX2) (N := 6) hx hb hts in_X2 tyX2 tyX2_ok nmX2 hown hK hP hD hS 0 rfl rfl 3 (by decide) (hts _ q109) (fun _ h9 => h9) rfl (by decide +kernel) rfl rfl (Nat.le_of_ble_eq_true rfl) dX2_pipe_50 (fun H locs hP hD hS => ?_)
    have hP : va_P D vwCl (fd_wM bm br bc dA dB n (fd_up P ((10 * ((fd_pos x1) % n)) + ((fd_pos x2) % n)) (fd_cap x3)) K 0 b cm) H := hP
    have hD : va_D A (fd_wM bm br bc dA dB n (fd_up P ((10 * ((fd_pos x1) % n)) + ((fd_pos x2) % n)) (fd_cap x3)) K 0 b cm) := hD
    refine lv_iconst (v := 1) hx hb dX2_pipe_53 (by decide +kernel) ?_
    exact fd_zret (fd_up P (10 * (fd_pos x1 % n) + fd_pos x2 % n) (fd_cap x3), 0) hx hb hr rfl hlocks hK hP hD hS ⟨by rw [if_neg c1], by rw [if_neg c1], by rw [if_neg c1]⟩ dX2_pipe_54
  · refine lv_iconst (v := 0) hx hb dX2_pipe_29 (by decide +kernel) ?_
    exact fd_zret (P, kn) hx hb hr rfl hlocks hK hP hD hS ⟨by rw [if_pos c1], by rw [if_pos c1], by rw [if_pos c1]⟩ dX2_pipe_30
set_option maxHeartbeats 4000000 in
set_option maxRecDepth 100000 in
/-- room(a, b) -/
theorem met_mroom (l : Launch) (D : va_G) (dA dB : ClassId) (bm br bc : Nat) (n : Nat) (P : Nat → Nat) (K : Nat → Int) (kn : Nat) (b : Int) (cm : Nat) (x1 x2 : Int32) (hn0 : 2 ≤ n) (hn : n ≤ 10) (sz : Nat) :
    Met l yX2_room (ws_ yX2_room cX2_room 3 (some .int)) ({ frames := 0, cells := 0, slots := 0, locals := 0 }) (fd_pC D dA dB [.ref bm, .int x1, .int x2] sz (fd_wM bm br bc dA dB n P K kn b cm)) (va_Qi (fun (r : Int32) (_ : Unit) => r = nI (P (10 * (fd_pos x1 % n) + fd_pos x2 % n))) (fd_B D dA dB (va_A (fd_wM bm br bc dA dB n P K kn b cm) sz) (fun _ => fd_wM bm br bc dA dB n P K kn b cm)) (va_A (fd_wM bm br bc dA dB n P K kn b cm) sz)) 0 0 (va_A (fd_wM bm br bc dA dB n P K kn b cm) sz) := by
  refine fd_ofW (Qf := fun A => va_Qi (fun (r : Int32) (_ : Unit) => r = nI (P (10 * (fd_pos x1 % n) + fd_pos x2 % n))) (fd_B D dA dB A (fun _ => fd_wM bm br bc dA dB n P K kn b cm)) A) (by decide) (Nat.le_of_ble_eq_true rfl) ?_
  intro p e s m below meth c A ls hx hb hr hml hown hlocks hts hname hP hK hD hA hS hl
  have hl : lv_has ls 3 [(0, .ref bm), (1, .int x1), (2, .int x2)] := hl
  have hu : fd_pos x1 % n < n := Nat.mod_lt _ (by omega)
  have hv : fd_pos x2 % n < n := Nat.mod_lt _ (by omega)
  refine lv_aload_n hx hb dX2_room_0 rfl (lv_at hl 0 rfl) ?_
  refine va_get (D := D) (ci := 2) (v := .ref br) (C := RX2) (T := TX2) (N := 6) hx hb hts in_X2 hown hK hP 0 rfl rfl 0 (by decide) (hts _ q106) (fun _ h9 => h9) rfl dX2_room_1 ?_
  refine lv_bipush (v := (nI 10)) hx hb dX2_room_4 (by decide +kernel) ?_
  refine lv_iload_n hx hb dX2_room_6 rfl (lv_at hl 1 rfl) ?_
  refine lv_ldc (v := 2147483647) hx hb hown (hts _ q130) dX2_room_7 ?_
  refine fw_pos hx hb dX2_room_9 ?_
  refine lv_aload_n hx hb dX2_room_10 rfl (lv_at hl 0 rfl) ?_
  refine va_get (D := D) (ci := 2) (v := .int (nI n)) (C := RX2) (T := TX2) (N := 6) hx hb hts in_X2 hown hK hP 0 rfl rfl 1 (by decide) (hts _ q107) (fun _ h9 => h9) rfl dX2_room_11 ?_
  refine fw_irem hx hb (fd_pos_lt x1) (by omega) (by omega) dX2_room_14 ?_
  refine fw_imul hx hb dX2_room_15 ?_
  refine lv_iload_n hx hb dX2_room_16 rfl (lv_at hl 2 rfl) ?_
  refine lv_ldc (v := 2147483647) hx hb hown (hts _ q130) dX2_room_17 ?_
  refine fw_pos hx hb dX2_room_19 ?_
  refine lv_aload_n hx hb dX2_room_20 rfl (lv_at hl 0 rfl) ?_
  refine va_get (D := D) (ci := 2) (v := .int (nI n)) (C := RX2) (T := TX2) (N := 6) hx hb hts in_X2 hown hK hP 0 rfl rfl 1 (by decide) (hts _ q107) (fun _ h9 => h9) rfl dX2_room_21 ?_
  refine fw_irem hx hb (fd_pos_lt x2) (by omega) (by omega) dX2_room_24 ?_
  refine fw_iadd hx hb dX2_room_25 ?_
  refine fw_iald (g := nI) hx hb hK hP 1 rfl (by omega) (by decide) dX2_room_26 ?_
  exact fd_iret () hx hb hr hlocks hK hP hD hS rfl dX2_room_27
section FDRCK
variable {p : Program} {l : Launch} {e : Env} {R : Room} {s : State} {m : MethodId} {args : Array Value} {below : List Frame} {meth : Method} {c : Code} {cells slots : Nat} {Q : State → Prop} {D : va_G} {A : Nat → Prop} {dA dB : ClassId}
set_option maxHeartbeats 4000000 in
set_option maxRecDepth 100000 in
theorem fd_rck_1 (hx : p.tables.exec = Jvm.exec) (hb : c.code = cX2_reckon) (hown : s.vm.findClass RX2 = some m.cls) (hts : ∀ w ∈ lw_all, w.before args s = true) (hK : va_K D vwCl (fd_ty dA dB) s) {bm br bc : Nat} {n : Nat} {P : Nat → Nat} {kn : Nat} {b : Int} {cm : Nat} {K : Nat → Int} {S : Nat} (hn : n ≤ 10) (hS1 : 1 ≤ S) (hS2 : S < 2 ^ n)
    (kk : ∀ (v : Nat) (H : Heap) (locs : List Loc) (ls : Array Slot), v < n → S.testBit v = true → va_P D vwCl (fd_wM bm br bc dA dB n P K kn b cm) H → va_D A (fd_wM bm br bc dA dB n P K kn b cm) → va_S A s.heap H locs → lv_has ls 6 [(2, .int (nI v)), (1, .int (nI S)), (0, .ref bm)] → W p l e R s m args below meth c H locs cells slots Q (F0 m 49 ls [])) :
    ∀ (k v : Nat), n + 1 ≤ v + k → (∀ j, j < v → S.testBit j = false) → ∀ (H : Heap) (locs : List Loc) (ls : Array Slot), va_P D vwCl (fd_wM bm br bc dA dB n P K kn b cm) H → va_D A (fd_wM bm br bc dA dB n P K kn b cm) → va_S A s.heap H locs → lv_has ls 6 [(2, .int (nI v)), (1, .int (nI S)), (0, .ref bm)] → W p l e R s m args below meth c H locs cells slots Q (F0 m 34 ls []) := by
  intro k
  induction k with
  | zero =>
    intro v h1 h2
    have := fd_low h2 hS1 hS2
    omega
  | succ k ih =>
    intro v h1 h2 H locs ls hP hD hS hl
    have hp := fd_p2 hn
    have hv := fd_low h2 hS1 hS2
    have hq : S / 2 ^ v ≤ S := Nat.div_le_self _ _
    refine lv_iload_n hx hb dX2_reckon_34 rfl (lv_at hl 1 rfl) ?_
    refine lv_iload_n hx hb dX2_reckon_35 rfl (lv_at hl 0 rfl) ?_
    refine fw_shr hx hb (by omega) (by omega) dX2_reckon_36 ?_
    refine lv_iconst (v := (nI 1)) hx hb dX2_reckon_37 (by decide +kernel) ?_
    refine fw_and1 hx hb (by omega) dX2_reckon_38 ?_
    refine fw_if_ne (tgt := 49) hx hb (by omega) dX2_reckon_39 (by decide) (fun c1 => ?_) (fun c1 => ?_)
    · exact kk v H locs ls hv (fd_bit1 c1) hP hD hS (lv_sub hl [0, 1, 2] rfl)
    · refine lv_iload_n hx hb dX2_reckon_42 rfl (lv_at hl 0 rfl) ?_
      refine lv_iconst (v := (nI 1)) hx hb dX2_reckon_43 (by decide +kernel) ?_
      refine fw_iadd hx hb dX2_reckon_44 ?_
      refine lv_istore_n (lv' := [(2, .int (nI (v + 1))), (1, .int (nI S)), (0, .ref bm)]) hx hb dX2_reckon_45 rfl hl (by decide) rfl (fun ls hl => ?_)
      refine lv_goto (tgt := 34) hx hb dX2_reckon_46 (by decide) ?_
      refine ih (v + 1) (by omega) (fun j hj => ?_) H locs ls hP hD hS (lv_sub hl [0, 1, 2] rfl)
      by_cases e : j = v
      · rw [e]; exact fd_bit0 c1
      · exact h2 j (by omega)
set_option maxHeartbeats 4000000 in
set_option maxRecDepth 100000 in
theorem fd_rck_2 (hx : p.tables.exec = Jvm.exec) (hb : c.code = cX2_reckon) (hown : s.vm.findClass RX2 = some m.cls) (hts : ∀ w ∈ lw_all, w.before args s = true) (hK : va_K D vwCl (fd_ty dA dB) s) {bm br bc : Nat} {n : Nat} {P : Nat → Nat} {kn : Nat} {b : Int} {cm : Nat} {K : Nat → Int} {S v : Nat} {c0 : Int} (hn : n ≤ 10) (hS2 : S < 2 ^ n) (hv : v < n) (hPb : ∀ j, j < 100 → P j < 2 ^ 20)
    (kk : ∀ (H : Heap) (locs : List Loc) (ls : Array Slot), va_P D vwCl (fd_wM bm br bc dA dB n P K kn b cm) H → va_D A (fd_wM bm br bc dA dB n P K kn b cm) → va_S A s.heap H locs → lv_has ls 6 [(3, .long (fd_zL (c0 + fd_acc P (fun i => S.testBit i) v n))), (1, .int (nI S)), (0, .ref bm)] → W p l e R s m args below meth c H locs cells slots Q (F0 m 124 ls [])) :
    ∀ (k y : Nat), n + 1 ≤ y + k → y ≤ n → ∀ (H : Heap) (locs : List Loc) (ls : Array Slot), va_P D vwCl (fd_wM bm br bc dA dB n P K kn b cm) H → va_D A (fd_wM bm br bc dA dB n P K kn b cm) → va_S A s.heap H locs → lv_has ls 6 [(5, .int (nI y)), (3, .long (fd_zL (c0 + fd_acc P (fun i => S.testBit i) v y))), (2, .int (nI v)), (1, .int (nI S)), (0, .ref bm)] → W p l e R s m args below meth c H locs cells slots Q (F0 m 65 ls []) := by
  intro k
  induction k with
  | zero =>
    intro y h1 h2
    omega
  | succ k ih =>
    intro y h1 h2 H locs ls hP hD hS hl
    have hp := fd_p2 hn
    have hq : S / 2 ^ y ≤ S := Nat.div_le_self _ _
    refine lv_iload hx hb dX2_reckon_65 (lv_at hl 0 rfl) ?_
    refine lv_aload_n hx hb dX2_reckon_67 rfl (lv_at hl 4 rfl) ?_
    refine va_get (D := D) (ci := 2) (v := .int (nI n)) (C := RX2) (T := TX2) (N := 6) hx hb hts in_X2 hown hK hP 0 rfl rfl 1 (by decide) (hts _ q107) (fun _ h9 => h9) rfl dX2_reckon_68 ?_
    refine fw_icmp_ge (tgt := 124) hx hb (by omega) (by omega) dX2_reckon_71 (by decide) (fun c1 => ?_) (fun c1 => ?_)
    · have e1 : y = n := by omega
      subst e1
      exact kk H locs ls hP hD hS (lv_sub hl [1, 3, 4] rfl)
    · have q1 := hPb (10 * v + y) (by omega)
      have q2 := hPb (10 * y + v) (by omega)
      refine lv_iload_n hx hb dX2_reckon_74 rfl (lv_at hl 3 rfl) ?_
      refine lv_iload hx hb dX2_reckon_75 (lv_at hl 0 rfl) ?_
      refine fw_shr hx hb (by omega) (by omega) dX2_reckon_77 ?_
      refine lv_iconst (v := (nI 1)) hx hb dX2_reckon_78 (by decide +kernel) ?_
      refine fw_and1 hx hb (by omega) dX2_reckon_79 ?_
      refine fw_if_ne (tgt := 102) hx hb (by omega) dX2_reckon_80 (by decide) (fun c2 => ?_) (fun c2 => ?_)
      · have c3 := fd_bit1 c2
        refine lv_lload_n hx hb dX2_reckon_102 rfl (lv_at hl 1 rfl) ?_
        refine lv_aload_n hx hb dX2_reckon_103 rfl (lv_at hl 4 rfl) ?_
        refine va_get (D := D) (ci := 2) (v := .ref br) (C := RX2) (T := TX2) (N := 6) hx hb hts in_X2 hown hK hP 0 rfl rfl 0 (by decide) (hts _ q106) (fun _ h9 => h9) rfl dX2_reckon_104 ?_
        refine lv_bipush (v := (nI 10)) hx hb dX2_reckon_107 (by decide +kernel) ?_
        refine lv_iload hx hb dX2_reckon_109 (lv_at hl 0 rfl) ?_
        refine fw_imul hx hb dX2_reckon_111 ?_
        refine lv_iload_n hx hb dX2_reckon_112 rfl (lv_at hl 2 rfl) ?_
        refine fw_iadd hx hb dX2_reckon_113 ?_
        refine fw_iald (g := nI) hx hb hK hP 1 rfl (by omega) (by decide) dX2_reckon_114 ?_
        refine fw_i2z hx hb (by omega) dX2_reckon_115 ?_
        refine fw_zsub hx hb dX2_reckon_116 ?_
        refine fw_topl (y := (fd_zL (c0 + fd_acc P (fun i => S.testBit i) v (y + 1)))) (by rw [fd_acc_1 (S := fun i => S.testBit i) c3]; congr 1; omega) ?_
        refine lv_lstore_n (lv' := [(3, .long (fd_zL (c0 + fd_acc P (fun i => S.testBit i) v (y + 1)))), (5, .int (nI y)), (2, .int (nI v)), (1, .int (nI S)), (0, .ref bm)]) hx hb dX2_reckon_117 rfl hl (by decide) rfl (fun ls hl => ?_)
        refine lv_iinc (v := nI (y + 1)) (lv' := [(5, .int (nI (y + 1))), (3, .long (fd_zL (c0 + fd_acc P (fun i => S.testBit i) v (y + 1)))), (2, .int (nI v)), (1, .int (nI S)), (0, .ref bm)]) hx hb dX2_reckon_118 hl (k := 1) rfl (nI_1 _) (by decide) rfl (fun ls hl => ?_)
        refine lv_goto (tgt := 65) hx hb dX2_reckon_121 (by decide) ?_
        exact ih (y + 1) (by omega) (by omega) H locs ls hP hD hS (lv_sub hl [0, 1, 2, 3, 4] rfl)
      · have c3 := fd_bit0 c2
        refine lv_lload_n hx hb dX2_reckon_83 rfl (lv_at hl 1 rfl) ?_
        refine lv_aload_n hx hb dX2_reckon_84 rfl (lv_at hl 4 rfl) ?_
        refine va_get (D := D) (ci := 2) (v := .ref br) (C := RX2) (T := TX2) (N := 6) hx hb hts in_X2 hown hK hP 0 rfl rfl 0 (by decide) (hts _ q106) (fun _ h9 => h9) rfl dX2_reckon_85 ?_
        refine lv_bipush (v := (nI 10)) hx hb dX2_reckon_88 (by decide +kernel) ?_
        refine lv_iload_n hx hb dX2_reckon_90 rfl (lv_at hl 2 rfl) ?_
        refine fw_imul hx hb dX2_reckon_91 ?_
        refine lv_iload hx hb dX2_reckon_92 (lv_at hl 0 rfl) ?_
        refine fw_iadd hx hb dX2_reckon_94 ?_
        refine fw_iald (g := nI) hx hb hK hP 1 rfl (by omega) (by decide) dX2_reckon_95 ?_
        refine fw_i2z hx hb (by omega) dX2_reckon_96 ?_
        refine fw_zadd hx hb dX2_reckon_97 ?_
        refine fw_topl (y := (fd_zL (c0 + fd_acc P (fun i => S.testBit i) v (y + 1)))) (by rw [fd_acc_0 (S := fun i => S.testBit i) c3]; congr 1; omega) ?_
        refine lv_lstore_n (lv' := [(3, .long (fd_zL (c0 + fd_acc P (fun i => S.testBit i) v (y + 1)))), (5, .int (nI y)), (2, .int (nI v)), (1, .int (nI S)), (0, .ref bm)]) hx hb dX2_reckon_98 rfl hl (by decide) rfl (fun ls hl => ?_)
        refine lv_goto (tgt := 118) hx hb dX2_reckon_99 (by decide) ?_
        refine lv_iinc (v := nI (y + 1)) (lv' := [(5, .int (nI (y + 1))), (3, .long (fd_zL (c0 + fd_acc P (fun i => S.testBit i) v (y + 1)))), (2, .int (nI v)), (1, .int (nI S)), (0, .ref bm)]) hx hb dX2_reckon_118 hl (k := 1) rfl (nI_1 _) (by decide) rfl (fun ls hl => ?_)
        refine lv_goto (tgt := 65) hx hb dX2_reckon_121 (by decide) ?_
        exact ih (y + 1) (by omega) (by omega) H locs ls hP hD hS (lv_sub hl [0, 1, 2, 3, 4] rfl)
set_option maxHeartbeats 4000000 in
set_option maxRecDepth 100000 in
theorem fd_rck_3 (hx : p.tables.exec = Jvm.exec) (hb : c.code = cX2_reckon) (hown : s.vm.findClass RX2 = some m.cls) (hts : ∀ w ∈ lw_all, w.before args s = true) (hK : va_K D vwCl (fd_ty dA dB) s) {bm br bc : Nat} {n : Nat} {P : Nat → Nat} {kn : Nat} {b : Int} {cm : Nat} (hn : n ≤ 10) (hPb : ∀ j, j < 100 → P j < 2 ^ 20) (hPd : ∀ j, j < n → P (10 * j + j) = 0)
    (kk : ∀ (K : Nat → Int) (H : Heap) (locs : List Loc) (ls : Array Slot), fd_KO n P K (2 ^ n) → va_P D vwCl (fd_wM bm br bc dA dB n P K kn b cm) H → va_D A (fd_wM bm br bc dA dB n P K kn b cm) → va_S A s.heap H locs → lv_has ls 6 [(0, .ref bm)] → W p l e R s m args below meth c H locs cells slots Q (F0 m 137 ls [])) :
    ∀ (k S : Nat) (K : Nat → Int), 2 ^ n + 1 ≤ S + k → 1 ≤ S → S ≤ 2 ^ n → fd_KO n P K S → ∀ (H : Heap) (locs : List Loc) (ls : Array Slot), va_P D vwCl (fd_wM bm br bc dA dB n P K kn b cm) H → va_D A (fd_wM bm br bc dA dB n P K kn b cm) → va_S A s.heap H locs → lv_has ls 6 [(1, .int (nI S)), (0, .ref bm)] → W p l e R s m args below meth c H locs cells slots Q (F0 m 22 ls []) := by
  intro k
  induction k with
  | zero =>
    intro S K h1 h2 h3
    omega
  | succ k ih =>
    intro S K h1 h2 h3 h4 H locs ls hP hD hS hl
    have hp := fd_p2 hn
    refine lv_iload_n hx hb dX2_reckon_22 rfl (lv_at hl 0 rfl) ?_
    refine lv_iconst (v := (nI 1)) hx hb dX2_reckon_23 (by decide +kernel) ?_
    refine lv_aload_n hx hb dX2_reckon_24 rfl (lv_at hl 1 rfl) ?_
    refine va_get (D := D) (ci := 2) (v := .int (nI n)) (C := RX2) (T := TX2) (N := 6) hx hb hts in_X2 hown hK hP 0 rfl rfl 1 (by decide) (hts _ q107) (fun _ h9 => h9) rfl dX2_reckon_25 ?_
    refine fw_shl hx hb (by omega) (by omega) dX2_reckon_28 ?_
    refine fw_icmp_ge (tgt := 137) hx hb (by omega) (by omega) dX2_reckon_29 (by decide) (fun c1 => ?_) (fun c1 => ?_)
    · exact kk K H locs ls (fd_KO_le h4 (by omega)) hP hD hS (lv_sub hl [1] rfl)
    · have c2 : S < 2 ^ n := by omega
      refine lv_iconst (v := (nI 0)) hx hb dX2_reckon_32 (by decide +kernel) ?_
      refine lv_istore_n (lv' := [(2, .int (nI 0)), (1, .int (nI S)), (0, .ref bm)]) hx hb dX2_reckon_33 rfl hl (by decide) rfl (fun ls hl => ?_)
      refine fd_rck_1 hx hb hown hts hK hn h2 c2 ?_ (n + 1) 0 (by omega) (fun j hj => absurd hj (by omega)) H locs ls hP hD hS (lv_sub hl [0, 1, 2] rfl)
      intro v H locs ls hv hbit hP hD hS hl
      have hclr := fd_clr_lt hbit
      have hpv : 2 ^ v < 2 ^ 10 := Nat.pow_lt_pow_right (by omega) (by omega)
      refine lv_aload_n hx hb dX2_reckon_49 rfl (lv_at hl 2 rfl) ?_
      refine va_get (D := D) (ci := 2) (v := .ref bc) (C := RX2) (T := TX2) (N := 6) hx hb hts in_X2 hown hK hP 0 rfl rfl 2 (by decide) (hts _ q108) (fun _ h9 => h9) rfl dX2_reckon_50 ?_
      refine lv_iload_n hx hb dX2_reckon_53 rfl (lv_at hl 1 rfl) ?_
      refine lv_iconst (v := (nI 1)) hx hb dX2_reckon_54 (by decide +kernel) ?_
      refine lv_iload_n hx hb dX2_reckon_55 rfl (lv_at hl 0 rfl) ?_
      refine fw_shl hx hb (by omega) (by omega) dX2_reckon_56 ?_
      refine lv_iconst (v := (-1)) hx hb dX2_reckon_57 (by decide +kernel) ?_
      refine lv_ixor hx hb dX2_reckon_58 ?_
      refine lv_iand hx hb dX2_reckon_59 ?_
      refine fw_topi (y := (nI (S ^^^ 2 ^ v))) (fd_clr (by omega) hbit) ?_
      refine fw_lald hx hb hK hP 2 rfl (by omega) (by decide) dX2_reckon_60 ?_
      refine lv_lstore_n (lv' := [(3, .long (fd_zL (K (S ^^^ 2 ^ v)))), (2, .int (nI v)), (1, .int (nI S)), (0, .ref bm)]) hx hb dX2_reckon_61 rfl hl (by decide) rfl (fun ls hl => ?_)
      refine lv_iconst (v := (nI 0)) hx hb dX2_reckon_62 (by decide +kernel) ?_
      refine lv_istore (lv' := [(5, .int (nI 0)), (3, .long (fd_zL (K (S ^^^ 2 ^ v)))), (2, .int (nI v)), (1, .int (nI S)), (0, .ref bm)]) hx hb dX2_reckon_63 hl (by decide) rfl (fun ls hl => ?_)
      have e0 : fd_zL (K (S ^^^ 2 ^ v)) = fd_zL (K (S ^^^ 2 ^ v) + fd_acc P (fun i => S.testBit i) v 0) := by simp [fd_acc]
      rw [e0] at hl
      refine fd_rck_2 (c0 := K (S ^^^ 2 ^ v)) hx hb hown hts hK hn c2 hv hPb ?_ (n + 1) 0 (by omega) (by omega) H locs ls hP hD hS (lv_sub hl [0, 1, 2, 3, 4] rfl)
      intro H locs ls hP hD hS hl
      refine lv_aload_n hx hb dX2_reckon_124 rfl (lv_at hl 2 rfl) ?_
      refine va_get (D := D) (ci := 2) (v := .ref bc) (C := RX2) (T := TX2) (N := 6) hx hb hts in_X2 hown hK hP 0 rfl rfl 2 (by decide) (hts _ q108) (fun _ h9 => h9) rfl dX2_reckon_125 ?_
      refine lv_iload_n hx hb dX2_reckon_128 rfl (lv_at hl 1 rfl) ?_
      refine lv_lload_n hx hb dX2_reckon_129 rfl (lv_at hl 0 rfl) ?_
      refine fw_last (x := K (S ^^^ 2 ^ v) + fd_acc P (fun i => S.testBit i) v n) (k := S) hx hb hK hP hD hS 2 rfl (by omega) (by decide) dX2_reckon_130 (fun H locs hP hD hS => ?_)
      have hP : va_P D vwCl (fd_wM bm br bc dA dB n P (fd_upZ K S (K (S ^^^ 2 ^ v) + fd_acc P (fun i => S.testBit i) v n)) kn b cm) H := hP
      have hD : va_D A (fd_wM bm br bc dA dB n P (fd_upZ K S (K (S ^^^ 2 ^ v) + fd_acc P (fun i => S.testBit i) v n)) kn b cm) := hD
      refine lv_iinc (v := nI (S + 1)) (lv' := [(1, .int (nI (S + 1))), (3, .long (fd_zL (K (S ^^^ 2 ^ v) + fd_acc P (fun i => S.testBit i) v n))), (0, .ref bm)]) hx hb dX2_reckon_131 hl (k := 1) rfl (nI_1 _) (by decide) rfl (fun ls hl => ?_)
      refine lv_goto (tgt := 22) hx hb dX2_reckon_134 (by decide) ?_
      refine ih (S + 1) (fd_upZ K S (K (S ^^^ 2 ^ v) + fd_acc P (fun i => S.testBit i) v n)) (by omega) (by omega) (by omega) ?_ H locs ls hP hD hS (lv_sub hl [0, 2] rfl)
      refine fd_KO_step h4 hv hbit (hPd v hv) hclr (fun j hj => ?_) ?_
      · simp [fd_upZ, Nat.ne_of_lt hj]
      · simp [fd_upZ]
end FDRCK
set_option maxHeartbeats 4000000 in
set_option maxRecDepth 100000 in
/-- reckon(): all cuts -/
theorem met_reckon (l : Launch) (D : va_G) (dA dB : ClassId) (bm br bc : Nat) (n : Nat) (P : Nat → Nat) (K : Nat → Int) (kn : Nat) (b : Int) (cm : Nat) (hn0 : 2 ≤ n) (hn : n ≤ 10) (hPb : ∀ j, j < 100 → P j < 2 ^ 20) (hPd : ∀ j, j < n → P (10 * j + j) = 0) (hkn : kn ≤ 1) (hko : kn = 1 → fd_KO n P K (2 ^ n)) (sz : Nat) :
    Met l yX2_reckon (ws_ yX2_reckon cX2_reckon 6 none) ({ frames := 0, cells := 0, slots := 0, locals := 0 }) (fd_pC D dA dB [.ref bm] sz (fd_wM bm br bc dA dB n P K kn b cm)) (va_Qv (fun (K2 : Nat → Int) => fd_KO n P K2 (2 ^ n)) (fd_B D dA dB (va_A (fd_wM bm br bc dA dB n P K kn b cm) sz) (fun K2 => fd_wM bm br bc dA dB n P K2 1 b cm)) (va_A (fd_wM bm br bc dA dB n P K kn b cm) sz)) 0 0 (va_A (fd_wM bm br bc dA dB n P K kn b cm) sz) := by
  refine fd_ofW (Qf := fun A => va_Qv (fun (K2 : Nat → Int) => fd_KO n P K2 (2 ^ n)) (fd_B D dA dB A (fun K2 => fd_wM bm br bc dA dB n P K2 1 b cm)) A) (by decide) (Nat.le_of_ble_eq_true rfl) ?_
  intro p e s m below meth c A ls hx hb hr hml hown hlocks hts hname hP hK hD hA hS hl
  have hl : lv_has ls 6 [(0, .ref bm)] := hl
  have hp := fd_p2 hn
  have hp1 : 1 ≤ 2 ^ n := Nat.one_le_two_pow
  refine lv_aload_n hx hb dX2_reckon_0 rfl (lv_at hl 0 rfl) ?_
  refine va_get (D := D) (ci := 2) (v := .int (nI kn)) (C := RX2) (T := TX2) (N := 6) hx hb hts in_X2 hown hK hP 0 rfl rfl 3 (by decide) (hts _ q109) (fun _ h9 => h9) rfl dX2_reckon_1 ?_
  refine fw_if_eq (tgt := 8) hx hb (by omega) dX2_reckon_4 (by decide) (fun c1 => ?_) (fun c1 => ?_)
  · refine lv_aload_n hx hb dX2_reckon_8 rfl (lv_at hl 0 rfl) ?_
    refine lv_iconst (v := (nI 1)) hx hb dX2_reckon_9 (by decide +kernel) ?_
    refine va_put (D := D) (ci := 2) (v := .int (nI 1)) (ty := .boolean) (C := RX2) (T := TX2) (N := 6) hx hb hts in_X2 tyX2 tyX2_ok nmX2 hown hK hP hD hS 0 rfl rfl 3 (by decide) (hts _ q109) (fun _ h9 => h9) rfl (by decide +kernel) rfl rfl (Nat.le_of_ble_eq_true rfl) dX2_reckon_10 (fun H locs hP hD hS => ?_)
    have hP : va_P D vwCl (fd_wM bm br bc dA dB n P K 1 b cm) H := hP
    have hD : va_D A (fd_wM bm br bc dA dB n P K 1 b cm) := hD
    refine lv_aload_n hx hb dX2_reckon_13 rfl (lv_at hl 0 rfl) ?_
    refine va_get (D := D) (ci := 2) (v := .ref bc) (C := RX2) (T := TX2) (N := 6) hx hb hts in_X2 hown hK hP 0 rfl rfl 2 (by decide) (hts _ q108) (fun _ h9 => h9) rfl dX2_reckon_14 ?_
    refine lv_iconst (v := (nI 0)) hx hb dX2_reckon_17 (by decide +kernel) ?_
    refine lv_lconst (v := (fd_zL 0)) hx hb dX2_reckon_18 (by decide +kernel) ?_
    refine fw_last (x := 0) (k := 0) hx hb hK hP hD hS 2 rfl (by omega) (by decide) dX2_reckon_19 (fun H locs hP hD hS => ?_)
    have hP : va_P D vwCl (fd_wM bm br bc dA dB n P (fd_upZ K 0 0) 1 b cm) H := hP
    have hD : va_D A (fd_wM bm br bc dA dB n P (fd_upZ K 0 0) 1 b cm) := hD
    refine lv_iconst (v := (nI 1)) hx hb dX2_reckon_20 (by decide +kernel) ?_
    refine lv_istore_n (lv' := [(1, .int (nI 1)), (0, .ref bm)]) hx hb dX2_reckon_21 rfl hl (by decide) rfl (fun ls hl => ?_)
    refine fd_rck_3 hx hb hown hts hK hn hPb hPd ?_ (2 ^ n + 1) 1 (fd_upZ K 0 0) (by omega) (by omega) (by omega) (fun S hS1 => ?_) H locs ls hP hD hS (lv_sub hl [0, 1] rfl)
    · intro K2 H locs ls h4 hP hD hS hl
      exact fd_vret K2 hx hb hr hlocks hK hP hD hS h4 dX2_reckon_137
    · have e1 : S = 0 := by omega
      subst e1
      have e2 : fd_cut P n (fun i => Nat.testBit 0 i) = 0 := fd_sm_zero n (fun a _ => fd_sm_zero n (fun b _ => by simp))
      rw [e2]
      simp [fd_upZ]
  · have e1 : kn = 1 := by omega
    subst e1
    exact fd_vret K hx hb hr hlocks hK hP hD hS (hko rfl) dX2_reckon_7
section FDLST
variable {p : Program} {l : Launch} {e : Env} {R : Room} {s : State} {m : MethodId} {args : Array Value} {below : List Frame} {meth : Method} {c : Code} {cells slots : Nat} {Q : State → Prop} {D : va_G} {A : Nat → Prop} {dA dB : ClassId}
set_option maxHeartbeats 4000000 in
set_option maxRecDepth 100000 in
theorem fd_lst_1 (hx : p.tables.exec = Jvm.exec) (hb : c.code = cX2_least) (hown : s.vm.findClass RX2 = some m.cls) (hts : ∀ w ∈ lw_all, w.before args s = true) (hK : va_K D vwCl (fd_ty dA dB) s) {bm br bc : Nat} {n sr tg : Nat} {P : Nat → Nat} {K : Nat → Int} (hn : n ≤ 10) (hs : sr < n) (ht : tg < n) (hKb : ∀ S, S < 2 ^ n → 0 ≤ K S ∧ K S < 2 ^ 40)
    (kk : ∀ (b : Int) (cm : Nat) (H : Heap) (locs : List Loc) (ls : Array Slot), fd_LI sr tg K (2 ^ n) b cm → va_P D vwCl (fd_wM bm br bc dA dB n P K 1 b cm) H → va_D A (fd_wM bm br bc dA dB n P K 1 b cm) → va_S A s.heap H locs → lv_has ls 4 [(0, .ref bm)] → W p l e R s m args below meth c H locs cells slots Q (F0 m 110 ls [])) :
    ∀ (k i : Nat) (b : Int) (cm : Nat), 2 ^ n + 1 ≤ i + k → i ≤ 2 ^ n → fd_LI sr tg K i b cm → -1 ≤ b ∧ b < 2 ^ 40 → ∀ (H : Heap) (locs : List Loc) (ls : Array Slot), va_P D vwCl (fd_wM bm br bc dA dB n P K 1 b cm) H → va_D A (fd_wM bm br bc dA dB n P K 1 b cm) → va_S A s.heap H locs → lv_has ls 4 [(3, .int (nI i)), (0, .ref bm), (1, .int (nI sr)), (2, .int (nI tg))] → W p l e R s m args below meth c H locs cells slots Q (F0 m 13 ls []) := by
  intro k
  induction k with
  | zero =>
    intro i b cm h1 h2
    omega
  | succ k ih =>
    intro i b cm h1 h2 hL hB H locs ls hP hD hS hl
    have hp := fd_p2 hn
    have hq1 : i / 2 ^ sr ≤ i := Nat.div_le_self _ _
    have hq2 : i / 2 ^ tg ≤ i := Nat.div_le_self _ _
    refine lv_iload_n hx hb dX2_least_13 rfl (lv_at hl 0 rfl) ?_
    refine lv_iconst (v := (nI 1)) hx hb dX2_least_14 (by decide +kernel) ?_
    refine lv_aload_n hx hb dX2_least_15 rfl (lv_at hl 1 rfl) ?_
    refine va_get (D := D) (ci := 2) (v := .int (nI n)) (C := RX2) (T := TX2) (N := 6) hx hb hts in_X2 hown hK hP 0 rfl rfl 1 (by decide) (hts _ q107) (fun _ h9 => h9) rfl dX2_least_16 ?_
    refine fw_shl hx hb (by omega) (by omega) dX2_least_19 ?_
    refine fw_icmp_ge (tgt := 110) hx hb (by omega) (by omega) dX2_least_20 (by decide) (fun c1 => ?_) (fun c1 => ?_)
    · have e1 : i = 2 ^ n := by omega
      subst e1
      exact kk b cm H locs ls hL hP hD hS (lv_sub hl [1] rfl)
    · obtain ⟨hK0, hK1⟩ := hKb i (by omega)
      refine lv_iload_n hx hb dX2_least_23 rfl (lv_at hl 0 rfl) ?_
      refine lv_iload_n hx hb dX2_least_24 rfl (lv_at hl 2 rfl) ?_
      refine fw_shr hx hb (by omega) (by omega) dX2_least_25 ?_
      refine lv_iconst (v := (nI 1)) hx hb dX2_least_26 (by decide +kernel) ?_
      refine fw_and1 hx hb (by omega) dX2_least_27 ?_
      refine fw_if_eq (tgt := 104) hx hb (by omega) dX2_least_28 (by decide) (fun c2 => ?_) (fun c2 => ?_)
      · refine lv_iinc (v := nI (i + 1)) (lv' := [(3, .int (nI (i + 1))), (0, .ref bm), (1, .int (nI sr)), (2, .int (nI tg))]) hx hb dX2_least_104 hl (k := 0) rfl (nI_1 _) (by decide) rfl (fun ls hl => ?_)
        refine lv_goto (tgt := 13) hx hb dX2_least_107 (by decide) ?_
        exact ih (i + 1) b cm (by omega) (by omega) (fd_LI_skip hL (fun g => by have := g.1; rw [fd_bit0 c2] at this; exact absurd this (by decide))) hB H locs ls hP hD hS (lv_sub hl [0, 1, 2, 3] rfl)
      · refine lv_iload_n hx hb dX2_least_31 rfl (lv_at hl 0 rfl) ?_
        refine lv_iload_n hx hb dX2_least_32 rfl (lv_at hl 3 rfl) ?_
        refine fw_shr hx hb (by omega) (by omega) dX2_least_33 ?_
        refine lv_iconst (v := (nI 1)) hx hb dX2_least_34 (by decide +kernel) ?_
        refine fw_and1 hx hb (by omega) dX2_least_35 ?_
        refine fw_if_ne (tgt := 104) hx hb (by omega) dX2_least_36 (by decide) (fun c3 => ?_) (fun c3 => ?_)
        · refine lv_iinc (v := nI (i + 1)) (lv' := [(3, .int (nI (i + 1))), (0, .ref bm), (1, .int (nI sr)), (2, .int (nI tg))]) hx hb dX2_least_104 hl (k := 0) rfl (nI_1 _) (by decide) rfl (fun ls hl => ?_)
          refine lv_goto (tgt := 13) hx hb dX2_least_107 (by decide) ?_
          exact ih (i + 1) b cm (by omega) (by omega) (fd_LI_skip hL (fun g => by have := g.2; rw [fd_bit1 c3] at this; exact absurd this (by decide))) hB H locs ls hP hD hS (lv_sub hl [0, 1, 2, 3] rfl)
        · have hV : fd_Vd sr tg i := ⟨fd_bit1 c2, fd_bit0 c3⟩
          refine lv_aload_n hx hb dX2_least_39 rfl (lv_at hl 1 rfl) ?_
          refine va_get (D := D) (ci := 2) (v := .long (fd_zL b)) (C := RX2) (T := TX2) (N := 6) hx hb hts in_X2 hown hK hP 0 rfl rfl 4 (by decide) (hts _ q110) (fun _ h9 => h9) rfl dX2_least_40 ?_
          refine lv_lconst (v := (fd_zL 0)) hx hb dX2_least_43 (by decide +kernel) ?_
          refine fw_lcmp_ltZ (tgt := 62) hx hb (by omega) (by omega) (by omega) (by omega) dX2_least_44 dX2_least_45 (by decide) (fun c4 => ?_) (fun c4 => ?_)
          · refine lv_aload_n hx hb dX2_least_62 rfl (lv_at hl 1 rfl) ?_
            refine lv_aload_n hx hb dX2_least_63 rfl (lv_at hl 1 rfl) ?_
            refine va_get (D := D) (ci := 2) (v := .ref bc) (C := RX2) (T := TX2) (N := 6) hx hb hts in_X2 hown hK hP 0 rfl rfl 2 (by decide) (hts _ q108) (fun _ h9 => h9) rfl dX2_least_64 ?_
            refine lv_iload_n hx hb dX2_least_67 rfl (lv_at hl 0 rfl) ?_
            refine fw_lald hx hb hK hP 2 rfl (by omega) (by decide) dX2_least_68 ?_
            refine va_put (D := D) (ci := 2) (v := .long (fd_zL (K i))) (ty := .long) (C := RX2) (T := TX2) (N := 6) hx hb hts in_X2 tyX2 tyX2_ok nmX2 hown hK hP hD hS 0 rfl rfl 4 (by decide) (hts _ q110) (fun _ h9 => h9) rfl (by decide +kernel) rfl rfl (Nat.le_of_ble_eq_true rfl) dX2_least_69 (fun H locs hP hD hS => ?_)
            have hP : va_P D vwCl (fd_wM bm br bc dA dB n P K 1 (K i) cm) H := hP
            have hD : va_D A (fd_wM bm br bc dA dB n P K 1 (K i) cm) := hD
            refine lv_aload_n hx hb dX2_least_72 rfl (lv_at hl 1 rfl) ?_
            refine lv_iload_n hx hb dX2_least_73 rfl (lv_at hl 0 rfl) ?_
            refine va_put (D := D) (ci := 2) (v := .int (nI i)) (ty := .int) (C := RX2) (T := TX2) (N := 6) hx hb hts in_X2 tyX2 tyX2_ok nmX2 hown hK hP hD hS 0 rfl rfl 5 (by decide) (hts _ q111) (fun _ h9 => h9) rfl (by decide +kernel) rfl rfl (Nat.le_of_ble_eq_true rfl) dX2_least_74 (fun H locs hP hD hS => ?_)
            have hP : va_P D vwCl (fd_wM bm br bc dA dB n P K 1 (K i) i) H := hP
            have hD : va_D A (fd_wM bm br bc dA dB n P K 1 (K i) i) := hD
            refine lv_goto (tgt := 104) hx hb dX2_least_77 (by decide) ?_
            refine lv_iinc (v := nI (i + 1)) (lv' := [(3, .int (nI (i + 1))), (0, .ref bm), (1, .int (nI sr)), (2, .int (nI tg))]) hx hb dX2_least_104 hl (k := 0) rfl (nI_1 _) (by decide) rfl (fun ls hl => ?_)
            refine lv_goto (tgt := 13) hx hb dX2_least_107 (by decide) ?_
            exact ih (i + 1) (K i) i (by omega) (by omega) (fd_LI_new hL hV (by omega) hK0 (Or.inl c4)) ⟨by omega, hK1⟩ H locs ls hP hD hS (lv_sub hl [0, 1, 2, 3] rfl)
          · refine lv_aload_n hx hb dX2_least_48 rfl (lv_at hl 1 rfl) ?_
            refine va_get (D := D) (ci := 2) (v := .ref bc) (C := RX2) (T := TX2) (N := 6) hx hb hts in_X2 hown hK hP 0 rfl rfl 2 (by decide) (hts _ q108) (fun _ h9 => h9) rfl dX2_least_49 ?_
            refine lv_iload_n hx hb dX2_least_52 rfl (lv_at hl 0 rfl) ?_
            refine fw_lald hx hb hK hP 2 rfl (by omega) (by decide) dX2_least_53 ?_
            refine lv_aload_n hx hb dX2_least_54 rfl (lv_at hl 1 rfl) ?_
            refine va_get (D := D) (ci := 2) (v := .long (fd_zL b)) (C := RX2) (T := TX2) (N := 6) hx hb hts in_X2 hown hK hP 0 rfl rfl 4 (by decide) (hts _ q110) (fun _ h9 => h9) rfl dX2_least_55 ?_
            refine fw_lcmp_geZ (tgt := 80) hx hb (by omega) (by omega) (by omega) (by omega) dX2_least_58 dX2_least_59 (by decide) (fun c5 => ?_) (fun c5 => ?_)
            · refine lv_aload_n hx hb dX2_least_80 rfl (lv_at hl 1 rfl) ?_
              refine va_get (D := D) (ci := 2) (v := .ref bc) (C := RX2) (T := TX2) (N := 6) hx hb hts in_X2 hown hK hP 0 rfl rfl 2 (by decide) (hts _ q108) (fun _ h9 => h9) rfl dX2_least_81 ?_
              refine lv_iload_n hx hb dX2_least_84 rfl (lv_at hl 0 rfl) ?_
              refine fw_lald hx hb hK hP 2 rfl (by omega) (by decide) dX2_least_85 ?_
              refine lv_aload_n hx hb dX2_least_86 rfl (lv_at hl 1 rfl) ?_
              refine va_get (D := D) (ci := 2) (v := .long (fd_zL b)) (C := RX2) (T := TX2) (N := 6) hx hb hts in_X2 hown hK hP 0 rfl rfl 4 (by decide) (hts _ q110) (fun _ h9 => h9) rfl dX2_least_87 ?_
              refine fw_lcmp_neZ (tgt := 104) hx hb (by omega) (by omega) (by omega) (by omega) dX2_least_90 dX2_least_91 (by decide) (fun c6 => ?_) (fun c6 => ?_)
              · refine lv_iinc (v := nI (i + 1)) (lv' := [(3, .int (nI (i + 1))), (0, .ref bm), (1, .int (nI sr)), (2, .int (nI tg))]) hx hb dX2_least_104 hl (k := 0) rfl (nI_1 _) (by decide) rfl (fun ls hl => ?_)
                refine lv_goto (tgt := 13) hx hb dX2_least_107 (by decide) ?_
                exact ih (i + 1) b cm (by omega) (by omega) (fd_LI_over hL (by omega) (by omega) c6) hB H locs ls hP hD hS (lv_sub hl [0, 1, 2, 3] rfl)
              · refine lv_aload_n hx hb dX2_least_94 rfl (lv_at hl 1 rfl) ?_
                refine lv_aload_n hx hb dX2_least_95 rfl (lv_at hl 1 rfl) ?_
                refine va_get (D := D) (ci := 2) (v := .int (nI cm)) (C := RX2) (T := TX2) (N := 6) hx hb hts in_X2 hown hK hP 0 rfl rfl 5 (by decide) (hts _ q111) (fun _ h9 => h9) rfl dX2_least_96 ?_
                refine lv_iload_n hx hb dX2_least_99 rfl (lv_at hl 0 rfl) ?_
                refine lv_iand hx hb dX2_least_100 ?_
                refine fw_topi (y := (nI (cm &&& i))) (fd_nand cm i) ?_
                refine va_put (D := D) (ci := 2) (v := .int (nI (cm &&& i))) (ty := .int) (C := RX2) (T := TX2) (N := 6) hx hb hts in_X2 tyX2 tyX2_ok nmX2 hown hK hP hD hS 0 rfl rfl 5 (by decide) (hts _ q111) (fun _ h9 => h9) rfl (by decide +kernel) rfl rfl (Nat.le_of_ble_eq_true rfl) dX2_least_101 (fun H locs hP hD hS => ?_)
                have hP : va_P D vwCl (fd_wM bm br bc dA dB n P K 1 b (cm &&& i)) H := hP
                have hD : va_D A (fd_wM bm br bc dA dB n P K 1 b (cm &&& i)) := hD
                refine lv_iinc (v := nI (i + 1)) (lv' := [(3, .int (nI (i + 1))), (0, .ref bm), (1, .int (nI sr)), (2, .int (nI tg))]) hx hb dX2_least_104 hl (k := 0) rfl (nI_1 _) (by decide) rfl (fun ls hl => ?_)
                refine lv_goto (tgt := 13) hx hb dX2_least_107 (by decide) ?_
                exact ih (i + 1) b (cm &&& i) (by omega) (by omega) (fd_LI_and hL hV (by omega) c6) hB H locs ls hP hD hS (lv_sub hl [0, 1, 2, 3] rfl)
            · refine lv_aload_n hx hb dX2_least_62 rfl (lv_at hl 1 rfl) ?_
              refine lv_aload_n hx hb dX2_least_63 rfl (lv_at hl 1 rfl) ?_
              refine va_get (D := D) (ci := 2) (v := .ref bc) (C := RX2) (T := TX2) (N := 6) hx hb hts in_X2 hown hK hP 0 rfl rfl 2 (by decide) (hts _ q108) (fun _ h9 => h9) rfl dX2_least_64 ?_
              refine lv_iload_n hx hb dX2_least_67 rfl (lv_at hl 0 rfl) ?_
              refine fw_lald hx hb hK hP 2 rfl (by omega) (by decide) dX2_least_68 ?_
              refine va_put (D := D) (ci := 2) (v := .long (fd_zL (K i))) (ty := .long) (C := RX2) (T := TX2) (N := 6) hx hb hts in_X2 tyX2 tyX2_ok nmX2 hown hK hP hD hS 0 rfl rfl 4 (by decide) (hts _ q110) (fun _ h9 => h9) rfl (by decide +kernel) rfl rfl (Nat.le_of_ble_eq_true rfl) dX2_least_69 (fun H locs hP hD hS => ?_)
              have hP : va_P D vwCl (fd_wM bm br bc dA dB n P K 1 (K i) cm) H := hP
              have hD : va_D A (fd_wM bm br bc dA dB n P K 1 (K i) cm) := hD
              refine lv_aload_n hx hb dX2_least_72 rfl (lv_at hl 1 rfl) ?_
              refine lv_iload_n hx hb dX2_least_73 rfl (lv_at hl 0 rfl) ?_
              refine va_put (D := D) (ci := 2) (v := .int (nI i)) (ty := .int) (C := RX2) (T := TX2) (N := 6) hx hb hts in_X2 tyX2 tyX2_ok nmX2 hown hK hP hD hS 0 rfl rfl 5 (by decide) (hts _ q111) (fun _ h9 => h9) rfl (by decide +kernel) rfl rfl (Nat.le_of_ble_eq_true rfl) dX2_least_74 (fun H locs hP hD hS => ?_)
              have hP : va_P D vwCl (fd_wM bm br bc dA dB n P K 1 (K i) i) H := hP
              have hD : va_D A (fd_wM bm br bc dA dB n P K 1 (K i) i) := hD
              refine lv_goto (tgt := 104) hx hb dX2_least_77 (by decide) ?_
              refine lv_iinc (v := nI (i + 1)) (lv' := [(3, .int (nI (i + 1))), (0, .ref bm), (1, .int (nI sr)), (2, .int (nI tg))]) hx hb dX2_least_104 hl (k := 0) rfl (nI_1 _) (by decide) rfl (fun ls hl => ?_)
              refine lv_goto (tgt := 13) hx hb dX2_least_107 (by decide) ?_
              exact ih (i + 1) (K i) i (by omega) (by omega) (fd_LI_new hL hV (by omega) hK0 (Or.inr c5)) ⟨by omega, hK1⟩ H locs ls hP hD hS (lv_sub hl [0, 1, 2, 3] rfl)
end FDLST
set_option maxHeartbeats 4000000 in
set_option maxRecDepth 100000 in
/-- least(s, t): the least cut, and what the sides of that cost have in common -/
theorem met_least (l : Launch) (D : va_G) (dA dB : ClassId) (bm br bc : Nat) (n : Nat) (P : Nat → Nat) (K : Nat → Int) (kn : Nat) (b : Int) (cm : Nat) (sr tg : Nat) (hn0 : 2 ≤ n) (hn : n ≤ 10) (hs : sr < n) (ht : tg < n) (hPb : ∀ j, j < 100 → P j < 2 ^ 20) (hPd : ∀ j, j < n → P (10 * j + j) = 0) (hkn : kn ≤ 1) (hko : kn = 1 → fd_KO n P K (2 ^ n)) (sz : Nat) :
    Met l yX2_least (ws_ yX2_least cX2_least 4 none) ({ frames := 1, cells := 0, slots := 0, locals := 25 }) (fd_pC D dA dB [.ref bm, .int (nI sr), .int (nI tg)] sz (fd_wM bm br bc dA dB n P K kn b cm)) (va_Qv (fun (w : (Nat → Int) × Int × Nat) => fd_KO n P w.1 (2 ^ n) ∧ fd_LI sr tg w.1 (2 ^ n) w.2.1 w.2.2) (fd_B D dA dB (va_A (fd_wM bm br bc dA dB n P K kn b cm) sz) (fun w => fd_wM bm br bc dA dB n P w.1 1 w.2.1 w.2.2)) (va_A (fd_wM bm br bc dA dB n P K kn b cm) sz)) 0 0 (va_A (fd_wM bm br bc dA dB n P K kn b cm) sz) := by
  refine fd_ofW (Qf := fun A => va_Qv (fun (w : (Nat → Int) × Int × Nat) => fd_KO n P w.1 (2 ^ n) ∧ fd_LI sr tg w.1 (2 ^ n) w.2.1 w.2.2) (fd_B D dA dB A (fun w => fd_wM bm br bc dA dB n P w.1 1 w.2.1 w.2.2)) A) (by decide) (Nat.le_of_ble_eq_true rfl) ?_
  intro p e s m below meth c A ls hx hb hr hml hown hlocks hts hname hP hK hD hA hS hl
  have hl : lv_has ls 4 [(0, .ref bm), (1, .int (nI sr)), (2, .int (nI tg))] := hl
  refine lv_aload_n hx hb dX2_least_0 rfl (lv_at hl 0 rfl) ?_
  refine fd_cVv (wr := []) (rest := []) ⟨hx, hb, hml, hown, hts⟩ (met_reckon l D dA dB bm br bc n P K kn b cm hn0 hn hPb hPd hkn hko _) 0 q149 q151 qs3 q7 q152 ⟨rfl, rfl⟩ (by decide +kernel) ⟨Nat.le_of_ble_eq_true rfl, Nat.le_of_ble_eq_true rfl⟩ hK hP hD hS hA [0, 1, 2] [] rfl rfl (by decide) (by decide) (by decide) (ci := 2) (q0 := 0) rfl rfl rfl rfl hl.1 rfl (Nat.le_of_ble_eq_true rfl) dX2_least_1 ⟨Nat.zero_le _, Nat.zero_le _⟩ (fun K2 H locs hw hP hD hS => ?_)
  have hP : va_P D vwCl (fd_wM bm br bc dA dB n P K2 1 b cm) H := hP
  have hD : va_D A (fd_wM bm br bc dA dB n P K2 1 b cm) := hD
  refine lv_aload_n hx hb dX2_least_4 rfl (lv_at hl 0 rfl) ?_
  refine lv_ldc2 (v := (-1)) hx hb hown (hts _ q144) dX2_least_5 ?_
  refine fw_topl (y := (fd_zL (-1))) (by decide +kernel) ?_
  refine va_put (D := D) (ci := 2) (v := .long (fd_zL (-1))) (ty := .long) (C := RX2) (T := TX2) (N := 6) hx hb hts in_X2 tyX2 tyX2_ok nmX2 hown hK hP hD hS 0 rfl rfl 4 (by decide) (hts _ q110) (fun _ h9 => h9) rfl (by decide +kernel) rfl rfl (Nat.le_of_ble_eq_true rfl) dX2_least_8 (fun H locs hP hD hS => ?_)
  have hP : va_P D vwCl (fd_wM bm br bc dA dB n P K2 1 (-1) cm) H := hP
  have hD : va_D A (fd_wM bm br bc dA dB n P K2 1 (-1) cm) := hD
  refine lv_iconst (v := (nI 0)) hx hb dX2_least_11 (by decide +kernel) ?_
  refine lv_istore_n (lv' := [(3, .int (nI 0)), (0, .ref bm), (1, .int (nI sr)), (2, .int (nI tg))]) hx hb dX2_least_12 rfl hl (by decide) rfl (fun ls hl => ?_)
  refine fd_lst_1 hx hb hown hts hK hn hs ht (fd_KO_b hn hPb hw) ?_ (2 ^ n + 1) 0 (-1) cm (by omega) (Nat.zero_le _) fd_LI_0 (by decide) H locs ls hP hD hS (lv_sub hl [0, 1, 2, 3] rfl)
  intro b2 cm2 H locs ls hL hP hD hS hl
  exact fd_vret (K2, b2, cm2) hx hb hr hlocks hK hP hD hS ⟨hw, hL⟩ dX2_least_110
set_option maxHeartbeats 4000000 in
set_option maxRecDepth 100000 in
/-- most(a, b) -/
theorem met_mmost (l : Launch) (D : va_G) (dA dB : ClassId) (bm br bc : Nat) (n : Nat) (P : Nat → Nat) (K : Nat → Int) (kn : Nat) (b : Int) (cm : Nat) (x1 x2 : Int32) (hn0 : 2 ≤ n) (hn : n ≤ 10) (hPb : ∀ j, j < 100 → P j < 2 ^ 20) (hPd : ∀ j, j < n → P (10 * j + j) = 0) (hkn : kn ≤ 1) (hko : kn = 1 → fd_KO n P K (2 ^ n)) (sz : Nat) :
    Met l yX2_most (ws_ yX2_most cX2_most 5 (some .long)) ({ frames := 2, cells := 0, slots := 0, locals := 48 }) (fd_pC D dA dB [.ref bm, .int x1, .int x2] sz (fd_wM bm br bc dA dB n P K kn b cm)) (va_Ql (fun (r : Int64) (w : (Nat → Int) × Nat × Int × Nat) => (w.2.1 ≤ 1 ∧ (w.2.1 = 1 → fd_KO n P w.1 (2 ^ n))) ∧ (fd_pos x1 % n = fd_pos x2 % n → r = -1) ∧ (fd_pos x1 % n ≠ fd_pos x2 % n → ∃ K2 b2 cm2, fd_KO n P K2 (2 ^ n) ∧ fd_LI (fd_pos x1 % n) (fd_pos x2 % n) K2 (2 ^ n) b2 cm2 ∧ r = fd_zL b2)) (fd_B D dA dB (va_A (fd_wM bm br bc dA dB n P K kn b cm) sz) (fun w => fd_wM bm br bc dA dB n P w.1 w.2.1 w.2.2.1 w.2.2.2)) (va_A (fd_wM bm br bc dA dB n P K kn b cm) sz)) 0 0 (va_A (fd_wM bm br bc dA dB n P K kn b cm) sz) := by
  refine fd_ofW (Qf := fun A => va_Ql (fun (r : Int64) (w : (Nat → Int) × Nat × Int × Nat) => (w.2.1 ≤ 1 ∧ (w.2.1 = 1 → fd_KO n P w.1 (2 ^ n))) ∧ (fd_pos x1 % n = fd_pos x2 % n → r = -1) ∧ (fd_pos x1 % n ≠ fd_pos x2 % n → ∃ K2 b2 cm2, fd_KO n P K2 (2 ^ n) ∧ fd_LI (fd_pos x1 % n) (fd_pos x2 % n) K2 (2 ^ n) b2 cm2 ∧ r = fd_zL b2)) (fd_B D dA dB A (fun w => fd_wM bm br bc dA dB n P w.1 w.2.1 w.2.2.1 w.2.2.2)) A) (by decide) (Nat.le_of_ble_eq_true rfl) ?_
  intro p e s m below meth c A ls hx hb hr hml hown hlocks hts hname hP hK hD hA hS hl
  have hl : lv_has ls 5 [(0, .ref bm), (1, .int x1), (2, .int x2)] := hl
  have hu : fd_pos x1 % n < n := Nat.mod_lt _ (by omega)
  have hv : fd_pos x2 % n < n := Nat.mod_lt _ (by omega)
  refine lv_iload_n hx hb dX2_most_0 rfl (lv_at hl 1 rfl) ?_
  refine lv_ldc (v := 2147483647) hx hb hown (hts _ q130) dX2_most_1 ?_
  refine fw_pos hx hb dX2_most_3 ?_
  refine lv_aload_n hx hb dX2_most_4 rfl (lv_at hl 0 rfl) ?_
  refine va_get (D := D) (ci := 2) (v := .int (nI n)) (C := RX2) (T := TX2) (N := 6) hx hb hts in_X2 hown hK hP 0 rfl rfl 1 (by decide) (hts _ q107) (fun _ h9 => h9) rfl dX2_most_5 ?_
  refine fw_irem hx hb (fd_pos_lt x1) (by omega) (by omega) dX2_most_8 ?_
  refine lv_istore_n (lv' := [(3, .int (nI ((fd_pos x1) % n))), (0, .ref bm), (1, .int x1), (2, .int x2)]) hx hb dX2_most_9 rfl hl (by decide) rfl (fun ls hl => ?_)
  refine lv_iload_n hx hb dX2_most_10 rfl (lv_at hl 3 rfl) ?_
  refine lv_ldc (v := 2147483647) hx hb hown (hts _ q130) dX2_most_11 ?_
  refine fw_pos hx hb dX2_most_13 ?_
  refine lv_aload_n hx hb dX2_most_14 rfl (lv_at hl 1 rfl) ?_
  refine va_get (D := D) (ci := 2) (v := .int (nI n)) (C := RX2) (T := TX2) (N := 6) hx hb hts in_X2 hown hK hP 0 rfl rfl 1 (by decide) (hts _ q107) (fun _ h9 => h9) rfl dX2_most_15 ?_
  refine fw_irem hx hb (fd_pos_lt x2) (by omega) (by omega) dX2_most_18 ?_
  refine lv_istore (lv' := [(4, .int (nI ((fd_pos x2) % n))), (3, .int (nI ((fd_pos x1) % n))), (0, .ref bm), (1, .int x1), (2, .int x2)]) hx hb dX2_most_19 hl (by decide) rfl (fun ls hl => ?_)
  refine lv_iload_n hx hb dX2_most_21 rfl (lv_at hl 1 rfl) ?_
  refine lv_iload hx hb dX2_most_22 (lv_at hl 0 rfl) ?_
  refine fw_icmp_ne (tgt := 31) hx hb (by omega) (by omega) dX2_most_24 (by decide) (fun c1 => ?_) (fun c1 => ?_)
  · refine lv_aload_n hx hb dX2_most_31 rfl (lv_at hl 2 rfl) ?_
    refine lv_iload_n hx hb dX2_most_32 rfl (lv_at hl 1 rfl) ?_
    refine lv_iload hx hb dX2_most_33 (lv_at hl 0 rfl) ?_
    refine fd_cVv (wr := []) (rest := []) ⟨hx, hb, hml, hown, hts⟩ (met_least l D dA dB bm br bc n P K kn b cm (fd_pos x1 % n) (fd_pos x2 % n) hn0 hn hu hv hPb hPd hkn hko _) 2 q145 q147 qs2 q7 q148 ⟨rfl, rfl⟩ (by decide +kernel) ⟨Nat.le_of_ble_eq_true rfl, Nat.le_of_ble_eq_true rfl⟩ hK hP hD hS hA [0, 1, 2] [] rfl rfl (by decide) (by decide) (by decide) (ci := 2) (q0 := 0) rfl rfl rfl rfl hl.1 rfl (Nat.le_of_ble_eq_true rfl) dX2_most_35 ⟨Nat.zero_le _, Nat.zero_le _⟩ (fun w H locs hw hP hD hS => ?_)
    obtain ⟨K2, b2, cm2⟩ := w
    obtain ⟨hw1, hw2⟩ := hw
    have hP : va_P D vwCl (fd_wM bm br bc dA dB n P K2 1 b2 cm2) H := hP
    have hD : va_D A (fd_wM bm br bc dA dB n P K2 1 b2 cm2) := hD
    refine lv_aload_n hx hb dX2_most_38 rfl (lv_at hl 2 rfl) ?_
    refine va_get (D := D) (ci := 2) (v := .long (fd_zL b2)) (C := RX2) (T := TX2) (N := 6) hx hb hts in_X2 hown hK hP 0 rfl rfl 4 (by decide) (hts _ q110) (fun _ h9 => h9) rfl dX2_most_39 ?_
    exact fd_lret (K2, 1, b2, cm2) hx hb hr hlocks hK hP hD hS ⟨⟨Nat.le_refl 1, fun _ => hw1⟩, fun q => absurd q c1, fun _ => ⟨K2, b2, cm2, hw1, hw2, rfl⟩⟩ dX2_most_42
  · refine lv_ldc2 (v := (-1)) hx hb hown (hts _ q144) dX2_most_27 ?_
    exact fd_lret (K, kn, b, cm) hx hb hr hlocks hK hP hD hS ⟨⟨hkn, hko⟩, fun _ => rfl, fun q => absurd c1 q⟩ dX2_most_30
set_option maxHeartbeats 4000000 in
set_option maxRecDepth 100000 in
/-- side(a, b) -/
theorem met_mside (l : Launch) (D : va_G) (dA dB : ClassId) (bm br bc : Nat) (n : Nat) (P : Nat → Nat) (K : Nat → Int) (kn : Nat) (b : Int) (cm : Nat) (x1 x2 : Int32) (hn0 : 2 ≤ n) (hn : n ≤ 10) (hPb : ∀ j, j < 100 → P j < 2 ^ 20) (hPd : ∀ j, j < n → P (10 * j + j) = 0) (hkn : kn ≤ 1) (hko : kn = 1 → fd_KO n P K (2 ^ n)) (sz : Nat) :
    Met l yX2_side (ws_ yX2_side cX2_side 5 (some .int)) ({ frames := 2, cells := 0, slots := 0, locals := 48 }) (fd_pC D dA dB [.ref bm, .int x1, .int x2] sz (fd_wM bm br bc dA dB n P K kn b cm)) (va_Qi (fun (r : Int32) (w : (Nat → Int) × Nat × Int × Nat) => (w.2.1 ≤ 1 ∧ (w.2.1 = 1 → fd_KO n P w.1 (2 ^ n))) ∧ (fd_pos x1 % n = fd_pos x2 % n → r = -1) ∧ (fd_pos x1 % n ≠ fd_pos x2 % n → ∃ K2 b2 cm2, fd_KO n P K2 (2 ^ n) ∧ fd_LI (fd_pos x1 % n) (fd_pos x2 % n) K2 (2 ^ n) b2 cm2 ∧ r = nI cm2)) (fd_B D dA dB (va_A (fd_wM bm br bc dA dB n P K kn b cm) sz) (fun w => fd_wM bm br bc dA dB n P w.1 w.2.1 w.2.2.1 w.2.2.2)) (va_A (fd_wM bm br bc dA dB n P K kn b cm) sz)) 0 0 (va_A (fd_wM bm br bc dA dB n P K kn b cm) sz) := by
  refine fd_ofW (Qf := fun A => va_Qi (fun (r : Int32) (w : (Nat → Int) × Nat × Int × Nat) => (w.2.1 ≤ 1 ∧ (w.2.1 = 1 → fd_KO n P w.1 (2 ^ n))) ∧ (fd_pos x1 % n = fd_pos x2 % n → r = -1) ∧ (fd_pos x1 % n ≠ fd_pos x2 % n → ∃ K2 b2 cm2, fd_KO n P K2 (2 ^ n) ∧ fd_LI (fd_pos x1 % n) (fd_pos x2 % n) K2 (2 ^ n) b2 cm2 ∧ r = nI cm2)) (fd_B D dA dB A (fun w => fd_wM bm br bc dA dB n P w.1 w.2.1 w.2.2.1 w.2.2.2)) A) (by decide) (Nat.le_of_ble_eq_true rfl) ?_
  intro p e s m below meth c A ls hx hb hr hml hown hlocks hts hname hP hK hD hA hS hl
  have hl : lv_has ls 5 [(0, .ref bm), (1, .int x1), (2, .int x2)] := hl
  have hu : fd_pos x1 % n < n := Nat.mod_lt _ (by omega)
  have hv : fd_pos x2 % n < n := Nat.mod_lt _ (by omega)
  refine lv_iload_n hx hb dX2_side_0 rfl (lv_at hl 1 rfl) ?_
  refine lv_ldc (v := 2147483647) hx hb hown (hts _ q130) dX2_side_1 ?_
  refine fw_pos hx hb dX2_side_3 ?_
  refine lv_aload_n hx hb dX2_side_4 rfl (lv_at hl 0 rfl) ?_
  refine va_get (D := D) (ci := 2) (v := .int (nI n)) (C := RX2) (T := TX2) (N := 6) hx hb hts in_X2 hown hK hP 0 rfl rfl 1 (by decide) (hts _ q107) (fun _ h9 => h9) rfl dX2_side_5 ?_
  refine fw_irem hx hb (fd_pos_lt x1) (by omega) (by omega) dX2_side_8 ?_
  refine lv_istore_n (lv' := [(3, .int (nI ((fd_pos x1) % n))), (0, .ref bm), (1, .int x1), (2, .int x2)]) hx hb dX2_side_9 rfl hl (by decide) rfl (fun ls hl => ?_)
  refine lv_iload_n hx hb dX2_side_10 rfl (lv_at hl 3 rfl) ?_
  refine lv_ldc (v := 2147483647) hx hb hown (hts _ q130) dX2_side_11 ?_
  refine fw_pos hx hb dX2_side_13 ?_
  refine lv_aload_n hx hb dX2_side_14 rfl (lv_at hl 1 rfl) ?_
  refine va_get (D := D) (ci := 2) (v := .int (nI n)) (C := RX2) (T := TX2) (N := 6) hx hb hts in_X2 hown hK hP 0 rfl rfl 1 (by decide) (hts _ q107) (fun _ h9 => h9) rfl dX2_side_15 ?_
  refine fw_irem hx hb (fd_pos_lt x2) (by omega) (by omega) dX2_side_18 ?_
  refine lv_istore (lv' := [(4, .int (nI ((fd_pos x2) % n))), (3, .int (nI ((fd_pos x1) % n))), (0, .ref bm), (1, .int x1), (2, .int x2)]) hx hb dX2_side_19 hl (by decide) rfl (fun ls hl => ?_)
  refine lv_iload_n hx hb dX2_side_21 rfl (lv_at hl 1 rfl) ?_
  refine lv_iload hx hb dX2_side_22 (lv_at hl 0 rfl) ?_
  refine fw_icmp_ne (tgt := 29) hx hb (by omega) (by omega) dX2_side_24 (by decide) (fun c1 => ?_) (fun c1 => ?_)
  · refine lv_aload_n hx hb dX2_side_29 rfl (lv_at hl 2 rfl) ?_
    refine lv_iload_n hx hb dX2_side_30 rfl (lv_at hl 1 rfl) ?_
    refine lv_iload hx hb dX2_side_31 (lv_at hl 0 rfl) ?_
    refine fd_cVv (wr := []) (rest := []) ⟨hx, hb, hml, hown, hts⟩ (met_least l D dA dB bm br bc n P K kn b cm (fd_pos x1 % n) (fd_pos x2 % n) hn0 hn hu hv hPb hPd hkn hko _) 2 q145 q147 qs2 q7 q148 ⟨rfl, rfl⟩ (by decide +kernel) ⟨Nat.le_of_ble_eq_true rfl, Nat.le_of_ble_eq_true rfl⟩ hK hP hD hS hA [0, 1, 2] [] rfl rfl (by decide) (by decide) (by decide) (ci := 2) (q0 := 0) rfl rfl rfl rfl hl.1 rfl (Nat.le_of_ble_eq_true rfl) dX2_side_33 ⟨Nat.zero_le _, Nat.zero_le _⟩ (fun w H locs hw hP hD hS => ?_)
    obtain ⟨K2, b2, cm2⟩ := w
    obtain ⟨hw1, hw2⟩ := hw
    have hP : va_P D vwCl (fd_wM bm br bc dA dB n P K2 1 b2 cm2) H := hP
    have hD : va_D A (fd_wM bm br bc dA dB n P K2 1 b2 cm2) := hD
    refine lv_aload_n hx hb dX2_side_36 rfl (lv_at hl 2 rfl) ?_
    refine va_get (D := D) (ci := 2) (v := .int (nI cm2)) (C := RX2) (T := TX2) (N := 6) hx hb hts in_X2 hown hK hP 0 rfl rfl 5 (by decide) (hts _ q111) (fun _ h9 => h9) rfl dX2_side_37 ?_
    exact fd_iret (K2, 1, b2, cm2) hx hb hr hlocks hK hP hD hS ⟨⟨Nat.le_refl 1, fun _ => hw1⟩, fun q => absurd q c1, fun _ => ⟨K2, b2, cm2, hw1, hw2, rfl⟩⟩ dX2_side_40
  · refine lv_iconst (v := (-1)) hx hb dX2_side_27 (by decide +kernel) ?_
    exact fd_iret (K, kn, b, cm) hx hb hr hlocks hK hP hD hS ⟨⟨hkn, hko⟩, fun _ => rfl, fun q => absurd c1 q⟩ dX2_side_28
end
section
/-! ===== constructors of FlowDesk and FlowDeskModel ===== -/
/-- a contract's start with one thing more said of the state -/
abbrev fd_pCX (D : va_G) (dA dB : ClassId) (av : List Value) (sz : Nat) (WS : va_W) (X : State → Prop) : Array Value → State → Prop := va_Pc av (fun U => U.heap.size = sz ∧ va_P D vwCl WS U.heap ∧ va_K D vwCl (fd_ty dA dB) U ∧ va_D (fun _ => True) WS ∧ X U)
theorem fd_ofWX {l : Launch} {D : va_G} {dA dB : ClassId} {y : MethodName} {cc : ByteArray} {maxL : Nat} {ret : Option FieldType} {rm : Room} {As : List Value} {sz : Nat} {WS : va_W} {X : State → Prop} {Qf : (Nat → Prop) → Array Value → State → Outcome → State → Prop} {mc ms : Nat}
    (hy : plainName y.cls = true) (hlen : (lg_sl As).length ≤ maxL)
    (body : ∀ (p : Program) (e : Env) (s : State) (m : MethodId) (below : List Frame) (meth : Method) (c : Code) (A : Nat → Prop) (ls : Array Slot), X s → p.tables.exec = Jvm.exec → c.code = cc → meth.sig.returnType = ret → c.maxLocals = maxL → s.vm.findClass y.cls = some m.cls → meth.locks = false → (∀ w ∈ lw_all, w.before As.toArray s = true) → meth.name = y.name → va_P D vwCl WS s.heap → va_K D vwCl (fd_ty dA dB) s → va_D A WS → (∀ q : Nat, s.heap.size ≤ q → A q) → va_S A s.heap s.heap [] → lv_has ls maxL (lv_args 0 As) →
      W p l e rm s m As.toArray below meth c s.heap [] 0 0 (MQ below (Qf A) As.toArray s mc ms A) (F0 m 0 ls [])) :
    Met l y (ws_ y cc maxL ret) rm (fd_pCX D dA dB As sz WS X) (Qf (va_A WS sz)) mc ms (va_A WS sz) := by
  refine Met.ofW (cc := cc) (maxL := maxL) (ret := ret) hy rfl ?_
  intro p e s m args below meth c s₁ B hml hv
  obtain ⟨rfl, hsz, hP, hK, hD0, hX⟩ := hv
  have hts := atoms_spec (ws := ws_ y cc maxL ret) B.pre
  subst hsz
  rw [lg_entry_eq]
  exact body p e s m below meth c (va_A WS s.heap.size) _ hX B.exec B.bytes B.returns hml (findClass_of_methodNamed B.named) B.notSynchronized (fun w h => hts w (List.mem_cons_of_mem _ h)) (name_of_methodNamed B.named B.method).1 hP hK hD0.self (fun q h => Or.inr h) va_S.rf (lv_entry As hlen)
section FDCIX
variable {p : Program} {l : Launch} {e : Env} {R : Room} {s : State} {m : MethodId} {args : Array Value} {below : List Frame} {meth : Method} {c : Code} {H : Heap} {locs : List Loc} {cells slots : Nat} {Q : State → Prop} {cc : ByteArray} {pc : Nat} {ls : Array Slot} {D : va_G} {A : Nat → Prop} {ws : va_W} {dA dB : ClassId}
theorem fd_cIX {S : Type} {post : S → Prop} {w1 : S → va_W} {wc wr : va_W} {X : State → Prop} {y : MethodName} {bytes : ByteArray} {maxL nL mc ms idx : Nat} {rm : Room} {own : String} {b : Nat} {As rest st : List Value}
    (hX1 : ∀ (U : State) (g : JFrame) (mk : MethodId) (a : Array Value), X U → X (U.calling g mk a)) (hX2 : ∀ U : State, s.WarmedH U.vm → X U)
    (S0 : CallFix p m c cc nL s args lw_all own)
    (hM : Met l y (ws_ y bytes maxL none) rm (fd_pCX D dA dB (.ref b :: As) H.size wc X) (va_Qv post (fd_B D dA dB (va_A wc H.size) w1) (va_A wc H.size)) mc ms (va_A wc H.size))
    (n : Nat) (h1 : Cond.methodLink own idx y ∈ lw_all) (h2 : Cond.instanceMethod y ∈ lw_all) (h4 : Cond.initialized y.cls ∈ lw_all) (h5 : Cond.code y bytes maxL none ∈ lw_all) (hy1 : y.name = "<init>") (hrm : rm.cells = mc ∧ rm.slots = ms)
    (hd : y.cls ≠ "java/lang/invoke/MethodHandle" ∧ y.cls ≠ "java/lang/invoke/VarHandle" ∧ (parseMethodDescriptor y.desc).map (fun d => d.parameters.length) = some n)
    (hR : rm.frames + 1 ≤ R.frames ∧ 8 + (maxL + 11) + rm.locals ≤ R.locals)
    (hK : va_K D vwCl (fd_ty dA dB) s) (hP : va_P D vwCl ws H) (hD : va_D A ws) (hS : va_S A s.heap H locs) (hA : ∀ q, s.heap.size ≤ q → A q)
    (isC isR : List Nat) (hC : isC.map (fun i => ws[i]?) = wc.map some) (hRr : isR.map (fun i => ws[i]?) = wr.map some) (hnC : va_nd isC = true) (hnR : va_nd isR = true) (hdis : ∀ i ∈ isR, i ∉ isC)
    (hlen : As.length = n) (hsize : ls.size = nL) (hst : st = As.reverse ++ .ref b :: rest) (hW : (rest.map fun v => v.category).sum ≤ 8) (hdg : decode cc pc = .ok (.invokespecial idx, 3)) (hf : cells + mc ≤ R.cells ∧ slots + ms ≤ R.slots)
    (kk : ∀ (u : S) (H1 : Heap) (locs1 : List Loc), post u → va_P D vwCl (wr ++ w1 u) H1 → va_D A (wr ++ w1 u) → va_S A s.heap H1 locs1 → W p l e R s m args below meth c H1 locs1 (cells + mc) (slots + ms) Q (F0 m (pc + 3) ls (rest))) :
    W p l e R s m args below meth c H locs cells slots Q (F0 m pc ls st) := by
  have hPc : va_P D vwCl wc H := fd_psub hP isC hC
  have hDc : va_D A wc := hD.sub isC hnC hC
  have hFc := va_free hD hS hA isC hC
  refine va_callv (va_runI (As := As) (rest := rest) S0 hM (cwI n S0.2.2.2.2 (lw_meth h5) rfl hrm.1 hrm.2 (S0.2.2.2.2 _ h4) (S0.2.2.2.2 _ h1) (S0.2.2.2.2 _ h2) hy1 hd hR) ⟨fun a U g mk q => ?_, fun U hU hW => ?_⟩ rfl hlen hsize hst (lv_room hW) hdg hf) hS (fun q _ h => hFc q h) hFc (fun u t H1 locs1 ht hvm hw hB hz1 hk1 hS1 => ?_)
  · obtain ⟨q0, q1, qP, qK, qD, qX⟩ := q
    exact ⟨q0, q1, qP, va_K.moved (u := U) (U := U.calling g mk a) (Vm.Alike.refl U.vm) qK, qD, hX1 U g mk a qX⟩
  · exact ⟨rfl, by rw [hU], by rw [hU]; exact hPc, va_K.moved hW.alike hK, hDc.weaken (fun _ _ _ _ => trivial), hX2 U hW⟩
  · obtain ⟨hP1, hK1, hD1⟩ := hB
    rw [ht] at hP1
    obtain ⟨hP2, hD2⟩ := va_join hP hD isC isR hC hRr hnR hdis hk1 hFc hP1 hD1
    exact kk u H1 locs1 hw hP2 hD2 hS1
end FDCIX
set_option maxHeartbeats 4000000 in
set_option maxRecDepth 100000 in
/-- FlowDesk(): no pipes, two places, a new net -/
theorem met_init (l : Launch) (D : va_G) (dA dB : ClassId) (bx : Nat) (sz : Nat) :
    Met l yX0_init (ws_ yX0_init cX0_init 1 none) ({ frames := 2, cells := 6, slots := 235, locals := 40 }) (fd_pCX D dA dB [.ref bx] sz [(bx, .inr (0, [.null, .null, .int (nI 0)]))] (va_Nw (.methodLinkNest "FlowDesk" 15 yX1_init "FlowDesk"))) (va_Qv (fun (_ : Nat × Nat × Nat × Nat × Nat × Nat) => True) (fd_B D dA dB (va_A [(bx, .inr (0, [.null, .null, .int (nI 0)]))] sz) (fun w => fd_wX bx w.1 w.2.1 w.2.2.1 w.2.2.2.1 w.2.2.2.2.1 w.2.2.2.2.2 dA 2 (fun _ => 0) 0 (fun _ => 0) (fun _ => 1) (fun _ => 0) (fun _ => 0))) (va_A [(bx, .inr (0, [.null, .null, .int (nI 0)]))] sz)) 6 235 (va_A [(bx, .inr (0, [.null, .null, .int (nI 0)]))] sz) := by
  refine fd_ofWX (Qf := fun A => va_Qv (fun (_ : Nat × Nat × Nat × Nat × Nat × Nat) => True) (fd_B D dA dB A (fun w => fd_wX bx w.1 w.2.1 w.2.2.1 w.2.2.2.1 w.2.2.2.2.1 w.2.2.2.2.2 dA 2 (fun _ => 0) 0 (fun _ => 0) (fun _ => 1) (fun _ => 0) (fun _ => 0))) A) (by decide) (Nat.le_of_ble_eq_true rfl) ?_
  intro p e s m below meth c A ls hNw hx hb hr hml hown hlocks hts hin hP hK hD hA hS hl
  have hl : lv_has ls 1 [(0, .ref bx)] := hl
  have hin : meth.name = "<init>" := hin
  refine lv_aload_n hx hb dX0_init_0 rfl (lv_at hl 0 rfl) ?_
  refine W.objInit hx hb hown (hts _ q14) (hts _ q15) (hts _ q16) rfl (by rw [hml]; exact hl.1) rfl dX0_init_1 (Nat.le_of_ble_eq_true rfl) (Nat.le_of_ble_eq_true rfl) ?_
  refine W.eq (g2 := F0 m 4 ls []) rfl ?_
  refine lv_aload_n hx hb dX0_init_4 rfl (lv_at hl 0 rfl) ?_
  refine lv_bipush (v := (nI 100)) hx hb dX0_init_5 (by decide +kernel) ?_
  refine fw_newi (g := nI) (x := 0) (N := 100) hx hb (hts _ q42) hK hP hD hS hA (by decide +kernel) (by decide) (Nat.le_of_ble_eq_true rfl) (Nat.le_of_ble_eq_true rfl) dX0_init_7 (fun bp H hP hD hS => ?_)
  have hP : va_P D vwCl ([(bx, .inr (0, [.null, .null, .int (nI 0)])), (bp, .inl (dA, 100, .inl (fun _ => nI 0)))]) H := hP
  have hD : va_D A ([(bx, .inr (0, [.null, .null, .int (nI 0)])), (bp, .inl (dA, 100, .inl (fun _ => nI 0)))]) := hD
  refine va_putF (D := D) (ci := 0) (v := .ref bp) (ty := .array .int) (C := RX0) (T := TX0) (N := 3) hx hb hts in_X0 tyX0 tyX0_ok nmX0 hown hK hP hD hS 0 rfl rfl 0 (by decide) (hts _ q43) (fun _ h9 => h9) rfl hin rfl (by decide +kernel) rfl rfl (Nat.le_of_ble_eq_true rfl) dX0_init_9 (fun H locs hP hD hS => ?_)
  have hP : va_P D vwCl ([(bx, .inr (0, [.ref bp, .null, .int (nI 0)])), (bp, .inl (dA, 100, .inl (fun _ => nI 0)))]) H := hP
  have hD : va_D A ([(bx, .inr (0, [.ref bp, .null, .int (nI 0)])), (bp, .inl (dA, 100, .inl (fun _ => nI 0)))]) := hD
  refine lv_aload_n hx hb dX0_init_12 rfl (lv_at hl 0 rfl) ?_
  refine va_new (ci := 1) (fs := [.null, .null, .null, .null, .int (nI 0)]) (C := RX1) (T := TX1) (N := 5) hx hb hts in_X1 tyX1 tyX1_ok hown (hts _ q17) (hts _ q18) (hts _ q6) hK hP hD hS hA rfl (fun j hj => by rcases (show j = 0 ∨ j = 1 ∨ j = 2 ∨ j = 3 ∨ j = 4 by omega) with rfl | rfl | rfl | rfl | rfl <;> rfl) (Nat.le_of_ble_eq_true rfl) (Nat.le_of_ble_eq_true rfl) dX0_init_13 (fun b0 H hP hD hS => ?_)
  have hP : va_P D vwCl ([(bx, .inr (0, [.ref bp, .null, .int (nI 0)])), (bp, .inl (dA, 100, .inl (fun _ => nI 0))), (b0, .inr (1, [.null, .null, .null, .null, .int (nI 0)]))]) H := hP
  have hD : va_D A ([(bx, .inr (0, [.ref bp, .null, .int (nI 0)])), (bp, .inl (dA, 100, .inl (fun _ => nI 0))), (b0, .inr (1, [.null, .null, .null, .null, .int (nI 0)]))]) := hD
  refine lv_dup hx hb dX0_init_16 rfl ?_
  refine fd_cIN (ret := none) (As := []) (wr := [(bx, .inr (0, [.ref bp, .null, .int (nI 0)])), (bp, .inl (dA, 100, .inl (fun _ => nI 0)))]) (rest := [.ref b0, .ref bx]) ⟨hx, hb, hml, hown, hts⟩ (met_netinit l D dA dB b0 _) 0 hNw q20 q6 q21 rfl ⟨rfl, rfl⟩ (by decide +kernel) ⟨Nat.le_of_ble_eq_true rfl, Nat.le_of_ble_eq_true rfl⟩ hK hP hD hS hA [2] [0, 1] rfl rfl (by decide) (by decide) (by decide) rfl hl.1 rfl (Nat.le_of_ble_eq_true rfl) dX0_init_17 ⟨Nat.le_of_ble_eq_true rfl, Nat.le_of_ble_eq_true rfl⟩ (fun w H locs hw hP hD hS => ?_)
  obtain ⟨b1, b2, b3, b4⟩ := w
  have hP : va_P D vwCl ([(bx, .inr (0, [.ref bp, .null, .int (nI 0)])), (bp, .inl (dA, 100, .inl (fun _ => nI 0))), (b0, .inr (1, [.ref b1, .ref b2, .ref b3, .ref b4, .int (nI 0)])), (b1, .inl (dA, 100, .inl (fun _ => nI 0))), (b2, .inl (dA, 10, .inl (fun _ => fd_lI 1))), (b3, .inl (dA, 10, .inl (fun _ => nI 0))), (b4, .inl (dA, 10, .inl (fun _ => nI 0)))]) H := hP
  have hD : va_D A ([(bx, .inr (0, [.ref bp, .null, .int (nI 0)])), (bp, .inl (dA, 100, .inl (fun _ => nI 0))), (b0, .inr (1, [.ref b1, .ref b2, .ref b3, .ref b4, .int (nI 0)])), (b1, .inl (dA, 100, .inl (fun _ => nI 0))), (b2, .inl (dA, 10, .inl (fun _ => fd_lI 1))), (b3, .inl (dA, 10, .inl (fun _ => nI 0))), (b4, .inl (dA, 10, .inl (fun _ => nI 0)))]) := hD
  refine va_putF (D := D) (ci := 0) (v := .ref b0) (ty := .object "FlowDesk$Net") (C := RX0) (T := TX0) (N := 3) hx hb hts in_X0 tyX0 tyX0_ok nmX0 hown hK hP hD hS 0 rfl rfl 1 (by decide) (hts _ q44) (fun _ h9 => h9) rfl hin rfl (by decide +kernel) rfl rfl (Nat.le_of_ble_eq_true rfl) dX0_init_20 (fun H locs hP hD hS => ?_)
  have hP : va_P D vwCl ([(bx, .inr (0, [.ref bp, .ref b0, .int (nI 0)])), (bp, .inl (dA, 100, .inl (fun _ => nI 0))), (b0, .inr (1, [.ref b1, .ref b2, .ref b3, .ref b4, .int (nI 0)])), (b1, .inl (dA, 100, .inl (fun _ => nI 0))), (b2, .inl (dA, 10, .inl (fun _ => fd_lI 1))), (b3, .inl (dA, 10, .inl (fun _ => nI 0))), (b4, .inl (dA, 10, .inl (fun _ => nI 0)))]) H := hP
  have hD : va_D A ([(bx, .inr (0, [.ref bp, .ref b0, .int (nI 0)])), (bp, .inl (dA, 100, .inl (fun _ => nI 0))), (b0, .inr (1, [.ref b1, .ref b2, .ref b3, .ref b4, .int (nI 0)])), (b1, .inl (dA, 100, .inl (fun _ => nI 0))), (b2, .inl (dA, 10, .inl (fun _ => fd_lI 1))), (b3, .inl (dA, 10, .inl (fun _ => nI 0))), (b4, .inl (dA, 10, .inl (fun _ => nI 0)))]) := hD
  refine lv_aload_n hx hb dX0_init_23 rfl (lv_at hl 0 rfl) ?_
  refine lv_iconst (v := (nI 2)) hx hb dX0_init_24 (by decide +kernel) ?_
  refine va_put (D := D) (ci := 0) (v := .int (nI 2)) (ty := .int) (C := RX0) (T := TX0) (N := 3) hx hb hts in_X0 tyX0 tyX0_ok nmX0 hown hK hP hD hS 0 rfl rfl 2 (by decide) (hts _ q45) (fun _ h9 => h9) rfl (by decide +kernel) rfl rfl (Nat.le_of_ble_eq_true rfl) dX0_init_25 (fun H locs hP hD hS => ?_)
  have hP : va_P D vwCl ([(bx, .inr (0, [.ref bp, .ref b0, .int (nI 2)])), (bp, .inl (dA, 100, .inl (fun _ => nI 0))), (b0, .inr (1, [.ref b1, .ref b2, .ref b3, .ref b4, .int (nI 0)])), (b1, .inl (dA, 100, .inl (fun _ => nI 0))), (b2, .inl (dA, 10, .inl (fun _ => fd_lI 1))), (b3, .inl (dA, 10, .inl (fun _ => nI 0))), (b4, .inl (dA, 10, .inl (fun _ => nI 0)))]) H := hP
  have hD : va_D A ([(bx, .inr (0, [.ref bp, .ref b0, .int (nI 2)])), (bp, .inl (dA, 100, .inl (fun _ => nI 0))), (b0, .inr (1, [.ref b1, .ref b2, .ref b3, .ref b4, .int (nI 0)])), (b1, .inl (dA, 100, .inl (fun _ => nI 0))), (b2, .inl (dA, 10, .inl (fun _ => fd_lI 1))), (b3, .inl (dA, 10, .inl (fun _ => nI 0))), (b4, .inl (dA, 10, .inl (fun _ => nI 0)))]) := hD
  exact fd_vret (bp, b0, b1, b2, b3, b4) hx hb hr hlocks hK hP hD hS trivial dX0_init_28
set_option maxHeartbeats 4000000 in
set_option maxRecDepth 100000 in
/-- FlowDeskModel(): no pipes, two places -/
theorem met_minit (l : Launch) (D : va_G) (dA dB : ClassId) (bm : Nat) (sz : Nat) :
    Met l yX2_init (ws_ yX2_init cX2_init 1 none) ({ frames := 1, cells := 2, slots := 1124, locals := 12 }) (fd_pC D dA dB [.ref bm] sz ([(bm, .inr (2, [.null, .int (nI 0), .null, .int (nI 0), .long (fd_zL 0), .int (nI 0)]))])) (va_Qv (fun (_ : Nat × Nat) => True) (fd_B D dA dB (va_A ([(bm, .inr (2, [.null, .int (nI 0), .null, .int (nI 0), .long (fd_zL 0), .int (nI 0)]))]) sz) (fun w => fd_wM bm w.1 w.2 dA dB 2 (fun _ => 0) (fun _ => 0) 0 0 0)) (va_A ([(bm, .inr (2, [.null, .int (nI 0), .null, .int (nI 0), .long (fd_zL 0), .int (nI 0)]))]) sz)) 2 1124 (va_A ([(bm, .inr (2, [.null, .int (nI 0), .null, .int (nI 0), .long (fd_zL 0), .int (nI 0)]))]) sz) := by
  refine fd_ofW (Qf := fun A => va_Qv (fun (_ : Nat × Nat) => True) (fd_B D dA dB A (fun w => fd_wM bm w.1 w.2 dA dB 2 (fun _ => 0) (fun _ => 0) 0 0 0)) A) (by decide) (Nat.le_of_ble_eq_true rfl) ?_
  intro p e s m below meth c A ls hx hb hr hml hown hlocks hts hname hP hK hD hA hS hl
  have hl : lv_has ls 1 [(0, .ref bm)] := hl
  have hin : meth.name = "<init>" := hname
  refine lv_aload_n hx hb dX2_init_0 rfl (lv_at hl 0 rfl) ?_
  refine W.objInit hx hb hown (hts _ q105) (hts _ q15) (hts _ q16) rfl (by rw [hml]; exact hl.1) rfl dX2_init_1 (Nat.le_of_ble_eq_true rfl) (Nat.le_of_ble_eq_true rfl) ?_
  refine W.eq (g2 := F0 m 4 ls []) rfl ?_
  refine lv_aload_n hx hb dX2_init_4 rfl (lv_at hl 0 rfl) ?_
  refine lv_bipush (v := (nI 100)) hx hb dX2_init_5 (by decide +kernel) ?_
  refine fw_newi (g := nI) (x := 0) (N := 100) hx hb (hts _ q42) hK hP hD hS hA (by decide +kernel) (by decide) (Nat.le_of_ble_eq_true rfl) (Nat.le_of_ble_eq_true rfl) dX2_init_7 (fun br H hP hD hS => ?_)
  have hP : va_P D vwCl ([(bm, .inr (2, [.null, .int (nI 0), .null, .int (nI 0), .long (fd_zL 0), .int (nI 0)])), (br, .inl (dA, 100, .inl (fun _ => nI 0)))]) H := hP
  have hD : va_D A ([(bm, .inr (2, [.null, .int (nI 0), .null, .int (nI 0), .long (fd_zL 0), .int (nI 0)])), (br, .inl (dA, 100, .inl (fun _ => nI 0)))]) := hD
  refine va_putF (D := D) (ci := 2) (v := .ref br) (ty := .array .int) (C := RX2) (T := TX2) (N := 6) hx hb hts in_X2 tyX2 tyX2_ok nmX2 hown hK hP hD hS 0 rfl rfl 0 (by decide) (hts _ q106) (fun _ h9 => h9) rfl hin rfl (by decide +kernel) rfl rfl (Nat.le_of_ble_eq_true rfl) dX2_init_9 (fun H locs hP hD hS => ?_)
  have hP : va_P D vwCl ([(bm, .inr (2, [.ref br, .int (nI 0), .null, .int (nI 0), .long (fd_zL 0), .int (nI 0)])), (br, .inl (dA, 100, .inl (fun _ => nI 0)))]) H := hP
  have hD : va_D A ([(bm, .inr (2, [.ref br, .int (nI 0), .null, .int (nI 0), .long (fd_zL 0), .int (nI 0)])), (br, .inl (dA, 100, .inl (fun _ => nI 0)))]) := hD
  refine lv_aload_n hx hb dX2_init_12 rfl (lv_at hl 0 rfl) ?_
  refine lv_iconst (v := (nI 2)) hx hb dX2_init_13 (by decide +kernel) ?_
  refine va_put (D := D) (ci := 2) (v := .int (nI 2)) (ty := .int) (C := RX2) (T := TX2) (N := 6) hx hb hts in_X2 tyX2 tyX2_ok nmX2 hown hK hP hD hS 0 rfl rfl 1 (by decide) (hts _ q107) (fun _ h9 => h9) rfl (by decide +kernel) rfl rfl (Nat.le_of_ble_eq_true rfl) dX2_init_14 (fun H locs hP hD hS => ?_)
  have hP : va_P D vwCl ([(bm, .inr (2, [.ref br, .int (nI 2), .null, .int (nI 0), .long (fd_zL 0), .int (nI 0)])), (br, .inl (dA, 100, .inl (fun _ => nI 0)))]) H := hP
  have hD : va_D A ([(bm, .inr (2, [.ref br, .int (nI 2), .null, .int (nI 0), .long (fd_zL 0), .int (nI 0)])), (br, .inl (dA, 100, .inl (fun _ => nI 0)))]) := hD
  refine lv_aload_n hx hb dX2_init_17 rfl (lv_at hl 0 rfl) ?_
  refine lv_sipush (v := (nI 1024)) hx hb dX2_init_18 (by decide +kernel) ?_
  refine fw_newl (N := 1024) hx hb (hts _ q125) hK hP hD hS hA (by decide) (Nat.le_of_ble_eq_true rfl) (Nat.le_of_ble_eq_true rfl) dX2_init_21 (fun bc H hP hD hS => ?_)
  have hP : va_P D vwCl ([(bm, .inr (2, [.ref br, .int (nI 2), .null, .int (nI 0), .long (fd_zL 0), .int (nI 0)])), (br, .inl (dA, 100, .inl (fun _ => nI 0))), (bc, .inl (dB, 1024, .inr (.inl (fun _ => fd_zL 0))))]) H := hP
  have hD : va_D A ([(bm, .inr (2, [.ref br, .int (nI 2), .null, .int (nI 0), .long (fd_zL 0), .int (nI 0)])), (br, .inl (dA, 100, .inl (fun _ => nI 0))), (bc, .inl (dB, 1024, .inr (.inl (fun _ => fd_zL 0))))]) := hD
  refine va_putF (D := D) (ci := 2) (v := .ref bc) (ty := .array .long) (C := RX2) (T := TX2) (N := 6) hx hb hts in_X2 tyX2 tyX2_ok nmX2 hown hK hP hD hS 0 rfl rfl 2 (by decide) (hts _ q108) (fun _ h9 => h9) rfl hin rfl (by decide +kernel) rfl rfl (Nat.le_of_ble_eq_true rfl) dX2_init_23 (fun H locs hP hD hS => ?_)
  have hP : va_P D vwCl ([(bm, .inr (2, [.ref br, .int (nI 2), .ref bc, .int (nI 0), .long (fd_zL 0), .int (nI 0)])), (br, .inl (dA, 100, .inl (fun _ => nI 0))), (bc, .inl (dB, 1024, .inr (.inl (fun _ => fd_zL 0))))]) H := hP
  have hD : va_D A ([(bm, .inr (2, [.ref br, .int (nI 2), .ref bc, .int (nI 0), .long (fd_zL 0), .int (nI 0)])), (br, .inl (dA, 100, .inl (fun _ => nI 0))), (bc, .inl (dB, 1024, .inr (.inl (fun _ => fd_zL 0))))]) := hD
  exact fd_vret (br, bc) hx hb hr hlocks hK hP hD hS trivial dX2_init_26
end
section
-- ===== end of PART A; then your names; then what follows =====
/-! THE CLAIM OUT OF ONE WALK OF THE LAW'S BODY. Your part is whole_start (and what it stands on); all else here is the same for every law, but numbers. -/
def R_law : String := "FlowDeskLaw"
def lw_P (b : Addr) (xs : List Int32) (args : Array Value) (s : State) : Prop := args = #[.ref b] ∧ s.IntsAt b xs ∧ xs.length ≤ 256 ∧ (Jvm.Cond.and given_1 narrow_1).before args s = true
def lw_Q (_ : Array Value) (s : State) (o : Outcome) (t : State) : Prop := o = .returned (some (.int 1)) ∧ Framed s o t [] 600000 7302250
def lw_Z (below : List Frame) (a : Array Value) (s : State) : State → Prop := fun t => ∃ o, t.status = .running ∧ Ended t below o ∧ lw_Q a s o t
/-- the law's own end, with 1 on the stack, nothing written that was there before, its room as the claim has it -/
theorem lw_ret {p : Program} {l : Launch} {e : Env} {s : State} {m : MethodId} {below : List Frame} {meth : Method} {c : Code} {b : Nat} (hx : p.tables.exec = Jvm.exec) (hb : c.code = code) (hr : meth.sig.returnType = ret) (hlocks : meth.locks = false) {pc : Nat} {H : Heap} {ls : Array Slot} (hdg : decode code pc = .ok (.ireturn, 1)) : W p l e room_1 s m #[Value.ref b] below meth c H [] 600000 7302250 (lw_Z below #[Value.ref b] s) (F0 m pc ls [.int 1]) := by
  intro T hT X
  obtain ⟨fs, hret, hrun, hended, hW, hframe⟩ := X.leave (v := some (.int 1)) (hlocks := hlocks) (fun h => by rw [hr] at h; cases h)
  have hmeth' : T.vm.method? m = some meth := X.method'
  refine ⟨T.setFrames fs, ?_, .returned (some (.int 1)), hrun, hended, rfl, ⟨_, rfl⟩, hW, hframe⟩
  jvm_step X.here [X.here.top, hx, hb, hdg, hmeth', hr, ret, narrow_b1]
  (try refine ⟨rfl, ?_⟩); (try refine ⟨rfl, ?_⟩)
  first | (intro acts; rw [hret _ acts rfl rfl rfl]) | rw [hret _ _ rfl rfl rfl]
  exact Steps.refl _
/-- what holds at the law's entry: the machine, the code, the tables' words (any of lw_tbl by 'hts w (by decide +kernel)'), the script of L ints xs at the cell b, what the Statement gives of the start (any of its parts by flat_of_before) -/
def lw_At (p : Program) (s : State) (m : MethodId) (meth : Method) (c : Code) (b L : Nat) (xs : Nat → Int32) : Prop :=
  p.tables.exec = Jvm.exec ∧ c.code = code ∧ meth.sig.returnType = ret ∧ c.maxLocals = 4 ∧ s.vm.findClass R_law = some m.cls ∧ (∀ w ∈ lw_tbl, w.before #[Value.ref b] s = true) ∧ va_X b L xs s s.heap ∧ b < s.heap.size ∧ meth.locks = false ∧ (Jvm.Cond.and given_1 narrow_1).before #[Value.ref b] s = true
end
section
/-! ===== the law ===== -/
/-- what holds between the calls: the same pipes on both sides; what the model knows is right -/
def fd_Inv (n : Nat) (P P2 : Nat → Nat) (K : Nat → Int) (kn : Nat) : Prop := 2 ≤ n ∧ n ≤ 10 ∧ (∀ j, j < 100 → P j < 2 ^ 20) ∧ (∀ j, j < 10 → P2 (10 * j + j) = 0) ∧ (∀ j, j < 100 → P2 j = P j) ∧ kn ≤ 1 ∧ (kn = 1 → fd_KO n P2 K (2 ^ n))
theorem fd_Inv_0 {n : Nat} {P P2 : Nat → Nat} {K : Nat → Int} (hn0 : 2 ≤ n) (hn : n ≤ 10) (h1 : ∀ j, j < 100 → P j = 0) (h2 : ∀ j, j < 100 → P2 j = 0) : fd_Inv n P P2 K 0 :=
  ⟨hn0, hn, fun j hj => by rw [h1 j hj]; omega, fun j hj => h2 _ (by omega), fun j hj => by rw [h1 j hj, h2 j hj], by omega, fun h => absurd h (by omega)⟩
theorem fd_Inv_pipe {n : Nat} {P P2 : Nat → Nat} {K : Nat → Int} {kn u v x : Nat} (h : fd_Inv n P P2 K kn) (hu : u < n) (hv : v < n) (hx : x < 2 ^ 20) : fd_Inv n (if u = v then P else fd_up P (10 * u + v) x) (if u = v then P2 else fd_up P2 (10 * u + v) x) K (if u = v then kn else 0) := by
  by_cases huv : u = v
  · rw [if_pos huv, if_pos huv, if_pos huv]
    exact h
  · rw [if_neg huv, if_neg huv, if_neg huv]
    obtain ⟨h1, h2, h3, h4, h5, -, -⟩ := h
    refine ⟨h1, h2, fun j hj => ?_, fun j hj => ?_, fun j hj => ?_, by omega, fun g => absurd g (by omega)⟩
    · by_cases e : j = 10 * u + v
      · rw [e, fd_us]; exact hx
      · rw [fd_un e]; exact h3 j hj
    · rw [fd_un (by omega)]; exact h4 j hj
    · by_cases e : j = 10 * u + v
      · rw [e, fd_us, fd_us]
      · rw [fd_un e, fd_un e]; exact h5 j hj
theorem fd_Inv_K {n : Nat} {P P2 : Nat → Nat} {K K2 : Nat → Int} {kn kn2 : Nat} (h : fd_Inv n P P2 K kn) (hk : kn2 ≤ 1 ∧ (kn2 = 1 → fd_KO n P2 K2 (2 ^ n))) : fd_Inv n P P2 K2 kn2 := ⟨h.1, h.2.1, h.2.2.1, h.2.2.2.1, h.2.2.2.2.1, hk.1, hk.2⟩
theorem fd_agree {n s t size cm : Nat} {P P2 : Nat → Nat} {lv : Nat → Nat} {K : Nat → Int} {b : Int} (hn : n ≤ 10) (hP : ∀ j, j < 100 → P2 j = P j) (hs : s < n) (h1 : fd_MF P n s t size lv) (h2 : fd_KO n P2 K (2 ^ n)) (h3 : fd_LI s t K (2 ^ n) b cm) : b = (size : Int) ∧ cm = fd_msk lv n :=
  fd_final hs (fd_MF_ext hn (fun j hj => (hP j hj).symm) h1) h2 h3
section FDSLD
variable {p : Program} {l : Launch} {e : Env} {R : Room} {s : State} {m : MethodId} {args : Array Value} {below : List Frame} {meth : Method} {c : Code} {H : Heap} {locs : List Loc} {cells slots : Nat} {Q : State → Prop} {cc : ByteArray} {pc : Nat} {ls : Array Slot} {rest : List Value} {A : Nat → Prop} {H0 : Heap}
theorem fw_sld (hx : p.tables.exec = Jvm.exec) (hb : c.code = cc) {b len k : Nat} {xs : Nat → Int32} (hX : va_X b len xs s H0) (hbl : b < H0.size) (hbA : ¬ A b) (hS : va_S A H0 H locs) (hk : k < len) (hL : len < 2 ^ 31) (hdg : decode cc pc = .ok (.iaload, 1))
    (kk : W p l e R s m args below meth c H locs cells slots Q (F0 m (pc + 1) ls (.int (xs k) :: rest))) : W p l e R s m args below meth c H locs cells slots Q (F0 m pc ls (.int (nI k) :: .ref b :: rest)) := by
  refine va_sld hx hb hX hbl hbA hS (vp_in_nI hk hL) hdg ?_
  rw [nI_clamp (by omega)]
  exact kk
end FDSLD
set_option maxHeartbeats 4000000 in
set_option maxRecDepth 100000 in
/-- THE LAW's LOOP, at its head -/
theorem law_loop {p : Program} {l : Launch} {e : Env} {s : State} {m : MethodId} {below : List Frame} {meth : Method} {c : Code} {D : va_G} {dA dB : ClassId} {b len : Nat} {xs : Nat → Int32} {bx bp b0 b1 b2 b3 b4 bm br bc : Nat} (hlen : len ≤ 256) (C0 : lw_At p s m meth c b len xs) (hK : va_K D vwCl (fd_ty dA dB) s) :
    ∀ (k i : Nat) (n : Nat) (P P2 : Nat → Nat) (nn : Nat) (Lr lv N row : Nat → Nat) (K : Nat → Int) (kn : Nat) (bb : Int) (cm : Nat), len + 5 ≤ i + k → i ≤ len + 3 → fd_Inv n P P2 K kn → ∀ (H : Heap) (locs : List Loc) (ls : Array Slot), va_P D vwCl (fd_wX bx bp b0 b1 b2 b3 b4 dA n P nn Lr lv N row ++ fd_wM bm br bc dA dB n P2 K kn bb cm) H → va_D (fun q : Nat => s.heap.size ≤ q) (fd_wX bx bp b0 b1 b2 b3 b4 dA n P nn Lr lv N row ++ fd_wM bm br bc dA dB n P2 K kn bb cm) → va_S (fun q : Nat => s.heap.size ≤ q) s.heap H locs → lv_has ls 4 [(0, .ref b), (1, .ref bx), (2, .ref bm), (3, .int (nI i))] → W p l e room_1 s m #[Value.ref b] below meth c H locs 10 1368 (lw_Z below #[Value.ref b] s) (F0 m 18 ls []) := by
  obtain ⟨hx, hb, hr, hml, hown, hts0, hX, hbl, hlocks, hgv⟩ := C0
  have hts : ∀ w ∈ lw_all, w.before #[Value.ref b] s = true := fun w h => hts0 w (lw_all_tbl h)
  have hA : ∀ q : Nat, s.heap.size ≤ q → (fun q : Nat => s.heap.size ≤ q) q := fun _ h => h
  have hbA : ¬ (fun q : Nat => s.heap.size ≤ q) b := Nat.not_le.mpr hbl
  intro k
  induction k with
  | zero =>
    intro i n P P2 nn Lr lv N row K kn bb cm h1 hi
    omega
  | succ k ih =>
    intro i n P P2 nn Lr lv N row K kn bb cm h1 hi hI H locs ls hP hD hS hl
    refine lv_iload_n hx hb dL_law_18 rfl (lv_at hl 3 rfl) ?_
    refine lv_aload_n hx hb dL_law_19 rfl (lv_at hl 0 rfl) ?_
    refine va_slen hx hb hX hbl hbA hS dL_law_20 ?_
    refine W.eq (g2 := F0 m 21 ls [.int (nI len), .int (nI i)]) rfl ?_
    refine lv_iconst (v := (nI 4)) hx hb dL_law_21 (by decide +kernel) ?_
    refine lv_isub hx hb dL_law_22 ?_
    refine lv_icmp_gt (tgt := 238) hx hb dL_law_23 (by decide) (fun c1 => ?_) (fun c1 => ?_)
    · refine lv_iconst (v := (nI 1)) hx hb dL_law_238 (by decide +kernel) ?_
      refine va_forget (fun q hq => hS.2.2 q hq) ?_
      refine W.widen (k := 600000) (n := 7302250) (by omega) (by omega) ?_
      exact lw_ret hx hb hr hlocks dL_law_239
    · have hi4 : i + 4 ≤ len := by
        rw [Int32.lt_iff_toInt_lt, pk_sub_toInt (by omega) (by omega), nI_toInt (by omega)] at c1
        omega
      obtain ⟨hn0, hn, hPb, hPd, hPP, hkn, hko⟩ := id hI
      have hPb2 : ∀ j, j < 100 → P2 j < 2 ^ 20 := fun j hj => by rw [hPP j hj]; exact hPb j hj
      have hPd2 : ∀ j, j < n → P2 (10 * j + j) = 0 := fun j hj => hPd j (by omega)
      refine lv_aload_n hx hb dL_law_26 rfl (lv_at hl 0 rfl) ?_
      refine lv_iload_n hx hb dL_law_27 rfl (lv_at hl 3 rfl) ?_
      refine fw_sld hx hb hX hbl hbA hS (by omega) (by omega) dL_law_28 ?_
      refine lv_bipush (v := (nI 7)) hx hb dL_law_29 (by decide +kernel) ?_
      obtain ⟨sw, hsw, esw⟩ := pk_andE (xs i) (m := nI 7) 3 (by decide +kernel)
      refine lv_iand hx hb dL_law_31 ?_
      refine fw_topi (y := (nI sw)) esw ?_
      rcases (show sw = 0 ∨ sw = 1 ∨ sw = 2 ∨ sw = 3 ∨ sw = 4 ∨ 5 ≤ sw by omega) with e0 | e0 | e0 | e0 | e0 | e0
      · subst e0
        refine lv_tableIn (off := 36) (tgt := 68) hx hb dL_law_32 (by decide +kernel) (by decide +kernel) (by decide +kernel) (by decide) ?_
        refine lv_aload_n hx hb dL_law_68 rfl (lv_at hl 1 rfl) ?_
        refine lv_aload_n hx hb dL_law_69 rfl (lv_at hl 0 rfl) ?_
        refine lv_iload_n hx hb dL_law_70 rfl (lv_at hl 3 rfl) ?_
        refine lv_iconst (v := (nI 1)) hx hb dL_law_71 (by decide +kernel) ?_
        refine fw_iadd hx hb dL_law_72 ?_
        refine fw_sld hx hb hX hbl hbA hS (by omega) (by omega) dL_law_73 ?_
        refine fd_cVv (wr := fd_wM bm br bc dA dB n P2 K kn bb cm) (rest := []) ⟨hx, hb, hml, hown, hts⟩ (met_places l D dA dB bx bp b0 b1 b2 b3 b4 n nn P Lr lv N row (xs (i + 1)) _) 1 q53 q54 q55 q5 q56 ⟨rfl, rfl⟩ (by decide +kernel) ⟨Nat.le_of_ble_eq_true rfl, Nat.le_of_ble_eq_true rfl⟩ hK hP hD hS hA [0, 1, 2, 3, 4, 5, 6] [7, 8, 9] rfl rfl (by decide) (by decide) (by decide) (ci := 0) (q0 := 0) rfl rfl rfl rfl hl.1 rfl (Nat.le_of_ble_eq_true rfl) dL_law_74 ⟨Nat.le_of_ble_eq_true rfl, Nat.le_of_ble_eq_true rfl⟩ (fun w H locs hw hP hD hS => ?_)
        have hP : va_P D vwCl (fd_wM bm br bc dA dB n P2 K kn bb cm ++ fd_wX bx bp b0 b1 b2 b3 b4 dA (2 + fd_pos (xs (i + 1)) % 9) w nn Lr lv N row) H := hP
        have hD : va_D (fun q : Nat => s.heap.size ≤ q) (fd_wM bm br bc dA dB n P2 K kn bb cm ++ fd_wX bx bp b0 b1 b2 b3 b4 dA (2 + fd_pos (xs (i + 1)) % 9) w nn Lr lv N row) := hD
        refine lv_aload_n hx hb dL_law_77 rfl (lv_at hl 2 rfl) ?_
        refine lv_aload_n hx hb dL_law_78 rfl (lv_at hl 0 rfl) ?_
        refine lv_iload_n hx hb dL_law_79 rfl (lv_at hl 3 rfl) ?_
        refine lv_iconst (v := (nI 1)) hx hb dL_law_80 (by decide +kernel) ?_
        refine fw_iadd hx hb dL_law_81 ?_
        refine fw_sld hx hb hX hbl hbA hS (by omega) (by omega) dL_law_82 ?_
        refine fd_cVv (wr := fd_wX bx bp b0 b1 b2 b3 b4 dA (2 + fd_pos (xs (i + 1)) % 9) w nn Lr lv N row) (rest := []) ⟨hx, hb, hml, hown, hts⟩ (met_mplaces l D dA dB bm br bc n P2 K kn bb cm (xs (i + 1)) _) 1 q126 q127 q128 q7 q129 ⟨rfl, rfl⟩ (by decide +kernel) ⟨Nat.le_of_ble_eq_true rfl, Nat.le_of_ble_eq_true rfl⟩ hK hP hD hS hA [0, 1, 2] [3, 4, 5, 6, 7, 8, 9] rfl rfl (by decide) (by decide) (by decide) (ci := 2) (q0 := 0) rfl rfl rfl rfl hl.1 rfl (Nat.le_of_ble_eq_true rfl) dL_law_83 ⟨Nat.le_of_ble_eq_true rfl, Nat.le_of_ble_eq_true rfl⟩ (fun w2 H locs hw2 hP hD hS => ?_)
        have hP : va_P D vwCl (fd_wX bx bp b0 b1 b2 b3 b4 dA (2 + fd_pos (xs (i + 1)) % 9) w nn Lr lv N row ++ fd_wM bm br bc dA dB (2 + fd_pos (xs (i + 1)) % 9) w2 K 0 bb cm) H := hP
        have hD : va_D (fun q : Nat => s.heap.size ≤ q) (fd_wX bx bp b0 b1 b2 b3 b4 dA (2 + fd_pos (xs (i + 1)) % 9) w nn Lr lv N row ++ fd_wM bm br bc dA dB (2 + fd_pos (xs (i + 1)) % 9) w2 K 0 bb cm) := hD
        have hm9 : fd_pos (xs (i + 1)) % 9 < 9 := Nat.mod_lt _ (by decide)
        refine lv_goto (tgt := 232) hx hb dL_law_86 (by decide) ?_
        refine lv_iinc (v := nI (i + 4)) (lv' := [(3, .int (nI (i + 4))), (0, .ref b), (1, .ref bx), (2, .ref bm)]) hx hb dL_law_232 hl (k := 3) rfl (nI_add _ 4) (by decide) rfl (fun ls hl => ?_)
        refine lv_goto (tgt := 18) hx hb dL_law_235 (by decide) ?_
        exact ih (i + 4) (2 + fd_pos (xs (i + 1)) % 9) w w2 nn Lr lv N row K 0 bb cm (by omega) (by omega) (fd_Inv_0 (by omega) (by omega) hw hw2) H locs ls hP hD hS (lv_sub hl [1, 2, 3, 0] rfl)
      · subst e0
        refine lv_tableIn (off := 57) (tgt := 89) hx hb dL_law_32 (by decide +kernel) (by decide +kernel) (by decide +kernel) (by decide) ?_
        have hu : fd_pos (xs (i + 1)) % n < n := Nat.mod_lt _ (by omega)
        have hv : fd_pos (xs (i + 2)) % n < n := Nat.mod_lt _ (by omega)
        refine lv_aload_n hx hb dL_law_89 rfl (lv_at hl 1 rfl) ?_
        refine lv_aload_n hx hb dL_law_90 rfl (lv_at hl 0 rfl) ?_
        refine lv_iload_n hx hb dL_law_91 rfl (lv_at hl 3 rfl) ?_
        refine lv_iconst (v := (nI 1)) hx hb dL_law_92 (by decide +kernel) ?_
        refine fw_iadd hx hb dL_law_93 ?_
        refine fw_sld hx hb hX hbl hbA hS (by omega) (by omega) dL_law_94 ?_
        refine lv_aload_n hx hb dL_law_95 rfl (lv_at hl 0 rfl) ?_
        refine lv_iload_n hx hb dL_law_96 rfl (lv_at hl 3 rfl) ?_
        refine lv_iconst (v := (nI 2)) hx hb dL_law_97 (by decide +kernel) ?_
        refine fw_iadd hx hb dL_law_98 ?_
        refine fw_sld hx hb hX hbl hbA hS (by omega) (by omega) dL_law_99 ?_
        refine lv_aload_n hx hb dL_law_100 rfl (lv_at hl 0 rfl) ?_
        refine lv_iload_n hx hb dL_law_101 rfl (lv_at hl 3 rfl) ?_
        refine lv_iconst (v := (nI 3)) hx hb dL_law_102 (by decide +kernel) ?_
        refine fw_iadd hx hb dL_law_103 ?_
        refine fw_sld hx hb hX hbl hbA hS (by omega) (by omega) dL_law_104 ?_
        refine fd_cVi (wr := fd_wM bm br bc dA dB n P2 K kn bb cm) (rest := []) ⟨hx, hb, hml, hown, hts⟩ (met_pipe l D dA dB bx bp b0 b1 b2 b3 b4 n nn P Lr lv N row (xs (i + 1)) (xs (i + 2)) (xs (i + 3)) hn0 hn _) 3 q58 q59 q60 q5 q61 ⟨rfl, rfl⟩ (by decide +kernel) ⟨Nat.le_of_ble_eq_true rfl, Nat.le_of_ble_eq_true rfl⟩ hK hP hD hS hA [0, 1, 2, 3, 4, 5, 6] [7, 8, 9] rfl rfl (by decide) (by decide) (by decide) (ci := 0) (q0 := 0) rfl rfl rfl rfl hl.1 rfl (Nat.le_of_ble_eq_true rfl) dL_law_105 ⟨Nat.le_of_ble_eq_true rfl, Nat.le_of_ble_eq_true rfl⟩ (fun r1 w H locs hw hP hD hS => ?_)
        obtain ⟨hw1, hw3⟩ := hw
        have hP : va_P D vwCl (fd_wM bm br bc dA dB n P2 K kn bb cm ++ fd_wX bx bp b0 b1 b2 b3 b4 dA n w nn Lr lv N row) H := hP
        have hD : va_D (fun q : Nat => s.heap.size ≤ q) (fd_wM bm br bc dA dB n P2 K kn bb cm ++ fd_wX bx bp b0 b1 b2 b3 b4 dA n w nn Lr lv N row) := hD
        refine lv_aload_n hx hb dL_law_108 rfl (lv_at hl 2 rfl) ?_
        refine lv_aload_n hx hb dL_law_109 rfl (lv_at hl 0 rfl) ?_
        refine lv_iload_n hx hb dL_law_110 rfl (lv_at hl 3 rfl) ?_
        refine lv_iconst (v := (nI 1)) hx hb dL_law_111 (by decide +kernel) ?_
        refine fw_iadd hx hb dL_law_112 ?_
        refine fw_sld hx hb hX hbl hbA hS (by omega) (by omega) dL_law_113 ?_
        refine lv_aload_n hx hb dL_law_114 rfl (lv_at hl 0 rfl) ?_
        refine lv_iload_n hx hb dL_law_115 rfl (lv_at hl 3 rfl) ?_
        refine lv_iconst (v := (nI 2)) hx hb dL_law_116 (by decide +kernel) ?_
        refine fw_iadd hx hb dL_law_117 ?_
        refine fw_sld hx hb hX hbl hbA hS (by omega) (by omega) dL_law_118 ?_
        refine lv_aload_n hx hb dL_law_119 rfl (lv_at hl 0 rfl) ?_
        refine lv_iload_n hx hb dL_law_120 rfl (lv_at hl 3 rfl) ?_
        refine lv_iconst (v := (nI 3)) hx hb dL_law_121 (by decide +kernel) ?_
        refine fw_iadd hx hb dL_law_122 ?_
        refine fw_sld hx hb hX hbl hbA hS (by omega) (by omega) dL_law_123 ?_
        refine fd_cVi (wr := fd_wX bx bp b0 b1 b2 b3 b4 dA n w nn Lr lv N row) (rest := [.int r1]) ⟨hx, hb, hml, hown, hts⟩ (met_mpipe l D dA dB bm br bc n P2 K kn bb cm (xs (i + 1)) (xs (i + 2)) (xs (i + 3)) hn0 hn _) 3 q131 q132 q133 q7 q134 ⟨rfl, rfl⟩ (by decide +kernel) ⟨Nat.le_of_ble_eq_true rfl, Nat.le_of_ble_eq_true rfl⟩ hK hP hD hS hA [0, 1, 2] [3, 4, 5, 6, 7, 8, 9] rfl rfl (by decide) (by decide) (by decide) (ci := 2) (q0 := 0) rfl rfl rfl rfl hl.1 rfl (Nat.le_of_ble_eq_true rfl) dL_law_124 ⟨Nat.le_of_ble_eq_true rfl, Nat.le_of_ble_eq_true rfl⟩ (fun r2 w2 H locs hw2 hP hD hS => ?_)
        obtain ⟨hw4, hw5, hw6⟩ := hw2
        obtain ⟨w3, w4⟩ := w2
        have hw5 : w3 = (if fd_pos (xs (i + 1)) % n = fd_pos (xs (i + 2)) % n then P2 else fd_up P2 (10 * (fd_pos (xs (i + 1)) % n) + fd_pos (xs (i + 2)) % n) (fd_cap (xs (i + 3)))) := hw5
        have hw6 : w4 = (if fd_pos (xs (i + 1)) % n = fd_pos (xs (i + 2)) % n then kn else 0) := hw6
        have hP : va_P D vwCl (fd_wX bx bp b0 b1 b2 b3 b4 dA n w nn Lr lv N row ++ fd_wM bm br bc dA dB n w3 K w4 bb cm) H := hP
        have hD : va_D (fun q : Nat => s.heap.size ≤ q) (fd_wX bx bp b0 b1 b2 b3 b4 dA n w nn Lr lv N row ++ fd_wM bm br bc dA dB n w3 K w4 bb cm) := hD
        refine lv_icmp_eq (tgt := 232) hx hb dL_law_127 (by decide) (fun c2 => ?_) (fun c2 => ?_)
        · have hI2 := fd_Inv_pipe hI hu hv (fd_cap_lt (xs (i + 3)))
          rw [← hw3, ← hw5, ← hw6] at hI2
          refine lv_iinc (v := nI (i + 4)) (lv' := [(3, .int (nI (i + 4))), (0, .ref b), (1, .ref bx), (2, .ref bm)]) hx hb dL_law_232 hl (k := 3) rfl (nI_add _ 4) (by decide) rfl (fun ls hl => ?_)
          refine lv_goto (tgt := 18) hx hb dL_law_235 (by decide) ?_
          exact ih (i + 4) n w w3 nn Lr lv N row K w4 bb cm (by omega) (by omega) hI2 H locs ls hP hD hS (lv_sub hl [1, 2, 3, 0] rfl)
        · exact absurd (by rw [hw1, hw4]) c2
      · subst e0
        refine lv_tableIn (off := 100) (tgt := 132) hx hb dL_law_32 (by decide +kernel) (by decide +kernel) (by decide +kernel) (by decide) ?_
        have hu : fd_pos (xs (i + 1)) % n < n := Nat.mod_lt _ (by omega)
        have hv : fd_pos (xs (i + 2)) % n < n := Nat.mod_lt _ (by omega)
        refine lv_aload_n hx hb dL_law_132 rfl (lv_at hl 1 rfl) ?_
        refine lv_aload_n hx hb dL_law_133 rfl (lv_at hl 0 rfl) ?_
        refine lv_iload_n hx hb dL_law_134 rfl (lv_at hl 3 rfl) ?_
        refine lv_iconst (v := (nI 1)) hx hb dL_law_135 (by decide +kernel) ?_
        refine fw_iadd hx hb dL_law_136 ?_
        refine fw_sld hx hb hX hbl hbA hS (by omega) (by omega) dL_law_137 ?_
        refine lv_aload_n hx hb dL_law_138 rfl (lv_at hl 0 rfl) ?_
        refine lv_iload_n hx hb dL_law_139 rfl (lv_at hl 3 rfl) ?_
        refine lv_iconst (v := (nI 2)) hx hb dL_law_140 (by decide +kernel) ?_
        refine fw_iadd hx hb dL_law_141 ?_
        refine fw_sld hx hb hX hbl hbA hS (by omega) (by omega) dL_law_142 ?_
        refine fd_cVi (wr := fd_wM bm br bc dA dB n P2 K kn bb cm) (rest := []) ⟨hx, hb, hml, hown, hts⟩ (met_room l D dA dB bx bp b0 b1 b2 b3 b4 n nn P Lr lv N row (xs (i + 1)) (xs (i + 2)) hn0 hn _) 2 q67 q68 q69 q5 q70 ⟨rfl, rfl⟩ (by decide +kernel) ⟨Nat.le_of_ble_eq_true rfl, Nat.le_of_ble_eq_true rfl⟩ hK hP hD hS hA [0, 1, 2, 3, 4, 5, 6] [7, 8, 9] rfl rfl (by decide) (by decide) (by decide) (ci := 0) (q0 := 0) rfl rfl rfl rfl hl.1 rfl (Nat.le_of_ble_eq_true rfl) dL_law_143 ⟨Nat.le_of_ble_eq_true rfl, Nat.le_of_ble_eq_true rfl⟩ (fun r1 w H locs hw hP hD hS => ?_)
        have hP : va_P D vwCl (fd_wM bm br bc dA dB n P2 K kn bb cm ++ fd_wX bx bp b0 b1 b2 b3 b4 dA n P nn Lr lv N row) H := hP
        have hD : va_D (fun q : Nat => s.heap.size ≤ q) (fd_wM bm br bc dA dB n P2 K kn bb cm ++ fd_wX bx bp b0 b1 b2 b3 b4 dA n P nn Lr lv N row) := hD
        refine lv_aload_n hx hb dL_law_146 rfl (lv_at hl 2 rfl) ?_
        refine lv_aload_n hx hb dL_law_147 rfl (lv_at hl 0 rfl) ?_
        refine lv_iload_n hx hb dL_law_148 rfl (lv_at hl 3 rfl) ?_
        refine lv_iconst (v := (nI 1)) hx hb dL_law_149 (by decide +kernel) ?_
        refine fw_iadd hx hb dL_law_150 ?_
        refine fw_sld hx hb hX hbl hbA hS (by omega) (by omega) dL_law_151 ?_
        refine lv_aload_n hx hb dL_law_152 rfl (lv_at hl 0 rfl) ?_
        refine lv_iload_n hx hb dL_law_153 rfl (lv_at hl 3 rfl) ?_
        refine lv_iconst (v := (nI 2)) hx hb dL_law_154 (by decide +kernel) ?_
        refine fw_iadd hx hb dL_law_155 ?_
        refine fw_sld hx hb hX hbl hbA hS (by omega) (by omega) dL_law_156 ?_
        refine fd_cVi (wr := fd_wX bx bp b0 b1 b2 b3 b4 dA n P nn Lr lv N row) (rest := [.int r1]) ⟨hx, hb, hml, hown, hts⟩ (met_mroom l D dA dB bm br bc n P2 K kn bb cm (xs (i + 1)) (xs (i + 2)) hn0 hn _) 2 q136 q137 q138 q7 q139 ⟨rfl, rfl⟩ (by decide +kernel) ⟨Nat.le_of_ble_eq_true rfl, Nat.le_of_ble_eq_true rfl⟩ hK hP hD hS hA [0, 1, 2] [3, 4, 5, 6, 7, 8, 9] rfl rfl (by decide) (by decide) (by decide) (ci := 2) (q0 := 0) rfl rfl rfl rfl hl.1 rfl (Nat.le_of_ble_eq_true rfl) dL_law_157 ⟨Nat.le_of_ble_eq_true rfl, Nat.le_of_ble_eq_true rfl⟩ (fun r2 w2 H locs hw2 hP hD hS => ?_)
        have hP : va_P D vwCl (fd_wX bx bp b0 b1 b2 b3 b4 dA n P nn Lr lv N row ++ fd_wM bm br bc dA dB n P2 K kn bb cm) H := hP
        have hD : va_D (fun q : Nat => s.heap.size ≤ q) (fd_wX bx bp b0 b1 b2 b3 b4 dA n P nn Lr lv N row ++ fd_wM bm br bc dA dB n P2 K kn bb cm) := hD
        refine lv_icmp_eq (tgt := 232) hx hb dL_law_160 (by decide) (fun c2 => ?_) (fun c2 => ?_)
        · refine lv_iinc (v := nI (i + 4)) (lv' := [(3, .int (nI (i + 4))), (0, .ref b), (1, .ref bx), (2, .ref bm)]) hx hb dL_law_232 hl (k := 3) rfl (nI_add _ 4) (by decide) rfl (fun ls hl => ?_)
          refine lv_goto (tgt := 18) hx hb dL_law_235 (by decide) ?_
          exact ih (i + 4) n P P2 nn Lr lv N row K kn bb cm (by omega) (by omega) hI H locs ls hP hD hS (lv_sub hl [1, 2, 3, 0] rfl)
        · exact absurd (by rw [hw, hw2, hPP _ (by omega)]) c2
      · subst e0
        refine lv_tableIn (off := 133) (tgt := 165) hx hb dL_law_32 (by decide +kernel) (by decide +kernel) (by decide +kernel) (by decide) ?_
        have hu : fd_pos (xs (i + 1)) % n < n := Nat.mod_lt _ (by omega)
        have hv : fd_pos (xs (i + 2)) % n < n := Nat.mod_lt _ (by omega)
        refine lv_aload_n hx hb dL_law_165 rfl (lv_at hl 1 rfl) ?_
        refine lv_aload_n hx hb dL_law_166 rfl (lv_at hl 0 rfl) ?_
        refine lv_iload_n hx hb dL_law_167 rfl (lv_at hl 3 rfl) ?_
        refine lv_iconst (v := (nI 1)) hx hb dL_law_168 (by decide +kernel) ?_
        refine fw_iadd hx hb dL_law_169 ?_
        refine fw_sld hx hb hX hbl hbA hS (by omega) (by omega) dL_law_170 ?_
        refine lv_aload_n hx hb dL_law_171 rfl (lv_at hl 0 rfl) ?_
        refine lv_iload_n hx hb dL_law_172 rfl (lv_at hl 3 rfl) ?_
        refine lv_iconst (v := (nI 2)) hx hb dL_law_173 (by decide +kernel) ?_
        refine fw_iadd hx hb dL_law_174 ?_
        refine fw_sld hx hb hX hbl hbA hS (by omega) (by omega) dL_law_175 ?_
        refine fd_cVl (wr := fd_wM bm br bc dA dB n P2 K kn bb cm) (rest := []) ⟨hx, hb, hml, hown, hts⟩ (met_most l D dA dB bx bp b0 b1 b2 b3 b4 n nn P Lr lv N row (xs (i + 1)) (xs (i + 2)) hn0 hn hPb _) 2 q71 q72 q73 q5 q74 ⟨rfl, rfl⟩ (by decide +kernel) ⟨Nat.le_of_ble_eq_true rfl, Nat.le_of_ble_eq_true rfl⟩ hK hP hD hS hA [0, 1, 2, 3, 4, 5, 6] [7, 8, 9] rfl rfl (by decide) (by decide) (by decide) (ci := 0) (q0 := 0) rfl rfl rfl rfl hl.1 rfl (Nat.le_of_ble_eq_true rfl) dL_law_176 ⟨Nat.le_of_ble_eq_true rfl, Nat.le_of_ble_eq_true rfl⟩ (fun r1 w H locs hw hP hD hS => ?_)
        obtain ⟨nn2, L2, lv2, N2, row2⟩ := w
        have hP : va_P D vwCl (fd_wM bm br bc dA dB n P2 K kn bb cm ++ fd_wX bx bp b0 b1 b2 b3 b4 dA n P nn2 L2 lv2 N2 row2) H := hP
        have hD : va_D (fun q : Nat => s.heap.size ≤ q) (fd_wM bm br bc dA dB n P2 K kn bb cm ++ fd_wX bx bp b0 b1 b2 b3 b4 dA n P nn2 L2 lv2 N2 row2) := hD
        refine lv_aload_n hx hb dL_law_179 rfl (lv_at hl 2 rfl) ?_
        refine lv_aload_n hx hb dL_law_180 rfl (lv_at hl 0 rfl) ?_
        refine lv_iload_n hx hb dL_law_181 rfl (lv_at hl 3 rfl) ?_
        refine lv_iconst (v := (nI 1)) hx hb dL_law_182 (by decide +kernel) ?_
        refine fw_iadd hx hb dL_law_183 ?_
        refine fw_sld hx hb hX hbl hbA hS (by omega) (by omega) dL_law_184 ?_
        refine lv_aload_n hx hb dL_law_185 rfl (lv_at hl 0 rfl) ?_
        refine lv_iload_n hx hb dL_law_186 rfl (lv_at hl 3 rfl) ?_
        refine lv_iconst (v := (nI 2)) hx hb dL_law_187 (by decide +kernel) ?_
        refine fw_iadd hx hb dL_law_188 ?_
        refine fw_sld hx hb hX hbl hbA hS (by omega) (by omega) dL_law_189 ?_
        refine fd_cVl (wr := fd_wX bx bp b0 b1 b2 b3 b4 dA n P nn2 L2 lv2 N2 row2) (rest := [.long r1]) ⟨hx, hb, hml, hown, hts⟩ (met_mmost l D dA dB bm br bc n P2 K kn bb cm (xs (i + 1)) (xs (i + 2)) hn0 hn hPb2 hPd2 hkn hko _) 2 q140 q141 q142 q7 q143 ⟨rfl, rfl⟩ (by decide +kernel) ⟨Nat.le_of_ble_eq_true rfl, Nat.le_of_ble_eq_true rfl⟩ hK hP hD hS hA [0, 1, 2] [3, 4, 5, 6, 7, 8, 9] rfl rfl (by decide) (by decide) (by decide) (ci := 2) (q0 := 0) rfl rfl rfl rfl hl.1 rfl (Nat.le_of_ble_eq_true rfl) dL_law_190 ⟨Nat.le_of_ble_eq_true rfl, Nat.le_of_ble_eq_true rfl⟩ (fun r2 w2 H locs hw2 hP hD hS => ?_)
        obtain ⟨K3, kn3, bb3, cm3⟩ := w2
        obtain ⟨hk1, hk2, hk3⟩ := hw2
        obtain ⟨hj1, hj2⟩ := hw
        have hP : va_P D vwCl (fd_wX bx bp b0 b1 b2 b3 b4 dA n P nn2 L2 lv2 N2 row2 ++ fd_wM bm br bc dA dB n P2 K3 kn3 bb3 cm3) H := hP
        have hD : va_D (fun q : Nat => s.heap.size ≤ q) (fd_wX bx bp b0 b1 b2 b3 b4 dA n P nn2 L2 lv2 N2 row2 ++ fd_wM bm br bc dA dB n P2 K3 kn3 bb3 cm3) := hD
        have heq : r1 = r2 := by
          by_cases huv : fd_pos (xs (i + 1)) % n = fd_pos (xs (i + 2)) % n
          · rw [hj1 huv, hk2 huv]
          · obtain ⟨size, lv5, q1, q2⟩ := hj2 huv
            obtain ⟨K5, b5, cm5, q3, q4, q5⟩ := hk3 huv
            obtain ⟨q6, q7⟩ := fd_agree hn hPP hu q2 q3 q4
            rw [q1, q5, q6, fd_zL_nat]
        refine fw_lcmp_eq (tgt := 232) hx hb  dL_law_193 dL_law_194 (by decide) (fun c2 => ?_) (fun c2 => ?_)
        · refine lv_iinc (v := nI (i + 4)) (lv' := [(3, .int (nI (i + 4))), (0, .ref b), (1, .ref bx), (2, .ref bm)]) hx hb dL_law_232 hl (k := 3) rfl (nI_add _ 4) (by decide) rfl (fun ls hl => ?_)
          refine lv_goto (tgt := 18) hx hb dL_law_235 (by decide) ?_
          exact ih (i + 4) n P P2 nn2 L2 lv2 N2 row2 K3 kn3 bb3 cm3 (by omega) (by omega) (fd_Inv_K hI hk1) H locs ls hP hD hS (lv_sub hl [1, 2, 3, 0] rfl)
        · exact absurd heq c2
      · subst e0
        refine lv_tableIn (off := 167) (tgt := 199) hx hb dL_law_32 (by decide +kernel) (by decide +kernel) (by decide +kernel) (by decide) ?_
        have hu : fd_pos (xs (i + 1)) % n < n := Nat.mod_lt _ (by omega)
        have hv : fd_pos (xs (i + 2)) % n < n := Nat.mod_lt _ (by omega)
        refine lv_aload_n hx hb dL_law_199 rfl (lv_at hl 1 rfl) ?_
        refine lv_aload_n hx hb dL_law_200 rfl (lv_at hl 0 rfl) ?_
        refine lv_iload_n hx hb dL_law_201 rfl (lv_at hl 3 rfl) ?_
        refine lv_iconst (v := (nI 1)) hx hb dL_law_202 (by decide +kernel) ?_
        refine fw_iadd hx hb dL_law_203 ?_
        refine fw_sld hx hb hX hbl hbA hS (by omega) (by omega) dL_law_204 ?_
        refine lv_aload_n hx hb dL_law_205 rfl (lv_at hl 0 rfl) ?_
        refine lv_iload_n hx hb dL_law_206 rfl (lv_at hl 3 rfl) ?_
        refine lv_iconst (v := (nI 2)) hx hb dL_law_207 (by decide +kernel) ?_
        refine fw_iadd hx hb dL_law_208 ?_
        refine fw_sld hx hb hX hbl hbA hS (by omega) (by omega) dL_law_209 ?_
        refine fd_cVi (wr := fd_wM bm br bc dA dB n P2 K kn bb cm) (rest := []) ⟨hx, hb, hml, hown, hts⟩ (met_side l D dA dB bx bp b0 b1 b2 b3 b4 n nn P Lr lv N row (xs (i + 1)) (xs (i + 2)) hn0 hn hPb _) 2 q96 q97 q98 q5 q99 ⟨rfl, rfl⟩ (by decide +kernel) ⟨Nat.le_of_ble_eq_true rfl, Nat.le_of_ble_eq_true rfl⟩ hK hP hD hS hA [0, 1, 2, 3, 4, 5, 6] [7, 8, 9] rfl rfl (by decide) (by decide) (by decide) (ci := 0) (q0 := 0) rfl rfl rfl rfl hl.1 rfl (Nat.le_of_ble_eq_true rfl) dL_law_210 ⟨Nat.le_of_ble_eq_true rfl, Nat.le_of_ble_eq_true rfl⟩ (fun r1 w H locs hw hP hD hS => ?_)
        obtain ⟨nn2, L2, lv2, N2, row2⟩ := w
        have hP : va_P D vwCl (fd_wM bm br bc dA dB n P2 K kn bb cm ++ fd_wX bx bp b0 b1 b2 b3 b4 dA n P nn2 L2 lv2 N2 row2) H := hP
        have hD : va_D (fun q : Nat => s.heap.size ≤ q) (fd_wM bm br bc dA dB n P2 K kn bb cm ++ fd_wX bx bp b0 b1 b2 b3 b4 dA n P nn2 L2 lv2 N2 row2) := hD
        refine lv_aload_n hx hb dL_law_213 rfl (lv_at hl 2 rfl) ?_
        refine lv_aload_n hx hb dL_law_214 rfl (lv_at hl 0 rfl) ?_
        refine lv_iload_n hx hb dL_law_215 rfl (lv_at hl 3 rfl) ?_
        refine lv_iconst (v := (nI 1)) hx hb dL_law_216 (by decide +kernel) ?_
        refine fw_iadd hx hb dL_law_217 ?_
        refine fw_sld hx hb hX hbl hbA hS (by omega) (by omega) dL_law_218 ?_
        refine lv_aload_n hx hb dL_law_219 rfl (lv_at hl 0 rfl) ?_
        refine lv_iload_n hx hb dL_law_220 rfl (lv_at hl 3 rfl) ?_
        refine lv_iconst (v := (nI 2)) hx hb dL_law_221 (by decide +kernel) ?_
        refine fw_iadd hx hb dL_law_222 ?_
        refine fw_sld hx hb hX hbl hbA hS (by omega) (by omega) dL_law_223 ?_
        refine fd_cVi (wr := fd_wX bx bp b0 b1 b2 b3 b4 dA n P nn2 L2 lv2 N2 row2) (rest := [.int r1]) ⟨hx, hb, hml, hown, hts⟩ (met_mside l D dA dB bm br bc n P2 K kn bb cm (xs (i + 1)) (xs (i + 2)) hn0 hn hPb2 hPd2 hkn hko _) 2 q153 q154 q155 q7 q156 ⟨rfl, rfl⟩ (by decide +kernel) ⟨Nat.le_of_ble_eq_true rfl, Nat.le_of_ble_eq_true rfl⟩ hK hP hD hS hA [0, 1, 2] [3, 4, 5, 6, 7, 8, 9] rfl rfl (by decide) (by decide) (by decide) (ci := 2) (q0 := 0) rfl rfl rfl rfl hl.1 rfl (Nat.le_of_ble_eq_true rfl) dL_law_224 ⟨Nat.le_of_ble_eq_true rfl, Nat.le_of_ble_eq_true rfl⟩ (fun r2 w2 H locs hw2 hP hD hS => ?_)
        obtain ⟨K3, kn3, bb3, cm3⟩ := w2
        obtain ⟨hk1, hk2, hk3⟩ := hw2
        obtain ⟨hj1, hj2⟩ := hw
        have hP : va_P D vwCl (fd_wX bx bp b0 b1 b2 b3 b4 dA n P nn2 L2 lv2 N2 row2 ++ fd_wM bm br bc dA dB n P2 K3 kn3 bb3 cm3) H := hP
        have hD : va_D (fun q : Nat => s.heap.size ≤ q) (fd_wX bx bp b0 b1 b2 b3 b4 dA n P nn2 L2 lv2 N2 row2 ++ fd_wM bm br bc dA dB n P2 K3 kn3 bb3 cm3) := hD
        have heq : r1 = r2 := by
          by_cases huv : fd_pos (xs (i + 1)) % n = fd_pos (xs (i + 2)) % n
          · rw [hj1 huv, hk2 huv]
          · obtain ⟨size, lv5, q1, q2⟩ := hj2 huv
            obtain ⟨K5, b5, cm5, q3, q4, q5⟩ := hk3 huv
            obtain ⟨q6, q7⟩ := fd_agree hn hPP hu q2 q3 q4
            rw [q1, q5, q7]
        refine lv_icmp_eq (tgt := 232) hx hb dL_law_227 (by decide) (fun c2 => ?_) (fun c2 => ?_)
        · refine lv_iinc (v := nI (i + 4)) (lv' := [(3, .int (nI (i + 4))), (0, .ref b), (1, .ref bx), (2, .ref bm)]) hx hb dL_law_232 hl (k := 3) rfl (nI_add _ 4) (by decide) rfl (fun ls hl => ?_)
          refine lv_goto (tgt := 18) hx hb dL_law_235 (by decide) ?_
          exact ih (i + 4) n P P2 nn2 L2 lv2 N2 row2 K3 kn3 bb3 cm3 (by omega) (by omega) (fd_Inv_K hI hk1) H locs ls hP hD hS (lv_sub hl [1, 2, 3, 0] rfl)
        · exact absurd heq c2
      · refine lv_tableOut (tgt := 232) hx hb dL_law_32 (Or.inr (by rw [nI_toInt (by omega)]; omega)) (by decide) ?_
        refine lv_iinc (v := nI (i + 4)) (lv' := [(3, .int (nI (i + 4))), (0, .ref b), (1, .ref bx), (2, .ref bm)]) hx hb dL_law_232 hl (k := 3) rfl (nI_add _ 4) (by decide) rfl (fun ls hl => ?_)
        refine lv_goto (tgt := 18) hx hb dL_law_235 (by decide) ?_
        exact ih (i + 4) n P P2 nn Lr lv N row K kn bb cm (by omega) (by omega) hI H locs ls hP hD hS (lv_sub hl [1, 2, 3, 0] rfl)
set_option maxHeartbeats 4000000 in
set_option maxRecDepth 100000 in
/-- from the entry, for every script of at most 256 ints, the law comes to its end with true -/
theorem whole_start {p : Program} {e : Env} {s : State} {m : MethodId} {below : List Frame} {meth : Method} {c : Code} (l : Launch) {b L : Nat} {xs : Nat → Int32} (hL : L ≤ 256) (C0 : lw_At p s m meth c b L xs) : W p l e room_1 s m #[Value.ref b] below meth c s.heap [] 0 0 (lw_Z below #[Value.ref b] s) (entryFrame m ([Value.ref b] : List Value).toArray 4) := by
  obtain ⟨hx, hb, hr, hml, hown, hts0, hX, hbl, hlocks, hgv⟩ := id C0
  have hts : ∀ w ∈ lw_all, w.before #[Value.ref b] s = true := fun w h => hts0 w (lw_all_tbl h)
  have hA : ∀ q : Nat, s.heap.size ≤ q → (fun q : Nat => s.heap.size ≤ q) q := fun _ h => h
  obtain ⟨c0_, iS0, hKn0⟩ := u_known (C := RX0) (T := TX0) (N := 3) (n := 3) hts in_X0 (hts _ q10)
  obtain ⟨c1_, iS1, hKn1⟩ := u_known (C := RX1) (T := TX1) (N := 5) (n := 5) hts in_X1 (hts _ q18)
  obtain ⟨c2_, iS2, hKn2⟩ := u_known (C := RX2) (T := TX2) (N := 6) (n := 6) hts in_X2 (hts _ q101)
  obtain ⟨dA, kA, pA, hA1, hA2, hA3⟩ := Cond.arrayClass_spec (hts _ q42)
  obtain ⟨dB, kB, pB, hB1, hB2, hB3⟩ := Cond.arrayClass_spec (hts _ q125)
  obtain ⟨D, hKc⟩ : ∃ D : va_G, ∀ (k : Nat) (q : vw_C), vwCl[k]? = some q → u_Kn s q.1 q.2.1 q.2.2 (D.1 k) (D.2 k) := by
    refine ⟨(fun k => if k = 0 then c0_ else if k = 1 then c1_ else c2_, fun k => if k = 0 then iS0 else if k = 1 then iS1 else iS2), ?_⟩
    intro k q hq
    match k, hq with
    | 0, hq => cases hq; exact hKn0
    | 1, hq => cases hq; exact hKn1
    | 2, hq => cases hq; exact hKn2
    | k + 3, hq => simp [vwCl] at hq
  have hK : va_K D vwCl (fd_ty dA dB) s := by
    refine ⟨hKc, fun k q hq => ?_⟩
    match k, hq with
    | 0, hq => cases hq; exact ⟨fun n z => ⟨fun k h => (by cases h), kA, hA2, pA, hA3⟩, hA1⟩
    | 1, hq => cases hq; exact ⟨fun n z => ⟨fun k h => (by cases h), kB, hB2, pB, hB3⟩, hB1⟩
    | k + 2, hq => simp [fd_ty] at hq
  have hS : va_S (fun q : Nat => s.heap.size ≤ q) s.heap s.heap [] := va_S.rf
  have hP : va_P D vwCl [] s.heap := fun k q h => by simp at h
  have hD : va_D (fun q : Nat => s.heap.size ≤ q) [] := ⟨fun i j p q h => by simp at h, fun k q h => by simp at h⟩
  have hl := lv_entry ([.ref b]) (n := 4) (Nat.le_of_ble_eq_true rfl)
  rw [lg_entry_eq]
  generalize (lg_sl ([.ref b]) ++ List.replicate (4 - (lg_sl ([.ref b])).length) Slot.unset).toArray = ls at hl ⊢
  have hl : lv_has ls 4 [(0, .ref b)] := hl
  refine va_new (ci := 0) (fs := [.null, .null, .int (nI 0)]) (C := RX0) (T := TX0) (N := 3) hx hb hts in_X0 tyX0 tyX0_ok hown (hts _ q9) (hts _ q10) (hts _ q5) hK hP hD hS hA rfl (fun j hj => by rcases (show j = 0 ∨ j = 1 ∨ j = 2 by omega) with rfl | rfl | rfl <;> rfl) (Nat.le_of_ble_eq_true rfl) (Nat.le_of_ble_eq_true rfl) dL_law_0 (fun bx H hP hD hS => ?_)
  have hP : va_P D vwCl ([(bx, .inr (0, [.null, .null, .int (nI 0)]))]) H := hP
  have hD : va_D (fun q : Nat => s.heap.size ≤ q) ([(bx, .inr (0, [.null, .null, .int (nI 0)]))]) := hD
  refine lv_dup hx hb dL_law_3 rfl ?_
  refine fd_cIX (X := va_Nw (.methodLinkNest "FlowDesk" 15 yX1_init "FlowDesk")) (As := []) (wr := []) (rest := [.ref bx]) (fun U g mk a h => va_Nw.same (u := U) (U := U.calling g mk a) rfl rfl h) (fun U hW => va_Nw.warmM hW (va_Nw.of rfl (hts0 _ q19))) ⟨hx, hb, hml, hown, hts⟩ (met_init l D dA dB bx _) 0 q11 q12 q5 q13 rfl ⟨rfl, rfl⟩ (by decide +kernel) ⟨Nat.le_of_ble_eq_true rfl, Nat.le_of_ble_eq_true rfl⟩ hK hP hD hS hA [0] [] rfl rfl (by decide) (by decide) (by decide) rfl hl.1 rfl (Nat.le_of_ble_eq_true rfl) dL_law_4 ⟨Nat.le_of_ble_eq_true rfl, Nat.le_of_ble_eq_true rfl⟩ (fun w H locs hw hP hD hS => ?_)
  obtain ⟨bp, b0, b1, b2, b3, b4⟩ := w
  have hP : va_P D vwCl (fd_wX bx bp b0 b1 b2 b3 b4 dA 2 (fun _ => 0) 0 (fun _ => 0) (fun _ => 1) (fun _ => 0) (fun _ => 0)) H := hP
  have hD : va_D (fun q : Nat => s.heap.size ≤ q) (fd_wX bx bp b0 b1 b2 b3 b4 dA 2 (fun _ => 0) 0 (fun _ => 0) (fun _ => 1) (fun _ => 0) (fun _ => 0)) := hD
  refine lv_astore_n (lv' := [(1, .ref bx), (0, .ref b)]) hx hb dL_law_7 rfl hl (by decide) rfl (fun ls hl => ?_)
  refine va_new (ci := 2) (fs := [.null, .int (nI 0), .null, .int (nI 0), .long (fd_zL 0), .int (nI 0)]) (C := RX2) (T := TX2) (N := 6) hx hb hts in_X2 tyX2 tyX2_ok hown (hts _ q100) (hts _ q101) (hts _ q7) hK hP hD hS hA rfl (fun j hj => by rcases (show j = 0 ∨ j = 1 ∨ j = 2 ∨ j = 3 ∨ j = 4 ∨ j = 5 by omega) with rfl | rfl | rfl | rfl | rfl | rfl <;> rfl) (Nat.le_of_ble_eq_true rfl) (Nat.le_of_ble_eq_true rfl) dL_law_8 (fun bm H hP hD hS => ?_)
  have hP : va_P D vwCl (fd_wX bx bp b0 b1 b2 b3 b4 dA 2 (fun _ => 0) 0 (fun _ => 0) (fun _ => 1) (fun _ => 0) (fun _ => 0) ++ [(bm, .inr (2, [.null, .int (nI 0), .null, .int (nI 0), .long (fd_zL 0), .int (nI 0)]))]) H := hP
  have hD : va_D (fun q : Nat => s.heap.size ≤ q) (fd_wX bx bp b0 b1 b2 b3 b4 dA 2 (fun _ => 0) 0 (fun _ => 0) (fun _ => 1) (fun _ => 0) (fun _ => 0) ++ [(bm, .inr (2, [.null, .int (nI 0), .null, .int (nI 0), .long (fd_zL 0), .int (nI 0)]))]) := hD
  refine lv_dup hx hb dL_law_11 rfl ?_
  refine fd_cI (ret := none) (As := []) (wr := fd_wX bx bp b0 b1 b2 b3 b4 dA 2 (fun _ => 0) 0 (fun _ => 0) (fun _ => 1) (fun _ => 0) (fun _ => 0)) (rest := [.ref bm]) ⟨hx, hb, hml, hown, hts⟩ (met_minit l D dA dB bm _) 0 q102 q103 q7 q104 rfl ⟨rfl, rfl⟩ (by decide +kernel) ⟨Nat.le_of_ble_eq_true rfl, Nat.le_of_ble_eq_true rfl⟩ hK hP hD hS hA [7] [0, 1, 2, 3, 4, 5, 6] rfl rfl (by decide) (by decide) (by decide) rfl hl.1 rfl (Nat.le_of_ble_eq_true rfl) dL_law_12 ⟨Nat.le_of_ble_eq_true rfl, Nat.le_of_ble_eq_true rfl⟩ (fun w H locs hw hP hD hS => ?_)
  obtain ⟨br, bc⟩ := w
  have hP : va_P D vwCl (fd_wX bx bp b0 b1 b2 b3 b4 dA 2 (fun _ => 0) 0 (fun _ => 0) (fun _ => 1) (fun _ => 0) (fun _ => 0) ++ fd_wM bm br bc dA dB 2 (fun _ => 0) (fun _ => 0) 0 0 0) H := hP
  have hD : va_D (fun q : Nat => s.heap.size ≤ q) (fd_wX bx bp b0 b1 b2 b3 b4 dA 2 (fun _ => 0) 0 (fun _ => 0) (fun _ => 1) (fun _ => 0) (fun _ => 0) ++ fd_wM bm br bc dA dB 2 (fun _ => 0) (fun _ => 0) 0 0 0) := hD
  refine lv_astore_n (lv' := [(2, .ref bm), (1, .ref bx), (0, .ref b)]) hx hb dL_law_15 rfl hl (by decide) rfl (fun ls hl => ?_)
  refine lv_iconst (v := (nI 0)) hx hb dL_law_16 (by decide +kernel) ?_
  refine lv_istore_n (lv' := [(3, .int (nI 0)), (2, .ref bm), (1, .ref bx), (0, .ref b)]) hx hb dL_law_17 rfl hl (by decide) rfl (fun ls hl => ?_)
  exact law_loop hL C0 hK (L + 5) 0 2 (fun _ => 0) (fun _ => 0) 0 (fun _ => 0) (fun _ => 1) (fun _ => 0) (fun _ => 0) (fun _ => 0) 0 0 0 (by omega) (by omega) (fd_Inv_0 (by omega) (by omega) (fun _ _ => rfl) (fun _ _ => rfl)) H locs ls hP hD hS (lv_sub hl [3, 2, 1, 0] rfl)
end
section
set_option maxHeartbeats 4000000 in
theorem lw_walk (l : Launch) (b : Addr) (xs : List Int32) : MetFree l x (headSpec (Jvm.Cond.code x code maxLocals ret :: tables_1) room_1) (lw_P b xs) (fun _ _ _ _ _ => True) lw_Q := by
  refine MetFree.of_bodyS (code := code) (maxLocals := maxLocals) (ret := ret) (by decide) ?_ ?_
  · intro args s m h hn
    obtain ⟨meth, c, h1, h2, h3, h4, h5, h6, -, -⟩ := Cond.code_spec hn (atoms_spec (ws := Jvm.Cond.code x code maxLocals ret :: tables_1) h _ List.mem_cons_self)
    exact ⟨meth, c, h1, h2, h3, h4, h5, h6⟩
  · intro p e s m args below meth c s₁ B hml0 hP _
    obtain ⟨rfl, hx, hbd, hgv⟩ := hP
    obtain ⟨scr, harrAt, hlist, hof, hsmall⟩ := hx
    obtain ⟨hcb, hkn, -, -⟩ := State.arrayAt?_spec harrAt
    have hown : s.vm.findClass R_law = some m.cls := findClass_of_methodNamed B.named
    have hts0 : ∀ c ∈ (Jvm.Cond.code x code maxLocals ret :: tables_1), c.before #[Value.ref b] s = true := atoms_spec (ws := Jvm.Cond.code x code maxLocals ret :: tables_1) B.pre
    have hts : ∀ w ∈ lw_tbl, w.before #[Value.ref b] s = true := k2_hts_sels lw_privs (fun w hw => hts0 w (List.mem_cons_of_mem _ hw)) lw_privs_ok
    have hml : c.maxLocals = 4 := B.maxLocals_eq (hts0 _ List.mem_cons_self)
    have X₀ : Stand p l e room_1 s m #[Value.ref b] below meth c s₁ [] 0 0 := Stand.of_body B
    have hh0 : s₁.heap = s.heap := by rw [B.state]; rfl
    have hsz : scr.slots.size = xs.length := by rw [← Array.length_toList, hlist, List.length_map]
    have hval : ∀ j : Nat, j < xs.length → scr.slots[j]? = some (.int (xs.getD j 0)) := fun j hj => by
      rw [← Array.getElem?_toList, hlist]
      simp [hj]
    have hbl : b < s.heap.size := (Array.getElem?_eq_some_iff.mp hcb).1
    have hX : va_X b xs.length (fun j => xs.getD j 0) s s.heap := ⟨scr, hcb, hof, hkn, hsz, hval⟩
    have K : W p l e room_1 s m #[Value.ref b] below meth c s₁.heap [] 0 0 (lw_Z below #[Value.ref b] s) (entryFrame m ([Value.ref b] : List Value).toArray 4) := by
      rw [hh0]
      exact whole_start l hbd ⟨B.exec, B.bytes, B.returns, hml, hown, hts, hX, hbl, B.notSynchronized, hgv⟩
    obtain ⟨t, a1, o, b1, b2, b3⟩ := K s₁ rfl X₀
    exact ⟨t, o, a1, b1, b2, b3⟩
theorem lw_pre_spec {args : Array Value} {s : State} (h : (Jvm.Cond.and given_1 narrow_1).before args s = true) (hr : rest_1_c.before args s = true) : ∃ (b : Addr) (xs : List Int32), lw_P b xs args s := by
  have hs := flat_of_before _ h
  have hq := flat_of_before _ hr
  have hc : (Cond.count 1).before args s = true := hs _ (by decide +kernel)
  have harr : (Cond.arrayOf (.arg 0) .int).before args s = true := hs _ (by decide +kernel)
  have hle : (Cond.le (.length (.arg 0)) (.int 256)).before args s = true := hs _ (by decide +kernel)
  have hlen : (Cond.isInt (.length (.arg 0))).before args s = true := hq _ (by decide +kernel)
  have hall : (Cond.all (.arg 0) (.isInt (.elem (.arg 0) (.index 0)))).before args s = true := hq _ (by decide +kernel)
  obtain ⟨b, xs, hb, hx⟩ := State.ints_of_pre rfl harr hlen hall
  have hsm : xs.length < 2 ^ 31 := hx.choose_spec.2.2.2
  have hev : (Term.length (.arg 0)).eval args s none [] s = some (.int xs.length.toInt32) := hx.length_eval hb
  have hv := Cond.le_ints hev (show (Term.int 256).eval args s none [] s = some (.int 256) from rfl)
  have hd : xs.length.toInt32 ≤ 256 := by
    simpa [Cond.before, Cond.holds, hv] using hle
  have hN : xs.length ≤ 256 := (Int32.ofNat_le_ofNat hsm (by decide)).mp (show Int32.ofNat xs.length ≤ Int32.ofNat 256 from hd)
  exact ⟨b, xs, Cond.one_arg hc (show args[0]? = some (.ref b) from hb), hx, hN, h⟩
theorem lw_comes (l : Launch) : Comes l x (Jvm.Cond.code x code maxLocals ret :: tables_1) room_1 (fun tb e args s => Calls_1 tb e args s ∧ rest_1 tb e args s ∧ Pre_1 tb e args s)
    (fun _ _ args s o t => lw_Q args s o t) := by
  intro p e ha hc hk s m args below hf hfit hheap happ hpre
  obtain ⟨b, xs, hP⟩ := lw_pre_spec hpre.2.2 hpre.2.1
  obtain ⟨k, o, h1, h2, h3, hQ⟩ := lw_walk l b xs p e ha hc hk s m args below hf ((Spec.applies_iff_loose hf).mp happ).1 hP trivial
  exact ⟨k, o, h1, h2, h3, hQ⟩
theorem lw_frame {s t : State} {o : Outcome} {args : Array Value} (h : Framed s o t [] 600000 7302250) :
    Framed s o t (fieldLocs frame_1_writes args s ++ arrayLocs frame_1_arrays args s ++ staticLocs frame_1_statics s) 600000 7302250 := h
theorem lw_limb (L : Cond) (hL : ∀ (args : Array Value) (s t : State), L.after args s (.returned (some (.int 1))) t = true) :
    ArmFor flags0 classFile x code maxLocals ret World_1 tables_1 room_1 Calls_1 rest_1 Pre_1
      (fun tb e a s o t => postC L tb e a s o t ∧ Framed s o t (fieldLocs frame_1_writes a s ++ arrayLocs frame_1_arrays a s ++ staticLocs frame_1_statics s) 600000 7302250) := by
  intro l _ _ _ p e ha hc hk s m args below hf hfit hheap happ hpre
  obtain ⟨k, o, h1, h2, h3, rfl, hF⟩ := lw_comes l p e ha hc hk s m args below hf hfit hheap happ hpre
  exact ⟨k, _, h1, h2, h3, hL args s _, lw_frame hF⟩
theorem i_vc : Claimed_1_1 ∧ Claimed_1_2 := ⟨lw_limb limb_1_1 (fun args s t => by simp [limb_1_1, Cond.after, Cond.holds, Cond.value]), lw_limb limb_1_2 (fun args s t => Cond.after_iff.mpr (by
  first | (rw [show limb_1_2 = Cond.eq .result (.int 1) from rfl, Cond.eq_ints (x := 1) (y := 1) rfl rfl]; simp; done) | (simp [limb_1_2, Cond.value, Term.eval]; done)))⟩
end
