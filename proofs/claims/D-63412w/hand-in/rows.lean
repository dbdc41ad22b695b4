section
-- ===== PART A: goes FIRST, ahead of the names: the tables' words, and 'selects' of the private methods out of them =====
/-- a private method of a class that the tables say can be made, by its rows of tables_1 -/
def lw_okq (q : MethodName × Nat) : Prop := (q.1.cls ≠ "java/lang/invoke/MethodHandle" ∧ q.1.cls ≠ "java/lang/invoke/VarHandle") ∧ Cond.instantiable q.1.cls q.2 ∈ tables_1 ∧ Cond.privateMethod q.1 ∈ tables_1 ∧ Cond.instanceMethod q.1 ∈ tables_1
set_option maxRecDepth 100000
theorem lw_p0 : lw_okq (⟨"OrderedRoom", "setOut", "(II)V"⟩, 13) := ⟨⟨by decide +kernel, by decide +kernel⟩, List.mem_of_getElem? (i := 4) rfl, List.mem_of_getElem? (i := 60) rfl, List.mem_of_getElem? (i := 61) rfl⟩
theorem lw_p1 : lw_okq (⟨"OrderedRoom", "push", "(II)V"⟩, 13) := ⟨⟨by decide +kernel, by decide +kernel⟩, List.mem_of_getElem? (i := 4) rfl, List.mem_of_getElem? (i := 64) rfl, List.mem_of_getElem? (i := 65) rfl⟩
theorem lw_p2 : lw_okq (⟨"OrderedRoom", "isEarlier", "(II)Z"⟩, 13) := ⟨⟨by decide +kernel, by decide +kernel⟩, List.mem_of_getElem? (i := 4) rfl, List.mem_of_getElem? (i := 68) rfl, List.mem_of_getElem? (i := 69) rfl⟩
theorem lw_p3 : lw_okq (⟨"OrderedRoom", "readOn", "(I)I"⟩, 13) := ⟨⟨by decide +kernel, by decide +kernel⟩, List.mem_of_getElem? (i := 4) rfl, List.mem_of_getElem? (i := 72) rfl, List.mem_of_getElem? (i := 73) rfl⟩
theorem lw_p4 : lw_okq (⟨"OrderedRoom", "isSafe", "(II)Z"⟩, 13) := ⟨⟨by decide +kernel, by decide +kernel⟩, List.mem_of_getElem? (i := 4) rfl, List.mem_of_getElem? (i := 76) rfl, List.mem_of_getElem? (i := 77) rfl⟩
theorem lw_p5 : lw_okq (⟨"OrderedRoom", "pop", "(I)V"⟩, 13) := ⟨⟨by decide +kernel, by decide +kernel⟩, List.mem_of_getElem? (i := 4) rfl, List.mem_of_getElem? (i := 80) rfl, List.mem_of_getElem? (i := 81) rfl⟩
theorem lw_p6 : lw_okq (⟨"OrderedRoomModel", "setOut", "(II)V"⟩, 12) := ⟨⟨by decide +kernel, by decide +kernel⟩, List.mem_of_getElem? (i := 116) rfl, List.mem_of_getElem? (i := 167) rfl, List.mem_of_getElem? (i := 168) rfl⟩
theorem lw_p7 : lw_okq (⟨"OrderedRoomModel", "full", "(I)Z"⟩, 12) := ⟨⟨by decide +kernel, by decide +kernel⟩, List.mem_of_getElem? (i := 116) rfl, List.mem_of_getElem? (i := 175) rfl, List.mem_of_getElem? (i := 176) rfl⟩
theorem lw_p8 : lw_okq (⟨"OrderedRoomModel", "readAll", "(I)I"⟩, 12) := ⟨⟨by decide +kernel, by decide +kernel⟩, List.mem_of_getElem? (i := 116) rfl, List.mem_of_getElem? (i := 183) rfl, List.mem_of_getElem? (i := 184) rfl⟩
theorem lw_p9 : lw_okq (⟨"OrderedRoomModel", "earliest", "(I)I"⟩, 12) := ⟨⟨by decide +kernel, by decide +kernel⟩, List.mem_of_getElem? (i := 116) rfl, List.mem_of_getElem? (i := 187) rfl, List.mem_of_getElem? (i := 188) rfl⟩
theorem lw_p10 : lw_okq (⟨"OrderedRoomModel", "earlier", "(IIII)Z"⟩, 12) := ⟨⟨by decide +kernel, by decide +kernel⟩, List.mem_of_getElem? (i := 116) rfl, List.mem_of_getElem? (i := 191) rfl, List.mem_of_getElem? (i := 192) rfl⟩
theorem lw_p11 : lw_okq (⟨"OrderedRoomModel", "ready", "(II)Z"⟩, 12) := ⟨⟨by decide +kernel, by decide +kernel⟩, List.mem_of_getElem? (i := 116) rfl, List.mem_of_getElem? (i := 195) rfl, List.mem_of_getElem? (i := 196) rfl⟩
def lw_privs_1 : List (MethodName × Nat) := [(⟨"OrderedRoom", "setOut", "(II)V"⟩, 13), (⟨"OrderedRoom", "push", "(II)V"⟩, 13), (⟨"OrderedRoom", "isEarlier", "(II)Z"⟩, 13), (⟨"OrderedRoom", "readOn", "(I)I"⟩, 13), (⟨"OrderedRoom", "isSafe", "(II)Z"⟩, 13), (⟨"OrderedRoom", "pop", "(I)V"⟩, 13), (⟨"OrderedRoomModel", "setOut", "(II)V"⟩, 12), (⟨"OrderedRoomModel", "full", "(I)Z"⟩, 12), (⟨"OrderedRoomModel", "readAll", "(I)I"⟩, 12), (⟨"OrderedRoomModel", "earliest", "(I)I"⟩, 12), (⟨"OrderedRoomModel", "earlier", "(IIII)Z"⟩, 12), (⟨"OrderedRoomModel", "ready", "(II)Z"⟩, 12)]
theorem lw_r1 : ∀ q ∈ lw_privs_1, lw_okq q := List.forall_mem_cons.mpr ⟨lw_p0, List.forall_mem_cons.mpr ⟨lw_p1, List.forall_mem_cons.mpr ⟨lw_p2, List.forall_mem_cons.mpr ⟨lw_p3, List.forall_mem_cons.mpr ⟨lw_p4, List.forall_mem_cons.mpr ⟨lw_p5, List.forall_mem_cons.mpr ⟨lw_p6, List.forall_mem_cons.mpr ⟨lw_p7, List.forall_mem_cons.mpr ⟨lw_p8, List.forall_mem_cons.mpr ⟨lw_p9, List.forall_mem_cons.mpr ⟨lw_p10, List.forall_mem_cons.mpr ⟨lw_p11, fun _ h => absurd h List.not_mem_nil⟩⟩⟩⟩⟩⟩⟩⟩⟩⟩⟩⟩
def lw_privs : List (MethodName × Nat) := lw_privs_1
def lw_tbl : List Cond := k2_sels lw_privs ++ tables_1
theorem lw_privs_ok : ∀ q ∈ lw_privs, lw_okq q := lw_r1
-- ===== ONE list of words for every method: the tables' words that hold all through a run =====
def lw_all : List Cond := lw_tbl.filter goodWord
/-- a word of the tables by its place: claim/WORDS.tsv -/
theorem lw_w {w : Cond} (i : Nat) (h : lw_tbl[i]? = some w) (g : goodWord w = true) : w ∈ lw_all := List.mem_filter.mpr ⟨List.mem_of_getElem? h, g⟩
theorem lw_all_tbl {w : Cond} (h : w ∈ lw_all) : w ∈ lw_tbl := (List.mem_filter.mp h).1
theorem lw_self : GoodIn lw_all lw_all := fun w h => ⟨h, good_of_word (List.mem_filter.mp h).2⟩
/-- a class's field words, by their places -/
theorem lw_in (ws : List Cond) (ps : List Nat) (hp : ws = ps.filterMap (fun i => lw_tbl[i]?)) (hg : ws.all goodWord = true) : ∀ w ∈ ws, w ∈ lw_all := by
  intro w h
  have h1 := List.all_eq_true.mp hg w h
  rw [hp] at h
  obtain ⟨i, -, hi⟩ := List.mem_filterMap.mp h
  exact lw_w i hi h1
/-- the words of a contract for the method y with code b, L locals, answer r -/
abbrev ws_ (y : MethodName) (b : ByteArray) (L : Nat) (r : Option FieldType) : List Cond := Cond.code y b L r :: lw_all
theorem lw_meth {y : MethodName} {b : ByteArray} {L : Nat} {r : Option FieldType} (h : Cond.code y b L r ∈ lw_all) : GoodIn lw_all (ws_ y b L r) := by
  intro w hw
  rcases List.mem_cons.mp hw with e | e
  · rw [e]
    exact lw_self _ h
  · exact lw_self _ e
theorem lw_app {a c : List Cond} (ha : ∀ w ∈ a, w ∈ lw_all) (hc : GoodIn lw_all c) : GoodIn lw_all (a ++ c) := by
  intro w hw
  rcases List.mem_append.mp hw with e | e
  · exact lw_self w (ha w e)
  · exact hc w e
/-- what a call through an object asks: cwV n hts (lw_V ..) -/
theorem lw_V {own : String} {idx : Nat} {C : String} {y : MethodName} {b : ByteArray} {L : Nat} {r : Option FieldType} (h1 : Cond.methodLink own idx y ∈ lw_all) (h2 : Cond.instanceMethod y ∈ lw_all) (h3 : Cond.selects C y y ∈ lw_all) (h4 : Cond.initialized C ∈ lw_all) (h5 : Cond.code y b L r ∈ lw_all) : GoodIn lw_all (wsV own idx C y (ws_ y b L r)) := by
  refine lw_app ?_ (lw_meth h5)
  intro w hw
  simp only [List.mem_cons, List.not_mem_nil, or_false] at hw
  rcases hw with e | e | e | e
  · rw [e]; exact h1
  · rw [e]; exact h2
  · rw [e]; exact h3
  · rw [e]; exact h4
/-- what a static call asks: va_cwS n hts (lw_S ..) -/
theorem lw_S {own : String} {idx : Nat} {y : MethodName} {b : ByteArray} {L : Nat} {r : Option FieldType} (h1 : Cond.methodLink own idx y ∈ lw_all) (h2 : Cond.static y ∈ lw_all) (h3 : Cond.initialized y.cls ∈ lw_all) (h4 : Cond.code y b L r ∈ lw_all) : GoodIn lw_all (va_wsS own idx y (ws_ y b L r)) := by
  refine lw_app ?_ (lw_meth h4)
  intro w hw
  simp only [List.mem_cons, List.not_mem_nil, or_false] at hw
  rcases hw with e | e | e
  · rw [e]; exact h1
  · rw [e]; exact h2
  · rw [e]; exact h3
/-- the words of a contract for a method WITH HANDLERS (hh: its table) -/
abbrev wsW_ (y : MethodName) (b : ByteArray) (L : Nat) (r : Option FieldType) (hh : List (Nat × Nat × Nat × Nat)) : List Cond := Cond.codeWith y b L r hh :: lw_all
theorem lw_methW {y : MethodName} {b : ByteArray} {L : Nat} {r : Option FieldType} {hh : List (Nat × Nat × Nat × Nat)} (h : Cond.codeWith y b L r hh ∈ lw_all) : GoodIn lw_all (wsW_ y b L r hh) := by
  intro w hw
  rcases List.mem_cons.mp hw with e | e
  · rw [e]
    exact lw_self _ h
  · exact lw_self _ e
/-- any list of words by their places (lw_in), good -/
theorem lw_good {ws : List Cond} (h : ∀ w ∈ ws, w ∈ lw_all) : GoodIn lw_all ws := fun w hw => lw_self w (h w hw)
/-- what a call of a method with handlers asks: vx_cwVW n hts (lw_VW ..), vx_cwSW n hts (lw_SW ..) -/
theorem lw_VW {own : String} {idx : Nat} {C : String} {y : MethodName} {b : ByteArray} {L : Nat} {r : Option FieldType} {hh : List (Nat × Nat × Nat × Nat)} (h1 : Cond.methodLink own idx y ∈ lw_all) (h2 : Cond.instanceMethod y ∈ lw_all) (h3 : Cond.selects C y y ∈ lw_all) (h4 : Cond.initialized C ∈ lw_all) (h5 : Cond.codeWith y b L r hh ∈ lw_all) : GoodIn lw_all (wsV own idx C y (wsW_ y b L r hh)) := by
  refine lw_app ?_ (lw_methW h5)
  intro w hw
  simp only [List.mem_cons, List.not_mem_nil, or_false] at hw
  rcases hw with e | e | e | e
  · rw [e]; exact h1
  · rw [e]; exact h2
  · rw [e]; exact h3
  · rw [e]; exact h4
theorem lw_SW {own : String} {idx : Nat} {y : MethodName} {b : ByteArray} {L : Nat} {r : Option FieldType} {hh : List (Nat × Nat × Nat × Nat)} (h1 : Cond.methodLink own idx y ∈ lw_all) (h2 : Cond.static y ∈ lw_all) (h3 : Cond.initialized y.cls ∈ lw_all) (h4 : Cond.codeWith y b L r hh ∈ lw_all) : GoodIn lw_all (va_wsS own idx y (wsW_ y b L r hh)) := by
  refine lw_app ?_ (lw_methW h4)
  intro w hw
  simp only [List.mem_cons, List.not_mem_nil, or_false] at hw
  rcases hw with e | e | e
  · rw [e]; exact h1
  · rw [e]; exact h2
  · rw [e]; exact h3
/-- a word by its place in its run of the tables -/
theorem lw_at {r : List Cond} (hr : ∀ w ∈ r, w ∈ lw_tbl) {w : Cond} (i : Nat) (h : r[i]? = some w) : w ∈ lw_tbl := hr w (List.mem_of_getElem? h)
theorem lw_g {w : Cond} (h : w ∈ lw_tbl) (g : goodWord w = true) : w ∈ lw_all := List.mem_filter.mpr ⟨h, g⟩
theorem lw_ms : ∀ w ∈ k2_sels lw_privs, w ∈ lw_tbl := fun w h => show w ∈ k2_sels lw_privs ++ tables_1 from List.mem_append_left _ h
theorem lw_m0 : ∀ w ∈ tables_1, w ∈ lw_tbl := fun w h => show w ∈ k2_sels lw_privs ++ tables_1 from List.mem_append_right (k2_sels lw_privs) h
theorem qs0 : (Cond.selects "OrderedRoom" ⟨"OrderedRoom", "setOut", "(II)V"⟩ ⟨"OrderedRoom", "setOut", "(II)V"⟩) ∈ lw_all := lw_g (lw_at lw_ms 0 rfl) rfl
theorem qs1 : (Cond.selects "OrderedRoom" ⟨"OrderedRoom", "push", "(II)V"⟩ ⟨"OrderedRoom", "push", "(II)V"⟩) ∈ lw_all := lw_g (lw_at lw_ms 1 rfl) rfl
theorem qs2 : (Cond.selects "OrderedRoom" ⟨"OrderedRoom", "isEarlier", "(II)Z"⟩ ⟨"OrderedRoom", "isEarlier", "(II)Z"⟩) ∈ lw_all := lw_g (lw_at lw_ms 2 rfl) rfl
theorem qs3 : (Cond.selects "OrderedRoom" ⟨"OrderedRoom", "readOn", "(I)I"⟩ ⟨"OrderedRoom", "readOn", "(I)I"⟩) ∈ lw_all := lw_g (lw_at lw_ms 3 rfl) rfl
theorem qs4 : (Cond.selects "OrderedRoom" ⟨"OrderedRoom", "isSafe", "(II)Z"⟩ ⟨"OrderedRoom", "isSafe", "(II)Z"⟩) ∈ lw_all := lw_g (lw_at lw_ms 4 rfl) rfl
theorem qs5 : (Cond.selects "OrderedRoom" ⟨"OrderedRoom", "pop", "(I)V"⟩ ⟨"OrderedRoom", "pop", "(I)V"⟩) ∈ lw_all := lw_g (lw_at lw_ms 5 rfl) rfl
theorem qs6 : (Cond.selects "OrderedRoomModel" ⟨"OrderedRoomModel", "setOut", "(II)V"⟩ ⟨"OrderedRoomModel", "setOut", "(II)V"⟩) ∈ lw_all := lw_g (lw_at lw_ms 6 rfl) rfl
theorem qs7 : (Cond.selects "OrderedRoomModel" ⟨"OrderedRoomModel", "full", "(I)Z"⟩ ⟨"OrderedRoomModel", "full", "(I)Z"⟩) ∈ lw_all := lw_g (lw_at lw_ms 7 rfl) rfl
theorem qs8 : (Cond.selects "OrderedRoomModel" ⟨"OrderedRoomModel", "readAll", "(I)I"⟩ ⟨"OrderedRoomModel", "readAll", "(I)I"⟩) ∈ lw_all := lw_g (lw_at lw_ms 8 rfl) rfl
theorem qs9 : (Cond.selects "OrderedRoomModel" ⟨"OrderedRoomModel", "earliest", "(I)I"⟩ ⟨"OrderedRoomModel", "earliest", "(I)I"⟩) ∈ lw_all := lw_g (lw_at lw_ms 9 rfl) rfl
theorem qs10 : (Cond.selects "OrderedRoomModel" ⟨"OrderedRoomModel", "earlier", "(IIII)Z"⟩ ⟨"OrderedRoomModel", "earlier", "(IIII)Z"⟩) ∈ lw_all := lw_g (lw_at lw_ms 10 rfl) rfl
theorem qs11 : (Cond.selects "OrderedRoomModel" ⟨"OrderedRoomModel", "ready", "(II)Z"⟩ ⟨"OrderedRoomModel", "ready", "(II)Z"⟩) ∈ lw_all := lw_g (lw_at lw_ms 11 rfl) rfl
end
section
set_option maxRecDepth 100000
/-! java/lang/Object -/
def RJ0 : String := "java/lang/Object"
abbrev cJ0_init : ByteArray := object_method_1_code
def yJ0_init : MethodName := ⟨RJ0, "<init>", "()V"⟩
theorem q21 : (Jvm.Cond.instanceMethod ({ cls := "java/lang/Object", name := "<init>", desc := "()V" } : Jvm.MethodName)) ∈ lw_all := lw_g (lw_at lw_m0 9 rfl) rfl
theorem q22 : (Jvm.Cond.code ({ cls := "java/lang/Object", name := "<init>", desc := "()V" } : Jvm.MethodName) object_method_1_code (1 : Nat) (Option.none : Option Jvm.ClassFile.FieldType)) ∈ lw_all := lw_g (lw_at lw_m0 10 rfl) rfl

theorem dJ0_init_0 : decode cJ0_init 0 = .ok (.return_, 1) := by decide +kernel
/-! OrderedRoom -/
def RX0 : String := "OrderedRoom"
def TX0 : u_T := fun k => match k with
  | 0 => ("OrderedRoom", "messages", "I", false)
  | 1 => ("OrderedRoom", "writer", "[I", true)
  | 2 => ("OrderedRoom", "stamp", "[I", true)
  | 3 => ("OrderedRoom", "thingClock", "[I", true)
  | 4 => ("OrderedRoom", "thingMessage", "[I", true)
  | 5 => ("OrderedRoom", "first", "[I", true)
  | 6 => ("OrderedRoom", "count", "[I", true)
  | 7 => ("OrderedRoom", "clockOf", "[I", true)
  | 8 => ("OrderedRoom", "heard", "[I", true)
  | 9 => ("OrderedRoom", "heapSize", "[I", true)
  | 10 => ("OrderedRoom", "heap", "[I", true)
  | 11 => ("OrderedRoom", "readCount", "[I", true)
  | _ => ("OrderedRoom", "readOnes", "[I", true)
def tyX0 : Nat → FieldType := fun k => match k with
  | 0 => .int
  | 1 => .array .int
  | 2 => .array .int
  | 3 => .array .int
  | 4 => .array .int
  | 5 => .array .int
  | 6 => .array .int
  | 7 => .array .int
  | 8 => .array .int
  | 9 => .array .int
  | 10 => .array .int
  | 11 => .array .int
  | _ => .array .int
abbrev wsX00 : List Cond := u_ws RX0 TX0 13
set_option maxRecDepth 100000 in
theorem nmX0 : ∀ a, a < 13 → ∀ b, b < 13 → a ≠ b → (TX0 a).2.1 ≠ (TX0 b).2.1 := by decide +kernel
set_option maxRecDepth 100000 in
theorem tyX0_ok : ∀ k, k < 13 → parseFieldDescriptor (TX0 k).2.2.1 = some (tyX0 k) := by decide +kernel
abbrev cX0_init : ByteArray := prog_1_method_1_code
def yX0_init : MethodName := ⟨RX0, "<init>", "()V"⟩
abbrev cX0_write : ByteArray := prog_1_method_2_code
def yX0_write : MethodName := ⟨RX0, "write", "(I)I"⟩
abbrev cX0_isMember : ByteArray := prog_1_method_12_code
def yX0_isMember : MethodName := ⟨RX0, "isMember", "(I)Z"⟩
abbrev cX0_setOut : ByteArray := prog_1_method_5_code
def yX0_setOut : MethodName := ⟨RX0, "setOut", "(II)V"⟩
abbrev cX0_push : ByteArray := prog_1_method_16_code
def yX0_push : MethodName := ⟨RX0, "push", "(II)V"⟩
abbrev cX0_isEarlier : ByteArray := prog_1_method_13_code
def yX0_isEarlier : MethodName := ⟨RX0, "isEarlier", "(II)Z"⟩
abbrev cX0_readOn : ByteArray := prog_1_method_14_code
def yX0_readOn : MethodName := ⟨RX0, "readOn", "(I)I"⟩
abbrev cX0_isSafe : ByteArray := prog_1_method_15_code
def yX0_isSafe : MethodName := ⟨RX0, "isSafe", "(II)Z"⟩
abbrev cX0_pop : ByteArray := prog_1_method_17_code
def yX0_pop : MethodName := ⟨RX0, "pop", "(I)V"⟩
abbrev cX0_tick : ByteArray := prog_1_method_3_code
def yX0_tick : MethodName := ⟨RX0, "tick", "(I)I"⟩
abbrev cX0_take : ByteArray := prog_1_method_4_code
def yX0_take : MethodName := ⟨RX0, "take", "(II)I"⟩
abbrev cX0_waiting : ByteArray := prog_1_method_6_code
def yX0_waiting : MethodName := ⟨RX0, "waiting", "(II)I"⟩
abbrev cX0_clock : ByteArray := prog_1_method_7_code
def yX0_clock : MethodName := ⟨RX0, "clock", "(I)I"⟩
abbrev cX0_count : ByteArray := prog_1_method_8_code
def yX0_count : MethodName := ⟨RX0, "count", "(I)I"⟩
abbrev cX0_read : ByteArray := prog_1_method_9_code
def yX0_read : MethodName := ⟨RX0, "read", "(II)I"⟩
abbrev cX0_held : ByteArray := prog_1_method_10_code
def yX0_held : MethodName := ⟨RX0, "held", "(I)I"⟩
abbrev cX0_agree : ByteArray := prog_1_method_11_code
def yX0_agree : MethodName := ⟨RX0, "agree", "(II)I"⟩
theorem q13 : (Jvm.Cond.initialized "OrderedRoom") ∈ lw_all := lw_g (lw_at lw_m0 1 rfl) rfl
theorem q16 : (Jvm.Cond.instantiable "OrderedRoom" (13 : Nat)) ∈ lw_all := lw_g (lw_at lw_m0 4 rfl) rfl
theorem q18 : (Jvm.Cond.instanceMethod ({ cls := "OrderedRoom", name := "<init>", desc := "()V" } : Jvm.MethodName)) ∈ lw_all := lw_g (lw_at lw_m0 6 rfl) rfl
theorem q19 : (Jvm.Cond.code ({ cls := "OrderedRoom", name := "<init>", desc := "()V" } : Jvm.MethodName) prog_1_method_1_code (1 : Nat) (Option.none : Option Jvm.ClassFile.FieldType)) ∈ lw_all := lw_g (lw_at lw_m0 7 rfl) rfl
theorem q20 : (Jvm.Cond.methodLink "OrderedRoom" (1 : Nat) ({ cls := "java/lang/Object", name := "<init>", desc := "()V" } : Jvm.MethodName)) ∈ lw_all := lw_g (lw_at lw_m0 8 rfl) rfl
theorem q23 : (Jvm.Cond.fieldLink "OrderedRoom" (50 : Nat) "OrderedRoom" "messages" "I") ∈ lw_all := lw_g (lw_at lw_m0 11 rfl) rfl
theorem q24 : (Jvm.Cond.fieldLink "OrderedRoom" (7 : Nat) "OrderedRoom" "writer" "[I") ∈ lw_all := lw_g (lw_at lw_m0 12 rfl) rfl
theorem q25 : (Jvm.Cond.fieldLink "OrderedRoom" (13 : Nat) "OrderedRoom" "stamp" "[I") ∈ lw_all := lw_g (lw_at lw_m0 13 rfl) rfl
theorem q26 : (Jvm.Cond.fieldLink "OrderedRoom" (16 : Nat) "OrderedRoom" "thingClock" "[I") ∈ lw_all := lw_g (lw_at lw_m0 14 rfl) rfl
theorem q27 : (Jvm.Cond.fieldLink "OrderedRoom" (19 : Nat) "OrderedRoom" "thingMessage" "[I") ∈ lw_all := lw_g (lw_at lw_m0 15 rfl) rfl
theorem q28 : (Jvm.Cond.fieldLink "OrderedRoom" (22 : Nat) "OrderedRoom" "first" "[I") ∈ lw_all := lw_g (lw_at lw_m0 16 rfl) rfl
theorem q29 : (Jvm.Cond.fieldLink "OrderedRoom" (25 : Nat) "OrderedRoom" "count" "[I") ∈ lw_all := lw_g (lw_at lw_m0 17 rfl) rfl
theorem q30 : (Jvm.Cond.fieldLink "OrderedRoom" (28 : Nat) "OrderedRoom" "clockOf" "[I") ∈ lw_all := lw_g (lw_at lw_m0 18 rfl) rfl
theorem q31 : (Jvm.Cond.fieldLink "OrderedRoom" (31 : Nat) "OrderedRoom" "heard" "[I") ∈ lw_all := lw_g (lw_at lw_m0 19 rfl) rfl
theorem q32 : (Jvm.Cond.fieldLink "OrderedRoom" (34 : Nat) "OrderedRoom" "heapSize" "[I") ∈ lw_all := lw_g (lw_at lw_m0 20 rfl) rfl
theorem q33 : (Jvm.Cond.fieldLink "OrderedRoom" (37 : Nat) "OrderedRoom" "heap" "[I") ∈ lw_all := lw_g (lw_at lw_m0 21 rfl) rfl
theorem q34 : (Jvm.Cond.fieldLink "OrderedRoom" (40 : Nat) "OrderedRoom" "readCount" "[I") ∈ lw_all := lw_g (lw_at lw_m0 22 rfl) rfl
theorem q35 : (Jvm.Cond.fieldLink "OrderedRoom" (43 : Nat) "OrderedRoom" "readOnes" "[I") ∈ lw_all := lw_g (lw_at lw_m0 23 rfl) rfl
theorem q36 : (Jvm.Cond.lays "OrderedRoom" "OrderedRoom" "messages" "I") ∈ lw_all := lw_g (lw_at lw_m0 24 rfl) rfl
theorem q37 : (Jvm.Cond.soleField "OrderedRoom" "messages") ∈ lw_all := lw_g (lw_at lw_m0 25 rfl) rfl
theorem q38 : (Jvm.Cond.laysFinal "OrderedRoom" "OrderedRoom" "writer" "[I") ∈ lw_all := lw_g (lw_at lw_m0 26 rfl) rfl
theorem q39 : (Jvm.Cond.soleField "OrderedRoom" "writer") ∈ lw_all := lw_g (lw_at lw_m0 27 rfl) rfl
theorem q40 : (Jvm.Cond.laysFinal "OrderedRoom" "OrderedRoom" "stamp" "[I") ∈ lw_all := lw_g (lw_at lw_m0 28 rfl) rfl
theorem q41 : (Jvm.Cond.soleField "OrderedRoom" "stamp") ∈ lw_all := lw_g (lw_at lw_m0 29 rfl) rfl
theorem q42 : (Jvm.Cond.laysFinal "OrderedRoom" "OrderedRoom" "thingClock" "[I") ∈ lw_all := lw_g (lw_at lw_m0 30 rfl) rfl
theorem q43 : (Jvm.Cond.soleField "OrderedRoom" "thingClock") ∈ lw_all := lw_g (lw_at lw_m0 31 rfl) rfl
theorem q44 : (Jvm.Cond.laysFinal "OrderedRoom" "OrderedRoom" "thingMessage" "[I") ∈ lw_all := lw_g (lw_at lw_m0 32 rfl) rfl
theorem q45 : (Jvm.Cond.soleField "OrderedRoom" "thingMessage") ∈ lw_all := lw_g (lw_at lw_m0 33 rfl) rfl
theorem q46 : (Jvm.Cond.laysFinal "OrderedRoom" "OrderedRoom" "first" "[I") ∈ lw_all := lw_g (lw_at lw_m0 34 rfl) rfl
theorem q47 : (Jvm.Cond.soleField "OrderedRoom" "first") ∈ lw_all := lw_g (lw_at lw_m0 35 rfl) rfl
theorem q48 : (Jvm.Cond.laysFinal "OrderedRoom" "OrderedRoom" "count" "[I") ∈ lw_all := lw_g (lw_at lw_m0 36 rfl) rfl
theorem q49 : (Jvm.Cond.soleField "OrderedRoom" "count") ∈ lw_all := lw_g (lw_at lw_m0 37 rfl) rfl
theorem q50 : (Jvm.Cond.laysFinal "OrderedRoom" "OrderedRoom" "clockOf" "[I") ∈ lw_all := lw_g (lw_at lw_m0 38 rfl) rfl
theorem q51 : (Jvm.Cond.soleField "OrderedRoom" "clockOf") ∈ lw_all := lw_g (lw_at lw_m0 39 rfl) rfl
theorem q52 : (Jvm.Cond.laysFinal "OrderedRoom" "OrderedRoom" "heard" "[I") ∈ lw_all := lw_g (lw_at lw_m0 40 rfl) rfl
theorem q53 : (Jvm.Cond.soleField "OrderedRoom" "heard") ∈ lw_all := lw_g (lw_at lw_m0 41 rfl) rfl
theorem q54 : (Jvm.Cond.laysFinal "OrderedRoom" "OrderedRoom" "heapSize" "[I") ∈ lw_all := lw_g (lw_at lw_m0 42 rfl) rfl
theorem q55 : (Jvm.Cond.soleField "OrderedRoom" "heapSize") ∈ lw_all := lw_g (lw_at lw_m0 43 rfl) rfl
theorem q56 : (Jvm.Cond.laysFinal "OrderedRoom" "OrderedRoom" "heap" "[I") ∈ lw_all := lw_g (lw_at lw_m0 44 rfl) rfl
theorem q57 : (Jvm.Cond.soleField "OrderedRoom" "heap") ∈ lw_all := lw_g (lw_at lw_m0 45 rfl) rfl
theorem q58 : (Jvm.Cond.laysFinal "OrderedRoom" "OrderedRoom" "readCount" "[I") ∈ lw_all := lw_g (lw_at lw_m0 46 rfl) rfl
theorem q59 : (Jvm.Cond.soleField "OrderedRoom" "readCount") ∈ lw_all := lw_g (lw_at lw_m0 47 rfl) rfl
theorem q60 : (Jvm.Cond.laysFinal "OrderedRoom" "OrderedRoom" "readOnes" "[I") ∈ lw_all := lw_g (lw_at lw_m0 48 rfl) rfl
theorem q61 : (Jvm.Cond.soleField "OrderedRoom" "readOnes") ∈ lw_all := lw_g (lw_at lw_m0 49 rfl) rfl
theorem q62 : (Jvm.Cond.superclass "OrderedRoom" "java/lang/Object") ∈ lw_all := lw_g (lw_at lw_m0 50 rfl) rfl
theorem q65 : (Jvm.Cond.instanceMethod ({ cls := "OrderedRoom", name := "write", desc := "(I)I" } : Jvm.MethodName)) ∈ lw_all := lw_g (lw_at lw_m0 53 rfl) rfl
theorem q66 : (Jvm.Cond.selects "OrderedRoom" ({ cls := "OrderedRoom", name := "write", desc := "(I)I" } : Jvm.MethodName) ({ cls := "OrderedRoom", name := "write", desc := "(I)I" } : Jvm.MethodName)) ∈ lw_all := lw_g (lw_at lw_m0 54 rfl) rfl
theorem q67 : (Jvm.Cond.code ({ cls := "OrderedRoom", name := "write", desc := "(I)I" } : Jvm.MethodName) prog_1_method_2_code (2 : Nat) (Option.some Jvm.ClassFile.FieldType.int)) ∈ lw_all := lw_g (lw_at lw_m0 55 rfl) rfl
theorem q68 : (Jvm.Cond.methodLink "OrderedRoom" (46 : Nat) ({ cls := "OrderedRoom", name := "isMember", desc := "(I)Z" } : Jvm.MethodName)) ∈ lw_all := lw_g (lw_at lw_m0 56 rfl) rfl
theorem q69 : (Jvm.Cond.static ({ cls := "OrderedRoom", name := "isMember", desc := "(I)Z" } : Jvm.MethodName)) ∈ lw_all := lw_g (lw_at lw_m0 57 rfl) rfl
theorem q70 : (Jvm.Cond.code ({ cls := "OrderedRoom", name := "isMember", desc := "(I)Z" } : Jvm.MethodName) prog_1_method_12_code (1 : Nat) (Option.some Jvm.ClassFile.FieldType.boolean)) ∈ lw_all := lw_g (lw_at lw_m0 58 rfl) rfl
theorem q71 : (Jvm.Cond.methodLink "OrderedRoom" (54 : Nat) ({ cls := "OrderedRoom", name := "setOut", desc := "(II)V" } : Jvm.MethodName)) ∈ lw_all := lw_g (lw_at lw_m0 59 rfl) rfl
theorem q72 : (Jvm.Cond.privateMethod ({ cls := "OrderedRoom", name := "setOut", desc := "(II)V" } : Jvm.MethodName)) ∈ lw_tbl := lw_at lw_m0 60 rfl
theorem q73 : (Jvm.Cond.instanceMethod ({ cls := "OrderedRoom", name := "setOut", desc := "(II)V" } : Jvm.MethodName)) ∈ lw_all := lw_g (lw_at lw_m0 61 rfl) rfl
theorem q74 : (Jvm.Cond.code ({ cls := "OrderedRoom", name := "setOut", desc := "(II)V" } : Jvm.MethodName) prog_1_method_5_code (6 : Nat) (Option.none : Option Jvm.ClassFile.FieldType)) ∈ lw_all := lw_g (lw_at lw_m0 62 rfl) rfl
theorem q75 : (Jvm.Cond.methodLink "OrderedRoom" (58 : Nat) ({ cls := "OrderedRoom", name := "push", desc := "(II)V" } : Jvm.MethodName)) ∈ lw_all := lw_g (lw_at lw_m0 63 rfl) rfl
theorem q76 : (Jvm.Cond.privateMethod ({ cls := "OrderedRoom", name := "push", desc := "(II)V" } : Jvm.MethodName)) ∈ lw_tbl := lw_at lw_m0 64 rfl
theorem q77 : (Jvm.Cond.instanceMethod ({ cls := "OrderedRoom", name := "push", desc := "(II)V" } : Jvm.MethodName)) ∈ lw_all := lw_g (lw_at lw_m0 65 rfl) rfl
theorem q78 : (Jvm.Cond.code ({ cls := "OrderedRoom", name := "push", desc := "(II)V" } : Jvm.MethodName) prog_1_method_16_code (6 : Nat) (Option.none : Option Jvm.ClassFile.FieldType)) ∈ lw_all := lw_g (lw_at lw_m0 66 rfl) rfl
theorem q79 : (Jvm.Cond.methodLink "OrderedRoom" (73 : Nat) ({ cls := "OrderedRoom", name := "isEarlier", desc := "(II)Z" } : Jvm.MethodName)) ∈ lw_all := lw_g (lw_at lw_m0 67 rfl) rfl
theorem q80 : (Jvm.Cond.privateMethod ({ cls := "OrderedRoom", name := "isEarlier", desc := "(II)Z" } : Jvm.MethodName)) ∈ lw_tbl := lw_at lw_m0 68 rfl
theorem q81 : (Jvm.Cond.instanceMethod ({ cls := "OrderedRoom", name := "isEarlier", desc := "(II)Z" } : Jvm.MethodName)) ∈ lw_all := lw_g (lw_at lw_m0 69 rfl) rfl
theorem q82 : (Jvm.Cond.code ({ cls := "OrderedRoom", name := "isEarlier", desc := "(II)Z" } : Jvm.MethodName) prog_1_method_13_code (3 : Nat) (Option.some Jvm.ClassFile.FieldType.boolean)) ∈ lw_all := lw_g (lw_at lw_m0 70 rfl) rfl
theorem q83 : (Jvm.Cond.methodLink "OrderedRoom" (61 : Nat) ({ cls := "OrderedRoom", name := "readOn", desc := "(I)I" } : Jvm.MethodName)) ∈ lw_all := lw_g (lw_at lw_m0 71 rfl) rfl
theorem q84 : (Jvm.Cond.privateMethod ({ cls := "OrderedRoom", name := "readOn", desc := "(I)I" } : Jvm.MethodName)) ∈ lw_tbl := lw_at lw_m0 72 rfl
theorem q85 : (Jvm.Cond.instanceMethod ({ cls := "OrderedRoom", name := "readOn", desc := "(I)I" } : Jvm.MethodName)) ∈ lw_all := lw_g (lw_at lw_m0 73 rfl) rfl
theorem q86 : (Jvm.Cond.code ({ cls := "OrderedRoom", name := "readOn", desc := "(I)I" } : Jvm.MethodName) prog_1_method_14_code (5 : Nat) (Option.some Jvm.ClassFile.FieldType.int)) ∈ lw_all := lw_g (lw_at lw_m0 74 rfl) rfl
theorem q87 : (Jvm.Cond.methodLink "OrderedRoom" (65 : Nat) ({ cls := "OrderedRoom", name := "isSafe", desc := "(II)Z" } : Jvm.MethodName)) ∈ lw_all := lw_g (lw_at lw_m0 75 rfl) rfl
theorem q88 : (Jvm.Cond.privateMethod ({ cls := "OrderedRoom", name := "isSafe", desc := "(II)Z" } : Jvm.MethodName)) ∈ lw_tbl := lw_at lw_m0 76 rfl
theorem q89 : (Jvm.Cond.instanceMethod ({ cls := "OrderedRoom", name := "isSafe", desc := "(II)Z" } : Jvm.MethodName)) ∈ lw_all := lw_g (lw_at lw_m0 77 rfl) rfl
theorem q90 : (Jvm.Cond.code ({ cls := "OrderedRoom", name := "isSafe", desc := "(II)Z" } : Jvm.MethodName) prog_1_method_15_code (6 : Nat) (Option.some Jvm.ClassFile.FieldType.boolean)) ∈ lw_all := lw_g (lw_at lw_m0 78 rfl) rfl
theorem q91 : (Jvm.Cond.methodLink "OrderedRoom" (69 : Nat) ({ cls := "OrderedRoom", name := "pop", desc := "(I)V" } : Jvm.MethodName)) ∈ lw_all := lw_g (lw_at lw_m0 79 rfl) rfl
theorem q92 : (Jvm.Cond.privateMethod ({ cls := "OrderedRoom", name := "pop", desc := "(I)V" } : Jvm.MethodName)) ∈ lw_tbl := lw_at lw_m0 80 rfl
theorem q93 : (Jvm.Cond.instanceMethod ({ cls := "OrderedRoom", name := "pop", desc := "(I)V" } : Jvm.MethodName)) ∈ lw_all := lw_g (lw_at lw_m0 81 rfl) rfl
theorem q94 : (Jvm.Cond.code ({ cls := "OrderedRoom", name := "pop", desc := "(I)V" } : Jvm.MethodName) prog_1_method_17_code (9 : Nat) (Option.none : Option Jvm.ClassFile.FieldType)) ∈ lw_all := lw_g (lw_at lw_m0 82 rfl) rfl
theorem q96 : (Jvm.Cond.instanceMethod ({ cls := "OrderedRoom", name := "tick", desc := "(I)I" } : Jvm.MethodName)) ∈ lw_all := lw_g (lw_at lw_m0 84 rfl) rfl
theorem q97 : (Jvm.Cond.selects "OrderedRoom" ({ cls := "OrderedRoom", name := "tick", desc := "(I)I" } : Jvm.MethodName) ({ cls := "OrderedRoom", name := "tick", desc := "(I)I" } : Jvm.MethodName)) ∈ lw_all := lw_g (lw_at lw_m0 85 rfl) rfl
theorem q98 : (Jvm.Cond.code ({ cls := "OrderedRoom", name := "tick", desc := "(I)I" } : Jvm.MethodName) prog_1_method_3_code (3 : Nat) (Option.some Jvm.ClassFile.FieldType.int)) ∈ lw_all := lw_g (lw_at lw_m0 86 rfl) rfl
theorem q100 : (Jvm.Cond.instanceMethod ({ cls := "OrderedRoom", name := "take", desc := "(II)I" } : Jvm.MethodName)) ∈ lw_all := lw_g (lw_at lw_m0 88 rfl) rfl
theorem q101 : (Jvm.Cond.selects "OrderedRoom" ({ cls := "OrderedRoom", name := "take", desc := "(II)I" } : Jvm.MethodName) ({ cls := "OrderedRoom", name := "take", desc := "(II)I" } : Jvm.MethodName)) ∈ lw_all := lw_g (lw_at lw_m0 89 rfl) rfl
theorem q102 : (Jvm.Cond.code ({ cls := "OrderedRoom", name := "take", desc := "(II)I" } : Jvm.MethodName) prog_1_method_4_code (6 : Nat) (Option.some Jvm.ClassFile.FieldType.int)) ∈ lw_all := lw_g (lw_at lw_m0 90 rfl) rfl
theorem q104 : (Jvm.Cond.instanceMethod ({ cls := "OrderedRoom", name := "waiting", desc := "(II)I" } : Jvm.MethodName)) ∈ lw_all := lw_g (lw_at lw_m0 92 rfl) rfl
theorem q105 : (Jvm.Cond.selects "OrderedRoom" ({ cls := "OrderedRoom", name := "waiting", desc := "(II)I" } : Jvm.MethodName) ({ cls := "OrderedRoom", name := "waiting", desc := "(II)I" } : Jvm.MethodName)) ∈ lw_all := lw_g (lw_at lw_m0 93 rfl) rfl
theorem q106 : (Jvm.Cond.code ({ cls := "OrderedRoom", name := "waiting", desc := "(II)I" } : Jvm.MethodName) prog_1_method_6_code (3 : Nat) (Option.some Jvm.ClassFile.FieldType.int)) ∈ lw_all := lw_g (lw_at lw_m0 94 rfl) rfl
theorem q108 : (Jvm.Cond.instanceMethod ({ cls := "OrderedRoom", name := "clock", desc := "(I)I" } : Jvm.MethodName)) ∈ lw_all := lw_g (lw_at lw_m0 96 rfl) rfl
theorem q109 : (Jvm.Cond.selects "OrderedRoom" ({ cls := "OrderedRoom", name := "clock", desc := "(I)I" } : Jvm.MethodName) ({ cls := "OrderedRoom", name := "clock", desc := "(I)I" } : Jvm.MethodName)) ∈ lw_all := lw_g (lw_at lw_m0 97 rfl) rfl
theorem q110 : (Jvm.Cond.code ({ cls := "OrderedRoom", name := "clock", desc := "(I)I" } : Jvm.MethodName) prog_1_method_7_code (2 : Nat) (Option.some Jvm.ClassFile.FieldType.int)) ∈ lw_all := lw_g (lw_at lw_m0 98 rfl) rfl
theorem q112 : (Jvm.Cond.instanceMethod ({ cls := "OrderedRoom", name := "count", desc := "(I)I" } : Jvm.MethodName)) ∈ lw_all := lw_g (lw_at lw_m0 100 rfl) rfl
theorem q113 : (Jvm.Cond.selects "OrderedRoom" ({ cls := "OrderedRoom", name := "count", desc := "(I)I" } : Jvm.MethodName) ({ cls := "OrderedRoom", name := "count", desc := "(I)I" } : Jvm.MethodName)) ∈ lw_all := lw_g (lw_at lw_m0 101 rfl) rfl
theorem q114 : (Jvm.Cond.code ({ cls := "OrderedRoom", name := "count", desc := "(I)I" } : Jvm.MethodName) prog_1_method_8_code (2 : Nat) (Option.some Jvm.ClassFile.FieldType.int)) ∈ lw_all := lw_g (lw_at lw_m0 102 rfl) rfl
theorem q116 : (Jvm.Cond.instanceMethod ({ cls := "OrderedRoom", name := "read", desc := "(II)I" } : Jvm.MethodName)) ∈ lw_all := lw_g (lw_at lw_m0 104 rfl) rfl
theorem q117 : (Jvm.Cond.selects "OrderedRoom" ({ cls := "OrderedRoom", name := "read", desc := "(II)I" } : Jvm.MethodName) ({ cls := "OrderedRoom", name := "read", desc := "(II)I" } : Jvm.MethodName)) ∈ lw_all := lw_g (lw_at lw_m0 105 rfl) rfl
theorem q118 : (Jvm.Cond.code ({ cls := "OrderedRoom", name := "read", desc := "(II)I" } : Jvm.MethodName) prog_1_method_9_code (3 : Nat) (Option.some Jvm.ClassFile.FieldType.int)) ∈ lw_all := lw_g (lw_at lw_m0 106 rfl) rfl
theorem q120 : (Jvm.Cond.instanceMethod ({ cls := "OrderedRoom", name := "held", desc := "(I)I" } : Jvm.MethodName)) ∈ lw_all := lw_g (lw_at lw_m0 108 rfl) rfl
theorem q121 : (Jvm.Cond.selects "OrderedRoom" ({ cls := "OrderedRoom", name := "held", desc := "(I)I" } : Jvm.MethodName) ({ cls := "OrderedRoom", name := "held", desc := "(I)I" } : Jvm.MethodName)) ∈ lw_all := lw_g (lw_at lw_m0 109 rfl) rfl
theorem q122 : (Jvm.Cond.code ({ cls := "OrderedRoom", name := "held", desc := "(I)I" } : Jvm.MethodName) prog_1_method_10_code (2 : Nat) (Option.some Jvm.ClassFile.FieldType.int)) ∈ lw_all := lw_g (lw_at lw_m0 110 rfl) rfl
theorem q124 : (Jvm.Cond.instanceMethod ({ cls := "OrderedRoom", name := "agree", desc := "(II)I" } : Jvm.MethodName)) ∈ lw_all := lw_g (lw_at lw_m0 112 rfl) rfl
theorem q125 : (Jvm.Cond.selects "OrderedRoom" ({ cls := "OrderedRoom", name := "agree", desc := "(II)I" } : Jvm.MethodName) ({ cls := "OrderedRoom", name := "agree", desc := "(II)I" } : Jvm.MethodName)) ∈ lw_all := lw_g (lw_at lw_m0 113 rfl) rfl
theorem q126 : (Jvm.Cond.code ({ cls := "OrderedRoom", name := "agree", desc := "(II)I" } : Jvm.MethodName) prog_1_method_11_code (4 : Nat) (Option.some Jvm.ClassFile.FieldType.int)) ∈ lw_all := lw_g (lw_at lw_m0 114 rfl) rfl
theorem in_X0 : ∀ w ∈ wsX00, w ∈ lw_all := lw_in wsX00 [36, 38, 40, 42, 44, 46, 48, 50, 52, 54, 56, 58, 60] (by decide +kernel) (by decide +kernel)

/-! OrderedRoomModel -/
def RX1 : String := "OrderedRoomModel"
def TX1 : u_T := fun k => match k with
  | 0 => ("OrderedRoomModel", "clocks", "[I", true)
  | 1 => ("OrderedRoomModel", "written", "I", false)
  | 2 => ("OrderedRoomModel", "writers", "[I", true)
  | 3 => ("OrderedRoomModel", "stamps", "[I", true)
  | 4 => ("OrderedRoomModel", "has", "[Z", true)
  | 5 => ("OrderedRoomModel", "done", "[Z", true)
  | 6 => ("OrderedRoomModel", "counts", "[I", true)
  | 7 => ("OrderedRoomModel", "order", "[I", true)
  | 8 => ("OrderedRoomModel", "heard", "[I", true)
  | 9 => ("OrderedRoomModel", "lengths", "[I", true)
  | 10 => ("OrderedRoomModel", "wayClocks", "[I", true)
  | _ => ("OrderedRoomModel", "wayMessages", "[I", true)
def tyX1 : Nat → FieldType := fun k => match k with
  | 0 => .array .int
  | 1 => .int
  | 2 => .array .int
  | 3 => .array .int
  | 4 => .array .boolean
  | 5 => .array .boolean
  | 6 => .array .int
  | 7 => .array .int
  | 8 => .array .int
  | 9 => .array .int
  | 10 => .array .int
  | _ => .array .int
abbrev wsX10 : List Cond := u_ws RX1 TX1 12
theorem nmX1 : ∀ a, a < 12 → ∀ b, b < 12 → a ≠ b → (TX1 a).2.1 ≠ (TX1 b).2.1 := by decide +kernel
theorem tyX1_ok : ∀ k, k < 12 → parseFieldDescriptor (TX1 k).2.2.1 = some (tyX1 k) := by decide +kernel
abbrev cX1_init : ByteArray := prog_3_method_1_code
def yX1_init : MethodName := ⟨RX1, "<init>", "()V"⟩
abbrev cX1_write : ByteArray := prog_3_method_4_code
def yX1_write : MethodName := ⟨RX1, "write", "(I)I"⟩
abbrev cX1_bad : ByteArray := prog_3_method_2_code
def yX1_bad : MethodName := ⟨RX1, "bad", "(I)Z"⟩
abbrev cX1_setOut : ByteArray := prog_3_method_3_code
def yX1_setOut : MethodName := ⟨RX1, "setOut", "(II)V"⟩
abbrev cX1_tick : ByteArray := prog_3_method_6_code
def yX1_tick : MethodName := ⟨RX1, "tick", "(I)I"⟩
abbrev cX1_full : ByteArray := prog_3_method_5_code
def yX1_full : MethodName := ⟨RX1, "full", "(I)Z"⟩
abbrev cX1_take : ByteArray := prog_3_method_11_code
def yX1_take : MethodName := ⟨RX1, "take", "(II)I"⟩
abbrev cX1_readAll : ByteArray := prog_3_method_10_code
def yX1_readAll : MethodName := ⟨RX1, "readAll", "(I)I"⟩
abbrev cX1_earliest : ByteArray := prog_3_method_8_code
def yX1_earliest : MethodName := ⟨RX1, "earliest", "(I)I"⟩
abbrev cX1_earlier : ByteArray := prog_3_method_7_code
def yX1_earlier : MethodName := ⟨RX1, "earlier", "(IIII)Z"⟩
abbrev cX1_ready : ByteArray := prog_3_method_9_code
def yX1_ready : MethodName := ⟨RX1, "ready", "(II)Z"⟩
abbrev cX1_waiting : ByteArray := prog_3_method_12_code
def yX1_waiting : MethodName := ⟨RX1, "waiting", "(II)I"⟩
abbrev cX1_clock : ByteArray := prog_3_method_13_code
def yX1_clock : MethodName := ⟨RX1, "clock", "(I)I"⟩
abbrev cX1_count : ByteArray := prog_3_method_14_code
def yX1_count : MethodName := ⟨RX1, "count", "(I)I"⟩
abbrev cX1_read : ByteArray := prog_3_method_15_code
def yX1_read : MethodName := ⟨RX1, "read", "(II)I"⟩
abbrev cX1_held : ByteArray := prog_3_method_16_code
def yX1_held : MethodName := ⟨RX1, "held", "(I)I"⟩
abbrev cX1_agree : ByteArray := prog_3_method_17_code
def yX1_agree : MethodName := ⟨RX1, "agree", "(II)I"⟩
theorem q14 : (Jvm.Cond.initialized "OrderedRoomModel") ∈ lw_all := lw_g (lw_at lw_m0 2 rfl) rfl
theorem q128 : (Jvm.Cond.instantiable "OrderedRoomModel" (12 : Nat)) ∈ lw_all := lw_g (lw_at lw_m0 116 rfl) rfl
theorem q130 : (Jvm.Cond.instanceMethod ({ cls := "OrderedRoomModel", name := "<init>", desc := "()V" } : Jvm.MethodName)) ∈ lw_all := lw_g (lw_at lw_m0 118 rfl) rfl
theorem q131 : (Jvm.Cond.code ({ cls := "OrderedRoomModel", name := "<init>", desc := "()V" } : Jvm.MethodName) prog_3_method_1_code (1 : Nat) (Option.none : Option Jvm.ClassFile.FieldType)) ∈ lw_all := lw_g (lw_at lw_m0 119 rfl) rfl
theorem q132 : (Jvm.Cond.methodLink "OrderedRoomModel" (1 : Nat) ({ cls := "java/lang/Object", name := "<init>", desc := "()V" } : Jvm.MethodName)) ∈ lw_all := lw_g (lw_at lw_m0 120 rfl) rfl
theorem q133 : (Jvm.Cond.fieldLink "OrderedRoomModel" (7 : Nat) "OrderedRoomModel" "clocks" "[I") ∈ lw_all := lw_g (lw_at lw_m0 121 rfl) rfl
theorem q134 : (Jvm.Cond.fieldLink "OrderedRoomModel" (48 : Nat) "OrderedRoomModel" "written" "I") ∈ lw_all := lw_g (lw_at lw_m0 122 rfl) rfl
theorem q135 : (Jvm.Cond.fieldLink "OrderedRoomModel" (13 : Nat) "OrderedRoomModel" "writers" "[I") ∈ lw_all := lw_g (lw_at lw_m0 123 rfl) rfl
theorem q136 : (Jvm.Cond.fieldLink "OrderedRoomModel" (16 : Nat) "OrderedRoomModel" "stamps" "[I") ∈ lw_all := lw_g (lw_at lw_m0 124 rfl) rfl
theorem q137 : (Jvm.Cond.fieldLink "OrderedRoomModel" (19 : Nat) "OrderedRoomModel" "has" "[Z") ∈ lw_all := lw_g (lw_at lw_m0 125 rfl) rfl
theorem q138 : (Jvm.Cond.fieldLink "OrderedRoomModel" (23 : Nat) "OrderedRoomModel" "done" "[Z") ∈ lw_all := lw_g (lw_at lw_m0 126 rfl) rfl
theorem q139 : (Jvm.Cond.fieldLink "OrderedRoomModel" (26 : Nat) "OrderedRoomModel" "counts" "[I") ∈ lw_all := lw_g (lw_at lw_m0 127 rfl) rfl
theorem q140 : (Jvm.Cond.fieldLink "OrderedRoomModel" (29 : Nat) "OrderedRoomModel" "order" "[I") ∈ lw_all := lw_g (lw_at lw_m0 128 rfl) rfl
theorem q141 : (Jvm.Cond.fieldLink "OrderedRoomModel" (32 : Nat) "OrderedRoomModel" "heard" "[I") ∈ lw_all := lw_g (lw_at lw_m0 129 rfl) rfl
theorem q142 : (Jvm.Cond.fieldLink "OrderedRoomModel" (35 : Nat) "OrderedRoomModel" "lengths" "[I") ∈ lw_all := lw_g (lw_at lw_m0 130 rfl) rfl
theorem q143 : (Jvm.Cond.fieldLink "OrderedRoomModel" (38 : Nat) "OrderedRoomModel" "wayClocks" "[I") ∈ lw_all := lw_g (lw_at lw_m0 131 rfl) rfl
theorem q144 : (Jvm.Cond.fieldLink "OrderedRoomModel" (41 : Nat) "OrderedRoomModel" "wayMessages" "[I") ∈ lw_all := lw_g (lw_at lw_m0 132 rfl) rfl
theorem q145 : (Jvm.Cond.laysFinal "OrderedRoomModel" "OrderedRoomModel" "clocks" "[I") ∈ lw_all := lw_g (lw_at lw_m0 133 rfl) rfl
theorem q146 : (Jvm.Cond.soleField "OrderedRoomModel" "clocks") ∈ lw_all := lw_g (lw_at lw_m0 134 rfl) rfl
theorem q147 : (Jvm.Cond.lays "OrderedRoomModel" "OrderedRoomModel" "written" "I") ∈ lw_all := lw_g (lw_at lw_m0 135 rfl) rfl
theorem q148 : (Jvm.Cond.soleField "OrderedRoomModel" "written") ∈ lw_all := lw_g (lw_at lw_m0 136 rfl) rfl
theorem q149 : (Jvm.Cond.laysFinal "OrderedRoomModel" "OrderedRoomModel" "writers" "[I") ∈ lw_all := lw_g (lw_at lw_m0 137 rfl) rfl
theorem q150 : (Jvm.Cond.soleField "OrderedRoomModel" "writers") ∈ lw_all := lw_g (lw_at lw_m0 138 rfl) rfl
theorem q151 : (Jvm.Cond.laysFinal "OrderedRoomModel" "OrderedRoomModel" "stamps" "[I") ∈ lw_all := lw_g (lw_at lw_m0 139 rfl) rfl
theorem q152 : (Jvm.Cond.soleField "OrderedRoomModel" "stamps") ∈ lw_all := lw_g (lw_at lw_m0 140 rfl) rfl
theorem q153 : (Jvm.Cond.laysFinal "OrderedRoomModel" "OrderedRoomModel" "has" "[Z") ∈ lw_all := lw_g (lw_at lw_m0 141 rfl) rfl
theorem q154 : (Jvm.Cond.soleField "OrderedRoomModel" "has") ∈ lw_all := lw_g (lw_at lw_m0 142 rfl) rfl
theorem q155 : (Jvm.Cond.laysFinal "OrderedRoomModel" "OrderedRoomModel" "done" "[Z") ∈ lw_all := lw_g (lw_at lw_m0 143 rfl) rfl
theorem q156 : (Jvm.Cond.soleField "OrderedRoomModel" "done") ∈ lw_all := lw_g (lw_at lw_m0 144 rfl) rfl
theorem q157 : (Jvm.Cond.laysFinal "OrderedRoomModel" "OrderedRoomModel" "counts" "[I") ∈ lw_all := lw_g (lw_at lw_m0 145 rfl) rfl
theorem q158 : (Jvm.Cond.soleField "OrderedRoomModel" "counts") ∈ lw_all := lw_g (lw_at lw_m0 146 rfl) rfl
theorem q159 : (Jvm.Cond.laysFinal "OrderedRoomModel" "OrderedRoomModel" "order" "[I") ∈ lw_all := lw_g (lw_at lw_m0 147 rfl) rfl
theorem q160 : (Jvm.Cond.soleField "OrderedRoomModel" "order") ∈ lw_all := lw_g (lw_at lw_m0 148 rfl) rfl
theorem q161 : (Jvm.Cond.laysFinal "OrderedRoomModel" "OrderedRoomModel" "heard" "[I") ∈ lw_all := lw_g (lw_at lw_m0 149 rfl) rfl
theorem q162 : (Jvm.Cond.soleField "OrderedRoomModel" "heard") ∈ lw_all := lw_g (lw_at lw_m0 150 rfl) rfl
theorem q163 : (Jvm.Cond.laysFinal "OrderedRoomModel" "OrderedRoomModel" "lengths" "[I") ∈ lw_all := lw_g (lw_at lw_m0 151 rfl) rfl
theorem q164 : (Jvm.Cond.soleField "OrderedRoomModel" "lengths") ∈ lw_all := lw_g (lw_at lw_m0 152 rfl) rfl
theorem q165 : (Jvm.Cond.laysFinal "OrderedRoomModel" "OrderedRoomModel" "wayClocks" "[I") ∈ lw_all := lw_g (lw_at lw_m0 153 rfl) rfl
theorem q166 : (Jvm.Cond.soleField "OrderedRoomModel" "wayClocks") ∈ lw_all := lw_g (lw_at lw_m0 154 rfl) rfl
theorem q167 : (Jvm.Cond.laysFinal "OrderedRoomModel" "OrderedRoomModel" "wayMessages" "[I") ∈ lw_all := lw_g (lw_at lw_m0 155 rfl) rfl
theorem q168 : (Jvm.Cond.soleField "OrderedRoomModel" "wayMessages") ∈ lw_all := lw_g (lw_at lw_m0 156 rfl) rfl
theorem q169 : (Jvm.Cond.superclass "OrderedRoomModel" "java/lang/Object") ∈ lw_all := lw_g (lw_at lw_m0 157 rfl) rfl
theorem q172 : (Jvm.Cond.instanceMethod ({ cls := "OrderedRoomModel", name := "write", desc := "(I)I" } : Jvm.MethodName)) ∈ lw_all := lw_g (lw_at lw_m0 160 rfl) rfl
theorem q173 : (Jvm.Cond.selects "OrderedRoomModel" ({ cls := "OrderedRoomModel", name := "write", desc := "(I)I" } : Jvm.MethodName) ({ cls := "OrderedRoomModel", name := "write", desc := "(I)I" } : Jvm.MethodName)) ∈ lw_all := lw_g (lw_at lw_m0 161 rfl) rfl
theorem q174 : (Jvm.Cond.code ({ cls := "OrderedRoomModel", name := "write", desc := "(I)I" } : Jvm.MethodName) prog_3_method_4_code (2 : Nat) (Option.some Jvm.ClassFile.FieldType.int)) ∈ lw_all := lw_g (lw_at lw_m0 162 rfl) rfl
theorem q175 : (Jvm.Cond.methodLink "OrderedRoomModel" (44 : Nat) ({ cls := "OrderedRoomModel", name := "bad", desc := "(I)Z" } : Jvm.MethodName)) ∈ lw_all := lw_g (lw_at lw_m0 163 rfl) rfl
theorem q176 : (Jvm.Cond.static ({ cls := "OrderedRoomModel", name := "bad", desc := "(I)Z" } : Jvm.MethodName)) ∈ lw_all := lw_g (lw_at lw_m0 164 rfl) rfl
theorem q177 : (Jvm.Cond.code ({ cls := "OrderedRoomModel", name := "bad", desc := "(I)Z" } : Jvm.MethodName) prog_3_method_2_code (1 : Nat) (Option.some Jvm.ClassFile.FieldType.boolean)) ∈ lw_all := lw_g (lw_at lw_m0 165 rfl) rfl
theorem q178 : (Jvm.Cond.methodLink "OrderedRoomModel" (52 : Nat) ({ cls := "OrderedRoomModel", name := "setOut", desc := "(II)V" } : Jvm.MethodName)) ∈ lw_all := lw_g (lw_at lw_m0 166 rfl) rfl
theorem q179 : (Jvm.Cond.privateMethod ({ cls := "OrderedRoomModel", name := "setOut", desc := "(II)V" } : Jvm.MethodName)) ∈ lw_tbl := lw_at lw_m0 167 rfl
theorem q180 : (Jvm.Cond.instanceMethod ({ cls := "OrderedRoomModel", name := "setOut", desc := "(II)V" } : Jvm.MethodName)) ∈ lw_all := lw_g (lw_at lw_m0 168 rfl) rfl
theorem q181 : (Jvm.Cond.code ({ cls := "OrderedRoomModel", name := "setOut", desc := "(II)V" } : Jvm.MethodName) prog_3_method_3_code (5 : Nat) (Option.none : Option Jvm.ClassFile.FieldType)) ∈ lw_all := lw_g (lw_at lw_m0 169 rfl) rfl
theorem q183 : (Jvm.Cond.instanceMethod ({ cls := "OrderedRoomModel", name := "tick", desc := "(I)I" } : Jvm.MethodName)) ∈ lw_all := lw_g (lw_at lw_m0 171 rfl) rfl
theorem q184 : (Jvm.Cond.selects "OrderedRoomModel" ({ cls := "OrderedRoomModel", name := "tick", desc := "(I)I" } : Jvm.MethodName) ({ cls := "OrderedRoomModel", name := "tick", desc := "(I)I" } : Jvm.MethodName)) ∈ lw_all := lw_g (lw_at lw_m0 172 rfl) rfl
theorem q185 : (Jvm.Cond.code ({ cls := "OrderedRoomModel", name := "tick", desc := "(I)I" } : Jvm.MethodName) prog_3_method_6_code (2 : Nat) (Option.some Jvm.ClassFile.FieldType.int)) ∈ lw_all := lw_g (lw_at lw_m0 173 rfl) rfl
theorem q186 : (Jvm.Cond.methodLink "OrderedRoomModel" (56 : Nat) ({ cls := "OrderedRoomModel", name := "full", desc := "(I)Z" } : Jvm.MethodName)) ∈ lw_all := lw_g (lw_at lw_m0 174 rfl) rfl
theorem q187 : (Jvm.Cond.privateMethod ({ cls := "OrderedRoomModel", name := "full", desc := "(I)Z" } : Jvm.MethodName)) ∈ lw_tbl := lw_at lw_m0 175 rfl
theorem q188 : (Jvm.Cond.instanceMethod ({ cls := "OrderedRoomModel", name := "full", desc := "(I)Z" } : Jvm.MethodName)) ∈ lw_all := lw_g (lw_at lw_m0 176 rfl) rfl
theorem q189 : (Jvm.Cond.code ({ cls := "OrderedRoomModel", name := "full", desc := "(I)Z" } : Jvm.MethodName) prog_3_method_5_code (3 : Nat) (Option.some Jvm.ClassFile.FieldType.boolean)) ∈ lw_all := lw_g (lw_at lw_m0 177 rfl) rfl
theorem q191 : (Jvm.Cond.instanceMethod ({ cls := "OrderedRoomModel", name := "take", desc := "(II)I" } : Jvm.MethodName)) ∈ lw_all := lw_g (lw_at lw_m0 179 rfl) rfl
theorem q192 : (Jvm.Cond.selects "OrderedRoomModel" ({ cls := "OrderedRoomModel", name := "take", desc := "(II)I" } : Jvm.MethodName) ({ cls := "OrderedRoomModel", name := "take", desc := "(II)I" } : Jvm.MethodName)) ∈ lw_all := lw_g (lw_at lw_m0 180 rfl) rfl
theorem q193 : (Jvm.Cond.code ({ cls := "OrderedRoomModel", name := "take", desc := "(II)I" } : Jvm.MethodName) prog_3_method_11_code (7 : Nat) (Option.some Jvm.ClassFile.FieldType.int)) ∈ lw_all := lw_g (lw_at lw_m0 181 rfl) rfl
theorem q194 : (Jvm.Cond.methodLink "OrderedRoomModel" (71 : Nat) ({ cls := "OrderedRoomModel", name := "readAll", desc := "(I)I" } : Jvm.MethodName)) ∈ lw_all := lw_g (lw_at lw_m0 182 rfl) rfl
theorem q195 : (Jvm.Cond.privateMethod ({ cls := "OrderedRoomModel", name := "readAll", desc := "(I)I" } : Jvm.MethodName)) ∈ lw_tbl := lw_at lw_m0 183 rfl
theorem q196 : (Jvm.Cond.instanceMethod ({ cls := "OrderedRoomModel", name := "readAll", desc := "(I)I" } : Jvm.MethodName)) ∈ lw_all := lw_g (lw_at lw_m0 184 rfl) rfl
theorem q197 : (Jvm.Cond.code ({ cls := "OrderedRoomModel", name := "readAll", desc := "(I)I" } : Jvm.MethodName) prog_3_method_10_code (4 : Nat) (Option.some Jvm.ClassFile.FieldType.int)) ∈ lw_all := lw_g (lw_at lw_m0 185 rfl) rfl
theorem q198 : (Jvm.Cond.methodLink "OrderedRoomModel" (63 : Nat) ({ cls := "OrderedRoomModel", name := "earliest", desc := "(I)I" } : Jvm.MethodName)) ∈ lw_all := lw_g (lw_at lw_m0 186 rfl) rfl
theorem q199 : (Jvm.Cond.privateMethod ({ cls := "OrderedRoomModel", name := "earliest", desc := "(I)I" } : Jvm.MethodName)) ∈ lw_tbl := lw_at lw_m0 187 rfl
theorem q200 : (Jvm.Cond.instanceMethod ({ cls := "OrderedRoomModel", name := "earliest", desc := "(I)I" } : Jvm.MethodName)) ∈ lw_all := lw_g (lw_at lw_m0 188 rfl) rfl
theorem q201 : (Jvm.Cond.code ({ cls := "OrderedRoomModel", name := "earliest", desc := "(I)I" } : Jvm.MethodName) prog_3_method_8_code (5 : Nat) (Option.some Jvm.ClassFile.FieldType.int)) ∈ lw_all := lw_g (lw_at lw_m0 189 rfl) rfl
theorem q202 : (Jvm.Cond.methodLink "OrderedRoomModel" (59 : Nat) ({ cls := "OrderedRoomModel", name := "earlier", desc := "(IIII)Z" } : Jvm.MethodName)) ∈ lw_all := lw_g (lw_at lw_m0 190 rfl) rfl
theorem q203 : (Jvm.Cond.privateMethod ({ cls := "OrderedRoomModel", name := "earlier", desc := "(IIII)Z" } : Jvm.MethodName)) ∈ lw_tbl := lw_at lw_m0 191 rfl
theorem q204 : (Jvm.Cond.instanceMethod ({ cls := "OrderedRoomModel", name := "earlier", desc := "(IIII)Z" } : Jvm.MethodName)) ∈ lw_all := lw_g (lw_at lw_m0 192 rfl) rfl
theorem q205 : (Jvm.Cond.code ({ cls := "OrderedRoomModel", name := "earlier", desc := "(IIII)Z" } : Jvm.MethodName) prog_3_method_7_code (5 : Nat) (Option.some Jvm.ClassFile.FieldType.boolean)) ∈ lw_all := lw_g (lw_at lw_m0 193 rfl) rfl
theorem q206 : (Jvm.Cond.methodLink "OrderedRoomModel" (67 : Nat) ({ cls := "OrderedRoomModel", name := "ready", desc := "(II)Z" } : Jvm.MethodName)) ∈ lw_all := lw_g (lw_at lw_m0 194 rfl) rfl
theorem q207 : (Jvm.Cond.privateMethod ({ cls := "OrderedRoomModel", name := "ready", desc := "(II)Z" } : Jvm.MethodName)) ∈ lw_tbl := lw_at lw_m0 195 rfl
theorem q208 : (Jvm.Cond.instanceMethod ({ cls := "OrderedRoomModel", name := "ready", desc := "(II)Z" } : Jvm.MethodName)) ∈ lw_all := lw_g (lw_at lw_m0 196 rfl) rfl
theorem q209 : (Jvm.Cond.code ({ cls := "OrderedRoomModel", name := "ready", desc := "(II)Z" } : Jvm.MethodName) prog_3_method_9_code (5 : Nat) (Option.some Jvm.ClassFile.FieldType.boolean)) ∈ lw_all := lw_g (lw_at lw_m0 197 rfl) rfl
theorem q211 : (Jvm.Cond.instanceMethod ({ cls := "OrderedRoomModel", name := "waiting", desc := "(II)I" } : Jvm.MethodName)) ∈ lw_all := lw_g (lw_at lw_m0 199 rfl) rfl
theorem q212 : (Jvm.Cond.selects "OrderedRoomModel" ({ cls := "OrderedRoomModel", name := "waiting", desc := "(II)I" } : Jvm.MethodName) ({ cls := "OrderedRoomModel", name := "waiting", desc := "(II)I" } : Jvm.MethodName)) ∈ lw_all := lw_g (lw_at lw_m0 200 rfl) rfl
theorem q213 : (Jvm.Cond.code ({ cls := "OrderedRoomModel", name := "waiting", desc := "(II)I" } : Jvm.MethodName) prog_3_method_12_code (3 : Nat) (Option.some Jvm.ClassFile.FieldType.int)) ∈ lw_all := lw_g (lw_at lw_m0 201 rfl) rfl
theorem q215 : (Jvm.Cond.instanceMethod ({ cls := "OrderedRoomModel", name := "clock", desc := "(I)I" } : Jvm.MethodName)) ∈ lw_all := lw_g (lw_at lw_m0 203 rfl) rfl
theorem q216 : (Jvm.Cond.selects "OrderedRoomModel" ({ cls := "OrderedRoomModel", name := "clock", desc := "(I)I" } : Jvm.MethodName) ({ cls := "OrderedRoomModel", name := "clock", desc := "(I)I" } : Jvm.MethodName)) ∈ lw_all := lw_g (lw_at lw_m0 204 rfl) rfl
theorem q217 : (Jvm.Cond.code ({ cls := "OrderedRoomModel", name := "clock", desc := "(I)I" } : Jvm.MethodName) prog_3_method_13_code (2 : Nat) (Option.some Jvm.ClassFile.FieldType.int)) ∈ lw_all := lw_g (lw_at lw_m0 205 rfl) rfl
theorem q219 : (Jvm.Cond.instanceMethod ({ cls := "OrderedRoomModel", name := "count", desc := "(I)I" } : Jvm.MethodName)) ∈ lw_all := lw_g (lw_at lw_m0 207 rfl) rfl
theorem q220 : (Jvm.Cond.selects "OrderedRoomModel" ({ cls := "OrderedRoomModel", name := "count", desc := "(I)I" } : Jvm.MethodName) ({ cls := "OrderedRoomModel", name := "count", desc := "(I)I" } : Jvm.MethodName)) ∈ lw_all := lw_g (lw_at lw_m0 208 rfl) rfl
theorem q221 : (Jvm.Cond.code ({ cls := "OrderedRoomModel", name := "count", desc := "(I)I" } : Jvm.MethodName) prog_3_method_14_code (2 : Nat) (Option.some Jvm.ClassFile.FieldType.int)) ∈ lw_all := lw_g (lw_at lw_m0 209 rfl) rfl
theorem q223 : (Jvm.Cond.instanceMethod ({ cls := "OrderedRoomModel", name := "read", desc := "(II)I" } : Jvm.MethodName)) ∈ lw_all := lw_g (lw_at lw_m0 211 rfl) rfl
theorem q224 : (Jvm.Cond.selects "OrderedRoomModel" ({ cls := "OrderedRoomModel", name := "read", desc := "(II)I" } : Jvm.MethodName) ({ cls := "OrderedRoomModel", name := "read", desc := "(II)I" } : Jvm.MethodName)) ∈ lw_all := lw_g (lw_at lw_m0 212 rfl) rfl
theorem q225 : (Jvm.Cond.code ({ cls := "OrderedRoomModel", name := "read", desc := "(II)I" } : Jvm.MethodName) prog_3_method_15_code (3 : Nat) (Option.some Jvm.ClassFile.FieldType.int)) ∈ lw_all := lw_g (lw_at lw_m0 213 rfl) rfl
theorem q227 : (Jvm.Cond.instanceMethod ({ cls := "OrderedRoomModel", name := "held", desc := "(I)I" } : Jvm.MethodName)) ∈ lw_all := lw_g (lw_at lw_m0 215 rfl) rfl
theorem q228 : (Jvm.Cond.selects "OrderedRoomModel" ({ cls := "OrderedRoomModel", name := "held", desc := "(I)I" } : Jvm.MethodName) ({ cls := "OrderedRoomModel", name := "held", desc := "(I)I" } : Jvm.MethodName)) ∈ lw_all := lw_g (lw_at lw_m0 216 rfl) rfl
theorem q229 : (Jvm.Cond.code ({ cls := "OrderedRoomModel", name := "held", desc := "(I)I" } : Jvm.MethodName) prog_3_method_16_code (4 : Nat) (Option.some Jvm.ClassFile.FieldType.int)) ∈ lw_all := lw_g (lw_at lw_m0 217 rfl) rfl
theorem q231 : (Jvm.Cond.instanceMethod ({ cls := "OrderedRoomModel", name := "agree", desc := "(II)I" } : Jvm.MethodName)) ∈ lw_all := lw_g (lw_at lw_m0 219 rfl) rfl
theorem q232 : (Jvm.Cond.selects "OrderedRoomModel" ({ cls := "OrderedRoomModel", name := "agree", desc := "(II)I" } : Jvm.MethodName) ({ cls := "OrderedRoomModel", name := "agree", desc := "(II)I" } : Jvm.MethodName)) ∈ lw_all := lw_g (lw_at lw_m0 220 rfl) rfl
theorem q233 : (Jvm.Cond.code ({ cls := "OrderedRoomModel", name := "agree", desc := "(II)I" } : Jvm.MethodName) prog_3_method_17_code (4 : Nat) (Option.some Jvm.ClassFile.FieldType.int)) ∈ lw_all := lw_g (lw_at lw_m0 221 rfl) rfl
theorem in_X1 : ∀ w ∈ wsX10, w ∈ lw_all := lw_in wsX10 [145, 147, 149, 151, 153, 155, 157, 159, 161, 163, 165, 167] (by decide +kernel) (by decide +kernel)

/-! the law's own entry -/
abbrev cL_law : ByteArray := code

theorem q12 : (Jvm.Cond.initialized "OrderedRoomLaw") ∈ lw_all := lw_g (lw_at lw_m0 0 rfl) rfl
theorem q15 : (Jvm.Cond.classLink "OrderedRoomLaw" (7 : Nat) "OrderedRoom") ∈ lw_all := lw_g (lw_at lw_m0 3 rfl) rfl
theorem q17 : (Jvm.Cond.methodLink "OrderedRoomLaw" (9 : Nat) ({ cls := "OrderedRoom", name := "<init>", desc := "()V" } : Jvm.MethodName)) ∈ lw_all := lw_g (lw_at lw_m0 5 rfl) rfl
theorem q64 : (Jvm.Cond.methodLink "OrderedRoomLaw" (13 : Nat) ({ cls := "OrderedRoom", name := "write", desc := "(I)I" } : Jvm.MethodName)) ∈ lw_all := lw_g (lw_at lw_m0 52 rfl) rfl
theorem q95 : (Jvm.Cond.methodLink "OrderedRoomLaw" (18 : Nat) ({ cls := "OrderedRoom", name := "tick", desc := "(I)I" } : Jvm.MethodName)) ∈ lw_all := lw_g (lw_at lw_m0 83 rfl) rfl
theorem q99 : (Jvm.Cond.methodLink "OrderedRoomLaw" (22 : Nat) ({ cls := "OrderedRoom", name := "take", desc := "(II)I" } : Jvm.MethodName)) ∈ lw_all := lw_g (lw_at lw_m0 87 rfl) rfl
theorem q103 : (Jvm.Cond.methodLink "OrderedRoomLaw" (27 : Nat) ({ cls := "OrderedRoom", name := "waiting", desc := "(II)I" } : Jvm.MethodName)) ∈ lw_all := lw_g (lw_at lw_m0 91 rfl) rfl
theorem q107 : (Jvm.Cond.methodLink "OrderedRoomLaw" (31 : Nat) ({ cls := "OrderedRoom", name := "clock", desc := "(I)I" } : Jvm.MethodName)) ∈ lw_all := lw_g (lw_at lw_m0 95 rfl) rfl
theorem q111 : (Jvm.Cond.methodLink "OrderedRoomLaw" (35 : Nat) ({ cls := "OrderedRoom", name := "count", desc := "(I)I" } : Jvm.MethodName)) ∈ lw_all := lw_g (lw_at lw_m0 99 rfl) rfl
theorem q115 : (Jvm.Cond.methodLink "OrderedRoomLaw" (39 : Nat) ({ cls := "OrderedRoom", name := "read", desc := "(II)I" } : Jvm.MethodName)) ∈ lw_all := lw_g (lw_at lw_m0 103 rfl) rfl
theorem q119 : (Jvm.Cond.methodLink "OrderedRoomLaw" (43 : Nat) ({ cls := "OrderedRoom", name := "held", desc := "(I)I" } : Jvm.MethodName)) ∈ lw_all := lw_g (lw_at lw_m0 107 rfl) rfl
theorem q123 : (Jvm.Cond.methodLink "OrderedRoomLaw" (47 : Nat) ({ cls := "OrderedRoom", name := "agree", desc := "(II)I" } : Jvm.MethodName)) ∈ lw_all := lw_g (lw_at lw_m0 111 rfl) rfl
theorem q127 : (Jvm.Cond.classLink "OrderedRoomLaw" (10 : Nat) "OrderedRoomModel") ∈ lw_all := lw_g (lw_at lw_m0 115 rfl) rfl
theorem q129 : (Jvm.Cond.methodLink "OrderedRoomLaw" (12 : Nat) ({ cls := "OrderedRoomModel", name := "<init>", desc := "()V" } : Jvm.MethodName)) ∈ lw_all := lw_g (lw_at lw_m0 117 rfl) rfl
theorem q171 : (Jvm.Cond.methodLink "OrderedRoomLaw" (17 : Nat) ({ cls := "OrderedRoomModel", name := "write", desc := "(I)I" } : Jvm.MethodName)) ∈ lw_all := lw_g (lw_at lw_m0 159 rfl) rfl
theorem q182 : (Jvm.Cond.methodLink "OrderedRoomLaw" (21 : Nat) ({ cls := "OrderedRoomModel", name := "tick", desc := "(I)I" } : Jvm.MethodName)) ∈ lw_all := lw_g (lw_at lw_m0 170 rfl) rfl
theorem q190 : (Jvm.Cond.methodLink "OrderedRoomLaw" (26 : Nat) ({ cls := "OrderedRoomModel", name := "take", desc := "(II)I" } : Jvm.MethodName)) ∈ lw_all := lw_g (lw_at lw_m0 178 rfl) rfl
theorem q210 : (Jvm.Cond.methodLink "OrderedRoomLaw" (30 : Nat) ({ cls := "OrderedRoomModel", name := "waiting", desc := "(II)I" } : Jvm.MethodName)) ∈ lw_all := lw_g (lw_at lw_m0 198 rfl) rfl
theorem q214 : (Jvm.Cond.methodLink "OrderedRoomLaw" (34 : Nat) ({ cls := "OrderedRoomModel", name := "clock", desc := "(I)I" } : Jvm.MethodName)) ∈ lw_all := lw_g (lw_at lw_m0 202 rfl) rfl
theorem q218 : (Jvm.Cond.methodLink "OrderedRoomLaw" (38 : Nat) ({ cls := "OrderedRoomModel", name := "count", desc := "(I)I" } : Jvm.MethodName)) ∈ lw_all := lw_g (lw_at lw_m0 206 rfl) rfl
theorem q222 : (Jvm.Cond.methodLink "OrderedRoomLaw" (42 : Nat) ({ cls := "OrderedRoomModel", name := "read", desc := "(II)I" } : Jvm.MethodName)) ∈ lw_all := lw_g (lw_at lw_m0 210 rfl) rfl
theorem q226 : (Jvm.Cond.methodLink "OrderedRoomLaw" (46 : Nat) ({ cls := "OrderedRoomModel", name := "held", desc := "(I)I" } : Jvm.MethodName)) ∈ lw_all := lw_g (lw_at lw_m0 214 rfl) rfl
theorem q230 : (Jvm.Cond.methodLink "OrderedRoomLaw" (50 : Nat) ({ cls := "OrderedRoomModel", name := "agree", desc := "(II)I" } : Jvm.MethodName)) ∈ lw_all := lw_g (lw_at lw_m0 218 rfl) rfl

theorem q63 : (Jvm.Cond.arrayClass Jvm.ClassFile.FieldType.int) ∈ lw_all := lw_g (lw_at lw_m0 51 rfl) rfl
theorem q170 : (Jvm.Cond.arrayClass Jvm.ClassFile.FieldType.boolean) ∈ lw_all := lw_g (lw_at lw_m0 158 rfl) rfl
end
section
set_option maxRecDepth 100000
theorem dX0_init_0 : decode cX0_init 0 = .ok (.aload_n 0, 1) := by decide +kernel
theorem dX0_init_1 : decode cX0_init 1 = .ok (.invokespecial 1, 3) := by decide +kernel
theorem dX0_init_4 : decode cX0_init 4 = .ok (.aload_n 0, 1) := by decide +kernel
theorem dX0_init_5 : decode cX0_init 5 = .ok (.bipush 40, 2) := by decide +kernel
theorem dX0_init_7 : decode cX0_init 7 = .ok (.newarray .int, 2) := by decide +kernel
theorem dX0_init_9 : decode cX0_init 9 = .ok (.putfield 7, 3) := by decide +kernel
theorem dX0_init_12 : decode cX0_init 12 = .ok (.aload_n 0, 1) := by decide +kernel
theorem dX0_init_13 : decode cX0_init 13 = .ok (.bipush 40, 2) := by decide +kernel
theorem dX0_init_15 : decode cX0_init 15 = .ok (.newarray .int, 2) := by decide +kernel
theorem dX0_init_17 : decode cX0_init 17 = .ok (.putfield 13, 3) := by decide +kernel
theorem dX0_init_20 : decode cX0_init 20 = .ok (.aload_n 0, 1) := by decide +kernel
theorem dX0_init_21 : decode cX0_init 21 = .ok (.sipush 576, 3) := by decide +kernel
theorem dX0_init_24 : decode cX0_init 24 = .ok (.newarray .int, 2) := by decide +kernel
theorem dX0_init_26 : decode cX0_init 26 = .ok (.putfield 16, 3) := by decide +kernel
theorem dX0_init_29 : decode cX0_init 29 = .ok (.aload_n 0, 1) := by decide +kernel
theorem dX0_init_30 : decode cX0_init 30 = .ok (.sipush 576, 3) := by decide +kernel
theorem dX0_init_33 : decode cX0_init 33 = .ok (.newarray .int, 2) := by decide +kernel
theorem dX0_init_35 : decode cX0_init 35 = .ok (.putfield 19, 3) := by decide +kernel
theorem dX0_init_38 : decode cX0_init 38 = .ok (.aload_n 0, 1) := by decide +kernel
theorem dX0_init_39 : decode cX0_init 39 = .ok (.bipush 9, 2) := by decide +kernel
theorem dX0_init_41 : decode cX0_init 41 = .ok (.newarray .int, 2) := by decide +kernel
theorem dX0_init_43 : decode cX0_init 43 = .ok (.putfield 22, 3) := by decide +kernel
theorem dX0_init_46 : decode cX0_init 46 = .ok (.aload_n 0, 1) := by decide +kernel
theorem dX0_init_47 : decode cX0_init 47 = .ok (.bipush 9, 2) := by decide +kernel
theorem dX0_init_49 : decode cX0_init 49 = .ok (.newarray .int, 2) := by decide +kernel
theorem dX0_init_51 : decode cX0_init 51 = .ok (.putfield 25, 3) := by decide +kernel
theorem dX0_init_54 : decode cX0_init 54 = .ok (.aload_n 0, 1) := by decide +kernel
theorem dX0_init_55 : decode cX0_init 55 = .ok (.iconst 3, 1) := by decide +kernel
theorem dX0_init_56 : decode cX0_init 56 = .ok (.newarray .int, 2) := by decide +kernel
theorem dX0_init_58 : decode cX0_init 58 = .ok (.putfield 28, 3) := by decide +kernel
theorem dX0_init_61 : decode cX0_init 61 = .ok (.aload_n 0, 1) := by decide +kernel
theorem dX0_init_62 : decode cX0_init 62 = .ok (.bipush 9, 2) := by decide +kernel
theorem dX0_init_64 : decode cX0_init 64 = .ok (.newarray .int, 2) := by decide +kernel
theorem dX0_init_66 : decode cX0_init 66 = .ok (.putfield 31, 3) := by decide +kernel
theorem dX0_init_69 : decode cX0_init 69 = .ok (.aload_n 0, 1) := by decide +kernel
theorem dX0_init_70 : decode cX0_init 70 = .ok (.iconst 3, 1) := by decide +kernel
theorem dX0_init_71 : decode cX0_init 71 = .ok (.newarray .int, 2) := by decide +kernel
theorem dX0_init_73 : decode cX0_init 73 = .ok (.putfield 34, 3) := by decide +kernel
theorem dX0_init_76 : decode cX0_init 76 = .ok (.aload_n 0, 1) := by decide +kernel
theorem dX0_init_77 : decode cX0_init 77 = .ok (.bipush 120, 2) := by decide +kernel
theorem dX0_init_79 : decode cX0_init 79 = .ok (.newarray .int, 2) := by decide +kernel
theorem dX0_init_81 : decode cX0_init 81 = .ok (.putfield 37, 3) := by decide +kernel
theorem dX0_init_84 : decode cX0_init 84 = .ok (.aload_n 0, 1) := by decide +kernel
theorem dX0_init_85 : decode cX0_init 85 = .ok (.iconst 3, 1) := by decide +kernel
theorem dX0_init_86 : decode cX0_init 86 = .ok (.newarray .int, 2) := by decide +kernel
theorem dX0_init_88 : decode cX0_init 88 = .ok (.putfield 40, 3) := by decide +kernel
theorem dX0_init_91 : decode cX0_init 91 = .ok (.aload_n 0, 1) := by decide +kernel
theorem dX0_init_92 : decode cX0_init 92 = .ok (.bipush 120, 2) := by decide +kernel
theorem dX0_init_94 : decode cX0_init 94 = .ok (.newarray .int, 2) := by decide +kernel
theorem dX0_init_96 : decode cX0_init 96 = .ok (.putfield 43, 3) := by decide +kernel
theorem dX0_init_99 : decode cX0_init 99 = .ok (.return_, 1) := by decide +kernel
theorem dX0_write_0 : decode cX0_write 0 = .ok (.iload_n 1, 1) := by decide +kernel
theorem dX0_write_1 : decode cX0_write 1 = .ok (.invokestatic 46, 3) := by decide +kernel
theorem dX0_write_4 : decode cX0_write 4 = .ok (.ifCond .eq 12, 3) := by decide +kernel
theorem dX0_write_7 : decode cX0_write 7 = .ok (.aload_n 0, 1) := by decide +kernel
theorem dX0_write_8 : decode cX0_write 8 = .ok (.getfield 50, 3) := by decide +kernel
theorem dX0_write_11 : decode cX0_write 11 = .ok (.bipush 40, 2) := by decide +kernel
theorem dX0_write_13 : decode cX0_write 13 = .ok (.if_icmp .lt 5, 3) := by decide +kernel
theorem dX0_write_16 : decode cX0_write 16 = .ok (.iconst (-1), 1) := by decide +kernel
theorem dX0_write_17 : decode cX0_write 17 = .ok (.ireturn, 1) := by decide +kernel
theorem dX0_write_18 : decode cX0_write 18 = .ok (.aload_n 0, 1) := by decide +kernel
theorem dX0_write_19 : decode cX0_write 19 = .ok (.getfield 28, 3) := by decide +kernel
theorem dX0_write_22 : decode cX0_write 22 = .ok (.iload_n 1, 1) := by decide +kernel
theorem dX0_write_23 : decode cX0_write 23 = .ok (.dup2, 1) := by decide +kernel
theorem dX0_write_24 : decode cX0_write 24 = .ok (.iaload, 1) := by decide +kernel
theorem dX0_write_25 : decode cX0_write 25 = .ok (.iconst 1, 1) := by decide +kernel
theorem dX0_write_26 : decode cX0_write 26 = .ok (.iadd, 1) := by decide +kernel
theorem dX0_write_27 : decode cX0_write 27 = .ok (.iastore, 1) := by decide +kernel
theorem dX0_write_28 : decode cX0_write 28 = .ok (.aload_n 0, 1) := by decide +kernel
theorem dX0_write_29 : decode cX0_write 29 = .ok (.getfield 7, 3) := by decide +kernel
theorem dX0_write_32 : decode cX0_write 32 = .ok (.aload_n 0, 1) := by decide +kernel
theorem dX0_write_33 : decode cX0_write 33 = .ok (.getfield 50, 3) := by decide +kernel
theorem dX0_write_36 : decode cX0_write 36 = .ok (.iload_n 1, 1) := by decide +kernel
theorem dX0_write_37 : decode cX0_write 37 = .ok (.iastore, 1) := by decide +kernel
theorem dX0_write_38 : decode cX0_write 38 = .ok (.aload_n 0, 1) := by decide +kernel
theorem dX0_write_39 : decode cX0_write 39 = .ok (.getfield 13, 3) := by decide +kernel
theorem dX0_write_42 : decode cX0_write 42 = .ok (.aload_n 0, 1) := by decide +kernel
theorem dX0_write_43 : decode cX0_write 43 = .ok (.getfield 50, 3) := by decide +kernel
theorem dX0_write_46 : decode cX0_write 46 = .ok (.aload_n 0, 1) := by decide +kernel
theorem dX0_write_47 : decode cX0_write 47 = .ok (.getfield 28, 3) := by decide +kernel
theorem dX0_write_50 : decode cX0_write 50 = .ok (.iload_n 1, 1) := by decide +kernel
theorem dX0_write_51 : decode cX0_write 51 = .ok (.iaload, 1) := by decide +kernel
theorem dX0_write_52 : decode cX0_write 52 = .ok (.iastore, 1) := by decide +kernel
theorem dX0_write_53 : decode cX0_write 53 = .ok (.aload_n 0, 1) := by decide +kernel
theorem dX0_write_54 : decode cX0_write 54 = .ok (.dup, 1) := by decide +kernel
theorem dX0_write_55 : decode cX0_write 55 = .ok (.getfield 50, 3) := by decide +kernel
theorem dX0_write_58 : decode cX0_write 58 = .ok (.iconst 1, 1) := by decide +kernel
theorem dX0_write_59 : decode cX0_write 59 = .ok (.iadd, 1) := by decide +kernel
theorem dX0_write_60 : decode cX0_write 60 = .ok (.putfield 50, 3) := by decide +kernel
theorem dX0_write_63 : decode cX0_write 63 = .ok (.aload_n 0, 1) := by decide +kernel
theorem dX0_write_64 : decode cX0_write 64 = .ok (.iload_n 1, 1) := by decide +kernel
theorem dX0_write_65 : decode cX0_write 65 = .ok (.aload_n 0, 1) := by decide +kernel
theorem dX0_write_66 : decode cX0_write 66 = .ok (.getfield 50, 3) := by decide +kernel
theorem dX0_write_69 : decode cX0_write 69 = .ok (.iconst 1, 1) := by decide +kernel
theorem dX0_write_70 : decode cX0_write 70 = .ok (.isub, 1) := by decide +kernel
theorem dX0_write_71 : decode cX0_write 71 = .ok (.invokevirtual 54, 3) := by decide +kernel
theorem dX0_write_74 : decode cX0_write 74 = .ok (.aload_n 0, 1) := by decide +kernel
theorem dX0_write_75 : decode cX0_write 75 = .ok (.iload_n 1, 1) := by decide +kernel
theorem dX0_write_76 : decode cX0_write 76 = .ok (.aload_n 0, 1) := by decide +kernel
theorem dX0_write_77 : decode cX0_write 77 = .ok (.getfield 50, 3) := by decide +kernel
theorem dX0_write_80 : decode cX0_write 80 = .ok (.iconst 1, 1) := by decide +kernel
theorem dX0_write_81 : decode cX0_write 81 = .ok (.isub, 1) := by decide +kernel
theorem dX0_write_82 : decode cX0_write 82 = .ok (.invokevirtual 58, 3) := by decide +kernel
theorem dX0_write_85 : decode cX0_write 85 = .ok (.aload_n 0, 1) := by decide +kernel
theorem dX0_write_86 : decode cX0_write 86 = .ok (.iload_n 1, 1) := by decide +kernel
theorem dX0_write_87 : decode cX0_write 87 = .ok (.invokevirtual 61, 3) := by decide +kernel
theorem dX0_write_90 : decode cX0_write 90 = .ok (.pop, 1) := by decide +kernel
theorem dX0_write_91 : decode cX0_write 91 = .ok (.aload_n 0, 1) := by decide +kernel
theorem dX0_write_92 : decode cX0_write 92 = .ok (.getfield 50, 3) := by decide +kernel
theorem dX0_write_95 : decode cX0_write 95 = .ok (.iconst 1, 1) := by decide +kernel
theorem dX0_write_96 : decode cX0_write 96 = .ok (.isub, 1) := by decide +kernel
theorem dX0_write_97 : decode cX0_write 97 = .ok (.ireturn, 1) := by decide +kernel
theorem dX0_isMember_0 : decode cX0_isMember 0 = .ok (.iload_n 0, 1) := by decide +kernel
theorem dX0_isMember_1 : decode cX0_isMember 1 = .ok (.ifCond .lt 12, 3) := by decide +kernel
theorem dX0_isMember_4 : decode cX0_isMember 4 = .ok (.iload_n 0, 1) := by decide +kernel
theorem dX0_isMember_5 : decode cX0_isMember 5 = .ok (.iconst 2, 1) := by decide +kernel
theorem dX0_isMember_6 : decode cX0_isMember 6 = .ok (.if_icmp .gt 7, 3) := by decide +kernel
theorem dX0_isMember_9 : decode cX0_isMember 9 = .ok (.iconst 1, 1) := by decide +kernel
theorem dX0_isMember_10 : decode cX0_isMember 10 = .ok (.goto 4, 3) := by decide +kernel
theorem dX0_isMember_13 : decode cX0_isMember 13 = .ok (.iconst 0, 1) := by decide +kernel
theorem dX0_isMember_14 : decode cX0_isMember 14 = .ok (.ireturn, 1) := by decide +kernel
theorem dX0_setOut_0 : decode cX0_setOut 0 = .ok (.iconst 0, 1) := by decide +kernel
theorem dX0_setOut_1 : decode cX0_setOut 1 = .ok (.istore_n 3, 1) := by decide +kernel
theorem dX0_setOut_2 : decode cX0_setOut 2 = .ok (.iload_n 3, 1) := by decide +kernel
theorem dX0_setOut_3 : decode cX0_setOut 3 = .ok (.iconst 3, 1) := by decide +kernel
theorem dX0_setOut_4 : decode cX0_setOut 4 = .ok (.if_icmp .ge 79, 3) := by decide +kernel
theorem dX0_setOut_7 : decode cX0_setOut 7 = .ok (.iconst 3, 1) := by decide +kernel
theorem dX0_setOut_8 : decode cX0_setOut 8 = .ok (.iload_n 1, 1) := by decide +kernel
theorem dX0_setOut_9 : decode cX0_setOut 9 = .ok (.imul, 1) := by decide +kernel
theorem dX0_setOut_10 : decode cX0_setOut 10 = .ok (.iload_n 3, 1) := by decide +kernel
theorem dX0_setOut_11 : decode cX0_setOut 11 = .ok (.iadd, 1) := by decide +kernel
theorem dX0_setOut_12 : decode cX0_setOut 12 = .ok (.istore 4, 2) := by decide +kernel
theorem dX0_setOut_14 : decode cX0_setOut 14 = .ok (.iload_n 3, 1) := by decide +kernel
theorem dX0_setOut_15 : decode cX0_setOut 15 = .ok (.iload_n 1, 1) := by decide +kernel
theorem dX0_setOut_16 : decode cX0_setOut 16 = .ok (.if_icmp .eq 61, 3) := by decide +kernel
theorem dX0_setOut_19 : decode cX0_setOut 19 = .ok (.bipush 64, 2) := by decide +kernel
theorem dX0_setOut_21 : decode cX0_setOut 21 = .ok (.iload 4, 2) := by decide +kernel
theorem dX0_setOut_23 : decode cX0_setOut 23 = .ok (.imul, 1) := by decide +kernel
theorem dX0_setOut_24 : decode cX0_setOut 24 = .ok (.aload_n 0, 1) := by decide +kernel
theorem dX0_setOut_25 : decode cX0_setOut 25 = .ok (.getfield 22, 3) := by decide +kernel
theorem dX0_setOut_28 : decode cX0_setOut 28 = .ok (.iload 4, 2) := by decide +kernel
theorem dX0_setOut_30 : decode cX0_setOut 30 = .ok (.iaload, 1) := by decide +kernel
theorem dX0_setOut_31 : decode cX0_setOut 31 = .ok (.aload_n 0, 1) := by decide +kernel
theorem dX0_setOut_32 : decode cX0_setOut 32 = .ok (.getfield 25, 3) := by decide +kernel
theorem dX0_setOut_35 : decode cX0_setOut 35 = .ok (.iload 4, 2) := by decide +kernel
theorem dX0_setOut_37 : decode cX0_setOut 37 = .ok (.iaload, 1) := by decide +kernel
theorem dX0_setOut_38 : decode cX0_setOut 38 = .ok (.iadd, 1) := by decide +kernel
theorem dX0_setOut_39 : decode cX0_setOut 39 = .ok (.bipush 63, 2) := by decide +kernel
theorem dX0_setOut_41 : decode cX0_setOut 41 = .ok (.iand, 1) := by decide +kernel
theorem dX0_setOut_42 : decode cX0_setOut 42 = .ok (.iadd, 1) := by decide +kernel
theorem dX0_setOut_43 : decode cX0_setOut 43 = .ok (.istore 5, 2) := by decide +kernel
theorem dX0_setOut_45 : decode cX0_setOut 45 = .ok (.aload_n 0, 1) := by decide +kernel
theorem dX0_setOut_46 : decode cX0_setOut 46 = .ok (.getfield 16, 3) := by decide +kernel
theorem dX0_setOut_49 : decode cX0_setOut 49 = .ok (.iload 5, 2) := by decide +kernel
theorem dX0_setOut_51 : decode cX0_setOut 51 = .ok (.aload_n 0, 1) := by decide +kernel
theorem dX0_setOut_52 : decode cX0_setOut 52 = .ok (.getfield 28, 3) := by decide +kernel
theorem dX0_setOut_55 : decode cX0_setOut 55 = .ok (.iload_n 1, 1) := by decide +kernel
theorem dX0_setOut_56 : decode cX0_setOut 56 = .ok (.iaload, 1) := by decide +kernel
theorem dX0_setOut_57 : decode cX0_setOut 57 = .ok (.iastore, 1) := by decide +kernel
theorem dX0_setOut_58 : decode cX0_setOut 58 = .ok (.aload_n 0, 1) := by decide +kernel
theorem dX0_setOut_59 : decode cX0_setOut 59 = .ok (.getfield 19, 3) := by decide +kernel
theorem dX0_setOut_62 : decode cX0_setOut 62 = .ok (.iload 5, 2) := by decide +kernel
theorem dX0_setOut_64 : decode cX0_setOut 64 = .ok (.iload_n 2, 1) := by decide +kernel
theorem dX0_setOut_65 : decode cX0_setOut 65 = .ok (.iastore, 1) := by decide +kernel
theorem dX0_setOut_66 : decode cX0_setOut 66 = .ok (.aload_n 0, 1) := by decide +kernel
theorem dX0_setOut_67 : decode cX0_setOut 67 = .ok (.getfield 25, 3) := by decide +kernel
theorem dX0_setOut_70 : decode cX0_setOut 70 = .ok (.iload 4, 2) := by decide +kernel
theorem dX0_setOut_72 : decode cX0_setOut 72 = .ok (.dup2, 1) := by decide +kernel
theorem dX0_setOut_73 : decode cX0_setOut 73 = .ok (.iaload, 1) := by decide +kernel
theorem dX0_setOut_74 : decode cX0_setOut 74 = .ok (.iconst 1, 1) := by decide +kernel
theorem dX0_setOut_75 : decode cX0_setOut 75 = .ok (.iadd, 1) := by decide +kernel
theorem dX0_setOut_76 : decode cX0_setOut 76 = .ok (.iastore, 1) := by decide +kernel
theorem dX0_setOut_77 : decode cX0_setOut 77 = .ok (.iinc 3 1, 3) := by decide +kernel
theorem dX0_setOut_80 : decode cX0_setOut 80 = .ok (.goto (-78), 3) := by decide +kernel
theorem dX0_setOut_83 : decode cX0_setOut 83 = .ok (.return_, 1) := by decide +kernel
theorem dX0_push_0 : decode cX0_push 0 = .ok (.bipush 40, 2) := by decide +kernel
theorem dX0_push_2 : decode cX0_push 2 = .ok (.iload_n 1, 1) := by decide +kernel
theorem dX0_push_3 : decode cX0_push 3 = .ok (.imul, 1) := by decide +kernel
theorem dX0_push_4 : decode cX0_push 4 = .ok (.istore_n 3, 1) := by decide +kernel
theorem dX0_push_5 : decode cX0_push 5 = .ok (.aload_n 0, 1) := by decide +kernel
theorem dX0_push_6 : decode cX0_push 6 = .ok (.getfield 34, 3) := by decide +kernel
theorem dX0_push_9 : decode cX0_push 9 = .ok (.iload_n 1, 1) := by decide +kernel
theorem dX0_push_10 : decode cX0_push 10 = .ok (.iaload, 1) := by decide +kernel
theorem dX0_push_11 : decode cX0_push 11 = .ok (.istore 4, 2) := by decide +kernel
theorem dX0_push_13 : decode cX0_push 13 = .ok (.aload_n 0, 1) := by decide +kernel
theorem dX0_push_14 : decode cX0_push 14 = .ok (.getfield 37, 3) := by decide +kernel
theorem dX0_push_17 : decode cX0_push 17 = .ok (.iload_n 3, 1) := by decide +kernel
theorem dX0_push_18 : decode cX0_push 18 = .ok (.iload 4, 2) := by decide +kernel
theorem dX0_push_20 : decode cX0_push 20 = .ok (.iadd, 1) := by decide +kernel
theorem dX0_push_21 : decode cX0_push 21 = .ok (.iload_n 2, 1) := by decide +kernel
theorem dX0_push_22 : decode cX0_push 22 = .ok (.iastore, 1) := by decide +kernel
theorem dX0_push_23 : decode cX0_push 23 = .ok (.aload_n 0, 1) := by decide +kernel
theorem dX0_push_24 : decode cX0_push 24 = .ok (.getfield 34, 3) := by decide +kernel
theorem dX0_push_27 : decode cX0_push 27 = .ok (.iload_n 1, 1) := by decide +kernel
theorem dX0_push_28 : decode cX0_push 28 = .ok (.dup2, 1) := by decide +kernel
theorem dX0_push_29 : decode cX0_push 29 = .ok (.iaload, 1) := by decide +kernel
theorem dX0_push_30 : decode cX0_push 30 = .ok (.iconst 1, 1) := by decide +kernel
theorem dX0_push_31 : decode cX0_push 31 = .ok (.iadd, 1) := by decide +kernel
theorem dX0_push_32 : decode cX0_push 32 = .ok (.iastore, 1) := by decide +kernel
theorem dX0_push_33 : decode cX0_push 33 = .ok (.iconst 0, 1) := by decide +kernel
theorem dX0_push_34 : decode cX0_push 34 = .ok (.istore 5, 2) := by decide +kernel
theorem dX0_push_36 : decode cX0_push 36 = .ok (.iload 5, 2) := by decide +kernel
theorem dX0_push_38 : decode cX0_push 38 = .ok (.bipush 6, 2) := by decide +kernel
theorem dX0_push_40 : decode cX0_push 40 = .ok (.if_icmp .ge 75, 3) := by decide +kernel
theorem dX0_push_43 : decode cX0_push 43 = .ok (.iload 4, 2) := by decide +kernel
theorem dX0_push_45 : decode cX0_push 45 = .ok (.ifCond .le 70, 3) := by decide +kernel
theorem dX0_push_48 : decode cX0_push 48 = .ok (.aload_n 0, 1) := by decide +kernel
theorem dX0_push_49 : decode cX0_push 49 = .ok (.iload_n 2, 1) := by decide +kernel
theorem dX0_push_50 : decode cX0_push 50 = .ok (.aload_n 0, 1) := by decide +kernel
theorem dX0_push_51 : decode cX0_push 51 = .ok (.getfield 37, 3) := by decide +kernel
theorem dX0_push_54 : decode cX0_push 54 = .ok (.iload_n 3, 1) := by decide +kernel
theorem dX0_push_55 : decode cX0_push 55 = .ok (.iload 4, 2) := by decide +kernel
theorem dX0_push_57 : decode cX0_push 57 = .ok (.iconst 1, 1) := by decide +kernel
theorem dX0_push_58 : decode cX0_push 58 = .ok (.isub, 1) := by decide +kernel
theorem dX0_push_59 : decode cX0_push 59 = .ok (.iconst 2, 1) := by decide +kernel
theorem dX0_push_60 : decode cX0_push 60 = .ok (.idiv, 1) := by decide +kernel
theorem dX0_push_61 : decode cX0_push 61 = .ok (.iadd, 1) := by decide +kernel
theorem dX0_push_62 : decode cX0_push 62 = .ok (.iaload, 1) := by decide +kernel
theorem dX0_push_63 : decode cX0_push 63 = .ok (.invokevirtual 73, 3) := by decide +kernel
theorem dX0_push_66 : decode cX0_push 66 = .ok (.ifCond .eq 49, 3) := by decide +kernel
theorem dX0_push_69 : decode cX0_push 69 = .ok (.aload_n 0, 1) := by decide +kernel
theorem dX0_push_70 : decode cX0_push 70 = .ok (.getfield 37, 3) := by decide +kernel
theorem dX0_push_73 : decode cX0_push 73 = .ok (.iload_n 3, 1) := by decide +kernel
theorem dX0_push_74 : decode cX0_push 74 = .ok (.iload 4, 2) := by decide +kernel
theorem dX0_push_76 : decode cX0_push 76 = .ok (.iadd, 1) := by decide +kernel
theorem dX0_push_77 : decode cX0_push 77 = .ok (.aload_n 0, 1) := by decide +kernel
theorem dX0_push_78 : decode cX0_push 78 = .ok (.getfield 37, 3) := by decide +kernel
theorem dX0_push_81 : decode cX0_push 81 = .ok (.iload_n 3, 1) := by decide +kernel
theorem dX0_push_82 : decode cX0_push 82 = .ok (.iload 4, 2) := by decide +kernel
theorem dX0_push_84 : decode cX0_push 84 = .ok (.iconst 1, 1) := by decide +kernel
theorem dX0_push_85 : decode cX0_push 85 = .ok (.isub, 1) := by decide +kernel
theorem dX0_push_86 : decode cX0_push 86 = .ok (.iconst 2, 1) := by decide +kernel
theorem dX0_push_87 : decode cX0_push 87 = .ok (.idiv, 1) := by decide +kernel
theorem dX0_push_88 : decode cX0_push 88 = .ok (.iadd, 1) := by decide +kernel
theorem dX0_push_89 : decode cX0_push 89 = .ok (.iaload, 1) := by decide +kernel
theorem dX0_push_90 : decode cX0_push 90 = .ok (.iastore, 1) := by decide +kernel
theorem dX0_push_91 : decode cX0_push 91 = .ok (.iload 4, 2) := by decide +kernel
theorem dX0_push_93 : decode cX0_push 93 = .ok (.iconst 1, 1) := by decide +kernel
theorem dX0_push_94 : decode cX0_push 94 = .ok (.isub, 1) := by decide +kernel
theorem dX0_push_95 : decode cX0_push 95 = .ok (.iconst 2, 1) := by decide +kernel
theorem dX0_push_96 : decode cX0_push 96 = .ok (.idiv, 1) := by decide +kernel
theorem dX0_push_97 : decode cX0_push 97 = .ok (.istore 4, 2) := by decide +kernel
theorem dX0_push_99 : decode cX0_push 99 = .ok (.aload_n 0, 1) := by decide +kernel
theorem dX0_push_100 : decode cX0_push 100 = .ok (.getfield 37, 3) := by decide +kernel
theorem dX0_push_103 : decode cX0_push 103 = .ok (.iload_n 3, 1) := by decide +kernel
theorem dX0_push_104 : decode cX0_push 104 = .ok (.iload 4, 2) := by decide +kernel
theorem dX0_push_106 : decode cX0_push 106 = .ok (.iadd, 1) := by decide +kernel
theorem dX0_push_107 : decode cX0_push 107 = .ok (.iload_n 2, 1) := by decide +kernel
theorem dX0_push_108 : decode cX0_push 108 = .ok (.iastore, 1) := by decide +kernel
theorem dX0_push_109 : decode cX0_push 109 = .ok (.iinc 5 1, 3) := by decide +kernel
theorem dX0_push_112 : decode cX0_push 112 = .ok (.goto (-76), 3) := by decide +kernel
theorem dX0_push_115 : decode cX0_push 115 = .ok (.return_, 1) := by decide +kernel
theorem dX0_isEarlier_0 : decode cX0_isEarlier 0 = .ok (.aload_n 0, 1) := by decide +kernel
theorem dX0_isEarlier_1 : decode cX0_isEarlier 1 = .ok (.getfield 13, 3) := by decide +kernel
theorem dX0_isEarlier_4 : decode cX0_isEarlier 4 = .ok (.iload_n 1, 1) := by decide +kernel
theorem dX0_isEarlier_5 : decode cX0_isEarlier 5 = .ok (.iaload, 1) := by decide +kernel
theorem dX0_isEarlier_6 : decode cX0_isEarlier 6 = .ok (.aload_n 0, 1) := by decide +kernel
theorem dX0_isEarlier_7 : decode cX0_isEarlier 7 = .ok (.getfield 13, 3) := by decide +kernel
theorem dX0_isEarlier_10 : decode cX0_isEarlier 10 = .ok (.iload_n 2, 1) := by decide +kernel
theorem dX0_isEarlier_11 : decode cX0_isEarlier 11 = .ok (.iaload, 1) := by decide +kernel
end
section
set_option maxRecDepth 100000
theorem dX0_isEarlier_12 : decode cX0_isEarlier 12 = .ok (.if_icmp .eq 24, 3) := by decide +kernel
theorem dX0_isEarlier_15 : decode cX0_isEarlier 15 = .ok (.aload_n 0, 1) := by decide +kernel
theorem dX0_isEarlier_16 : decode cX0_isEarlier 16 = .ok (.getfield 13, 3) := by decide +kernel
theorem dX0_isEarlier_19 : decode cX0_isEarlier 19 = .ok (.iload_n 1, 1) := by decide +kernel
theorem dX0_isEarlier_20 : decode cX0_isEarlier 20 = .ok (.iaload, 1) := by decide +kernel
theorem dX0_isEarlier_21 : decode cX0_isEarlier 21 = .ok (.aload_n 0, 1) := by decide +kernel
theorem dX0_isEarlier_22 : decode cX0_isEarlier 22 = .ok (.getfield 13, 3) := by decide +kernel
theorem dX0_isEarlier_25 : decode cX0_isEarlier 25 = .ok (.iload_n 2, 1) := by decide +kernel
theorem dX0_isEarlier_26 : decode cX0_isEarlier 26 = .ok (.iaload, 1) := by decide +kernel
theorem dX0_isEarlier_27 : decode cX0_isEarlier 27 = .ok (.if_icmp .ge 7, 3) := by decide +kernel
theorem dX0_isEarlier_30 : decode cX0_isEarlier 30 = .ok (.iconst 1, 1) := by decide +kernel
theorem dX0_isEarlier_31 : decode cX0_isEarlier 31 = .ok (.goto 4, 3) := by decide +kernel
theorem dX0_isEarlier_34 : decode cX0_isEarlier 34 = .ok (.iconst 0, 1) := by decide +kernel
theorem dX0_isEarlier_35 : decode cX0_isEarlier 35 = .ok (.ireturn, 1) := by decide +kernel
theorem dX0_isEarlier_36 : decode cX0_isEarlier 36 = .ok (.aload_n 0, 1) := by decide +kernel
theorem dX0_isEarlier_37 : decode cX0_isEarlier 37 = .ok (.getfield 7, 3) := by decide +kernel
theorem dX0_isEarlier_40 : decode cX0_isEarlier 40 = .ok (.iload_n 1, 1) := by decide +kernel
theorem dX0_isEarlier_41 : decode cX0_isEarlier 41 = .ok (.iaload, 1) := by decide +kernel
theorem dX0_isEarlier_42 : decode cX0_isEarlier 42 = .ok (.aload_n 0, 1) := by decide +kernel
theorem dX0_isEarlier_43 : decode cX0_isEarlier 43 = .ok (.getfield 7, 3) := by decide +kernel
theorem dX0_isEarlier_46 : decode cX0_isEarlier 46 = .ok (.iload_n 2, 1) := by decide +kernel
theorem dX0_isEarlier_47 : decode cX0_isEarlier 47 = .ok (.iaload, 1) := by decide +kernel
theorem dX0_isEarlier_48 : decode cX0_isEarlier 48 = .ok (.if_icmp .ge 7, 3) := by decide +kernel
theorem dX0_isEarlier_51 : decode cX0_isEarlier 51 = .ok (.iconst 1, 1) := by decide +kernel
theorem dX0_isEarlier_52 : decode cX0_isEarlier 52 = .ok (.goto 4, 3) := by decide +kernel
theorem dX0_isEarlier_55 : decode cX0_isEarlier 55 = .ok (.iconst 0, 1) := by decide +kernel
theorem dX0_isEarlier_56 : decode cX0_isEarlier 56 = .ok (.ireturn, 1) := by decide +kernel
theorem dX0_readOn_0 : decode cX0_readOn 0 = .ok (.iconst 0, 1) := by decide +kernel
theorem dX0_readOn_1 : decode cX0_readOn 1 = .ok (.istore_n 2, 1) := by decide +kernel
theorem dX0_readOn_2 : decode cX0_readOn 2 = .ok (.iconst 0, 1) := by decide +kernel
theorem dX0_readOn_3 : decode cX0_readOn 3 = .ok (.istore_n 3, 1) := by decide +kernel
theorem dX0_readOn_4 : decode cX0_readOn 4 = .ok (.iload_n 3, 1) := by decide +kernel
theorem dX0_readOn_5 : decode cX0_readOn 5 = .ok (.bipush 40, 2) := by decide +kernel
theorem dX0_readOn_7 : decode cX0_readOn 7 = .ok (.if_icmp .ge 77, 3) := by decide +kernel
theorem dX0_readOn_10 : decode cX0_readOn 10 = .ok (.aload_n 0, 1) := by decide +kernel
theorem dX0_readOn_11 : decode cX0_readOn 11 = .ok (.getfield 34, 3) := by decide +kernel
theorem dX0_readOn_14 : decode cX0_readOn 14 = .ok (.iload_n 1, 1) := by decide +kernel
theorem dX0_readOn_15 : decode cX0_readOn 15 = .ok (.iaload, 1) := by decide +kernel
theorem dX0_readOn_16 : decode cX0_readOn 16 = .ok (.ifCond .le 68, 3) := by decide +kernel
theorem dX0_readOn_19 : decode cX0_readOn 19 = .ok (.aload_n 0, 1) := by decide +kernel
theorem dX0_readOn_20 : decode cX0_readOn 20 = .ok (.getfield 37, 3) := by decide +kernel
theorem dX0_readOn_23 : decode cX0_readOn 23 = .ok (.bipush 40, 2) := by decide +kernel
theorem dX0_readOn_25 : decode cX0_readOn 25 = .ok (.iload_n 1, 1) := by decide +kernel
theorem dX0_readOn_26 : decode cX0_readOn 26 = .ok (.imul, 1) := by decide +kernel
theorem dX0_readOn_27 : decode cX0_readOn 27 = .ok (.iaload, 1) := by decide +kernel
theorem dX0_readOn_28 : decode cX0_readOn 28 = .ok (.istore 4, 2) := by decide +kernel
theorem dX0_readOn_30 : decode cX0_readOn 30 = .ok (.aload_n 0, 1) := by decide +kernel
theorem dX0_readOn_31 : decode cX0_readOn 31 = .ok (.iload_n 1, 1) := by decide +kernel
theorem dX0_readOn_32 : decode cX0_readOn 32 = .ok (.iload 4, 2) := by decide +kernel
theorem dX0_readOn_34 : decode cX0_readOn 34 = .ok (.invokevirtual 65, 3) := by decide +kernel
theorem dX0_readOn_37 : decode cX0_readOn 37 = .ok (.ifCond .ne 5, 3) := by decide +kernel
theorem dX0_readOn_40 : decode cX0_readOn 40 = .ok (.iload_n 2, 1) := by decide +kernel
theorem dX0_readOn_41 : decode cX0_readOn 41 = .ok (.ireturn, 1) := by decide +kernel
theorem dX0_readOn_42 : decode cX0_readOn 42 = .ok (.aload_n 0, 1) := by decide +kernel
theorem dX0_readOn_43 : decode cX0_readOn 43 = .ok (.iload_n 1, 1) := by decide +kernel
theorem dX0_readOn_44 : decode cX0_readOn 44 = .ok (.invokevirtual 69, 3) := by decide +kernel
theorem dX0_readOn_47 : decode cX0_readOn 47 = .ok (.aload_n 0, 1) := by decide +kernel
theorem dX0_readOn_48 : decode cX0_readOn 48 = .ok (.getfield 43, 3) := by decide +kernel
theorem dX0_readOn_51 : decode cX0_readOn 51 = .ok (.bipush 40, 2) := by decide +kernel
theorem dX0_readOn_53 : decode cX0_readOn 53 = .ok (.iload_n 1, 1) := by decide +kernel
theorem dX0_readOn_54 : decode cX0_readOn 54 = .ok (.imul, 1) := by decide +kernel
theorem dX0_readOn_55 : decode cX0_readOn 55 = .ok (.aload_n 0, 1) := by decide +kernel
theorem dX0_readOn_56 : decode cX0_readOn 56 = .ok (.getfield 40, 3) := by decide +kernel
theorem dX0_readOn_59 : decode cX0_readOn 59 = .ok (.iload_n 1, 1) := by decide +kernel
theorem dX0_readOn_60 : decode cX0_readOn 60 = .ok (.iaload, 1) := by decide +kernel
theorem dX0_readOn_61 : decode cX0_readOn 61 = .ok (.iadd, 1) := by decide +kernel
theorem dX0_readOn_62 : decode cX0_readOn 62 = .ok (.iload 4, 2) := by decide +kernel
theorem dX0_readOn_64 : decode cX0_readOn 64 = .ok (.iastore, 1) := by decide +kernel
theorem dX0_readOn_65 : decode cX0_readOn 65 = .ok (.aload_n 0, 1) := by decide +kernel
theorem dX0_readOn_66 : decode cX0_readOn 66 = .ok (.getfield 40, 3) := by decide +kernel
theorem dX0_readOn_69 : decode cX0_readOn 69 = .ok (.iload_n 1, 1) := by decide +kernel
theorem dX0_readOn_70 : decode cX0_readOn 70 = .ok (.dup2, 1) := by decide +kernel
theorem dX0_readOn_71 : decode cX0_readOn 71 = .ok (.iaload, 1) := by decide +kernel
theorem dX0_readOn_72 : decode cX0_readOn 72 = .ok (.iconst 1, 1) := by decide +kernel
theorem dX0_readOn_73 : decode cX0_readOn 73 = .ok (.iadd, 1) := by decide +kernel
theorem dX0_readOn_74 : decode cX0_readOn 74 = .ok (.iastore, 1) := by decide +kernel
theorem dX0_readOn_75 : decode cX0_readOn 75 = .ok (.iinc 2 1, 3) := by decide +kernel
theorem dX0_readOn_78 : decode cX0_readOn 78 = .ok (.iinc 3 1, 3) := by decide +kernel
theorem dX0_readOn_81 : decode cX0_readOn 81 = .ok (.goto (-77), 3) := by decide +kernel
theorem dX0_readOn_84 : decode cX0_readOn 84 = .ok (.iload_n 2, 1) := by decide +kernel
theorem dX0_readOn_85 : decode cX0_readOn 85 = .ok (.ireturn, 1) := by decide +kernel
theorem dX0_isSafe_0 : decode cX0_isSafe 0 = .ok (.iconst 0, 1) := by decide +kernel
theorem dX0_isSafe_1 : decode cX0_isSafe 1 = .ok (.istore_n 3, 1) := by decide +kernel
theorem dX0_isSafe_2 : decode cX0_isSafe 2 = .ok (.iload_n 3, 1) := by decide +kernel
theorem dX0_isSafe_3 : decode cX0_isSafe 3 = .ok (.iconst 3, 1) := by decide +kernel
theorem dX0_isSafe_4 : decode cX0_isSafe 4 = .ok (.if_icmp .ge 82, 3) := by decide +kernel
theorem dX0_isSafe_7 : decode cX0_isSafe 7 = .ok (.iload_n 3, 1) := by decide +kernel
theorem dX0_isSafe_8 : decode cX0_isSafe 8 = .ok (.iload_n 1, 1) := by decide +kernel
theorem dX0_isSafe_9 : decode cX0_isSafe 9 = .ok (.if_icmp .eq 71, 3) := by decide +kernel
theorem dX0_isSafe_12 : decode cX0_isSafe 12 = .ok (.iload_n 3, 1) := by decide +kernel
theorem dX0_isSafe_13 : decode cX0_isSafe 13 = .ok (.aload_n 0, 1) := by decide +kernel
theorem dX0_isSafe_14 : decode cX0_isSafe 14 = .ok (.getfield 7, 3) := by decide +kernel
theorem dX0_isSafe_17 : decode cX0_isSafe 17 = .ok (.iload_n 2, 1) := by decide +kernel
theorem dX0_isSafe_18 : decode cX0_isSafe 18 = .ok (.iaload, 1) := by decide +kernel
theorem dX0_isSafe_19 : decode cX0_isSafe 19 = .ok (.if_icmp .eq 61, 3) := by decide +kernel
theorem dX0_isSafe_22 : decode cX0_isSafe 22 = .ok (.aload_n 0, 1) := by decide +kernel
theorem dX0_isSafe_23 : decode cX0_isSafe 23 = .ok (.getfield 31, 3) := by decide +kernel
theorem dX0_isSafe_26 : decode cX0_isSafe 26 = .ok (.iconst 3, 1) := by decide +kernel
theorem dX0_isSafe_27 : decode cX0_isSafe 27 = .ok (.iload_n 1, 1) := by decide +kernel
theorem dX0_isSafe_28 : decode cX0_isSafe 28 = .ok (.imul, 1) := by decide +kernel
theorem dX0_isSafe_29 : decode cX0_isSafe 29 = .ok (.iload_n 3, 1) := by decide +kernel
theorem dX0_isSafe_30 : decode cX0_isSafe 30 = .ok (.iadd, 1) := by decide +kernel
theorem dX0_isSafe_31 : decode cX0_isSafe 31 = .ok (.iaload, 1) := by decide +kernel
theorem dX0_isSafe_32 : decode cX0_isSafe 32 = .ok (.istore 4, 2) := by decide +kernel
theorem dX0_isSafe_34 : decode cX0_isSafe 34 = .ok (.iload 4, 2) := by decide +kernel
theorem dX0_isSafe_36 : decode cX0_isSafe 36 = .ok (.aload_n 0, 1) := by decide +kernel
theorem dX0_isSafe_37 : decode cX0_isSafe 37 = .ok (.getfield 13, 3) := by decide +kernel
theorem dX0_isSafe_40 : decode cX0_isSafe 40 = .ok (.iload_n 2, 1) := by decide +kernel
theorem dX0_isSafe_41 : decode cX0_isSafe 41 = .ok (.iaload, 1) := by decide +kernel
theorem dX0_isSafe_42 : decode cX0_isSafe 42 = .ok (.if_icmp .gt 24, 3) := by decide +kernel
theorem dX0_isSafe_45 : decode cX0_isSafe 45 = .ok (.iload 4, 2) := by decide +kernel
theorem dX0_isSafe_47 : decode cX0_isSafe 47 = .ok (.aload_n 0, 1) := by decide +kernel
theorem dX0_isSafe_48 : decode cX0_isSafe 48 = .ok (.getfield 13, 3) := by decide +kernel
theorem dX0_isSafe_51 : decode cX0_isSafe 51 = .ok (.iload_n 2, 1) := by decide +kernel
theorem dX0_isSafe_52 : decode cX0_isSafe 52 = .ok (.iaload, 1) := by decide +kernel
theorem dX0_isSafe_53 : decode cX0_isSafe 53 = .ok (.if_icmp .ne 17, 3) := by decide +kernel
theorem dX0_isSafe_56 : decode cX0_isSafe 56 = .ok (.iload_n 3, 1) := by decide +kernel
theorem dX0_isSafe_57 : decode cX0_isSafe 57 = .ok (.aload_n 0, 1) := by decide +kernel
theorem dX0_isSafe_58 : decode cX0_isSafe 58 = .ok (.getfield 7, 3) := by decide +kernel
theorem dX0_isSafe_61 : decode cX0_isSafe 61 = .ok (.iload_n 2, 1) := by decide +kernel
theorem dX0_isSafe_62 : decode cX0_isSafe 62 = .ok (.iaload, 1) := by decide +kernel
theorem dX0_isSafe_63 : decode cX0_isSafe 63 = .ok (.if_icmp .lt 7, 3) := by decide +kernel
theorem dX0_isSafe_66 : decode cX0_isSafe 66 = .ok (.iconst 1, 1) := by decide +kernel
theorem dX0_isSafe_67 : decode cX0_isSafe 67 = .ok (.goto 4, 3) := by decide +kernel
theorem dX0_isSafe_70 : decode cX0_isSafe 70 = .ok (.iconst 0, 1) := by decide +kernel
theorem dX0_isSafe_71 : decode cX0_isSafe 71 = .ok (.istore 5, 2) := by decide +kernel
theorem dX0_isSafe_73 : decode cX0_isSafe 73 = .ok (.iload 5, 2) := by decide +kernel
theorem dX0_isSafe_75 : decode cX0_isSafe 75 = .ok (.ifCond .ne 5, 3) := by decide +kernel
theorem dX0_isSafe_78 : decode cX0_isSafe 78 = .ok (.iconst 0, 1) := by decide +kernel
theorem dX0_isSafe_79 : decode cX0_isSafe 79 = .ok (.ireturn, 1) := by decide +kernel
theorem dX0_isSafe_80 : decode cX0_isSafe 80 = .ok (.iinc 3 1, 3) := by decide +kernel
theorem dX0_isSafe_83 : decode cX0_isSafe 83 = .ok (.goto (-81), 3) := by decide +kernel
theorem dX0_isSafe_86 : decode cX0_isSafe 86 = .ok (.iconst 1, 1) := by decide +kernel
theorem dX0_isSafe_87 : decode cX0_isSafe 87 = .ok (.ireturn, 1) := by decide +kernel
theorem dX0_pop_0 : decode cX0_pop 0 = .ok (.bipush 40, 2) := by decide +kernel
theorem dX0_pop_2 : decode cX0_pop 2 = .ok (.iload_n 1, 1) := by decide +kernel
theorem dX0_pop_3 : decode cX0_pop 3 = .ok (.imul, 1) := by decide +kernel
theorem dX0_pop_4 : decode cX0_pop 4 = .ok (.istore_n 2, 1) := by decide +kernel
theorem dX0_pop_5 : decode cX0_pop 5 = .ok (.aload_n 0, 1) := by decide +kernel
theorem dX0_pop_6 : decode cX0_pop 6 = .ok (.getfield 34, 3) := by decide +kernel
theorem dX0_pop_9 : decode cX0_pop 9 = .ok (.iload_n 1, 1) := by decide +kernel
theorem dX0_pop_10 : decode cX0_pop 10 = .ok (.dup2, 1) := by decide +kernel
theorem dX0_pop_11 : decode cX0_pop 11 = .ok (.iaload, 1) := by decide +kernel
theorem dX0_pop_12 : decode cX0_pop 12 = .ok (.iconst 1, 1) := by decide +kernel
theorem dX0_pop_13 : decode cX0_pop 13 = .ok (.isub, 1) := by decide +kernel
theorem dX0_pop_14 : decode cX0_pop 14 = .ok (.iastore, 1) := by decide +kernel
theorem dX0_pop_15 : decode cX0_pop 15 = .ok (.aload_n 0, 1) := by decide +kernel
theorem dX0_pop_16 : decode cX0_pop 16 = .ok (.getfield 34, 3) := by decide +kernel
theorem dX0_pop_19 : decode cX0_pop 19 = .ok (.iload_n 1, 1) := by decide +kernel
theorem dX0_pop_20 : decode cX0_pop 20 = .ok (.iaload, 1) := by decide +kernel
theorem dX0_pop_21 : decode cX0_pop 21 = .ok (.istore_n 3, 1) := by decide +kernel
theorem dX0_pop_22 : decode cX0_pop 22 = .ok (.aload_n 0, 1) := by decide +kernel
theorem dX0_pop_23 : decode cX0_pop 23 = .ok (.getfield 37, 3) := by decide +kernel
theorem dX0_pop_26 : decode cX0_pop 26 = .ok (.iload_n 2, 1) := by decide +kernel
theorem dX0_pop_27 : decode cX0_pop 27 = .ok (.iload_n 3, 1) := by decide +kernel
theorem dX0_pop_28 : decode cX0_pop 28 = .ok (.iadd, 1) := by decide +kernel
theorem dX0_pop_29 : decode cX0_pop 29 = .ok (.iaload, 1) := by decide +kernel
theorem dX0_pop_30 : decode cX0_pop 30 = .ok (.istore 4, 2) := by decide +kernel
theorem dX0_pop_32 : decode cX0_pop 32 = .ok (.iconst 0, 1) := by decide +kernel
theorem dX0_pop_33 : decode cX0_pop 33 = .ok (.istore 5, 2) := by decide +kernel
theorem dX0_pop_35 : decode cX0_pop 35 = .ok (.iconst 1, 1) := by decide +kernel
theorem dX0_pop_36 : decode cX0_pop 36 = .ok (.istore 6, 2) := by decide +kernel
theorem dX0_pop_38 : decode cX0_pop 38 = .ok (.iconst 0, 1) := by decide +kernel
theorem dX0_pop_39 : decode cX0_pop 39 = .ok (.istore 7, 2) := by decide +kernel
theorem dX0_pop_41 : decode cX0_pop 41 = .ok (.iload 7, 2) := by decide +kernel
theorem dX0_pop_43 : decode cX0_pop 43 = .ok (.bipush 7, 2) := by decide +kernel
theorem dX0_pop_45 : decode cX0_pop 45 = .ok (.if_icmp .ge 118, 3) := by decide +kernel
theorem dX0_pop_48 : decode cX0_pop 48 = .ok (.iload 6, 2) := by decide +kernel
theorem dX0_pop_50 : decode cX0_pop 50 = .ok (.ifCond .eq 113, 3) := by decide +kernel
theorem dX0_pop_53 : decode cX0_pop 53 = .ok (.iconst 2, 1) := by decide +kernel
theorem dX0_pop_54 : decode cX0_pop 54 = .ok (.iload 5, 2) := by decide +kernel
theorem dX0_pop_56 : decode cX0_pop 56 = .ok (.imul, 1) := by decide +kernel
theorem dX0_pop_57 : decode cX0_pop 57 = .ok (.iconst 1, 1) := by decide +kernel
theorem dX0_pop_58 : decode cX0_pop 58 = .ok (.iadd, 1) := by decide +kernel
theorem dX0_pop_59 : decode cX0_pop 59 = .ok (.istore 8, 2) := by decide +kernel
theorem dX0_pop_61 : decode cX0_pop 61 = .ok (.iload 8, 2) := by decide +kernel
theorem dX0_pop_63 : decode cX0_pop 63 = .ok (.iconst 1, 1) := by decide +kernel
theorem dX0_pop_64 : decode cX0_pop 64 = .ok (.iadd, 1) := by decide +kernel
theorem dX0_pop_65 : decode cX0_pop 65 = .ok (.iload_n 3, 1) := by decide +kernel
theorem dX0_pop_66 : decode cX0_pop 66 = .ok (.if_icmp .ge 33, 3) := by decide +kernel
theorem dX0_pop_69 : decode cX0_pop 69 = .ok (.aload_n 0, 1) := by decide +kernel
theorem dX0_pop_70 : decode cX0_pop 70 = .ok (.aload_n 0, 1) := by decide +kernel
theorem dX0_pop_71 : decode cX0_pop 71 = .ok (.getfield 37, 3) := by decide +kernel
theorem dX0_pop_74 : decode cX0_pop 74 = .ok (.iload_n 2, 1) := by decide +kernel
theorem dX0_pop_75 : decode cX0_pop 75 = .ok (.iload 8, 2) := by decide +kernel
theorem dX0_pop_77 : decode cX0_pop 77 = .ok (.iadd, 1) := by decide +kernel
theorem dX0_pop_78 : decode cX0_pop 78 = .ok (.iconst 1, 1) := by decide +kernel
theorem dX0_pop_79 : decode cX0_pop 79 = .ok (.iadd, 1) := by decide +kernel
theorem dX0_pop_80 : decode cX0_pop 80 = .ok (.iaload, 1) := by decide +kernel
theorem dX0_pop_81 : decode cX0_pop 81 = .ok (.aload_n 0, 1) := by decide +kernel
theorem dX0_pop_82 : decode cX0_pop 82 = .ok (.getfield 37, 3) := by decide +kernel
theorem dX0_pop_85 : decode cX0_pop 85 = .ok (.iload_n 2, 1) := by decide +kernel
theorem dX0_pop_86 : decode cX0_pop 86 = .ok (.iload 8, 2) := by decide +kernel
theorem dX0_pop_88 : decode cX0_pop 88 = .ok (.iadd, 1) := by decide +kernel
theorem dX0_pop_89 : decode cX0_pop 89 = .ok (.iaload, 1) := by decide +kernel
theorem dX0_pop_90 : decode cX0_pop 90 = .ok (.invokevirtual 73, 3) := by decide +kernel
theorem dX0_pop_93 : decode cX0_pop 93 = .ok (.ifCond .eq 6, 3) := by decide +kernel
theorem dX0_pop_96 : decode cX0_pop 96 = .ok (.iinc 8 1, 3) := by decide +kernel
theorem dX0_pop_99 : decode cX0_pop 99 = .ok (.iload 8, 2) := by decide +kernel
theorem dX0_pop_101 : decode cX0_pop 101 = .ok (.iload_n 3, 1) := by decide +kernel
theorem dX0_pop_102 : decode cX0_pop 102 = .ok (.if_icmp .ge 25, 3) := by decide +kernel
theorem dX0_pop_105 : decode cX0_pop 105 = .ok (.aload_n 0, 1) := by decide +kernel
theorem dX0_pop_106 : decode cX0_pop 106 = .ok (.aload_n 0, 1) := by decide +kernel
theorem dX0_pop_107 : decode cX0_pop 107 = .ok (.getfield 37, 3) := by decide +kernel
theorem dX0_pop_110 : decode cX0_pop 110 = .ok (.iload_n 2, 1) := by decide +kernel
theorem dX0_pop_111 : decode cX0_pop 111 = .ok (.iload 8, 2) := by decide +kernel
theorem dX0_pop_113 : decode cX0_pop 113 = .ok (.iadd, 1) := by decide +kernel
theorem dX0_pop_114 : decode cX0_pop 114 = .ok (.iaload, 1) := by decide +kernel
theorem dX0_pop_115 : decode cX0_pop 115 = .ok (.iload 4, 2) := by decide +kernel
theorem dX0_pop_117 : decode cX0_pop 117 = .ok (.invokevirtual 73, 3) := by decide +kernel
theorem dX0_pop_120 : decode cX0_pop 120 = .ok (.ifCond .eq 7, 3) := by decide +kernel
theorem dX0_pop_123 : decode cX0_pop 123 = .ok (.iconst 1, 1) := by decide +kernel
theorem dX0_pop_124 : decode cX0_pop 124 = .ok (.goto 4, 3) := by decide +kernel
theorem dX0_pop_127 : decode cX0_pop 127 = .ok (.iconst 0, 1) := by decide +kernel
theorem dX0_pop_128 : decode cX0_pop 128 = .ok (.istore 6, 2) := by decide +kernel
theorem dX0_pop_130 : decode cX0_pop 130 = .ok (.iload 6, 2) := by decide +kernel
theorem dX0_pop_132 : decode cX0_pop 132 = .ok (.ifCond .eq 25, 3) := by decide +kernel
theorem dX0_pop_135 : decode cX0_pop 135 = .ok (.aload_n 0, 1) := by decide +kernel
theorem dX0_pop_136 : decode cX0_pop 136 = .ok (.getfield 37, 3) := by decide +kernel
theorem dX0_pop_139 : decode cX0_pop 139 = .ok (.iload_n 2, 1) := by decide +kernel
theorem dX0_pop_140 : decode cX0_pop 140 = .ok (.iload 5, 2) := by decide +kernel
theorem dX0_pop_142 : decode cX0_pop 142 = .ok (.iadd, 1) := by decide +kernel
theorem dX0_pop_143 : decode cX0_pop 143 = .ok (.aload_n 0, 1) := by decide +kernel
theorem dX0_pop_144 : decode cX0_pop 144 = .ok (.getfield 37, 3) := by decide +kernel
theorem dX0_pop_147 : decode cX0_pop 147 = .ok (.iload_n 2, 1) := by decide +kernel
theorem dX0_pop_148 : decode cX0_pop 148 = .ok (.iload 8, 2) := by decide +kernel
theorem dX0_pop_150 : decode cX0_pop 150 = .ok (.iadd, 1) := by decide +kernel
theorem dX0_pop_151 : decode cX0_pop 151 = .ok (.iaload, 1) := by decide +kernel
theorem dX0_pop_152 : decode cX0_pop 152 = .ok (.iastore, 1) := by decide +kernel
theorem dX0_pop_153 : decode cX0_pop 153 = .ok (.iload 8, 2) := by decide +kernel
theorem dX0_pop_155 : decode cX0_pop 155 = .ok (.istore 5, 2) := by decide +kernel
theorem dX0_pop_157 : decode cX0_pop 157 = .ok (.iinc 7 1, 3) := by decide +kernel
theorem dX0_pop_160 : decode cX0_pop 160 = .ok (.goto (-119), 3) := by decide +kernel
theorem dX0_pop_163 : decode cX0_pop 163 = .ok (.aload_n 0, 1) := by decide +kernel
theorem dX0_pop_164 : decode cX0_pop 164 = .ok (.getfield 37, 3) := by decide +kernel
theorem dX0_pop_167 : decode cX0_pop 167 = .ok (.iload_n 2, 1) := by decide +kernel
theorem dX0_pop_168 : decode cX0_pop 168 = .ok (.iload 5, 2) := by decide +kernel
theorem dX0_pop_170 : decode cX0_pop 170 = .ok (.iadd, 1) := by decide +kernel
theorem dX0_pop_171 : decode cX0_pop 171 = .ok (.iload 4, 2) := by decide +kernel
theorem dX0_pop_173 : decode cX0_pop 173 = .ok (.iastore, 1) := by decide +kernel
theorem dX0_pop_174 : decode cX0_pop 174 = .ok (.return_, 1) := by decide +kernel
theorem dX0_tick_0 : decode cX0_tick 0 = .ok (.iload_n 1, 1) := by decide +kernel
theorem dX0_tick_1 : decode cX0_tick 1 = .ok (.invokestatic 46, 3) := by decide +kernel
theorem dX0_tick_4 : decode cX0_tick 4 = .ok (.ifCond .ne 5, 3) := by decide +kernel
theorem dX0_tick_7 : decode cX0_tick 7 = .ok (.iconst (-1), 1) := by decide +kernel
theorem dX0_tick_8 : decode cX0_tick 8 = .ok (.ireturn, 1) := by decide +kernel
theorem dX0_tick_9 : decode cX0_tick 9 = .ok (.iconst 0, 1) := by decide +kernel
theorem dX0_tick_10 : decode cX0_tick 10 = .ok (.istore_n 2, 1) := by decide +kernel
theorem dX0_tick_11 : decode cX0_tick 11 = .ok (.iload_n 2, 1) := by decide +kernel
theorem dX0_tick_12 : decode cX0_tick 12 = .ok (.iconst 3, 1) := by decide +kernel
theorem dX0_tick_13 : decode cX0_tick 13 = .ok (.if_icmp .ge 26, 3) := by decide +kernel
theorem dX0_tick_16 : decode cX0_tick 16 = .ok (.aload_n 0, 1) := by decide +kernel
theorem dX0_tick_17 : decode cX0_tick 17 = .ok (.getfield 25, 3) := by decide +kernel
theorem dX0_tick_20 : decode cX0_tick 20 = .ok (.iconst 3, 1) := by decide +kernel
theorem dX0_tick_21 : decode cX0_tick 21 = .ok (.iload_n 1, 1) := by decide +kernel
theorem dX0_tick_22 : decode cX0_tick 22 = .ok (.imul, 1) := by decide +kernel
theorem dX0_tick_23 : decode cX0_tick 23 = .ok (.iload_n 2, 1) := by decide +kernel
theorem dX0_tick_24 : decode cX0_tick 24 = .ok (.iadd, 1) := by decide +kernel
theorem dX0_tick_25 : decode cX0_tick 25 = .ok (.iaload, 1) := by decide +kernel
theorem dX0_tick_26 : decode cX0_tick 26 = .ok (.bipush 20, 2) := by decide +kernel
end
section
set_option maxRecDepth 100000
theorem dX0_tick_28 : decode cX0_tick 28 = .ok (.if_icmp .lt 5, 3) := by decide +kernel
theorem dX0_tick_31 : decode cX0_tick 31 = .ok (.iconst (-1), 1) := by decide +kernel
theorem dX0_tick_32 : decode cX0_tick 32 = .ok (.ireturn, 1) := by decide +kernel
theorem dX0_tick_33 : decode cX0_tick 33 = .ok (.iinc 2 1, 3) := by decide +kernel
theorem dX0_tick_36 : decode cX0_tick 36 = .ok (.goto (-25), 3) := by decide +kernel
theorem dX0_tick_39 : decode cX0_tick 39 = .ok (.aload_n 0, 1) := by decide +kernel
theorem dX0_tick_40 : decode cX0_tick 40 = .ok (.getfield 28, 3) := by decide +kernel
theorem dX0_tick_43 : decode cX0_tick 43 = .ok (.iload_n 1, 1) := by decide +kernel
theorem dX0_tick_44 : decode cX0_tick 44 = .ok (.dup2, 1) := by decide +kernel
theorem dX0_tick_45 : decode cX0_tick 45 = .ok (.iaload, 1) := by decide +kernel
theorem dX0_tick_46 : decode cX0_tick 46 = .ok (.iconst 1, 1) := by decide +kernel
theorem dX0_tick_47 : decode cX0_tick 47 = .ok (.iadd, 1) := by decide +kernel
theorem dX0_tick_48 : decode cX0_tick 48 = .ok (.iastore, 1) := by decide +kernel
theorem dX0_tick_49 : decode cX0_tick 49 = .ok (.aload_n 0, 1) := by decide +kernel
theorem dX0_tick_50 : decode cX0_tick 50 = .ok (.iload_n 1, 1) := by decide +kernel
theorem dX0_tick_51 : decode cX0_tick 51 = .ok (.iconst (-1), 1) := by decide +kernel
theorem dX0_tick_52 : decode cX0_tick 52 = .ok (.invokevirtual 54, 3) := by decide +kernel
theorem dX0_tick_55 : decode cX0_tick 55 = .ok (.aload_n 0, 1) := by decide +kernel
theorem dX0_tick_56 : decode cX0_tick 56 = .ok (.getfield 28, 3) := by decide +kernel
theorem dX0_tick_59 : decode cX0_tick 59 = .ok (.iload_n 1, 1) := by decide +kernel
theorem dX0_tick_60 : decode cX0_tick 60 = .ok (.iaload, 1) := by decide +kernel
theorem dX0_tick_61 : decode cX0_tick 61 = .ok (.ireturn, 1) := by decide +kernel
theorem dX0_take_0 : decode cX0_take 0 = .ok (.iload_n 1, 1) := by decide +kernel
theorem dX0_take_1 : decode cX0_take 1 = .ok (.invokestatic 46, 3) := by decide +kernel
theorem dX0_take_4 : decode cX0_take 4 = .ok (.ifCond .eq 28, 3) := by decide +kernel
theorem dX0_take_7 : decode cX0_take 7 = .ok (.iload_n 2, 1) := by decide +kernel
theorem dX0_take_8 : decode cX0_take 8 = .ok (.invokestatic 46, 3) := by decide +kernel
theorem dX0_take_11 : decode cX0_take 11 = .ok (.ifCond .eq 21, 3) := by decide +kernel
theorem dX0_take_14 : decode cX0_take 14 = .ok (.iload_n 1, 1) := by decide +kernel
theorem dX0_take_15 : decode cX0_take 15 = .ok (.iload_n 2, 1) := by decide +kernel
theorem dX0_take_16 : decode cX0_take 16 = .ok (.if_icmp .eq 16, 3) := by decide +kernel
theorem dX0_take_19 : decode cX0_take 19 = .ok (.aload_n 0, 1) := by decide +kernel
theorem dX0_take_20 : decode cX0_take 20 = .ok (.getfield 25, 3) := by decide +kernel
theorem dX0_take_23 : decode cX0_take 23 = .ok (.iconst 3, 1) := by decide +kernel
theorem dX0_take_24 : decode cX0_take 24 = .ok (.iload_n 1, 1) := by decide +kernel
theorem dX0_take_25 : decode cX0_take 25 = .ok (.imul, 1) := by decide +kernel
theorem dX0_take_26 : decode cX0_take 26 = .ok (.iload_n 2, 1) := by decide +kernel
theorem dX0_take_27 : decode cX0_take 27 = .ok (.iadd, 1) := by decide +kernel
theorem dX0_take_28 : decode cX0_take 28 = .ok (.iaload, 1) := by decide +kernel
theorem dX0_take_29 : decode cX0_take 29 = .ok (.ifCond .ne 5, 3) := by decide +kernel
theorem dX0_take_32 : decode cX0_take 32 = .ok (.iconst (-1), 1) := by decide +kernel
theorem dX0_take_33 : decode cX0_take 33 = .ok (.ireturn, 1) := by decide +kernel
theorem dX0_take_34 : decode cX0_take 34 = .ok (.iconst 3, 1) := by decide +kernel
theorem dX0_take_35 : decode cX0_take 35 = .ok (.iload_n 1, 1) := by decide +kernel
theorem dX0_take_36 : decode cX0_take 36 = .ok (.imul, 1) := by decide +kernel
theorem dX0_take_37 : decode cX0_take 37 = .ok (.iload_n 2, 1) := by decide +kernel
theorem dX0_take_38 : decode cX0_take 38 = .ok (.iadd, 1) := by decide +kernel
theorem dX0_take_39 : decode cX0_take 39 = .ok (.istore_n 3, 1) := by decide +kernel
theorem dX0_take_40 : decode cX0_take 40 = .ok (.bipush 64, 2) := by decide +kernel
theorem dX0_take_42 : decode cX0_take 42 = .ok (.iload_n 3, 1) := by decide +kernel
theorem dX0_take_43 : decode cX0_take 43 = .ok (.imul, 1) := by decide +kernel
theorem dX0_take_44 : decode cX0_take 44 = .ok (.aload_n 0, 1) := by decide +kernel
theorem dX0_take_45 : decode cX0_take 45 = .ok (.getfield 22, 3) := by decide +kernel
theorem dX0_take_48 : decode cX0_take 48 = .ok (.iload_n 3, 1) := by decide +kernel
theorem dX0_take_49 : decode cX0_take 49 = .ok (.iaload, 1) := by decide +kernel
theorem dX0_take_50 : decode cX0_take 50 = .ok (.iadd, 1) := by decide +kernel
theorem dX0_take_51 : decode cX0_take 51 = .ok (.istore 4, 2) := by decide +kernel
theorem dX0_take_53 : decode cX0_take 53 = .ok (.aload_n 0, 1) := by decide +kernel
theorem dX0_take_54 : decode cX0_take 54 = .ok (.getfield 22, 3) := by decide +kernel
theorem dX0_take_57 : decode cX0_take 57 = .ok (.iload_n 3, 1) := by decide +kernel
theorem dX0_take_58 : decode cX0_take 58 = .ok (.aload_n 0, 1) := by decide +kernel
theorem dX0_take_59 : decode cX0_take 59 = .ok (.getfield 22, 3) := by decide +kernel
theorem dX0_take_62 : decode cX0_take 62 = .ok (.iload_n 3, 1) := by decide +kernel
theorem dX0_take_63 : decode cX0_take 63 = .ok (.iaload, 1) := by decide +kernel
theorem dX0_take_64 : decode cX0_take 64 = .ok (.iconst 1, 1) := by decide +kernel
theorem dX0_take_65 : decode cX0_take 65 = .ok (.iadd, 1) := by decide +kernel
theorem dX0_take_66 : decode cX0_take 66 = .ok (.bipush 63, 2) := by decide +kernel
theorem dX0_take_68 : decode cX0_take 68 = .ok (.iand, 1) := by decide +kernel
theorem dX0_take_69 : decode cX0_take 69 = .ok (.iastore, 1) := by decide +kernel
theorem dX0_take_70 : decode cX0_take 70 = .ok (.aload_n 0, 1) := by decide +kernel
theorem dX0_take_71 : decode cX0_take 71 = .ok (.getfield 25, 3) := by decide +kernel
theorem dX0_take_74 : decode cX0_take 74 = .ok (.iload_n 3, 1) := by decide +kernel
theorem dX0_take_75 : decode cX0_take 75 = .ok (.dup2, 1) := by decide +kernel
theorem dX0_take_76 : decode cX0_take 76 = .ok (.iaload, 1) := by decide +kernel
theorem dX0_take_77 : decode cX0_take 77 = .ok (.iconst 1, 1) := by decide +kernel
theorem dX0_take_78 : decode cX0_take 78 = .ok (.isub, 1) := by decide +kernel
theorem dX0_take_79 : decode cX0_take 79 = .ok (.iastore, 1) := by decide +kernel
theorem dX0_take_80 : decode cX0_take 80 = .ok (.aload_n 0, 1) := by decide +kernel
theorem dX0_take_81 : decode cX0_take 81 = .ok (.getfield 16, 3) := by decide +kernel
theorem dX0_take_84 : decode cX0_take 84 = .ok (.iload 4, 2) := by decide +kernel
theorem dX0_take_86 : decode cX0_take 86 = .ok (.iaload, 1) := by decide +kernel
theorem dX0_take_87 : decode cX0_take 87 = .ok (.istore 5, 2) := by decide +kernel
theorem dX0_take_89 : decode cX0_take 89 = .ok (.aload_n 0, 1) := by decide +kernel
theorem dX0_take_90 : decode cX0_take 90 = .ok (.getfield 31, 3) := by decide +kernel
theorem dX0_take_93 : decode cX0_take 93 = .ok (.iconst 3, 1) := by decide +kernel
theorem dX0_take_94 : decode cX0_take 94 = .ok (.iload_n 2, 1) := by decide +kernel
theorem dX0_take_95 : decode cX0_take 95 = .ok (.imul, 1) := by decide +kernel
theorem dX0_take_96 : decode cX0_take 96 = .ok (.iload_n 1, 1) := by decide +kernel
theorem dX0_take_97 : decode cX0_take 97 = .ok (.iadd, 1) := by decide +kernel
theorem dX0_take_98 : decode cX0_take 98 = .ok (.iload 5, 2) := by decide +kernel
theorem dX0_take_100 : decode cX0_take 100 = .ok (.iastore, 1) := by decide +kernel
theorem dX0_take_101 : decode cX0_take 101 = .ok (.aload_n 0, 1) := by decide +kernel
theorem dX0_take_102 : decode cX0_take 102 = .ok (.getfield 28, 3) := by decide +kernel
theorem dX0_take_105 : decode cX0_take 105 = .ok (.iload_n 2, 1) := by decide +kernel
theorem dX0_take_106 : decode cX0_take 106 = .ok (.iload 5, 2) := by decide +kernel
theorem dX0_take_108 : decode cX0_take 108 = .ok (.aload_n 0, 1) := by decide +kernel
theorem dX0_take_109 : decode cX0_take 109 = .ok (.getfield 28, 3) := by decide +kernel
theorem dX0_take_112 : decode cX0_take 112 = .ok (.iload_n 2, 1) := by decide +kernel
theorem dX0_take_113 : decode cX0_take 113 = .ok (.iaload, 1) := by decide +kernel
theorem dX0_take_114 : decode cX0_take 114 = .ok (.if_icmp .le 8, 3) := by decide +kernel
theorem dX0_take_117 : decode cX0_take 117 = .ok (.iload 5, 2) := by decide +kernel
theorem dX0_take_119 : decode cX0_take 119 = .ok (.goto 9, 3) := by decide +kernel
theorem dX0_take_122 : decode cX0_take 122 = .ok (.aload_n 0, 1) := by decide +kernel
theorem dX0_take_123 : decode cX0_take 123 = .ok (.getfield 28, 3) := by decide +kernel
theorem dX0_take_126 : decode cX0_take 126 = .ok (.iload_n 2, 1) := by decide +kernel
theorem dX0_take_127 : decode cX0_take 127 = .ok (.iaload, 1) := by decide +kernel
theorem dX0_take_128 : decode cX0_take 128 = .ok (.iconst 1, 1) := by decide +kernel
theorem dX0_take_129 : decode cX0_take 129 = .ok (.iadd, 1) := by decide +kernel
theorem dX0_take_130 : decode cX0_take 130 = .ok (.iastore, 1) := by decide +kernel
theorem dX0_take_131 : decode cX0_take 131 = .ok (.aload_n 0, 1) := by decide +kernel
theorem dX0_take_132 : decode cX0_take 132 = .ok (.getfield 19, 3) := by decide +kernel
theorem dX0_take_135 : decode cX0_take 135 = .ok (.iload 4, 2) := by decide +kernel
theorem dX0_take_137 : decode cX0_take 137 = .ok (.iaload, 1) := by decide +kernel
theorem dX0_take_138 : decode cX0_take 138 = .ok (.ifCond .lt 15, 3) := by decide +kernel
theorem dX0_take_141 : decode cX0_take 141 = .ok (.aload_n 0, 1) := by decide +kernel
theorem dX0_take_142 : decode cX0_take 142 = .ok (.iload_n 2, 1) := by decide +kernel
theorem dX0_take_143 : decode cX0_take 143 = .ok (.aload_n 0, 1) := by decide +kernel
theorem dX0_take_144 : decode cX0_take 144 = .ok (.getfield 19, 3) := by decide +kernel
theorem dX0_take_147 : decode cX0_take 147 = .ok (.iload 4, 2) := by decide +kernel
theorem dX0_take_149 : decode cX0_take 149 = .ok (.iaload, 1) := by decide +kernel
theorem dX0_take_150 : decode cX0_take 150 = .ok (.invokevirtual 58, 3) := by decide +kernel
theorem dX0_take_153 : decode cX0_take 153 = .ok (.aload_n 0, 1) := by decide +kernel
theorem dX0_take_154 : decode cX0_take 154 = .ok (.iload_n 2, 1) := by decide +kernel
theorem dX0_take_155 : decode cX0_take 155 = .ok (.invokevirtual 61, 3) := by decide +kernel
theorem dX0_take_158 : decode cX0_take 158 = .ok (.ireturn, 1) := by decide +kernel
theorem dX0_waiting_0 : decode cX0_waiting 0 = .ok (.iload_n 1, 1) := by decide +kernel
theorem dX0_waiting_1 : decode cX0_waiting 1 = .ok (.invokestatic 46, 3) := by decide +kernel
theorem dX0_waiting_4 : decode cX0_waiting 4 = .ok (.ifCond .eq 15, 3) := by decide +kernel
theorem dX0_waiting_7 : decode cX0_waiting 7 = .ok (.iload_n 2, 1) := by decide +kernel
theorem dX0_waiting_8 : decode cX0_waiting 8 = .ok (.invokestatic 46, 3) := by decide +kernel
theorem dX0_waiting_11 : decode cX0_waiting 11 = .ok (.ifCond .eq 8, 3) := by decide +kernel
theorem dX0_waiting_14 : decode cX0_waiting 14 = .ok (.iload_n 1, 1) := by decide +kernel
theorem dX0_waiting_15 : decode cX0_waiting 15 = .ok (.iload_n 2, 1) := by decide +kernel
theorem dX0_waiting_16 : decode cX0_waiting 16 = .ok (.if_icmp .ne 5, 3) := by decide +kernel
theorem dX0_waiting_19 : decode cX0_waiting 19 = .ok (.iconst (-1), 1) := by decide +kernel
theorem dX0_waiting_20 : decode cX0_waiting 20 = .ok (.ireturn, 1) := by decide +kernel
theorem dX0_waiting_21 : decode cX0_waiting 21 = .ok (.aload_n 0, 1) := by decide +kernel
theorem dX0_waiting_22 : decode cX0_waiting 22 = .ok (.getfield 25, 3) := by decide +kernel
theorem dX0_waiting_25 : decode cX0_waiting 25 = .ok (.iconst 3, 1) := by decide +kernel
theorem dX0_waiting_26 : decode cX0_waiting 26 = .ok (.iload_n 1, 1) := by decide +kernel
theorem dX0_waiting_27 : decode cX0_waiting 27 = .ok (.imul, 1) := by decide +kernel
theorem dX0_waiting_28 : decode cX0_waiting 28 = .ok (.iload_n 2, 1) := by decide +kernel
theorem dX0_waiting_29 : decode cX0_waiting 29 = .ok (.iadd, 1) := by decide +kernel
theorem dX0_waiting_30 : decode cX0_waiting 30 = .ok (.iaload, 1) := by decide +kernel
theorem dX0_waiting_31 : decode cX0_waiting 31 = .ok (.ireturn, 1) := by decide +kernel
theorem dX0_clock_0 : decode cX0_clock 0 = .ok (.iload_n 1, 1) := by decide +kernel
theorem dX0_clock_1 : decode cX0_clock 1 = .ok (.invokestatic 46, 3) := by decide +kernel
theorem dX0_clock_4 : decode cX0_clock 4 = .ok (.ifCond .eq 12, 3) := by decide +kernel
theorem dX0_clock_7 : decode cX0_clock 7 = .ok (.aload_n 0, 1) := by decide +kernel
theorem dX0_clock_8 : decode cX0_clock 8 = .ok (.getfield 28, 3) := by decide +kernel
theorem dX0_clock_11 : decode cX0_clock 11 = .ok (.iload_n 1, 1) := by decide +kernel
theorem dX0_clock_12 : decode cX0_clock 12 = .ok (.iaload, 1) := by decide +kernel
theorem dX0_clock_13 : decode cX0_clock 13 = .ok (.goto 4, 3) := by decide +kernel
theorem dX0_clock_16 : decode cX0_clock 16 = .ok (.iconst (-1), 1) := by decide +kernel
theorem dX0_clock_17 : decode cX0_clock 17 = .ok (.ireturn, 1) := by decide +kernel
theorem dX0_count_0 : decode cX0_count 0 = .ok (.iload_n 1, 1) := by decide +kernel
theorem dX0_count_1 : decode cX0_count 1 = .ok (.invokestatic 46, 3) := by decide +kernel
theorem dX0_count_4 : decode cX0_count 4 = .ok (.ifCond .eq 12, 3) := by decide +kernel
theorem dX0_count_7 : decode cX0_count 7 = .ok (.aload_n 0, 1) := by decide +kernel
theorem dX0_count_8 : decode cX0_count 8 = .ok (.getfield 40, 3) := by decide +kernel
theorem dX0_count_11 : decode cX0_count 11 = .ok (.iload_n 1, 1) := by decide +kernel
theorem dX0_count_12 : decode cX0_count 12 = .ok (.iaload, 1) := by decide +kernel
theorem dX0_count_13 : decode cX0_count 13 = .ok (.goto 4, 3) := by decide +kernel
theorem dX0_count_16 : decode cX0_count 16 = .ok (.iconst (-1), 1) := by decide +kernel
theorem dX0_count_17 : decode cX0_count 17 = .ok (.ireturn, 1) := by decide +kernel
theorem dX0_read_0 : decode cX0_read 0 = .ok (.iload_n 1, 1) := by decide +kernel
theorem dX0_read_1 : decode cX0_read 1 = .ok (.invokestatic 46, 3) := by decide +kernel
theorem dX0_read_4 : decode cX0_read 4 = .ok (.ifCond .eq 17, 3) := by decide +kernel
theorem dX0_read_7 : decode cX0_read 7 = .ok (.iload_n 2, 1) := by decide +kernel
theorem dX0_read_8 : decode cX0_read 8 = .ok (.ifCond .lt 13, 3) := by decide +kernel
theorem dX0_read_11 : decode cX0_read 11 = .ok (.iload_n 2, 1) := by decide +kernel
theorem dX0_read_12 : decode cX0_read 12 = .ok (.aload_n 0, 1) := by decide +kernel
theorem dX0_read_13 : decode cX0_read 13 = .ok (.getfield 40, 3) := by decide +kernel
theorem dX0_read_16 : decode cX0_read 16 = .ok (.iload_n 1, 1) := by decide +kernel
theorem dX0_read_17 : decode cX0_read 17 = .ok (.iaload, 1) := by decide +kernel
theorem dX0_read_18 : decode cX0_read 18 = .ok (.if_icmp .lt 5, 3) := by decide +kernel
theorem dX0_read_21 : decode cX0_read 21 = .ok (.iconst (-1), 1) := by decide +kernel
theorem dX0_read_22 : decode cX0_read 22 = .ok (.ireturn, 1) := by decide +kernel
theorem dX0_read_23 : decode cX0_read 23 = .ok (.aload_n 0, 1) := by decide +kernel
theorem dX0_read_24 : decode cX0_read 24 = .ok (.getfield 43, 3) := by decide +kernel
theorem dX0_read_27 : decode cX0_read 27 = .ok (.bipush 40, 2) := by decide +kernel
theorem dX0_read_29 : decode cX0_read 29 = .ok (.iload_n 1, 1) := by decide +kernel
theorem dX0_read_30 : decode cX0_read 30 = .ok (.imul, 1) := by decide +kernel
theorem dX0_read_31 : decode cX0_read 31 = .ok (.iload_n 2, 1) := by decide +kernel
theorem dX0_read_32 : decode cX0_read 32 = .ok (.iadd, 1) := by decide +kernel
theorem dX0_read_33 : decode cX0_read 33 = .ok (.iaload, 1) := by decide +kernel
theorem dX0_read_34 : decode cX0_read 34 = .ok (.ireturn, 1) := by decide +kernel
theorem dX0_held_0 : decode cX0_held 0 = .ok (.iload_n 1, 1) := by decide +kernel
theorem dX0_held_1 : decode cX0_held 1 = .ok (.invokestatic 46, 3) := by decide +kernel
theorem dX0_held_4 : decode cX0_held 4 = .ok (.ifCond .eq 12, 3) := by decide +kernel
theorem dX0_held_7 : decode cX0_held 7 = .ok (.aload_n 0, 1) := by decide +kernel
theorem dX0_held_8 : decode cX0_held 8 = .ok (.getfield 34, 3) := by decide +kernel
theorem dX0_held_11 : decode cX0_held 11 = .ok (.iload_n 1, 1) := by decide +kernel
theorem dX0_held_12 : decode cX0_held 12 = .ok (.iaload, 1) := by decide +kernel
theorem dX0_held_13 : decode cX0_held 13 = .ok (.goto 4, 3) := by decide +kernel
theorem dX0_held_16 : decode cX0_held 16 = .ok (.iconst (-1), 1) := by decide +kernel
theorem dX0_held_17 : decode cX0_held 17 = .ok (.ireturn, 1) := by decide +kernel
theorem dX0_agree_0 : decode cX0_agree 0 = .ok (.iload_n 1, 1) := by decide +kernel
theorem dX0_agree_1 : decode cX0_agree 1 = .ok (.invokestatic 46, 3) := by decide +kernel
theorem dX0_agree_4 : decode cX0_agree 4 = .ok (.ifCond .eq 10, 3) := by decide +kernel
theorem dX0_agree_7 : decode cX0_agree 7 = .ok (.iload_n 2, 1) := by decide +kernel
theorem dX0_agree_8 : decode cX0_agree 8 = .ok (.invokestatic 46, 3) := by decide +kernel
theorem dX0_agree_11 : decode cX0_agree 11 = .ok (.ifCond .ne 5, 3) := by decide +kernel
theorem dX0_agree_14 : decode cX0_agree 14 = .ok (.iconst (-1), 1) := by decide +kernel
theorem dX0_agree_15 : decode cX0_agree 15 = .ok (.ireturn, 1) := by decide +kernel
theorem dX0_agree_16 : decode cX0_agree 16 = .ok (.iconst 0, 1) := by decide +kernel
theorem dX0_agree_17 : decode cX0_agree 17 = .ok (.istore_n 3, 1) := by decide +kernel
theorem dX0_agree_18 : decode cX0_agree 18 = .ok (.iload_n 3, 1) := by decide +kernel
theorem dX0_agree_19 : decode cX0_agree 19 = .ok (.aload_n 0, 1) := by decide +kernel
theorem dX0_agree_20 : decode cX0_agree 20 = .ok (.getfield 40, 3) := by decide +kernel
theorem dX0_agree_23 : decode cX0_agree 23 = .ok (.iload_n 1, 1) := by decide +kernel
theorem dX0_agree_24 : decode cX0_agree 24 = .ok (.iaload, 1) := by decide +kernel
theorem dX0_agree_25 : decode cX0_agree 25 = .ok (.if_icmp .ge 46, 3) := by decide +kernel
theorem dX0_agree_28 : decode cX0_agree 28 = .ok (.iload_n 3, 1) := by decide +kernel
theorem dX0_agree_29 : decode cX0_agree 29 = .ok (.aload_n 0, 1) := by decide +kernel
theorem dX0_agree_30 : decode cX0_agree 30 = .ok (.getfield 40, 3) := by decide +kernel
theorem dX0_agree_33 : decode cX0_agree 33 = .ok (.iload_n 2, 1) := by decide +kernel
theorem dX0_agree_34 : decode cX0_agree 34 = .ok (.iaload, 1) := by decide +kernel
theorem dX0_agree_35 : decode cX0_agree 35 = .ok (.if_icmp .ge 36, 3) := by decide +kernel
theorem dX0_agree_38 : decode cX0_agree 38 = .ok (.aload_n 0, 1) := by decide +kernel
theorem dX0_agree_39 : decode cX0_agree 39 = .ok (.getfield 43, 3) := by decide +kernel
theorem dX0_agree_42 : decode cX0_agree 42 = .ok (.bipush 40, 2) := by decide +kernel
theorem dX0_agree_44 : decode cX0_agree 44 = .ok (.iload_n 1, 1) := by decide +kernel
theorem dX0_agree_45 : decode cX0_agree 45 = .ok (.imul, 1) := by decide +kernel
theorem dX0_agree_46 : decode cX0_agree 46 = .ok (.iload_n 3, 1) := by decide +kernel
theorem dX0_agree_47 : decode cX0_agree 47 = .ok (.iadd, 1) := by decide +kernel
theorem dX0_agree_48 : decode cX0_agree 48 = .ok (.iaload, 1) := by decide +kernel
theorem dX0_agree_49 : decode cX0_agree 49 = .ok (.aload_n 0, 1) := by decide +kernel
theorem dX0_agree_50 : decode cX0_agree 50 = .ok (.getfield 43, 3) := by decide +kernel
theorem dX0_agree_53 : decode cX0_agree 53 = .ok (.bipush 40, 2) := by decide +kernel
theorem dX0_agree_55 : decode cX0_agree 55 = .ok (.iload_n 2, 1) := by decide +kernel
theorem dX0_agree_56 : decode cX0_agree 56 = .ok (.imul, 1) := by decide +kernel
theorem dX0_agree_57 : decode cX0_agree 57 = .ok (.iload_n 3, 1) := by decide +kernel
theorem dX0_agree_58 : decode cX0_agree 58 = .ok (.iadd, 1) := by decide +kernel
theorem dX0_agree_59 : decode cX0_agree 59 = .ok (.iaload, 1) := by decide +kernel
theorem dX0_agree_60 : decode cX0_agree 60 = .ok (.if_icmp .eq 5, 3) := by decide +kernel
theorem dX0_agree_63 : decode cX0_agree 63 = .ok (.iconst 0, 1) := by decide +kernel
theorem dX0_agree_64 : decode cX0_agree 64 = .ok (.ireturn, 1) := by decide +kernel
theorem dX0_agree_65 : decode cX0_agree 65 = .ok (.iinc 3 1, 3) := by decide +kernel
theorem dX0_agree_68 : decode cX0_agree 68 = .ok (.goto (-50), 3) := by decide +kernel
theorem dX0_agree_71 : decode cX0_agree 71 = .ok (.iconst 1, 1) := by decide +kernel
theorem dX0_agree_72 : decode cX0_agree 72 = .ok (.ireturn, 1) := by decide +kernel
theorem dX1_init_0 : decode cX1_init 0 = .ok (.aload_n 0, 1) := by decide +kernel
theorem dX1_init_1 : decode cX1_init 1 = .ok (.invokespecial 1, 3) := by decide +kernel
theorem dX1_init_4 : decode cX1_init 4 = .ok (.aload_n 0, 1) := by decide +kernel
theorem dX1_init_5 : decode cX1_init 5 = .ok (.iconst 3, 1) := by decide +kernel
theorem dX1_init_6 : decode cX1_init 6 = .ok (.newarray .int, 2) := by decide +kernel
theorem dX1_init_8 : decode cX1_init 8 = .ok (.putfield 7, 3) := by decide +kernel
theorem dX1_init_11 : decode cX1_init 11 = .ok (.aload_n 0, 1) := by decide +kernel
theorem dX1_init_12 : decode cX1_init 12 = .ok (.bipush 40, 2) := by decide +kernel
theorem dX1_init_14 : decode cX1_init 14 = .ok (.newarray .int, 2) := by decide +kernel
theorem dX1_init_16 : decode cX1_init 16 = .ok (.putfield 13, 3) := by decide +kernel
theorem dX1_init_19 : decode cX1_init 19 = .ok (.aload_n 0, 1) := by decide +kernel
theorem dX1_init_20 : decode cX1_init 20 = .ok (.bipush 40, 2) := by decide +kernel
theorem dX1_init_22 : decode cX1_init 22 = .ok (.newarray .int, 2) := by decide +kernel
theorem dX1_init_24 : decode cX1_init 24 = .ok (.putfield 16, 3) := by decide +kernel
theorem dX1_init_27 : decode cX1_init 27 = .ok (.aload_n 0, 1) := by decide +kernel
theorem dX1_init_28 : decode cX1_init 28 = .ok (.bipush 120, 2) := by decide +kernel
theorem dX1_init_30 : decode cX1_init 30 = .ok (.newarray .boolean, 2) := by decide +kernel
theorem dX1_init_32 : decode cX1_init 32 = .ok (.putfield 19, 3) := by decide +kernel
end
section
set_option maxRecDepth 100000
theorem dX1_init_35 : decode cX1_init 35 = .ok (.aload_n 0, 1) := by decide +kernel
theorem dX1_init_36 : decode cX1_init 36 = .ok (.bipush 120, 2) := by decide +kernel
theorem dX1_init_38 : decode cX1_init 38 = .ok (.newarray .boolean, 2) := by decide +kernel
theorem dX1_init_40 : decode cX1_init 40 = .ok (.putfield 23, 3) := by decide +kernel
theorem dX1_init_43 : decode cX1_init 43 = .ok (.aload_n 0, 1) := by decide +kernel
theorem dX1_init_44 : decode cX1_init 44 = .ok (.iconst 3, 1) := by decide +kernel
theorem dX1_init_45 : decode cX1_init 45 = .ok (.newarray .int, 2) := by decide +kernel
theorem dX1_init_47 : decode cX1_init 47 = .ok (.putfield 26, 3) := by decide +kernel
theorem dX1_init_50 : decode cX1_init 50 = .ok (.aload_n 0, 1) := by decide +kernel
theorem dX1_init_51 : decode cX1_init 51 = .ok (.bipush 120, 2) := by decide +kernel
theorem dX1_init_53 : decode cX1_init 53 = .ok (.newarray .int, 2) := by decide +kernel
theorem dX1_init_55 : decode cX1_init 55 = .ok (.putfield 29, 3) := by decide +kernel
theorem dX1_init_58 : decode cX1_init 58 = .ok (.aload_n 0, 1) := by decide +kernel
theorem dX1_init_59 : decode cX1_init 59 = .ok (.bipush 9, 2) := by decide +kernel
theorem dX1_init_61 : decode cX1_init 61 = .ok (.newarray .int, 2) := by decide +kernel
theorem dX1_init_63 : decode cX1_init 63 = .ok (.putfield 32, 3) := by decide +kernel
theorem dX1_init_66 : decode cX1_init 66 = .ok (.aload_n 0, 1) := by decide +kernel
theorem dX1_init_67 : decode cX1_init 67 = .ok (.bipush 9, 2) := by decide +kernel
theorem dX1_init_69 : decode cX1_init 69 = .ok (.newarray .int, 2) := by decide +kernel
theorem dX1_init_71 : decode cX1_init 71 = .ok (.putfield 35, 3) := by decide +kernel
theorem dX1_init_74 : decode cX1_init 74 = .ok (.aload_n 0, 1) := by decide +kernel
theorem dX1_init_75 : decode cX1_init 75 = .ok (.sipush 540, 3) := by decide +kernel
theorem dX1_init_78 : decode cX1_init 78 = .ok (.newarray .int, 2) := by decide +kernel
theorem dX1_init_80 : decode cX1_init 80 = .ok (.putfield 38, 3) := by decide +kernel
theorem dX1_init_83 : decode cX1_init 83 = .ok (.aload_n 0, 1) := by decide +kernel
theorem dX1_init_84 : decode cX1_init 84 = .ok (.sipush 540, 3) := by decide +kernel
theorem dX1_init_87 : decode cX1_init 87 = .ok (.newarray .int, 2) := by decide +kernel
theorem dX1_init_89 : decode cX1_init 89 = .ok (.putfield 41, 3) := by decide +kernel
theorem dX1_init_92 : decode cX1_init 92 = .ok (.return_, 1) := by decide +kernel
theorem dX1_write_0 : decode cX1_write 0 = .ok (.iload_n 1, 1) := by decide +kernel
theorem dX1_write_1 : decode cX1_write 1 = .ok (.invokestatic 44, 3) := by decide +kernel
theorem dX1_write_4 : decode cX1_write 4 = .ok (.ifCond .ne 12, 3) := by decide +kernel
theorem dX1_write_7 : decode cX1_write 7 = .ok (.aload_n 0, 1) := by decide +kernel
theorem dX1_write_8 : decode cX1_write 8 = .ok (.getfield 48, 3) := by decide +kernel
theorem dX1_write_11 : decode cX1_write 11 = .ok (.bipush 40, 2) := by decide +kernel
theorem dX1_write_13 : decode cX1_write 13 = .ok (.if_icmp .ne 5, 3) := by decide +kernel
theorem dX1_write_16 : decode cX1_write 16 = .ok (.iconst (-1), 1) := by decide +kernel
theorem dX1_write_17 : decode cX1_write 17 = .ok (.ireturn, 1) := by decide +kernel
theorem dX1_write_18 : decode cX1_write 18 = .ok (.aload_n 0, 1) := by decide +kernel
theorem dX1_write_19 : decode cX1_write 19 = .ok (.getfield 7, 3) := by decide +kernel
theorem dX1_write_22 : decode cX1_write 22 = .ok (.iload_n 1, 1) := by decide +kernel
theorem dX1_write_23 : decode cX1_write 23 = .ok (.dup2, 1) := by decide +kernel
theorem dX1_write_24 : decode cX1_write 24 = .ok (.iaload, 1) := by decide +kernel
theorem dX1_write_25 : decode cX1_write 25 = .ok (.iconst 1, 1) := by decide +kernel
theorem dX1_write_26 : decode cX1_write 26 = .ok (.iadd, 1) := by decide +kernel
theorem dX1_write_27 : decode cX1_write 27 = .ok (.iastore, 1) := by decide +kernel
theorem dX1_write_28 : decode cX1_write 28 = .ok (.aload_n 0, 1) := by decide +kernel
theorem dX1_write_29 : decode cX1_write 29 = .ok (.getfield 13, 3) := by decide +kernel
theorem dX1_write_32 : decode cX1_write 32 = .ok (.aload_n 0, 1) := by decide +kernel
theorem dX1_write_33 : decode cX1_write 33 = .ok (.getfield 48, 3) := by decide +kernel
theorem dX1_write_36 : decode cX1_write 36 = .ok (.iload_n 1, 1) := by decide +kernel
theorem dX1_write_37 : decode cX1_write 37 = .ok (.iastore, 1) := by decide +kernel
theorem dX1_write_38 : decode cX1_write 38 = .ok (.aload_n 0, 1) := by decide +kernel
theorem dX1_write_39 : decode cX1_write 39 = .ok (.getfield 16, 3) := by decide +kernel
theorem dX1_write_42 : decode cX1_write 42 = .ok (.aload_n 0, 1) := by decide +kernel
theorem dX1_write_43 : decode cX1_write 43 = .ok (.getfield 48, 3) := by decide +kernel
theorem dX1_write_46 : decode cX1_write 46 = .ok (.aload_n 0, 1) := by decide +kernel
theorem dX1_write_47 : decode cX1_write 47 = .ok (.getfield 7, 3) := by decide +kernel
theorem dX1_write_50 : decode cX1_write 50 = .ok (.iload_n 1, 1) := by decide +kernel
theorem dX1_write_51 : decode cX1_write 51 = .ok (.iaload, 1) := by decide +kernel
theorem dX1_write_52 : decode cX1_write 52 = .ok (.iastore, 1) := by decide +kernel
theorem dX1_write_53 : decode cX1_write 53 = .ok (.aload_n 0, 1) := by decide +kernel
theorem dX1_write_54 : decode cX1_write 54 = .ok (.getfield 19, 3) := by decide +kernel
theorem dX1_write_57 : decode cX1_write 57 = .ok (.bipush 40, 2) := by decide +kernel
theorem dX1_write_59 : decode cX1_write 59 = .ok (.iload_n 1, 1) := by decide +kernel
theorem dX1_write_60 : decode cX1_write 60 = .ok (.imul, 1) := by decide +kernel
theorem dX1_write_61 : decode cX1_write 61 = .ok (.aload_n 0, 1) := by decide +kernel
theorem dX1_write_62 : decode cX1_write 62 = .ok (.getfield 48, 3) := by decide +kernel
theorem dX1_write_65 : decode cX1_write 65 = .ok (.iadd, 1) := by decide +kernel
theorem dX1_write_66 : decode cX1_write 66 = .ok (.iconst 1, 1) := by decide +kernel
theorem dX1_write_67 : decode cX1_write 67 = .ok (.bastore, 1) := by decide +kernel
theorem dX1_write_68 : decode cX1_write 68 = .ok (.aload_n 0, 1) := by decide +kernel
theorem dX1_write_69 : decode cX1_write 69 = .ok (.iload_n 1, 1) := by decide +kernel
theorem dX1_write_70 : decode cX1_write 70 = .ok (.aload_n 0, 1) := by decide +kernel
theorem dX1_write_71 : decode cX1_write 71 = .ok (.getfield 48, 3) := by decide +kernel
theorem dX1_write_74 : decode cX1_write 74 = .ok (.invokevirtual 52, 3) := by decide +kernel
theorem dX1_write_77 : decode cX1_write 77 = .ok (.aload_n 0, 1) := by decide +kernel
theorem dX1_write_78 : decode cX1_write 78 = .ok (.dup, 1) := by decide +kernel
theorem dX1_write_79 : decode cX1_write 79 = .ok (.getfield 48, 3) := by decide +kernel
theorem dX1_write_82 : decode cX1_write 82 = .ok (.iconst 1, 1) := by decide +kernel
theorem dX1_write_83 : decode cX1_write 83 = .ok (.iadd, 1) := by decide +kernel
theorem dX1_write_84 : decode cX1_write 84 = .ok (.putfield 48, 3) := by decide +kernel
theorem dX1_write_87 : decode cX1_write 87 = .ok (.aload_n 0, 1) := by decide +kernel
theorem dX1_write_88 : decode cX1_write 88 = .ok (.getfield 48, 3) := by decide +kernel
theorem dX1_write_91 : decode cX1_write 91 = .ok (.iconst 1, 1) := by decide +kernel
theorem dX1_write_92 : decode cX1_write 92 = .ok (.isub, 1) := by decide +kernel
theorem dX1_write_93 : decode cX1_write 93 = .ok (.ireturn, 1) := by decide +kernel
theorem dX1_bad_0 : decode cX1_bad 0 = .ok (.iload_n 0, 1) := by decide +kernel
theorem dX1_bad_1 : decode cX1_bad 1 = .ok (.ifCond .lt 8, 3) := by decide +kernel
theorem dX1_bad_4 : decode cX1_bad 4 = .ok (.iload_n 0, 1) := by decide +kernel
theorem dX1_bad_5 : decode cX1_bad 5 = .ok (.iconst 2, 1) := by decide +kernel
theorem dX1_bad_6 : decode cX1_bad 6 = .ok (.if_icmp .le 7, 3) := by decide +kernel
theorem dX1_bad_9 : decode cX1_bad 9 = .ok (.iconst 1, 1) := by decide +kernel
theorem dX1_bad_10 : decode cX1_bad 10 = .ok (.goto 4, 3) := by decide +kernel
theorem dX1_bad_13 : decode cX1_bad 13 = .ok (.iconst 0, 1) := by decide +kernel
theorem dX1_bad_14 : decode cX1_bad 14 = .ok (.ireturn, 1) := by decide +kernel
theorem dX1_setOut_0 : decode cX1_setOut 0 = .ok (.iconst 0, 1) := by decide +kernel
theorem dX1_setOut_1 : decode cX1_setOut 1 = .ok (.istore_n 3, 1) := by decide +kernel
theorem dX1_setOut_2 : decode cX1_setOut 2 = .ok (.iload_n 3, 1) := by decide +kernel
theorem dX1_setOut_3 : decode cX1_setOut 3 = .ok (.iconst 3, 1) := by decide +kernel
theorem dX1_setOut_4 : decode cX1_setOut 4 = .ok (.if_icmp .ge 75, 3) := by decide +kernel
theorem dX1_setOut_7 : decode cX1_setOut 7 = .ok (.iload_n 3, 1) := by decide +kernel
theorem dX1_setOut_8 : decode cX1_setOut 8 = .ok (.iload_n 1, 1) := by decide +kernel
theorem dX1_setOut_9 : decode cX1_setOut 9 = .ok (.if_icmp .eq 64, 3) := by decide +kernel
theorem dX1_setOut_12 : decode cX1_setOut 12 = .ok (.iconst 3, 1) := by decide +kernel
theorem dX1_setOut_13 : decode cX1_setOut 13 = .ok (.iload_n 1, 1) := by decide +kernel
theorem dX1_setOut_14 : decode cX1_setOut 14 = .ok (.imul, 1) := by decide +kernel
theorem dX1_setOut_15 : decode cX1_setOut 15 = .ok (.iload_n 3, 1) := by decide +kernel
theorem dX1_setOut_16 : decode cX1_setOut 16 = .ok (.iadd, 1) := by decide +kernel
theorem dX1_setOut_17 : decode cX1_setOut 17 = .ok (.istore 4, 2) := by decide +kernel
theorem dX1_setOut_19 : decode cX1_setOut 19 = .ok (.aload_n 0, 1) := by decide +kernel
theorem dX1_setOut_20 : decode cX1_setOut 20 = .ok (.getfield 38, 3) := by decide +kernel
theorem dX1_setOut_23 : decode cX1_setOut 23 = .ok (.bipush 60, 2) := by decide +kernel
theorem dX1_setOut_25 : decode cX1_setOut 25 = .ok (.iload 4, 2) := by decide +kernel
theorem dX1_setOut_27 : decode cX1_setOut 27 = .ok (.imul, 1) := by decide +kernel
theorem dX1_setOut_28 : decode cX1_setOut 28 = .ok (.aload_n 0, 1) := by decide +kernel
theorem dX1_setOut_29 : decode cX1_setOut 29 = .ok (.getfield 35, 3) := by decide +kernel
theorem dX1_setOut_32 : decode cX1_setOut 32 = .ok (.iload 4, 2) := by decide +kernel
theorem dX1_setOut_34 : decode cX1_setOut 34 = .ok (.iaload, 1) := by decide +kernel
theorem dX1_setOut_35 : decode cX1_setOut 35 = .ok (.iadd, 1) := by decide +kernel
theorem dX1_setOut_36 : decode cX1_setOut 36 = .ok (.aload_n 0, 1) := by decide +kernel
theorem dX1_setOut_37 : decode cX1_setOut 37 = .ok (.getfield 7, 3) := by decide +kernel
theorem dX1_setOut_40 : decode cX1_setOut 40 = .ok (.iload_n 1, 1) := by decide +kernel
theorem dX1_setOut_41 : decode cX1_setOut 41 = .ok (.iaload, 1) := by decide +kernel
theorem dX1_setOut_42 : decode cX1_setOut 42 = .ok (.iastore, 1) := by decide +kernel
theorem dX1_setOut_43 : decode cX1_setOut 43 = .ok (.aload_n 0, 1) := by decide +kernel
theorem dX1_setOut_44 : decode cX1_setOut 44 = .ok (.getfield 41, 3) := by decide +kernel
theorem dX1_setOut_47 : decode cX1_setOut 47 = .ok (.bipush 60, 2) := by decide +kernel
theorem dX1_setOut_49 : decode cX1_setOut 49 = .ok (.iload 4, 2) := by decide +kernel
theorem dX1_setOut_51 : decode cX1_setOut 51 = .ok (.imul, 1) := by decide +kernel
theorem dX1_setOut_52 : decode cX1_setOut 52 = .ok (.aload_n 0, 1) := by decide +kernel
theorem dX1_setOut_53 : decode cX1_setOut 53 = .ok (.getfield 35, 3) := by decide +kernel
theorem dX1_setOut_56 : decode cX1_setOut 56 = .ok (.iload 4, 2) := by decide +kernel
theorem dX1_setOut_58 : decode cX1_setOut 58 = .ok (.iaload, 1) := by decide +kernel
theorem dX1_setOut_59 : decode cX1_setOut 59 = .ok (.iadd, 1) := by decide +kernel
theorem dX1_setOut_60 : decode cX1_setOut 60 = .ok (.iload_n 2, 1) := by decide +kernel
theorem dX1_setOut_61 : decode cX1_setOut 61 = .ok (.iastore, 1) := by decide +kernel
theorem dX1_setOut_62 : decode cX1_setOut 62 = .ok (.aload_n 0, 1) := by decide +kernel
theorem dX1_setOut_63 : decode cX1_setOut 63 = .ok (.getfield 35, 3) := by decide +kernel
theorem dX1_setOut_66 : decode cX1_setOut 66 = .ok (.iload 4, 2) := by decide +kernel
theorem dX1_setOut_68 : decode cX1_setOut 68 = .ok (.dup2, 1) := by decide +kernel
theorem dX1_setOut_69 : decode cX1_setOut 69 = .ok (.iaload, 1) := by decide +kernel
theorem dX1_setOut_70 : decode cX1_setOut 70 = .ok (.iconst 1, 1) := by decide +kernel
theorem dX1_setOut_71 : decode cX1_setOut 71 = .ok (.iadd, 1) := by decide +kernel
theorem dX1_setOut_72 : decode cX1_setOut 72 = .ok (.iastore, 1) := by decide +kernel
theorem dX1_setOut_73 : decode cX1_setOut 73 = .ok (.iinc 3 1, 3) := by decide +kernel
theorem dX1_setOut_76 : decode cX1_setOut 76 = .ok (.goto (-74), 3) := by decide +kernel
theorem dX1_setOut_79 : decode cX1_setOut 79 = .ok (.return_, 1) := by decide +kernel
theorem dX1_tick_0 : decode cX1_tick 0 = .ok (.iload_n 1, 1) := by decide +kernel
theorem dX1_tick_1 : decode cX1_tick 1 = .ok (.invokestatic 44, 3) := by decide +kernel
theorem dX1_tick_4 : decode cX1_tick 4 = .ok (.ifCond .ne 11, 3) := by decide +kernel
theorem dX1_tick_7 : decode cX1_tick 7 = .ok (.aload_n 0, 1) := by decide +kernel
theorem dX1_tick_8 : decode cX1_tick 8 = .ok (.iload_n 1, 1) := by decide +kernel
theorem dX1_tick_9 : decode cX1_tick 9 = .ok (.invokevirtual 56, 3) := by decide +kernel
theorem dX1_tick_12 : decode cX1_tick 12 = .ok (.ifCond .eq 5, 3) := by decide +kernel
theorem dX1_tick_15 : decode cX1_tick 15 = .ok (.iconst (-1), 1) := by decide +kernel
theorem dX1_tick_16 : decode cX1_tick 16 = .ok (.ireturn, 1) := by decide +kernel
theorem dX1_tick_17 : decode cX1_tick 17 = .ok (.aload_n 0, 1) := by decide +kernel
theorem dX1_tick_18 : decode cX1_tick 18 = .ok (.getfield 7, 3) := by decide +kernel
theorem dX1_tick_21 : decode cX1_tick 21 = .ok (.iload_n 1, 1) := by decide +kernel
theorem dX1_tick_22 : decode cX1_tick 22 = .ok (.dup2, 1) := by decide +kernel
theorem dX1_tick_23 : decode cX1_tick 23 = .ok (.iaload, 1) := by decide +kernel
theorem dX1_tick_24 : decode cX1_tick 24 = .ok (.iconst 1, 1) := by decide +kernel
theorem dX1_tick_25 : decode cX1_tick 25 = .ok (.iadd, 1) := by decide +kernel
theorem dX1_tick_26 : decode cX1_tick 26 = .ok (.iastore, 1) := by decide +kernel
theorem dX1_tick_27 : decode cX1_tick 27 = .ok (.aload_n 0, 1) := by decide +kernel
theorem dX1_tick_28 : decode cX1_tick 28 = .ok (.iload_n 1, 1) := by decide +kernel
theorem dX1_tick_29 : decode cX1_tick 29 = .ok (.iconst (-1), 1) := by decide +kernel
theorem dX1_tick_30 : decode cX1_tick 30 = .ok (.invokevirtual 52, 3) := by decide +kernel
theorem dX1_tick_33 : decode cX1_tick 33 = .ok (.aload_n 0, 1) := by decide +kernel
theorem dX1_tick_34 : decode cX1_tick 34 = .ok (.getfield 7, 3) := by decide +kernel
theorem dX1_tick_37 : decode cX1_tick 37 = .ok (.iload_n 1, 1) := by decide +kernel
theorem dX1_tick_38 : decode cX1_tick 38 = .ok (.iaload, 1) := by decide +kernel
theorem dX1_tick_39 : decode cX1_tick 39 = .ok (.ireturn, 1) := by decide +kernel
theorem dX1_full_0 : decode cX1_full 0 = .ok (.iconst 0, 1) := by decide +kernel
theorem dX1_full_1 : decode cX1_full 1 = .ok (.istore_n 2, 1) := by decide +kernel
theorem dX1_full_2 : decode cX1_full 2 = .ok (.iload_n 2, 1) := by decide +kernel
theorem dX1_full_3 : decode cX1_full 3 = .ok (.iconst 3, 1) := by decide +kernel
theorem dX1_full_4 : decode cX1_full 4 = .ok (.if_icmp .ge 31, 3) := by decide +kernel
theorem dX1_full_7 : decode cX1_full 7 = .ok (.iload_n 2, 1) := by decide +kernel
theorem dX1_full_8 : decode cX1_full 8 = .ok (.iload_n 1, 1) := by decide +kernel
theorem dX1_full_9 : decode cX1_full 9 = .ok (.if_icmp .eq 20, 3) := by decide +kernel
theorem dX1_full_12 : decode cX1_full 12 = .ok (.aload_n 0, 1) := by decide +kernel
theorem dX1_full_13 : decode cX1_full 13 = .ok (.getfield 35, 3) := by decide +kernel
theorem dX1_full_16 : decode cX1_full 16 = .ok (.iconst 3, 1) := by decide +kernel
theorem dX1_full_17 : decode cX1_full 17 = .ok (.iload_n 1, 1) := by decide +kernel
theorem dX1_full_18 : decode cX1_full 18 = .ok (.imul, 1) := by decide +kernel
theorem dX1_full_19 : decode cX1_full 19 = .ok (.iload_n 2, 1) := by decide +kernel
theorem dX1_full_20 : decode cX1_full 20 = .ok (.iadd, 1) := by decide +kernel
theorem dX1_full_21 : decode cX1_full 21 = .ok (.iaload, 1) := by decide +kernel
theorem dX1_full_22 : decode cX1_full 22 = .ok (.bipush 20, 2) := by decide +kernel
theorem dX1_full_24 : decode cX1_full 24 = .ok (.if_icmp .lt 5, 3) := by decide +kernel
theorem dX1_full_27 : decode cX1_full 27 = .ok (.iconst 1, 1) := by decide +kernel
theorem dX1_full_28 : decode cX1_full 28 = .ok (.ireturn, 1) := by decide +kernel
theorem dX1_full_29 : decode cX1_full 29 = .ok (.iinc 2 1, 3) := by decide +kernel
theorem dX1_full_32 : decode cX1_full 32 = .ok (.goto (-30), 3) := by decide +kernel
theorem dX1_full_35 : decode cX1_full 35 = .ok (.iconst 0, 1) := by decide +kernel
theorem dX1_full_36 : decode cX1_full 36 = .ok (.ireturn, 1) := by decide +kernel
theorem dX1_take_0 : decode cX1_take 0 = .ok (.iload_n 1, 1) := by decide +kernel
theorem dX1_take_1 : decode cX1_take 1 = .ok (.invokestatic 44, 3) := by decide +kernel
theorem dX1_take_4 : decode cX1_take 4 = .ok (.ifCond .ne 28, 3) := by decide +kernel
theorem dX1_take_7 : decode cX1_take 7 = .ok (.iload_n 2, 1) := by decide +kernel
theorem dX1_take_8 : decode cX1_take 8 = .ok (.invokestatic 44, 3) := by decide +kernel
theorem dX1_take_11 : decode cX1_take 11 = .ok (.ifCond .ne 21, 3) := by decide +kernel
theorem dX1_take_14 : decode cX1_take 14 = .ok (.iload_n 1, 1) := by decide +kernel
theorem dX1_take_15 : decode cX1_take 15 = .ok (.iload_n 2, 1) := by decide +kernel
theorem dX1_take_16 : decode cX1_take 16 = .ok (.if_icmp .eq 16, 3) := by decide +kernel
theorem dX1_take_19 : decode cX1_take 19 = .ok (.aload_n 0, 1) := by decide +kernel
theorem dX1_take_20 : decode cX1_take 20 = .ok (.getfield 35, 3) := by decide +kernel
theorem dX1_take_23 : decode cX1_take 23 = .ok (.iconst 3, 1) := by decide +kernel
theorem dX1_take_24 : decode cX1_take 24 = .ok (.iload_n 1, 1) := by decide +kernel
theorem dX1_take_25 : decode cX1_take 25 = .ok (.imul, 1) := by decide +kernel
theorem dX1_take_26 : decode cX1_take 26 = .ok (.iload_n 2, 1) := by decide +kernel
theorem dX1_take_27 : decode cX1_take 27 = .ok (.iadd, 1) := by decide +kernel
theorem dX1_take_28 : decode cX1_take 28 = .ok (.iaload, 1) := by decide +kernel
theorem dX1_take_29 : decode cX1_take 29 = .ok (.ifCond .ne 5, 3) := by decide +kernel
theorem dX1_take_32 : decode cX1_take 32 = .ok (.iconst (-1), 1) := by decide +kernel
theorem dX1_take_33 : decode cX1_take 33 = .ok (.ireturn, 1) := by decide +kernel
theorem dX1_take_34 : decode cX1_take 34 = .ok (.iconst 3, 1) := by decide +kernel
theorem dX1_take_35 : decode cX1_take 35 = .ok (.iload_n 1, 1) := by decide +kernel
theorem dX1_take_36 : decode cX1_take 36 = .ok (.imul, 1) := by decide +kernel
theorem dX1_take_37 : decode cX1_take 37 = .ok (.iload_n 2, 1) := by decide +kernel
theorem dX1_take_38 : decode cX1_take 38 = .ok (.iadd, 1) := by decide +kernel
theorem dX1_take_39 : decode cX1_take 39 = .ok (.istore_n 3, 1) := by decide +kernel
theorem dX1_take_40 : decode cX1_take 40 = .ok (.aload_n 0, 1) := by decide +kernel
theorem dX1_take_41 : decode cX1_take 41 = .ok (.getfield 38, 3) := by decide +kernel
theorem dX1_take_44 : decode cX1_take 44 = .ok (.bipush 60, 2) := by decide +kernel
theorem dX1_take_46 : decode cX1_take 46 = .ok (.iload_n 3, 1) := by decide +kernel
theorem dX1_take_47 : decode cX1_take 47 = .ok (.imul, 1) := by decide +kernel
theorem dX1_take_48 : decode cX1_take 48 = .ok (.iaload, 1) := by decide +kernel
theorem dX1_take_49 : decode cX1_take 49 = .ok (.istore 4, 2) := by decide +kernel
theorem dX1_take_51 : decode cX1_take 51 = .ok (.aload_n 0, 1) := by decide +kernel
theorem dX1_take_52 : decode cX1_take 52 = .ok (.getfield 41, 3) := by decide +kernel
theorem dX1_take_55 : decode cX1_take 55 = .ok (.bipush 60, 2) := by decide +kernel
theorem dX1_take_57 : decode cX1_take 57 = .ok (.iload_n 3, 1) := by decide +kernel
theorem dX1_take_58 : decode cX1_take 58 = .ok (.imul, 1) := by decide +kernel
theorem dX1_take_59 : decode cX1_take 59 = .ok (.iaload, 1) := by decide +kernel
theorem dX1_take_60 : decode cX1_take 60 = .ok (.istore 5, 2) := by decide +kernel
theorem dX1_take_62 : decode cX1_take 62 = .ok (.aload_n 0, 1) := by decide +kernel
theorem dX1_take_63 : decode cX1_take 63 = .ok (.getfield 35, 3) := by decide +kernel
theorem dX1_take_66 : decode cX1_take 66 = .ok (.iload_n 3, 1) := by decide +kernel
theorem dX1_take_67 : decode cX1_take 67 = .ok (.dup2, 1) := by decide +kernel
theorem dX1_take_68 : decode cX1_take 68 = .ok (.iaload, 1) := by decide +kernel
theorem dX1_take_69 : decode cX1_take 69 = .ok (.iconst 1, 1) := by decide +kernel
theorem dX1_take_70 : decode cX1_take 70 = .ok (.isub, 1) := by decide +kernel
theorem dX1_take_71 : decode cX1_take 71 = .ok (.iastore, 1) := by decide +kernel
theorem dX1_take_72 : decode cX1_take 72 = .ok (.iconst 0, 1) := by decide +kernel
theorem dX1_take_73 : decode cX1_take 73 = .ok (.istore 6, 2) := by decide +kernel
theorem dX1_take_75 : decode cX1_take 75 = .ok (.iload 6, 2) := by decide +kernel
theorem dX1_take_77 : decode cX1_take 77 = .ok (.aload_n 0, 1) := by decide +kernel
theorem dX1_take_78 : decode cX1_take 78 = .ok (.getfield 35, 3) := by decide +kernel
theorem dX1_take_81 : decode cX1_take 81 = .ok (.iload_n 3, 1) := by decide +kernel
theorem dX1_take_82 : decode cX1_take 82 = .ok (.iaload, 1) := by decide +kernel
theorem dX1_take_83 : decode cX1_take 83 = .ok (.if_icmp .ge 61, 3) := by decide +kernel
theorem dX1_take_86 : decode cX1_take 86 = .ok (.aload_n 0, 1) := by decide +kernel
theorem dX1_take_87 : decode cX1_take 87 = .ok (.getfield 38, 3) := by decide +kernel
theorem dX1_take_90 : decode cX1_take 90 = .ok (.bipush 60, 2) := by decide +kernel
theorem dX1_take_92 : decode cX1_take 92 = .ok (.iload_n 3, 1) := by decide +kernel
theorem dX1_take_93 : decode cX1_take 93 = .ok (.imul, 1) := by decide +kernel
theorem dX1_take_94 : decode cX1_take 94 = .ok (.iload 6, 2) := by decide +kernel
end
section
set_option maxRecDepth 100000
theorem dX1_take_96 : decode cX1_take 96 = .ok (.iadd, 1) := by decide +kernel
theorem dX1_take_97 : decode cX1_take 97 = .ok (.aload_n 0, 1) := by decide +kernel
theorem dX1_take_98 : decode cX1_take 98 = .ok (.getfield 38, 3) := by decide +kernel
theorem dX1_take_101 : decode cX1_take 101 = .ok (.bipush 60, 2) := by decide +kernel
theorem dX1_take_103 : decode cX1_take 103 = .ok (.iload_n 3, 1) := by decide +kernel
theorem dX1_take_104 : decode cX1_take 104 = .ok (.imul, 1) := by decide +kernel
theorem dX1_take_105 : decode cX1_take 105 = .ok (.iload 6, 2) := by decide +kernel
theorem dX1_take_107 : decode cX1_take 107 = .ok (.iadd, 1) := by decide +kernel
theorem dX1_take_108 : decode cX1_take 108 = .ok (.iconst 1, 1) := by decide +kernel
theorem dX1_take_109 : decode cX1_take 109 = .ok (.iadd, 1) := by decide +kernel
theorem dX1_take_110 : decode cX1_take 110 = .ok (.iaload, 1) := by decide +kernel
theorem dX1_take_111 : decode cX1_take 111 = .ok (.iastore, 1) := by decide +kernel
theorem dX1_take_112 : decode cX1_take 112 = .ok (.aload_n 0, 1) := by decide +kernel
theorem dX1_take_113 : decode cX1_take 113 = .ok (.getfield 41, 3) := by decide +kernel
theorem dX1_take_116 : decode cX1_take 116 = .ok (.bipush 60, 2) := by decide +kernel
theorem dX1_take_118 : decode cX1_take 118 = .ok (.iload_n 3, 1) := by decide +kernel
theorem dX1_take_119 : decode cX1_take 119 = .ok (.imul, 1) := by decide +kernel
theorem dX1_take_120 : decode cX1_take 120 = .ok (.iload 6, 2) := by decide +kernel
theorem dX1_take_122 : decode cX1_take 122 = .ok (.iadd, 1) := by decide +kernel
theorem dX1_take_123 : decode cX1_take 123 = .ok (.aload_n 0, 1) := by decide +kernel
theorem dX1_take_124 : decode cX1_take 124 = .ok (.getfield 41, 3) := by decide +kernel
theorem dX1_take_127 : decode cX1_take 127 = .ok (.bipush 60, 2) := by decide +kernel
theorem dX1_take_129 : decode cX1_take 129 = .ok (.iload_n 3, 1) := by decide +kernel
theorem dX1_take_130 : decode cX1_take 130 = .ok (.imul, 1) := by decide +kernel
theorem dX1_take_131 : decode cX1_take 131 = .ok (.iload 6, 2) := by decide +kernel
theorem dX1_take_133 : decode cX1_take 133 = .ok (.iadd, 1) := by decide +kernel
theorem dX1_take_134 : decode cX1_take 134 = .ok (.iconst 1, 1) := by decide +kernel
theorem dX1_take_135 : decode cX1_take 135 = .ok (.iadd, 1) := by decide +kernel
theorem dX1_take_136 : decode cX1_take 136 = .ok (.iaload, 1) := by decide +kernel
theorem dX1_take_137 : decode cX1_take 137 = .ok (.iastore, 1) := by decide +kernel
theorem dX1_take_138 : decode cX1_take 138 = .ok (.iinc 6 1, 3) := by decide +kernel
theorem dX1_take_141 : decode cX1_take 141 = .ok (.goto (-66), 3) := by decide +kernel
theorem dX1_take_144 : decode cX1_take 144 = .ok (.aload_n 0, 1) := by decide +kernel
theorem dX1_take_145 : decode cX1_take 145 = .ok (.getfield 7, 3) := by decide +kernel
theorem dX1_take_148 : decode cX1_take 148 = .ok (.iload_n 2, 1) := by decide +kernel
theorem dX1_take_149 : decode cX1_take 149 = .ok (.aload_n 0, 1) := by decide +kernel
theorem dX1_take_150 : decode cX1_take 150 = .ok (.getfield 7, 3) := by decide +kernel
theorem dX1_take_153 : decode cX1_take 153 = .ok (.iload_n 2, 1) := by decide +kernel
theorem dX1_take_154 : decode cX1_take 154 = .ok (.iaload, 1) := by decide +kernel
theorem dX1_take_155 : decode cX1_take 155 = .ok (.iload 4, 2) := by decide +kernel
theorem dX1_take_157 : decode cX1_take 157 = .ok (.if_icmp .ge 8, 3) := by decide +kernel
theorem dX1_take_160 : decode cX1_take 160 = .ok (.iload 4, 2) := by decide +kernel
theorem dX1_take_162 : decode cX1_take 162 = .ok (.goto 9, 3) := by decide +kernel
theorem dX1_take_165 : decode cX1_take 165 = .ok (.aload_n 0, 1) := by decide +kernel
theorem dX1_take_166 : decode cX1_take 166 = .ok (.getfield 7, 3) := by decide +kernel
theorem dX1_take_169 : decode cX1_take 169 = .ok (.iload_n 2, 1) := by decide +kernel
theorem dX1_take_170 : decode cX1_take 170 = .ok (.iaload, 1) := by decide +kernel
theorem dX1_take_171 : decode cX1_take 171 = .ok (.iconst 1, 1) := by decide +kernel
theorem dX1_take_172 : decode cX1_take 172 = .ok (.iadd, 1) := by decide +kernel
theorem dX1_take_173 : decode cX1_take 173 = .ok (.iastore, 1) := by decide +kernel
theorem dX1_take_174 : decode cX1_take 174 = .ok (.aload_n 0, 1) := by decide +kernel
theorem dX1_take_175 : decode cX1_take 175 = .ok (.getfield 32, 3) := by decide +kernel
theorem dX1_take_178 : decode cX1_take 178 = .ok (.iload_n 3, 1) := by decide +kernel
theorem dX1_take_179 : decode cX1_take 179 = .ok (.iload 4, 2) := by decide +kernel
theorem dX1_take_181 : decode cX1_take 181 = .ok (.iastore, 1) := by decide +kernel
theorem dX1_take_182 : decode cX1_take 182 = .ok (.iload 5, 2) := by decide +kernel
theorem dX1_take_184 : decode cX1_take 184 = .ok (.ifCond .lt 16, 3) := by decide +kernel
theorem dX1_take_187 : decode cX1_take 187 = .ok (.aload_n 0, 1) := by decide +kernel
theorem dX1_take_188 : decode cX1_take 188 = .ok (.getfield 19, 3) := by decide +kernel
theorem dX1_take_191 : decode cX1_take 191 = .ok (.bipush 40, 2) := by decide +kernel
theorem dX1_take_193 : decode cX1_take 193 = .ok (.iload_n 2, 1) := by decide +kernel
theorem dX1_take_194 : decode cX1_take 194 = .ok (.imul, 1) := by decide +kernel
theorem dX1_take_195 : decode cX1_take 195 = .ok (.iload 5, 2) := by decide +kernel
theorem dX1_take_197 : decode cX1_take 197 = .ok (.iadd, 1) := by decide +kernel
theorem dX1_take_198 : decode cX1_take 198 = .ok (.iconst 1, 1) := by decide +kernel
theorem dX1_take_199 : decode cX1_take 199 = .ok (.bastore, 1) := by decide +kernel
theorem dX1_take_200 : decode cX1_take 200 = .ok (.aload_n 0, 1) := by decide +kernel
theorem dX1_take_201 : decode cX1_take 201 = .ok (.iload_n 2, 1) := by decide +kernel
theorem dX1_take_202 : decode cX1_take 202 = .ok (.invokevirtual 71, 3) := by decide +kernel
theorem dX1_take_205 : decode cX1_take 205 = .ok (.ireturn, 1) := by decide +kernel
theorem dX1_readAll_0 : decode cX1_readAll 0 = .ok (.iconst 0, 1) := by decide +kernel
theorem dX1_readAll_1 : decode cX1_readAll 1 = .ok (.istore_n 2, 1) := by decide +kernel
theorem dX1_readAll_2 : decode cX1_readAll 2 = .ok (.aload_n 0, 1) := by decide +kernel
theorem dX1_readAll_3 : decode cX1_readAll 3 = .ok (.iload_n 1, 1) := by decide +kernel
theorem dX1_readAll_4 : decode cX1_readAll 4 = .ok (.invokevirtual 63, 3) := by decide +kernel
theorem dX1_readAll_7 : decode cX1_readAll 7 = .ok (.istore_n 3, 1) := by decide +kernel
theorem dX1_readAll_8 : decode cX1_readAll 8 = .ok (.iload_n 3, 1) := by decide +kernel
theorem dX1_readAll_9 : decode cX1_readAll 9 = .ok (.ifCond .lt 63, 3) := by decide +kernel
theorem dX1_readAll_12 : decode cX1_readAll 12 = .ok (.aload_n 0, 1) := by decide +kernel
theorem dX1_readAll_13 : decode cX1_readAll 13 = .ok (.iload_n 1, 1) := by decide +kernel
theorem dX1_readAll_14 : decode cX1_readAll 14 = .ok (.iload_n 3, 1) := by decide +kernel
theorem dX1_readAll_15 : decode cX1_readAll 15 = .ok (.invokevirtual 67, 3) := by decide +kernel
theorem dX1_readAll_18 : decode cX1_readAll 18 = .ok (.ifCond .eq 54, 3) := by decide +kernel
theorem dX1_readAll_21 : decode cX1_readAll 21 = .ok (.aload_n 0, 1) := by decide +kernel
theorem dX1_readAll_22 : decode cX1_readAll 22 = .ok (.getfield 23, 3) := by decide +kernel
theorem dX1_readAll_25 : decode cX1_readAll 25 = .ok (.bipush 40, 2) := by decide +kernel
theorem dX1_readAll_27 : decode cX1_readAll 27 = .ok (.iload_n 1, 1) := by decide +kernel
theorem dX1_readAll_28 : decode cX1_readAll 28 = .ok (.imul, 1) := by decide +kernel
theorem dX1_readAll_29 : decode cX1_readAll 29 = .ok (.iload_n 3, 1) := by decide +kernel
theorem dX1_readAll_30 : decode cX1_readAll 30 = .ok (.iadd, 1) := by decide +kernel
theorem dX1_readAll_31 : decode cX1_readAll 31 = .ok (.iconst 1, 1) := by decide +kernel
theorem dX1_readAll_32 : decode cX1_readAll 32 = .ok (.bastore, 1) := by decide +kernel
theorem dX1_readAll_33 : decode cX1_readAll 33 = .ok (.aload_n 0, 1) := by decide +kernel
theorem dX1_readAll_34 : decode cX1_readAll 34 = .ok (.getfield 29, 3) := by decide +kernel
theorem dX1_readAll_37 : decode cX1_readAll 37 = .ok (.bipush 40, 2) := by decide +kernel
theorem dX1_readAll_39 : decode cX1_readAll 39 = .ok (.iload_n 1, 1) := by decide +kernel
theorem dX1_readAll_40 : decode cX1_readAll 40 = .ok (.imul, 1) := by decide +kernel
theorem dX1_readAll_41 : decode cX1_readAll 41 = .ok (.aload_n 0, 1) := by decide +kernel
theorem dX1_readAll_42 : decode cX1_readAll 42 = .ok (.getfield 26, 3) := by decide +kernel
theorem dX1_readAll_45 : decode cX1_readAll 45 = .ok (.iload_n 1, 1) := by decide +kernel
theorem dX1_readAll_46 : decode cX1_readAll 46 = .ok (.iaload, 1) := by decide +kernel
theorem dX1_readAll_47 : decode cX1_readAll 47 = .ok (.iadd, 1) := by decide +kernel
theorem dX1_readAll_48 : decode cX1_readAll 48 = .ok (.iload_n 3, 1) := by decide +kernel
theorem dX1_readAll_49 : decode cX1_readAll 49 = .ok (.iastore, 1) := by decide +kernel
theorem dX1_readAll_50 : decode cX1_readAll 50 = .ok (.aload_n 0, 1) := by decide +kernel
theorem dX1_readAll_51 : decode cX1_readAll 51 = .ok (.getfield 26, 3) := by decide +kernel
theorem dX1_readAll_54 : decode cX1_readAll 54 = .ok (.iload_n 1, 1) := by decide +kernel
theorem dX1_readAll_55 : decode cX1_readAll 55 = .ok (.dup2, 1) := by decide +kernel
theorem dX1_readAll_56 : decode cX1_readAll 56 = .ok (.iaload, 1) := by decide +kernel
theorem dX1_readAll_57 : decode cX1_readAll 57 = .ok (.iconst 1, 1) := by decide +kernel
theorem dX1_readAll_58 : decode cX1_readAll 58 = .ok (.iadd, 1) := by decide +kernel
theorem dX1_readAll_59 : decode cX1_readAll 59 = .ok (.iastore, 1) := by decide +kernel
theorem dX1_readAll_60 : decode cX1_readAll 60 = .ok (.iinc 2 1, 3) := by decide +kernel
theorem dX1_readAll_63 : decode cX1_readAll 63 = .ok (.aload_n 0, 1) := by decide +kernel
theorem dX1_readAll_64 : decode cX1_readAll 64 = .ok (.iload_n 1, 1) := by decide +kernel
theorem dX1_readAll_65 : decode cX1_readAll 65 = .ok (.invokevirtual 63, 3) := by decide +kernel
theorem dX1_readAll_68 : decode cX1_readAll 68 = .ok (.istore_n 3, 1) := by decide +kernel
theorem dX1_readAll_69 : decode cX1_readAll 69 = .ok (.goto (-61), 3) := by decide +kernel
theorem dX1_readAll_72 : decode cX1_readAll 72 = .ok (.iload_n 2, 1) := by decide +kernel
theorem dX1_readAll_73 : decode cX1_readAll 73 = .ok (.ireturn, 1) := by decide +kernel
theorem dX1_earliest_0 : decode cX1_earliest 0 = .ok (.iconst (-1), 1) := by decide +kernel
theorem dX1_earliest_1 : decode cX1_earliest 1 = .ok (.istore_n 2, 1) := by decide +kernel
theorem dX1_earliest_2 : decode cX1_earliest 2 = .ok (.iconst 0, 1) := by decide +kernel
theorem dX1_earliest_3 : decode cX1_earliest 3 = .ok (.istore_n 3, 1) := by decide +kernel
theorem dX1_earliest_4 : decode cX1_earliest 4 = .ok (.iload_n 3, 1) := by decide +kernel
theorem dX1_earliest_5 : decode cX1_earliest 5 = .ok (.aload_n 0, 1) := by decide +kernel
theorem dX1_earliest_6 : decode cX1_earliest 6 = .ok (.getfield 48, 3) := by decide +kernel
theorem dX1_earliest_9 : decode cX1_earliest 9 = .ok (.if_icmp .ge 86, 3) := by decide +kernel
theorem dX1_earliest_12 : decode cX1_earliest 12 = .ok (.aload_n 0, 1) := by decide +kernel
theorem dX1_earliest_13 : decode cX1_earliest 13 = .ok (.getfield 19, 3) := by decide +kernel
theorem dX1_earliest_16 : decode cX1_earliest 16 = .ok (.bipush 40, 2) := by decide +kernel
theorem dX1_earliest_18 : decode cX1_earliest 18 = .ok (.iload_n 1, 1) := by decide +kernel
theorem dX1_earliest_19 : decode cX1_earliest 19 = .ok (.imul, 1) := by decide +kernel
theorem dX1_earliest_20 : decode cX1_earliest 20 = .ok (.iload_n 3, 1) := by decide +kernel
theorem dX1_earliest_21 : decode cX1_earliest 21 = .ok (.iadd, 1) := by decide +kernel
theorem dX1_earliest_22 : decode cX1_earliest 22 = .ok (.baload, 1) := by decide +kernel
theorem dX1_earliest_23 : decode cX1_earliest 23 = .ok (.ifCond .eq 21, 3) := by decide +kernel
theorem dX1_earliest_26 : decode cX1_earliest 26 = .ok (.aload_n 0, 1) := by decide +kernel
theorem dX1_earliest_27 : decode cX1_earliest 27 = .ok (.getfield 23, 3) := by decide +kernel
theorem dX1_earliest_30 : decode cX1_earliest 30 = .ok (.bipush 40, 2) := by decide +kernel
theorem dX1_earliest_32 : decode cX1_earliest 32 = .ok (.iload_n 1, 1) := by decide +kernel
theorem dX1_earliest_33 : decode cX1_earliest 33 = .ok (.imul, 1) := by decide +kernel
theorem dX1_earliest_34 : decode cX1_earliest 34 = .ok (.iload_n 3, 1) := by decide +kernel
theorem dX1_earliest_35 : decode cX1_earliest 35 = .ok (.iadd, 1) := by decide +kernel
theorem dX1_earliest_36 : decode cX1_earliest 36 = .ok (.baload, 1) := by decide +kernel
theorem dX1_earliest_37 : decode cX1_earliest 37 = .ok (.ifCond .ne 7, 3) := by decide +kernel
theorem dX1_earliest_40 : decode cX1_earliest 40 = .ok (.iconst 1, 1) := by decide +kernel
theorem dX1_earliest_41 : decode cX1_earliest 41 = .ok (.goto 4, 3) := by decide +kernel
theorem dX1_earliest_44 : decode cX1_earliest 44 = .ok (.iconst 0, 1) := by decide +kernel
theorem dX1_earliest_45 : decode cX1_earliest 45 = .ok (.istore 4, 2) := by decide +kernel
theorem dX1_earliest_47 : decode cX1_earliest 47 = .ok (.iload 4, 2) := by decide +kernel
theorem dX1_earliest_49 : decode cX1_earliest 49 = .ok (.ifCond .eq 40, 3) := by decide +kernel
theorem dX1_earliest_52 : decode cX1_earliest 52 = .ok (.iload_n 2, 1) := by decide +kernel
theorem dX1_earliest_53 : decode cX1_earliest 53 = .ok (.ifCond .lt 34, 3) := by decide +kernel
theorem dX1_earliest_56 : decode cX1_earliest 56 = .ok (.aload_n 0, 1) := by decide +kernel
theorem dX1_earliest_57 : decode cX1_earliest 57 = .ok (.aload_n 0, 1) := by decide +kernel
theorem dX1_earliest_58 : decode cX1_earliest 58 = .ok (.getfield 16, 3) := by decide +kernel
theorem dX1_earliest_61 : decode cX1_earliest 61 = .ok (.iload_n 3, 1) := by decide +kernel
theorem dX1_earliest_62 : decode cX1_earliest 62 = .ok (.iaload, 1) := by decide +kernel
theorem dX1_earliest_63 : decode cX1_earliest 63 = .ok (.aload_n 0, 1) := by decide +kernel
theorem dX1_earliest_64 : decode cX1_earliest 64 = .ok (.getfield 13, 3) := by decide +kernel
theorem dX1_earliest_67 : decode cX1_earliest 67 = .ok (.iload_n 3, 1) := by decide +kernel
theorem dX1_earliest_68 : decode cX1_earliest 68 = .ok (.iaload, 1) := by decide +kernel
theorem dX1_earliest_69 : decode cX1_earliest 69 = .ok (.aload_n 0, 1) := by decide +kernel
theorem dX1_earliest_70 : decode cX1_earliest 70 = .ok (.getfield 16, 3) := by decide +kernel
theorem dX1_earliest_73 : decode cX1_earliest 73 = .ok (.iload_n 2, 1) := by decide +kernel
theorem dX1_earliest_74 : decode cX1_earliest 74 = .ok (.iaload, 1) := by decide +kernel
theorem dX1_earliest_75 : decode cX1_earliest 75 = .ok (.aload_n 0, 1) := by decide +kernel
theorem dX1_earliest_76 : decode cX1_earliest 76 = .ok (.getfield 13, 3) := by decide +kernel
theorem dX1_earliest_79 : decode cX1_earliest 79 = .ok (.iload_n 2, 1) := by decide +kernel
theorem dX1_earliest_80 : decode cX1_earliest 80 = .ok (.iaload, 1) := by decide +kernel
theorem dX1_earliest_81 : decode cX1_earliest 81 = .ok (.invokevirtual 59, 3) := by decide +kernel
theorem dX1_earliest_84 : decode cX1_earliest 84 = .ok (.ifCond .eq 5, 3) := by decide +kernel
theorem dX1_earliest_87 : decode cX1_earliest 87 = .ok (.iload_n 3, 1) := by decide +kernel
theorem dX1_earliest_88 : decode cX1_earliest 88 = .ok (.istore_n 2, 1) := by decide +kernel
theorem dX1_earliest_89 : decode cX1_earliest 89 = .ok (.iinc 3 1, 3) := by decide +kernel
theorem dX1_earliest_92 : decode cX1_earliest 92 = .ok (.goto (-88), 3) := by decide +kernel
theorem dX1_earliest_95 : decode cX1_earliest 95 = .ok (.iload_n 2, 1) := by decide +kernel
theorem dX1_earliest_96 : decode cX1_earliest 96 = .ok (.ireturn, 1) := by decide +kernel
theorem dX1_earlier_0 : decode cX1_earlier 0 = .ok (.iload_n 1, 1) := by decide +kernel
theorem dX1_earlier_1 : decode cX1_earlier 1 = .ok (.iload_n 3, 1) := by decide +kernel
theorem dX1_earlier_2 : decode cX1_earlier 2 = .ok (.if_icmp .lt 14, 3) := by decide +kernel
theorem dX1_earlier_5 : decode cX1_earlier 5 = .ok (.iload_n 1, 1) := by decide +kernel
theorem dX1_earlier_6 : decode cX1_earlier 6 = .ok (.iload_n 3, 1) := by decide +kernel
theorem dX1_earlier_7 : decode cX1_earlier 7 = .ok (.if_icmp .ne 13, 3) := by decide +kernel
theorem dX1_earlier_10 : decode cX1_earlier 10 = .ok (.iload_n 2, 1) := by decide +kernel
theorem dX1_earlier_11 : decode cX1_earlier 11 = .ok (.iload 4, 2) := by decide +kernel
theorem dX1_earlier_13 : decode cX1_earlier 13 = .ok (.if_icmp .ge 7, 3) := by decide +kernel
theorem dX1_earlier_16 : decode cX1_earlier 16 = .ok (.iconst 1, 1) := by decide +kernel
theorem dX1_earlier_17 : decode cX1_earlier 17 = .ok (.goto 4, 3) := by decide +kernel
theorem dX1_earlier_20 : decode cX1_earlier 20 = .ok (.iconst 0, 1) := by decide +kernel
theorem dX1_earlier_21 : decode cX1_earlier 21 = .ok (.ireturn, 1) := by decide +kernel
theorem dX1_ready_0 : decode cX1_ready 0 = .ok (.iconst 0, 1) := by decide +kernel
theorem dX1_ready_1 : decode cX1_ready 1 = .ok (.istore_n 3, 1) := by decide +kernel
theorem dX1_ready_2 : decode cX1_ready 2 = .ok (.iload_n 3, 1) := by decide +kernel
theorem dX1_ready_3 : decode cX1_ready 3 = .ok (.iconst 3, 1) := by decide +kernel
theorem dX1_ready_4 : decode cX1_ready 4 = .ok (.if_icmp .ge 68, 3) := by decide +kernel
theorem dX1_ready_7 : decode cX1_ready 7 = .ok (.iload_n 3, 1) := by decide +kernel
theorem dX1_ready_8 : decode cX1_ready 8 = .ok (.iload_n 1, 1) := by decide +kernel
theorem dX1_ready_9 : decode cX1_ready 9 = .ok (.if_icmp .eq 17, 3) := by decide +kernel
theorem dX1_ready_12 : decode cX1_ready 12 = .ok (.iload_n 3, 1) := by decide +kernel
theorem dX1_ready_13 : decode cX1_ready 13 = .ok (.aload_n 0, 1) := by decide +kernel
theorem dX1_ready_14 : decode cX1_ready 14 = .ok (.getfield 13, 3) := by decide +kernel
theorem dX1_ready_17 : decode cX1_ready 17 = .ok (.iload_n 2, 1) := by decide +kernel
theorem dX1_ready_18 : decode cX1_ready 18 = .ok (.iaload, 1) := by decide +kernel
theorem dX1_ready_19 : decode cX1_ready 19 = .ok (.if_icmp .eq 7, 3) := by decide +kernel
theorem dX1_ready_22 : decode cX1_ready 22 = .ok (.iconst 1, 1) := by decide +kernel
theorem dX1_ready_23 : decode cX1_ready 23 = .ok (.goto 4, 3) := by decide +kernel
theorem dX1_ready_26 : decode cX1_ready 26 = .ok (.iconst 0, 1) := by decide +kernel
theorem dX1_ready_27 : decode cX1_ready 27 = .ok (.istore 4, 2) := by decide +kernel
theorem dX1_ready_29 : decode cX1_ready 29 = .ok (.iload 4, 2) := by decide +kernel
theorem dX1_ready_31 : decode cX1_ready 31 = .ok (.ifCond .eq 35, 3) := by decide +kernel
theorem dX1_ready_34 : decode cX1_ready 34 = .ok (.aload_n 0, 1) := by decide +kernel
theorem dX1_ready_35 : decode cX1_ready 35 = .ok (.aload_n 0, 1) := by decide +kernel
theorem dX1_ready_36 : decode cX1_ready 36 = .ok (.getfield 32, 3) := by decide +kernel
theorem dX1_ready_39 : decode cX1_ready 39 = .ok (.iconst 3, 1) := by decide +kernel
theorem dX1_ready_40 : decode cX1_ready 40 = .ok (.iload_n 3, 1) := by decide +kernel
theorem dX1_ready_41 : decode cX1_ready 41 = .ok (.imul, 1) := by decide +kernel
theorem dX1_ready_42 : decode cX1_ready 42 = .ok (.iload_n 1, 1) := by decide +kernel
theorem dX1_ready_43 : decode cX1_ready 43 = .ok (.iadd, 1) := by decide +kernel
theorem dX1_ready_44 : decode cX1_ready 44 = .ok (.iaload, 1) := by decide +kernel
theorem dX1_ready_45 : decode cX1_ready 45 = .ok (.iload_n 3, 1) := by decide +kernel
theorem dX1_ready_46 : decode cX1_ready 46 = .ok (.aload_n 0, 1) := by decide +kernel
theorem dX1_ready_47 : decode cX1_ready 47 = .ok (.getfield 16, 3) := by decide +kernel
theorem dX1_ready_50 : decode cX1_ready 50 = .ok (.iload_n 2, 1) := by decide +kernel
theorem dX1_ready_51 : decode cX1_ready 51 = .ok (.iaload, 1) := by decide +kernel
theorem dX1_ready_52 : decode cX1_ready 52 = .ok (.aload_n 0, 1) := by decide +kernel
theorem dX1_ready_53 : decode cX1_ready 53 = .ok (.getfield 13, 3) := by decide +kernel
theorem dX1_ready_56 : decode cX1_ready 56 = .ok (.iload_n 2, 1) := by decide +kernel
theorem dX1_ready_57 : decode cX1_ready 57 = .ok (.iaload, 1) := by decide +kernel
theorem dX1_ready_58 : decode cX1_ready 58 = .ok (.invokevirtual 59, 3) := by decide +kernel
theorem dX1_ready_61 : decode cX1_ready 61 = .ok (.ifCond .eq 5, 3) := by decide +kernel
theorem dX1_ready_64 : decode cX1_ready 64 = .ok (.iconst 0, 1) := by decide +kernel
theorem dX1_ready_65 : decode cX1_ready 65 = .ok (.ireturn, 1) := by decide +kernel
theorem dX1_ready_66 : decode cX1_ready 66 = .ok (.iinc 3 1, 3) := by decide +kernel
theorem dX1_ready_69 : decode cX1_ready 69 = .ok (.goto (-67), 3) := by decide +kernel
theorem dX1_ready_72 : decode cX1_ready 72 = .ok (.iconst 1, 1) := by decide +kernel
theorem dX1_ready_73 : decode cX1_ready 73 = .ok (.ireturn, 1) := by decide +kernel
theorem dX1_waiting_0 : decode cX1_waiting 0 = .ok (.iload_n 1, 1) := by decide +kernel
theorem dX1_waiting_1 : decode cX1_waiting 1 = .ok (.invokestatic 44, 3) := by decide +kernel
theorem dX1_waiting_4 : decode cX1_waiting 4 = .ok (.ifCond .ne 15, 3) := by decide +kernel
theorem dX1_waiting_7 : decode cX1_waiting 7 = .ok (.iload_n 2, 1) := by decide +kernel
theorem dX1_waiting_8 : decode cX1_waiting 8 = .ok (.invokestatic 44, 3) := by decide +kernel
theorem dX1_waiting_11 : decode cX1_waiting 11 = .ok (.ifCond .ne 8, 3) := by decide +kernel
theorem dX1_waiting_14 : decode cX1_waiting 14 = .ok (.iload_n 1, 1) := by decide +kernel
theorem dX1_waiting_15 : decode cX1_waiting 15 = .ok (.iload_n 2, 1) := by decide +kernel
theorem dX1_waiting_16 : decode cX1_waiting 16 = .ok (.if_icmp .ne 7, 3) := by decide +kernel
theorem dX1_waiting_19 : decode cX1_waiting 19 = .ok (.iconst (-1), 1) := by decide +kernel
theorem dX1_waiting_20 : decode cX1_waiting 20 = .ok (.goto 13, 3) := by decide +kernel
theorem dX1_waiting_23 : decode cX1_waiting 23 = .ok (.aload_n 0, 1) := by decide +kernel
theorem dX1_waiting_24 : decode cX1_waiting 24 = .ok (.getfield 35, 3) := by decide +kernel
theorem dX1_waiting_27 : decode cX1_waiting 27 = .ok (.iconst 3, 1) := by decide +kernel
theorem dX1_waiting_28 : decode cX1_waiting 28 = .ok (.iload_n 1, 1) := by decide +kernel
theorem dX1_waiting_29 : decode cX1_waiting 29 = .ok (.imul, 1) := by decide +kernel
theorem dX1_waiting_30 : decode cX1_waiting 30 = .ok (.iload_n 2, 1) := by decide +kernel
theorem dX1_waiting_31 : decode cX1_waiting 31 = .ok (.iadd, 1) := by decide +kernel
theorem dX1_waiting_32 : decode cX1_waiting 32 = .ok (.iaload, 1) := by decide +kernel
theorem dX1_waiting_33 : decode cX1_waiting 33 = .ok (.ireturn, 1) := by decide +kernel
theorem dX1_clock_0 : decode cX1_clock 0 = .ok (.iload_n 1, 1) := by decide +kernel
theorem dX1_clock_1 : decode cX1_clock 1 = .ok (.invokestatic 44, 3) := by decide +kernel
end
section
set_option maxRecDepth 100000
theorem dX1_clock_4 : decode cX1_clock 4 = .ok (.ifCond .eq 7, 3) := by decide +kernel
theorem dX1_clock_7 : decode cX1_clock 7 = .ok (.iconst (-1), 1) := by decide +kernel
theorem dX1_clock_8 : decode cX1_clock 8 = .ok (.goto 9, 3) := by decide +kernel
theorem dX1_clock_11 : decode cX1_clock 11 = .ok (.aload_n 0, 1) := by decide +kernel
theorem dX1_clock_12 : decode cX1_clock 12 = .ok (.getfield 7, 3) := by decide +kernel
theorem dX1_clock_15 : decode cX1_clock 15 = .ok (.iload_n 1, 1) := by decide +kernel
theorem dX1_clock_16 : decode cX1_clock 16 = .ok (.iaload, 1) := by decide +kernel
theorem dX1_clock_17 : decode cX1_clock 17 = .ok (.ireturn, 1) := by decide +kernel
theorem dX1_count_0 : decode cX1_count 0 = .ok (.iload_n 1, 1) := by decide +kernel
theorem dX1_count_1 : decode cX1_count 1 = .ok (.invokestatic 44, 3) := by decide +kernel
theorem dX1_count_4 : decode cX1_count 4 = .ok (.ifCond .eq 7, 3) := by decide +kernel
theorem dX1_count_7 : decode cX1_count 7 = .ok (.iconst (-1), 1) := by decide +kernel
theorem dX1_count_8 : decode cX1_count 8 = .ok (.goto 9, 3) := by decide +kernel
theorem dX1_count_11 : decode cX1_count 11 = .ok (.aload_n 0, 1) := by decide +kernel
theorem dX1_count_12 : decode cX1_count 12 = .ok (.getfield 26, 3) := by decide +kernel
theorem dX1_count_15 : decode cX1_count 15 = .ok (.iload_n 1, 1) := by decide +kernel
theorem dX1_count_16 : decode cX1_count 16 = .ok (.iaload, 1) := by decide +kernel
theorem dX1_count_17 : decode cX1_count 17 = .ok (.ireturn, 1) := by decide +kernel
theorem dX1_read_0 : decode cX1_read 0 = .ok (.iload_n 1, 1) := by decide +kernel
theorem dX1_read_1 : decode cX1_read 1 = .ok (.invokestatic 44, 3) := by decide +kernel
theorem dX1_read_4 : decode cX1_read 4 = .ok (.ifCond .ne 17, 3) := by decide +kernel
theorem dX1_read_7 : decode cX1_read 7 = .ok (.iload_n 2, 1) := by decide +kernel
theorem dX1_read_8 : decode cX1_read 8 = .ok (.ifCond .lt 13, 3) := by decide +kernel
theorem dX1_read_11 : decode cX1_read 11 = .ok (.iload_n 2, 1) := by decide +kernel
theorem dX1_read_12 : decode cX1_read 12 = .ok (.aload_n 0, 1) := by decide +kernel
theorem dX1_read_13 : decode cX1_read 13 = .ok (.getfield 26, 3) := by decide +kernel
theorem dX1_read_16 : decode cX1_read 16 = .ok (.iload_n 1, 1) := by decide +kernel
theorem dX1_read_17 : decode cX1_read 17 = .ok (.iaload, 1) := by decide +kernel
theorem dX1_read_18 : decode cX1_read 18 = .ok (.if_icmp .lt 7, 3) := by decide +kernel
theorem dX1_read_21 : decode cX1_read 21 = .ok (.iconst (-1), 1) := by decide +kernel
theorem dX1_read_22 : decode cX1_read 22 = .ok (.goto 14, 3) := by decide +kernel
theorem dX1_read_25 : decode cX1_read 25 = .ok (.aload_n 0, 1) := by decide +kernel
theorem dX1_read_26 : decode cX1_read 26 = .ok (.getfield 29, 3) := by decide +kernel
theorem dX1_read_29 : decode cX1_read 29 = .ok (.bipush 40, 2) := by decide +kernel
theorem dX1_read_31 : decode cX1_read 31 = .ok (.iload_n 1, 1) := by decide +kernel
theorem dX1_read_32 : decode cX1_read 32 = .ok (.imul, 1) := by decide +kernel
theorem dX1_read_33 : decode cX1_read 33 = .ok (.iload_n 2, 1) := by decide +kernel
theorem dX1_read_34 : decode cX1_read 34 = .ok (.iadd, 1) := by decide +kernel
theorem dX1_read_35 : decode cX1_read 35 = .ok (.iaload, 1) := by decide +kernel
theorem dX1_read_36 : decode cX1_read 36 = .ok (.ireturn, 1) := by decide +kernel
theorem dX1_held_0 : decode cX1_held 0 = .ok (.iload_n 1, 1) := by decide +kernel
theorem dX1_held_1 : decode cX1_held 1 = .ok (.invokestatic 44, 3) := by decide +kernel
theorem dX1_held_4 : decode cX1_held 4 = .ok (.ifCond .eq 5, 3) := by decide +kernel
theorem dX1_held_7 : decode cX1_held 7 = .ok (.iconst (-1), 1) := by decide +kernel
theorem dX1_held_8 : decode cX1_held 8 = .ok (.ireturn, 1) := by decide +kernel
theorem dX1_held_9 : decode cX1_held 9 = .ok (.iconst 0, 1) := by decide +kernel
theorem dX1_held_10 : decode cX1_held 10 = .ok (.istore_n 2, 1) := by decide +kernel
theorem dX1_held_11 : decode cX1_held 11 = .ok (.iconst 0, 1) := by decide +kernel
theorem dX1_held_12 : decode cX1_held 12 = .ok (.istore_n 3, 1) := by decide +kernel
theorem dX1_held_13 : decode cX1_held 13 = .ok (.iload_n 3, 1) := by decide +kernel
theorem dX1_held_14 : decode cX1_held 14 = .ok (.aload_n 0, 1) := by decide +kernel
theorem dX1_held_15 : decode cX1_held 15 = .ok (.getfield 48, 3) := by decide +kernel
theorem dX1_held_18 : decode cX1_held 18 = .ok (.if_icmp .ge 40, 3) := by decide +kernel
theorem dX1_held_21 : decode cX1_held 21 = .ok (.aload_n 0, 1) := by decide +kernel
theorem dX1_held_22 : decode cX1_held 22 = .ok (.getfield 19, 3) := by decide +kernel
theorem dX1_held_25 : decode cX1_held 25 = .ok (.bipush 40, 2) := by decide +kernel
theorem dX1_held_27 : decode cX1_held 27 = .ok (.iload_n 1, 1) := by decide +kernel
theorem dX1_held_28 : decode cX1_held 28 = .ok (.imul, 1) := by decide +kernel
theorem dX1_held_29 : decode cX1_held 29 = .ok (.iload_n 3, 1) := by decide +kernel
theorem dX1_held_30 : decode cX1_held 30 = .ok (.iadd, 1) := by decide +kernel
theorem dX1_held_31 : decode cX1_held 31 = .ok (.baload, 1) := by decide +kernel
theorem dX1_held_32 : decode cX1_held 32 = .ok (.ifCond .eq 20, 3) := by decide +kernel
theorem dX1_held_35 : decode cX1_held 35 = .ok (.aload_n 0, 1) := by decide +kernel
theorem dX1_held_36 : decode cX1_held 36 = .ok (.getfield 23, 3) := by decide +kernel
theorem dX1_held_39 : decode cX1_held 39 = .ok (.bipush 40, 2) := by decide +kernel
theorem dX1_held_41 : decode cX1_held 41 = .ok (.iload_n 1, 1) := by decide +kernel
theorem dX1_held_42 : decode cX1_held 42 = .ok (.imul, 1) := by decide +kernel
theorem dX1_held_43 : decode cX1_held 43 = .ok (.iload_n 3, 1) := by decide +kernel
theorem dX1_held_44 : decode cX1_held 44 = .ok (.iadd, 1) := by decide +kernel
theorem dX1_held_45 : decode cX1_held 45 = .ok (.baload, 1) := by decide +kernel
theorem dX1_held_46 : decode cX1_held 46 = .ok (.ifCond .ne 6, 3) := by decide +kernel
theorem dX1_held_49 : decode cX1_held 49 = .ok (.iinc 2 1, 3) := by decide +kernel
theorem dX1_held_52 : decode cX1_held 52 = .ok (.iinc 3 1, 3) := by decide +kernel
theorem dX1_held_55 : decode cX1_held 55 = .ok (.goto (-42), 3) := by decide +kernel
theorem dX1_held_58 : decode cX1_held 58 = .ok (.iload_n 2, 1) := by decide +kernel
theorem dX1_held_59 : decode cX1_held 59 = .ok (.ireturn, 1) := by decide +kernel
theorem dX1_agree_0 : decode cX1_agree 0 = .ok (.iload_n 1, 1) := by decide +kernel
theorem dX1_agree_1 : decode cX1_agree 1 = .ok (.invokestatic 44, 3) := by decide +kernel
theorem dX1_agree_4 : decode cX1_agree 4 = .ok (.ifCond .ne 10, 3) := by decide +kernel
theorem dX1_agree_7 : decode cX1_agree 7 = .ok (.iload_n 2, 1) := by decide +kernel
theorem dX1_agree_8 : decode cX1_agree 8 = .ok (.invokestatic 44, 3) := by decide +kernel
theorem dX1_agree_11 : decode cX1_agree 11 = .ok (.ifCond .eq 5, 3) := by decide +kernel
theorem dX1_agree_14 : decode cX1_agree 14 = .ok (.iconst (-1), 1) := by decide +kernel
theorem dX1_agree_15 : decode cX1_agree 15 = .ok (.ireturn, 1) := by decide +kernel
theorem dX1_agree_16 : decode cX1_agree 16 = .ok (.iconst 0, 1) := by decide +kernel
theorem dX1_agree_17 : decode cX1_agree 17 = .ok (.istore_n 3, 1) := by decide +kernel
theorem dX1_agree_18 : decode cX1_agree 18 = .ok (.iload_n 3, 1) := by decide +kernel
theorem dX1_agree_19 : decode cX1_agree 19 = .ok (.aload_n 0, 1) := by decide +kernel
theorem dX1_agree_20 : decode cX1_agree 20 = .ok (.getfield 26, 3) := by decide +kernel
theorem dX1_agree_23 : decode cX1_agree 23 = .ok (.iload_n 1, 1) := by decide +kernel
theorem dX1_agree_24 : decode cX1_agree 24 = .ok (.iaload, 1) := by decide +kernel
theorem dX1_agree_25 : decode cX1_agree 25 = .ok (.if_icmp .ge 46, 3) := by decide +kernel
theorem dX1_agree_28 : decode cX1_agree 28 = .ok (.iload_n 3, 1) := by decide +kernel
theorem dX1_agree_29 : decode cX1_agree 29 = .ok (.aload_n 0, 1) := by decide +kernel
theorem dX1_agree_30 : decode cX1_agree 30 = .ok (.getfield 26, 3) := by decide +kernel
theorem dX1_agree_33 : decode cX1_agree 33 = .ok (.iload_n 2, 1) := by decide +kernel
theorem dX1_agree_34 : decode cX1_agree 34 = .ok (.iaload, 1) := by decide +kernel
theorem dX1_agree_35 : decode cX1_agree 35 = .ok (.if_icmp .ge 36, 3) := by decide +kernel
theorem dX1_agree_38 : decode cX1_agree 38 = .ok (.aload_n 0, 1) := by decide +kernel
theorem dX1_agree_39 : decode cX1_agree 39 = .ok (.getfield 29, 3) := by decide +kernel
theorem dX1_agree_42 : decode cX1_agree 42 = .ok (.bipush 40, 2) := by decide +kernel
theorem dX1_agree_44 : decode cX1_agree 44 = .ok (.iload_n 1, 1) := by decide +kernel
theorem dX1_agree_45 : decode cX1_agree 45 = .ok (.imul, 1) := by decide +kernel
theorem dX1_agree_46 : decode cX1_agree 46 = .ok (.iload_n 3, 1) := by decide +kernel
theorem dX1_agree_47 : decode cX1_agree 47 = .ok (.iadd, 1) := by decide +kernel
theorem dX1_agree_48 : decode cX1_agree 48 = .ok (.iaload, 1) := by decide +kernel
theorem dX1_agree_49 : decode cX1_agree 49 = .ok (.aload_n 0, 1) := by decide +kernel
theorem dX1_agree_50 : decode cX1_agree 50 = .ok (.getfield 29, 3) := by decide +kernel
theorem dX1_agree_53 : decode cX1_agree 53 = .ok (.bipush 40, 2) := by decide +kernel
theorem dX1_agree_55 : decode cX1_agree 55 = .ok (.iload_n 2, 1) := by decide +kernel
theorem dX1_agree_56 : decode cX1_agree 56 = .ok (.imul, 1) := by decide +kernel
theorem dX1_agree_57 : decode cX1_agree 57 = .ok (.iload_n 3, 1) := by decide +kernel
theorem dX1_agree_58 : decode cX1_agree 58 = .ok (.iadd, 1) := by decide +kernel
theorem dX1_agree_59 : decode cX1_agree 59 = .ok (.iaload, 1) := by decide +kernel
theorem dX1_agree_60 : decode cX1_agree 60 = .ok (.if_icmp .eq 5, 3) := by decide +kernel
theorem dX1_agree_63 : decode cX1_agree 63 = .ok (.iconst 0, 1) := by decide +kernel
theorem dX1_agree_64 : decode cX1_agree 64 = .ok (.ireturn, 1) := by decide +kernel
theorem dX1_agree_65 : decode cX1_agree 65 = .ok (.iinc 3 1, 3) := by decide +kernel
theorem dX1_agree_68 : decode cX1_agree 68 = .ok (.goto (-50), 3) := by decide +kernel
theorem dX1_agree_71 : decode cX1_agree 71 = .ok (.iconst 1, 1) := by decide +kernel
theorem dX1_agree_72 : decode cX1_agree 72 = .ok (.ireturn, 1) := by decide +kernel
theorem dL_law_0 : decode cL_law 0 = .ok (.new 7, 3) := by decide +kernel
theorem dL_law_3 : decode cL_law 3 = .ok (.dup, 1) := by decide +kernel
theorem dL_law_4 : decode cL_law 4 = .ok (.invokespecial 9, 3) := by decide +kernel
theorem dL_law_7 : decode cL_law 7 = .ok (.astore_n 1, 1) := by decide +kernel
theorem dL_law_8 : decode cL_law 8 = .ok (.new 10, 3) := by decide +kernel
theorem dL_law_11 : decode cL_law 11 = .ok (.dup, 1) := by decide +kernel
theorem dL_law_12 : decode cL_law 12 = .ok (.invokespecial 12, 3) := by decide +kernel
theorem dL_law_15 : decode cL_law 15 = .ok (.astore_n 2, 1) := by decide +kernel
theorem dL_law_16 : decode cL_law 16 = .ok (.iconst 0, 1) := by decide +kernel
theorem dL_law_17 : decode cL_law 17 = .ok (.istore_n 3, 1) := by decide +kernel
theorem dL_law_18 : decode cL_law 18 = .ok (.iload_n 3, 1) := by decide +kernel
theorem dL_law_19 : decode cL_law 19 = .ok (.aload_n 0, 1) := by decide +kernel
theorem dL_law_20 : decode cL_law 20 = .ok (.arraylength, 1) := by decide +kernel
theorem dL_law_21 : decode cL_law 21 = .ok (.iconst 3, 1) := by decide +kernel
theorem dL_law_22 : decode cL_law 22 = .ok (.isub, 1) := by decide +kernel
theorem dL_law_23 : decode cL_law 23 = .ok (.if_icmp .gt 314, 3) := by decide +kernel
theorem dL_law_26 : decode cL_law 26 = .ok (.aload_n 0, 1) := by decide +kernel
theorem dL_law_27 : decode cL_law 27 = .ok (.iload_n 3, 1) := by decide +kernel
theorem dL_law_28 : decode cL_law 28 = .ok (.iaload, 1) := by decide +kernel
theorem dL_law_29 : decode cL_law 29 = .ok (.bipush 15, 2) := by decide +kernel
theorem dL_law_31 : decode cL_law 31 = .ok (.iand, 1) := by decide +kernel
theorem dL_law_32 : decode cL_law 32 = .ok (.tableswitch 299 0 8 #[52, 75, 98, 131, 164, 187, 210, 243, 266], 52) := by decide +kernel
theorem dL_law_84 : decode cL_law 84 = .ok (.aload_n 1, 1) := by decide +kernel
theorem dL_law_85 : decode cL_law 85 = .ok (.aload_n 0, 1) := by decide +kernel
theorem dL_law_86 : decode cL_law 86 = .ok (.iload_n 3, 1) := by decide +kernel
theorem dL_law_87 : decode cL_law 87 = .ok (.iconst 1, 1) := by decide +kernel
theorem dL_law_88 : decode cL_law 88 = .ok (.iadd, 1) := by decide +kernel
theorem dL_law_89 : decode cL_law 89 = .ok (.iaload, 1) := by decide +kernel
theorem dL_law_90 : decode cL_law 90 = .ok (.invokevirtual 13, 3) := by decide +kernel
theorem dL_law_93 : decode cL_law 93 = .ok (.aload_n 2, 1) := by decide +kernel
theorem dL_law_94 : decode cL_law 94 = .ok (.aload_n 0, 1) := by decide +kernel
theorem dL_law_95 : decode cL_law 95 = .ok (.iload_n 3, 1) := by decide +kernel
theorem dL_law_96 : decode cL_law 96 = .ok (.iconst 1, 1) := by decide +kernel
theorem dL_law_97 : decode cL_law 97 = .ok (.iadd, 1) := by decide +kernel
theorem dL_law_98 : decode cL_law 98 = .ok (.iaload, 1) := by decide +kernel
theorem dL_law_99 : decode cL_law 99 = .ok (.invokevirtual 17, 3) := by decide +kernel
theorem dL_law_102 : decode cL_law 102 = .ok (.if_icmp .eq 229, 3) := by decide +kernel
theorem dL_law_105 : decode cL_law 105 = .ok (.iconst 0, 1) := by decide +kernel
theorem dL_law_106 : decode cL_law 106 = .ok (.ireturn, 1) := by decide +kernel
theorem dL_law_107 : decode cL_law 107 = .ok (.aload_n 1, 1) := by decide +kernel
theorem dL_law_108 : decode cL_law 108 = .ok (.aload_n 0, 1) := by decide +kernel
theorem dL_law_109 : decode cL_law 109 = .ok (.iload_n 3, 1) := by decide +kernel
theorem dL_law_110 : decode cL_law 110 = .ok (.iconst 1, 1) := by decide +kernel
theorem dL_law_111 : decode cL_law 111 = .ok (.iadd, 1) := by decide +kernel
theorem dL_law_112 : decode cL_law 112 = .ok (.iaload, 1) := by decide +kernel
theorem dL_law_113 : decode cL_law 113 = .ok (.invokevirtual 18, 3) := by decide +kernel
theorem dL_law_116 : decode cL_law 116 = .ok (.aload_n 2, 1) := by decide +kernel
theorem dL_law_117 : decode cL_law 117 = .ok (.aload_n 0, 1) := by decide +kernel
theorem dL_law_118 : decode cL_law 118 = .ok (.iload_n 3, 1) := by decide +kernel
theorem dL_law_119 : decode cL_law 119 = .ok (.iconst 1, 1) := by decide +kernel
theorem dL_law_120 : decode cL_law 120 = .ok (.iadd, 1) := by decide +kernel
theorem dL_law_121 : decode cL_law 121 = .ok (.iaload, 1) := by decide +kernel
theorem dL_law_122 : decode cL_law 122 = .ok (.invokevirtual 21, 3) := by decide +kernel
theorem dL_law_125 : decode cL_law 125 = .ok (.if_icmp .eq 206, 3) := by decide +kernel
theorem dL_law_128 : decode cL_law 128 = .ok (.iconst 0, 1) := by decide +kernel
theorem dL_law_129 : decode cL_law 129 = .ok (.ireturn, 1) := by decide +kernel
theorem dL_law_130 : decode cL_law 130 = .ok (.aload_n 1, 1) := by decide +kernel
theorem dL_law_131 : decode cL_law 131 = .ok (.aload_n 0, 1) := by decide +kernel
theorem dL_law_132 : decode cL_law 132 = .ok (.iload_n 3, 1) := by decide +kernel
theorem dL_law_133 : decode cL_law 133 = .ok (.iconst 1, 1) := by decide +kernel
theorem dL_law_134 : decode cL_law 134 = .ok (.iadd, 1) := by decide +kernel
theorem dL_law_135 : decode cL_law 135 = .ok (.iaload, 1) := by decide +kernel
theorem dL_law_136 : decode cL_law 136 = .ok (.aload_n 0, 1) := by decide +kernel
theorem dL_law_137 : decode cL_law 137 = .ok (.iload_n 3, 1) := by decide +kernel
theorem dL_law_138 : decode cL_law 138 = .ok (.iconst 2, 1) := by decide +kernel
theorem dL_law_139 : decode cL_law 139 = .ok (.iadd, 1) := by decide +kernel
theorem dL_law_140 : decode cL_law 140 = .ok (.iaload, 1) := by decide +kernel
theorem dL_law_141 : decode cL_law 141 = .ok (.invokevirtual 22, 3) := by decide +kernel
theorem dL_law_144 : decode cL_law 144 = .ok (.aload_n 2, 1) := by decide +kernel
theorem dL_law_145 : decode cL_law 145 = .ok (.aload_n 0, 1) := by decide +kernel
theorem dL_law_146 : decode cL_law 146 = .ok (.iload_n 3, 1) := by decide +kernel
theorem dL_law_147 : decode cL_law 147 = .ok (.iconst 1, 1) := by decide +kernel
theorem dL_law_148 : decode cL_law 148 = .ok (.iadd, 1) := by decide +kernel
theorem dL_law_149 : decode cL_law 149 = .ok (.iaload, 1) := by decide +kernel
theorem dL_law_150 : decode cL_law 150 = .ok (.aload_n 0, 1) := by decide +kernel
theorem dL_law_151 : decode cL_law 151 = .ok (.iload_n 3, 1) := by decide +kernel
theorem dL_law_152 : decode cL_law 152 = .ok (.iconst 2, 1) := by decide +kernel
theorem dL_law_153 : decode cL_law 153 = .ok (.iadd, 1) := by decide +kernel
theorem dL_law_154 : decode cL_law 154 = .ok (.iaload, 1) := by decide +kernel
theorem dL_law_155 : decode cL_law 155 = .ok (.invokevirtual 26, 3) := by decide +kernel
theorem dL_law_158 : decode cL_law 158 = .ok (.if_icmp .eq 173, 3) := by decide +kernel
theorem dL_law_161 : decode cL_law 161 = .ok (.iconst 0, 1) := by decide +kernel
theorem dL_law_162 : decode cL_law 162 = .ok (.ireturn, 1) := by decide +kernel
theorem dL_law_163 : decode cL_law 163 = .ok (.aload_n 1, 1) := by decide +kernel
theorem dL_law_164 : decode cL_law 164 = .ok (.aload_n 0, 1) := by decide +kernel
theorem dL_law_165 : decode cL_law 165 = .ok (.iload_n 3, 1) := by decide +kernel
theorem dL_law_166 : decode cL_law 166 = .ok (.iconst 1, 1) := by decide +kernel
theorem dL_law_167 : decode cL_law 167 = .ok (.iadd, 1) := by decide +kernel
theorem dL_law_168 : decode cL_law 168 = .ok (.iaload, 1) := by decide +kernel
theorem dL_law_169 : decode cL_law 169 = .ok (.aload_n 0, 1) := by decide +kernel
theorem dL_law_170 : decode cL_law 170 = .ok (.iload_n 3, 1) := by decide +kernel
theorem dL_law_171 : decode cL_law 171 = .ok (.iconst 2, 1) := by decide +kernel
theorem dL_law_172 : decode cL_law 172 = .ok (.iadd, 1) := by decide +kernel
theorem dL_law_173 : decode cL_law 173 = .ok (.iaload, 1) := by decide +kernel
theorem dL_law_174 : decode cL_law 174 = .ok (.invokevirtual 27, 3) := by decide +kernel
theorem dL_law_177 : decode cL_law 177 = .ok (.aload_n 2, 1) := by decide +kernel
theorem dL_law_178 : decode cL_law 178 = .ok (.aload_n 0, 1) := by decide +kernel
theorem dL_law_179 : decode cL_law 179 = .ok (.iload_n 3, 1) := by decide +kernel
theorem dL_law_180 : decode cL_law 180 = .ok (.iconst 1, 1) := by decide +kernel
theorem dL_law_181 : decode cL_law 181 = .ok (.iadd, 1) := by decide +kernel
theorem dL_law_182 : decode cL_law 182 = .ok (.iaload, 1) := by decide +kernel
theorem dL_law_183 : decode cL_law 183 = .ok (.aload_n 0, 1) := by decide +kernel
theorem dL_law_184 : decode cL_law 184 = .ok (.iload_n 3, 1) := by decide +kernel
theorem dL_law_185 : decode cL_law 185 = .ok (.iconst 2, 1) := by decide +kernel
theorem dL_law_186 : decode cL_law 186 = .ok (.iadd, 1) := by decide +kernel
theorem dL_law_187 : decode cL_law 187 = .ok (.iaload, 1) := by decide +kernel
theorem dL_law_188 : decode cL_law 188 = .ok (.invokevirtual 30, 3) := by decide +kernel
theorem dL_law_191 : decode cL_law 191 = .ok (.if_icmp .eq 140, 3) := by decide +kernel
theorem dL_law_194 : decode cL_law 194 = .ok (.iconst 0, 1) := by decide +kernel
theorem dL_law_195 : decode cL_law 195 = .ok (.ireturn, 1) := by decide +kernel
theorem dL_law_196 : decode cL_law 196 = .ok (.aload_n 1, 1) := by decide +kernel
theorem dL_law_197 : decode cL_law 197 = .ok (.aload_n 0, 1) := by decide +kernel
theorem dL_law_198 : decode cL_law 198 = .ok (.iload_n 3, 1) := by decide +kernel
theorem dL_law_199 : decode cL_law 199 = .ok (.iconst 1, 1) := by decide +kernel
theorem dL_law_200 : decode cL_law 200 = .ok (.iadd, 1) := by decide +kernel
theorem dL_law_201 : decode cL_law 201 = .ok (.iaload, 1) := by decide +kernel
theorem dL_law_202 : decode cL_law 202 = .ok (.invokevirtual 31, 3) := by decide +kernel
theorem dL_law_205 : decode cL_law 205 = .ok (.aload_n 2, 1) := by decide +kernel
theorem dL_law_206 : decode cL_law 206 = .ok (.aload_n 0, 1) := by decide +kernel
theorem dL_law_207 : decode cL_law 207 = .ok (.iload_n 3, 1) := by decide +kernel
theorem dL_law_208 : decode cL_law 208 = .ok (.iconst 1, 1) := by decide +kernel
theorem dL_law_209 : decode cL_law 209 = .ok (.iadd, 1) := by decide +kernel
theorem dL_law_210 : decode cL_law 210 = .ok (.iaload, 1) := by decide +kernel
theorem dL_law_211 : decode cL_law 211 = .ok (.invokevirtual 34, 3) := by decide +kernel
theorem dL_law_214 : decode cL_law 214 = .ok (.if_icmp .eq 117, 3) := by decide +kernel
theorem dL_law_217 : decode cL_law 217 = .ok (.iconst 0, 1) := by decide +kernel
theorem dL_law_218 : decode cL_law 218 = .ok (.ireturn, 1) := by decide +kernel
theorem dL_law_219 : decode cL_law 219 = .ok (.aload_n 1, 1) := by decide +kernel
theorem dL_law_220 : decode cL_law 220 = .ok (.aload_n 0, 1) := by decide +kernel
theorem dL_law_221 : decode cL_law 221 = .ok (.iload_n 3, 1) := by decide +kernel
theorem dL_law_222 : decode cL_law 222 = .ok (.iconst 1, 1) := by decide +kernel
theorem dL_law_223 : decode cL_law 223 = .ok (.iadd, 1) := by decide +kernel
theorem dL_law_224 : decode cL_law 224 = .ok (.iaload, 1) := by decide +kernel
theorem dL_law_225 : decode cL_law 225 = .ok (.invokevirtual 35, 3) := by decide +kernel
theorem dL_law_228 : decode cL_law 228 = .ok (.aload_n 2, 1) := by decide +kernel
theorem dL_law_229 : decode cL_law 229 = .ok (.aload_n 0, 1) := by decide +kernel
theorem dL_law_230 : decode cL_law 230 = .ok (.iload_n 3, 1) := by decide +kernel
theorem dL_law_231 : decode cL_law 231 = .ok (.iconst 1, 1) := by decide +kernel
theorem dL_law_232 : decode cL_law 232 = .ok (.iadd, 1) := by decide +kernel
end
section
set_option maxRecDepth 100000
theorem dL_law_233 : decode cL_law 233 = .ok (.iaload, 1) := by decide +kernel
theorem dL_law_234 : decode cL_law 234 = .ok (.invokevirtual 38, 3) := by decide +kernel
theorem dL_law_237 : decode cL_law 237 = .ok (.if_icmp .eq 94, 3) := by decide +kernel
theorem dL_law_240 : decode cL_law 240 = .ok (.iconst 0, 1) := by decide +kernel
theorem dL_law_241 : decode cL_law 241 = .ok (.ireturn, 1) := by decide +kernel
theorem dL_law_242 : decode cL_law 242 = .ok (.aload_n 1, 1) := by decide +kernel
theorem dL_law_243 : decode cL_law 243 = .ok (.aload_n 0, 1) := by decide +kernel
theorem dL_law_244 : decode cL_law 244 = .ok (.iload_n 3, 1) := by decide +kernel
theorem dL_law_245 : decode cL_law 245 = .ok (.iconst 1, 1) := by decide +kernel
theorem dL_law_246 : decode cL_law 246 = .ok (.iadd, 1) := by decide +kernel
theorem dL_law_247 : decode cL_law 247 = .ok (.iaload, 1) := by decide +kernel
theorem dL_law_248 : decode cL_law 248 = .ok (.aload_n 0, 1) := by decide +kernel
theorem dL_law_249 : decode cL_law 249 = .ok (.iload_n 3, 1) := by decide +kernel
theorem dL_law_250 : decode cL_law 250 = .ok (.iconst 2, 1) := by decide +kernel
theorem dL_law_251 : decode cL_law 251 = .ok (.iadd, 1) := by decide +kernel
theorem dL_law_252 : decode cL_law 252 = .ok (.iaload, 1) := by decide +kernel
theorem dL_law_253 : decode cL_law 253 = .ok (.invokevirtual 39, 3) := by decide +kernel
theorem dL_law_256 : decode cL_law 256 = .ok (.aload_n 2, 1) := by decide +kernel
theorem dL_law_257 : decode cL_law 257 = .ok (.aload_n 0, 1) := by decide +kernel
theorem dL_law_258 : decode cL_law 258 = .ok (.iload_n 3, 1) := by decide +kernel
theorem dL_law_259 : decode cL_law 259 = .ok (.iconst 1, 1) := by decide +kernel
theorem dL_law_260 : decode cL_law 260 = .ok (.iadd, 1) := by decide +kernel
theorem dL_law_261 : decode cL_law 261 = .ok (.iaload, 1) := by decide +kernel
theorem dL_law_262 : decode cL_law 262 = .ok (.aload_n 0, 1) := by decide +kernel
theorem dL_law_263 : decode cL_law 263 = .ok (.iload_n 3, 1) := by decide +kernel
theorem dL_law_264 : decode cL_law 264 = .ok (.iconst 2, 1) := by decide +kernel
theorem dL_law_265 : decode cL_law 265 = .ok (.iadd, 1) := by decide +kernel
theorem dL_law_266 : decode cL_law 266 = .ok (.iaload, 1) := by decide +kernel
theorem dL_law_267 : decode cL_law 267 = .ok (.invokevirtual 42, 3) := by decide +kernel
theorem dL_law_270 : decode cL_law 270 = .ok (.if_icmp .eq 61, 3) := by decide +kernel
theorem dL_law_273 : decode cL_law 273 = .ok (.iconst 0, 1) := by decide +kernel
theorem dL_law_274 : decode cL_law 274 = .ok (.ireturn, 1) := by decide +kernel
theorem dL_law_275 : decode cL_law 275 = .ok (.aload_n 1, 1) := by decide +kernel
theorem dL_law_276 : decode cL_law 276 = .ok (.aload_n 0, 1) := by decide +kernel
theorem dL_law_277 : decode cL_law 277 = .ok (.iload_n 3, 1) := by decide +kernel
theorem dL_law_278 : decode cL_law 278 = .ok (.iconst 1, 1) := by decide +kernel
theorem dL_law_279 : decode cL_law 279 = .ok (.iadd, 1) := by decide +kernel
theorem dL_law_280 : decode cL_law 280 = .ok (.iaload, 1) := by decide +kernel
theorem dL_law_281 : decode cL_law 281 = .ok (.invokevirtual 43, 3) := by decide +kernel
theorem dL_law_284 : decode cL_law 284 = .ok (.aload_n 2, 1) := by decide +kernel
theorem dL_law_285 : decode cL_law 285 = .ok (.aload_n 0, 1) := by decide +kernel
theorem dL_law_286 : decode cL_law 286 = .ok (.iload_n 3, 1) := by decide +kernel
theorem dL_law_287 : decode cL_law 287 = .ok (.iconst 1, 1) := by decide +kernel
theorem dL_law_288 : decode cL_law 288 = .ok (.iadd, 1) := by decide +kernel
theorem dL_law_289 : decode cL_law 289 = .ok (.iaload, 1) := by decide +kernel
theorem dL_law_290 : decode cL_law 290 = .ok (.invokevirtual 46, 3) := by decide +kernel
theorem dL_law_293 : decode cL_law 293 = .ok (.if_icmp .eq 38, 3) := by decide +kernel
theorem dL_law_296 : decode cL_law 296 = .ok (.iconst 0, 1) := by decide +kernel
theorem dL_law_297 : decode cL_law 297 = .ok (.ireturn, 1) := by decide +kernel
theorem dL_law_298 : decode cL_law 298 = .ok (.aload_n 1, 1) := by decide +kernel
theorem dL_law_299 : decode cL_law 299 = .ok (.aload_n 0, 1) := by decide +kernel
theorem dL_law_300 : decode cL_law 300 = .ok (.iload_n 3, 1) := by decide +kernel
theorem dL_law_301 : decode cL_law 301 = .ok (.iconst 1, 1) := by decide +kernel
theorem dL_law_302 : decode cL_law 302 = .ok (.iadd, 1) := by decide +kernel
theorem dL_law_303 : decode cL_law 303 = .ok (.iaload, 1) := by decide +kernel
theorem dL_law_304 : decode cL_law 304 = .ok (.aload_n 0, 1) := by decide +kernel
theorem dL_law_305 : decode cL_law 305 = .ok (.iload_n 3, 1) := by decide +kernel
theorem dL_law_306 : decode cL_law 306 = .ok (.iconst 2, 1) := by decide +kernel
theorem dL_law_307 : decode cL_law 307 = .ok (.iadd, 1) := by decide +kernel
theorem dL_law_308 : decode cL_law 308 = .ok (.iaload, 1) := by decide +kernel
theorem dL_law_309 : decode cL_law 309 = .ok (.invokevirtual 47, 3) := by decide +kernel
theorem dL_law_312 : decode cL_law 312 = .ok (.aload_n 2, 1) := by decide +kernel
theorem dL_law_313 : decode cL_law 313 = .ok (.aload_n 0, 1) := by decide +kernel
theorem dL_law_314 : decode cL_law 314 = .ok (.iload_n 3, 1) := by decide +kernel
theorem dL_law_315 : decode cL_law 315 = .ok (.iconst 1, 1) := by decide +kernel
theorem dL_law_316 : decode cL_law 316 = .ok (.iadd, 1) := by decide +kernel
theorem dL_law_317 : decode cL_law 317 = .ok (.iaload, 1) := by decide +kernel
theorem dL_law_318 : decode cL_law 318 = .ok (.aload_n 0, 1) := by decide +kernel
theorem dL_law_319 : decode cL_law 319 = .ok (.iload_n 3, 1) := by decide +kernel
theorem dL_law_320 : decode cL_law 320 = .ok (.iconst 2, 1) := by decide +kernel
theorem dL_law_321 : decode cL_law 321 = .ok (.iadd, 1) := by decide +kernel
theorem dL_law_322 : decode cL_law 322 = .ok (.iaload, 1) := by decide +kernel
theorem dL_law_323 : decode cL_law 323 = .ok (.invokevirtual 50, 3) := by decide +kernel
theorem dL_law_326 : decode cL_law 326 = .ok (.if_icmp .eq 5, 3) := by decide +kernel
theorem dL_law_329 : decode cL_law 329 = .ok (.iconst 0, 1) := by decide +kernel
theorem dL_law_330 : decode cL_law 330 = .ok (.ireturn, 1) := by decide +kernel
theorem dL_law_331 : decode cL_law 331 = .ok (.iinc 3 3, 3) := by decide +kernel
theorem dL_law_334 : decode cL_law 334 = .ok (.goto (-316), 3) := by decide +kernel
theorem dL_law_337 : decode cL_law 337 = .ok (.iconst 1, 1) := by decide +kernel
theorem dL_law_338 : decode cL_law 338 = .ok (.ireturn, 1) := by decide +kernel
end
section
set_option maxRecDepth 100000
/-! the two classes' worlds; rows at the level of natural numbers; calls, entries, ends -/
def vN (g : Nat → Nat) : Nat → Int32 := fun j => nI (g j)
/-- a message's place, one up: 0 is -1 -/
def mI (v : Nat) : Int32 := match v with
  | 0 => -1
  | v + 1 => nI v
def vM (g : Nat → Nat) : Nat → Int32 := fun j => mI (g j)
def bI (P : Prop) [Decidable P] : Int32 := if P then 1 else 0
/-- field k's place i becomes v -/
def sU (S : Nat → Nat → Nat) (k i v : Nat) : Nat → Nat → Nat := fun k' => if k' = k then va_up (S k) i v else S k'
theorem upd_vN (g : Nat → Nat) (i v : Nat) : upd (vN g) i (nI v) = vN (va_up g i v) := by
  funext j
  by_cases h : j = i
  · subst h; simp [upd, vN, va_up]
  · simp [upd, vN, va_up, h]
theorem upd_vM (g : Nat → Nat) (i v : Nat) : upd (vM g) i (mI v) = vM (va_up g i v) := by
  funext j
  by_cases h : j = i
  · subst h; simp [upd, vM, va_up]
  · simp [upd, vM, va_up, h]
abbrev clX : List vw_C := [(RX0, TX0, 13), (RX1, TX1, 12)]
def wX (d : ClassId) (h : Nat) (q : Nat → Nat) (S : Nat → Nat → Nat) : va_W := [(h, .inr (0, [.int (nI (S 0 0)), .ref (q 1), .ref (q 2), .ref (q 3), .ref (q 4), .ref (q 5), .ref (q 6), .ref (q 7), .ref (q 8), .ref (q 9), .ref (q 10), .ref (q 11), .ref (q 12)])), (q 1, .inl (d, 40, .inl (vN (S 1)))), (q 2, .inl (d, 40, .inl (vN (S 2)))), (q 3, .inl (d, 576, .inl (vN (S 3)))), (q 4, .inl (d, 576, .inl (vM (S 4)))), (q 5, .inl (d, 9, .inl (vN (S 5)))), (q 6, .inl (d, 9, .inl (vN (S 6)))), (q 7, .inl (d, 3, .inl (vN (S 7)))), (q 8, .inl (d, 9, .inl (vN (S 8)))), (q 9, .inl (d, 3, .inl (vN (S 9)))), (q 10, .inl (d, 120, .inl (vN (S 10)))), (q 11, .inl (d, 3, .inl (vN (S 11)))), (q 12, .inl (d, 120, .inl (vN (S 12))))]
def wM (d b : ClassId) (h : Nat) (q : Nat → Nat) (S : Nat → Nat → Nat) : va_W := [(h, .inr (1, [.ref (q 0), .int (nI (S 1 0)), .ref (q 2), .ref (q 3), .ref (q 4), .ref (q 5), .ref (q 6), .ref (q 7), .ref (q 8), .ref (q 9), .ref (q 10), .ref (q 11)])), (q 0, .inl (d, 3, .inl (vN (S 0)))), (q 2, .inl (d, 40, .inl (vN (S 2)))), (q 3, .inl (d, 40, .inl (vN (S 3)))), (q 4, .inl (b, 120, .inl (vN (S 4)))), (q 5, .inl (b, 120, .inl (vN (S 5)))), (q 6, .inl (d, 3, .inl (vN (S 6)))), (q 7, .inl (d, 120, .inl (vN (S 7)))), (q 8, .inl (d, 9, .inl (vN (S 8)))), (q 9, .inl (d, 9, .inl (vN (S 9)))), (q 10, .inl (d, 540, .inl (vN (S 10)))), (q 11, .inl (d, 540, .inl (vM (S 11))))]
/-- what stays all through a method's walk -/
def Cx (p : Program) (s : State) (m : MethodId) (args : Array Value) (c : Code) (cc : ByteArray) (own : String) (nL : Nat) (D : va_G) (d b : ClassId) (A : Nat → Prop) : Prop :=
  (p.tables.exec = Jvm.exec ∧ c.code = cc ∧ c.maxLocals = nL ∧ s.vm.findClass own = some m.cls ∧ ∀ w ∈ lw_all, w.before args s = true) ∧ va_K D clX [(d, .int), (b, .boolean)] s ∧ ∀ q : Nat, s.heap.size ≤ q → A q
/-- the world w, held now -/
def Gd (D : va_G) (A : Nat → Prop) (H0 H : Heap) (locs : List Loc) (w : va_W) : Prop := va_P D clX w H ∧ va_D A w ∧ va_S A H0 H locs
def Pr (D : va_G) (d b : ClassId) (w : va_W) (U : State) : Prop := va_P D clX w U.heap ∧ va_K D clX [(d, .int), (b, .boolean)] U
def Pw (D : va_G) (d b : ClassId) (sz : Nat) (w : va_W) (U : State) : Prop := U.heap.size = sz ∧ va_P D clX w U.heap ∧ va_K D clX [(d, .int), (b, .boolean)] U ∧ va_D (fun _ => True) w
def Bw (D : va_G) (d b : ClassId) (A : Nat → Prop) (w : va_W) (t : State) : Prop := va_P D clX w t.heap ∧ va_K D clX [(d, .int), (b, .boolean)] t ∧ va_D A w
abbrev rmk (f n : Nat) : Room := { frames := f, cells := 0, slots := 0, locals := n }
/-- CONTRACT, reading only: in the world w the answer r has 'post r' -/
def cR (l : Launch) (y : MethodName) (code : ByteArray) (maxL : Nat) (ret : Option FieldType) (rm : Room) (vs : List Value) (D : va_G) (d b : ClassId) (w : va_W) (post : Int32 → Prop) : Prop :=
  Met l y (ws_ y code maxL ret) rm (va_Pc vs (Pr D d b w)) (vp_Si post) 0 0 (fun _ => False)
/-- CONTRACT, an int: the world w becomes w', the answer is r0 -/
def cI (l : Launch) (y : MethodName) (code : ByteArray) (maxL : Nat) (ret : Option FieldType) (rm : Room) (vs : List Value) (D : va_G) (d b : ClassId) (sz : Nat) (w w' : va_W) (r0 : Int32) : Prop :=
  Met l y (ws_ y code maxL ret) rm (va_Pc vs (Pw D d b sz w)) (va_Qi (fun r (_ : Unit) => r = r0) (fun _ t => Bw D d b (va_A w sz) w' t) (va_A w sz)) 0 0 (va_A w sz)
/-- CONTRACT, void: the world w becomes w' -/
def cV (l : Launch) (y : MethodName) (code : ByteArray) (maxL : Nat) (rm : Room) (vs : List Value) (D : va_G) (d b : ClassId) (sz : Nat) (w w' : va_W) : Prop :=
  Met l y (ws_ y code maxL none) rm (va_Pc vs (Pw D d b sz w)) (va_Qv (fun _ : Unit => True) (fun _ t => Bw D d b (va_A w sz) w' t) (va_A w sz)) 0 0 (va_A w sz)
/-- CONTRACT, static, no world -/
def cS (l : Launch) (y : MethodName) (code : ByteArray) (maxL : Nat) (ret : Option FieldType) (rm : Room) (vs : List Value) (post : Int32 → Prop) : Prop :=
  Met l y (ws_ y code maxL ret) rm (va_Pc vs (fun _ => True)) (vp_Si post) 0 0 (fun _ => False)
section ORows
variable {p : Program} {l : Launch} {e : Env} {R : Room} {s : State} {m : MethodId} {args : Array Value} {below : List Frame} {meth : Method} {c : Code} {H : Heap} {locs : List Loc} {cells slots : Nat} {Q : State → Prop}
variable {cc : ByteArray} {pc : Nat} {ls : Array Slot} {rest : List Value} {D : va_G} {A : Nat → Prop} {d b : ClassId} {own : String} {nL : Nat} {h : Nat} {q : Nat → Nat} {S : Nat → Nat → Nat}
theorem xg_0 (C : Cx p s m args c cc RX0 nL D d b A) (hP : va_P D clX (wX d h q S) H) (hdg : decode cc pc = .ok (.getfield 50, 3)) (kk : W p l e R s m args below meth c H locs cells slots Q (F0 m (pc + 3) ls (.int (nI (S 0 0)) :: rest))) : W p l e R s m args below meth c H locs cells slots Q (F0 m pc ls (.ref h :: rest)) :=
  va_get (D := D) (ci := 0) (C := RX0) (T := TX0) (N := 13) (v := .int (nI (S 0 0))) C.1.1 C.1.2.1 C.1.2.2.2.2 in_X0 C.1.2.2.2.1 C.2.1 hP 0 rfl rfl 0 (by decide) (C.1.2.2.2.2 _ q23) (fun _ h9 => h9) rfl hdg kk
theorem xp_0 (C : Cx p s m args c cc RX0 nL D d b A) (hG : Gd D A s.heap H locs (wX d h q S)) {v : Nat} (hdg : decode cc pc = .ok (.putfield 50, 3)) (kk : ∀ (H1 : Heap) (locs1 : List Loc), Gd D A s.heap H1 locs1 (wX d h q (sU S 0 0 v)) → W p l e R s m args below meth c H1 locs1 cells slots Q (F0 m (pc + 3) ls (rest))) : W p l e R s m args below meth c H locs cells slots Q (F0 m pc ls (.int (nI v) :: .ref h :: rest)) :=
  va_put (D := D) (ci := 0) (v := .int (nI v)) (ty := .int) (C := RX0) (T := TX0) (N := 13) C.1.1 C.1.2.1 C.1.2.2.2.2 in_X0 tyX0 tyX0_ok nmX0 C.1.2.2.2.1 C.2.1 hG.1 hG.2.1 hG.2.2 0 rfl rfl 0 (by decide) (C.1.2.2.2.2 _ q23) (fun _ h9 => h9) rfl (by decide +kernel) rfl rfl (Nat.le_of_ble_eq_true rfl) hdg (fun H1 locs1 hP hD hS => kk H1 locs1 ⟨hP, hD, hS⟩)
theorem xg_1 (C : Cx p s m args c cc RX0 nL D d b A) (hP : va_P D clX (wX d h q S) H) (hdg : decode cc pc = .ok (.getfield 7, 3)) (kk : W p l e R s m args below meth c H locs cells slots Q (F0 m (pc + 3) ls (.ref (q 1) :: rest))) : W p l e R s m args below meth c H locs cells slots Q (F0 m pc ls (.ref h :: rest)) :=
  va_get (D := D) (ci := 0) (C := RX0) (T := TX0) (N := 13) (v := .ref (q 1)) C.1.1 C.1.2.1 C.1.2.2.2.2 in_X0 C.1.2.2.2.1 C.2.1 hP 0 rfl rfl 1 (by decide) (C.1.2.2.2.2 _ q24) (fun _ h9 => h9) rfl hdg kk
theorem xl_1 (C : Cx p s m args c cc RX0 nL D d b A) (hP : va_P D clX (wX d h q S) H) {i v : Nat} (hi : i < 40) (hv : S 1 i = v) (hdg : decode cc pc = .ok (.iaload, 1)) (kk : W p l e R s m args below meth c H locs cells slots Q (F0 m (pc + 1) ls (.int (nI v) :: rest))) : W p l e R s m args below meth c H locs cells slots Q (F0 m pc ls (.int (nI i) :: .ref (q 1) :: rest)) := by
  have ei : (nI i).toNatClampNeg = i := nI_clamp (by omega)
  subst hv
  refine va_iald (f := vN (S 1)) C.1.1 C.1.2.1 C.2.1 hP 1 0 rfl rfl (vp_in_nI hi (by decide)) hdg ?_
  rw [ei]
  exact kk
theorem xs_1 (C : Cx p s m args c cc RX0 nL D d b A) (hG : Gd D A s.heap H locs (wX d h q S)) {i v : Nat} (hi : i < 40) (hdg : decode cc pc = .ok (.iastore, 1)) (kk : ∀ (H1 : Heap) (locs1 : List Loc), Gd D A s.heap H1 locs1 (wX d h q (sU S 1 i v)) → W p l e R s m args below meth c H1 locs1 cells slots Q (F0 m (pc + 1) ls (rest))) : W p l e R s m args below meth c H locs cells slots Q (F0 m pc ls (.int (nI v) :: .int (nI i) :: .ref (q 1) :: rest)) := by
  have ei : (nI i).toNatClampNeg = i := nI_clamp (by omega)
  refine va_iast (f := vN (S 1)) C.1.1 C.1.2.1 C.2.1 hG.1 hG.2.1 hG.2.2 1 0 rfl rfl (vp_in_nI hi (by decide)) hdg (fun H1 locs1 hP hD hS => kk H1 locs1 ?_)
  rw [ei, upd_vN] at hP hD
  exact ⟨hP, hD, hS⟩
theorem xg_2 (C : Cx p s m args c cc RX0 nL D d b A) (hP : va_P D clX (wX d h q S) H) (hdg : decode cc pc = .ok (.getfield 13, 3)) (kk : W p l e R s m args below meth c H locs cells slots Q (F0 m (pc + 3) ls (.ref (q 2) :: rest))) : W p l e R s m args below meth c H locs cells slots Q (F0 m pc ls (.ref h :: rest)) :=
  va_get (D := D) (ci := 0) (C := RX0) (T := TX0) (N := 13) (v := .ref (q 2)) C.1.1 C.1.2.1 C.1.2.2.2.2 in_X0 C.1.2.2.2.1 C.2.1 hP 0 rfl rfl 2 (by decide) (C.1.2.2.2.2 _ q25) (fun _ h9 => h9) rfl hdg kk
theorem xl_2 (C : Cx p s m args c cc RX0 nL D d b A) (hP : va_P D clX (wX d h q S) H) {i v : Nat} (hi : i < 40) (hv : S 2 i = v) (hdg : decode cc pc = .ok (.iaload, 1)) (kk : W p l e R s m args below meth c H locs cells slots Q (F0 m (pc + 1) ls (.int (nI v) :: rest))) : W p l e R s m args below meth c H locs cells slots Q (F0 m pc ls (.int (nI i) :: .ref (q 2) :: rest)) := by
  have ei : (nI i).toNatClampNeg = i := nI_clamp (by omega)
  subst hv
  refine va_iald (f := vN (S 2)) C.1.1 C.1.2.1 C.2.1 hP 2 0 rfl rfl (vp_in_nI hi (by decide)) hdg ?_
  rw [ei]
  exact kk
theorem xs_2 (C : Cx p s m args c cc RX0 nL D d b A) (hG : Gd D A s.heap H locs (wX d h q S)) {i v : Nat} (hi : i < 40) (hdg : decode cc pc = .ok (.iastore, 1)) (kk : ∀ (H1 : Heap) (locs1 : List Loc), Gd D A s.heap H1 locs1 (wX d h q (sU S 2 i v)) → W p l e R s m args below meth c H1 locs1 cells slots Q (F0 m (pc + 1) ls (rest))) : W p l e R s m args below meth c H locs cells slots Q (F0 m pc ls (.int (nI v) :: .int (nI i) :: .ref (q 2) :: rest)) := by
  have ei : (nI i).toNatClampNeg = i := nI_clamp (by omega)
  refine va_iast (f := vN (S 2)) C.1.1 C.1.2.1 C.2.1 hG.1 hG.2.1 hG.2.2 2 0 rfl rfl (vp_in_nI hi (by decide)) hdg (fun H1 locs1 hP hD hS => kk H1 locs1 ?_)
  rw [ei, upd_vN] at hP hD
  exact ⟨hP, hD, hS⟩
theorem xg_3 (C : Cx p s m args c cc RX0 nL D d b A) (hP : va_P D clX (wX d h q S) H) (hdg : decode cc pc = .ok (.getfield 16, 3)) (kk : W p l e R s m args below meth c H locs cells slots Q (F0 m (pc + 3) ls (.ref (q 3) :: rest))) : W p l e R s m args below meth c H locs cells slots Q (F0 m pc ls (.ref h :: rest)) :=
  va_get (D := D) (ci := 0) (C := RX0) (T := TX0) (N := 13) (v := .ref (q 3)) C.1.1 C.1.2.1 C.1.2.2.2.2 in_X0 C.1.2.2.2.1 C.2.1 hP 0 rfl rfl 3 (by decide) (C.1.2.2.2.2 _ q26) (fun _ h9 => h9) rfl hdg kk
theorem xl_3 (C : Cx p s m args c cc RX0 nL D d b A) (hP : va_P D clX (wX d h q S) H) {i v : Nat} (hi : i < 576) (hv : S 3 i = v) (hdg : decode cc pc = .ok (.iaload, 1)) (kk : W p l e R s m args below meth c H locs cells slots Q (F0 m (pc + 1) ls (.int (nI v) :: rest))) : W p l e R s m args below meth c H locs cells slots Q (F0 m pc ls (.int (nI i) :: .ref (q 3) :: rest)) := by
  have ei : (nI i).toNatClampNeg = i := nI_clamp (by omega)
  subst hv
  refine va_iald (f := vN (S 3)) C.1.1 C.1.2.1 C.2.1 hP 3 0 rfl rfl (vp_in_nI hi (by decide)) hdg ?_
  rw [ei]
  exact kk
theorem xs_3 (C : Cx p s m args c cc RX0 nL D d b A) (hG : Gd D A s.heap H locs (wX d h q S)) {i v : Nat} (hi : i < 576) (hdg : decode cc pc = .ok (.iastore, 1)) (kk : ∀ (H1 : Heap) (locs1 : List Loc), Gd D A s.heap H1 locs1 (wX d h q (sU S 3 i v)) → W p l e R s m args below meth c H1 locs1 cells slots Q (F0 m (pc + 1) ls (rest))) : W p l e R s m args below meth c H locs cells slots Q (F0 m pc ls (.int (nI v) :: .int (nI i) :: .ref (q 3) :: rest)) := by
  have ei : (nI i).toNatClampNeg = i := nI_clamp (by omega)
  refine va_iast (f := vN (S 3)) C.1.1 C.1.2.1 C.2.1 hG.1 hG.2.1 hG.2.2 3 0 rfl rfl (vp_in_nI hi (by decide)) hdg (fun H1 locs1 hP hD hS => kk H1 locs1 ?_)
  rw [ei, upd_vN] at hP hD
  exact ⟨hP, hD, hS⟩
theorem xg_4 (C : Cx p s m args c cc RX0 nL D d b A) (hP : va_P D clX (wX d h q S) H) (hdg : decode cc pc = .ok (.getfield 19, 3)) (kk : W p l e R s m args below meth c H locs cells slots Q (F0 m (pc + 3) ls (.ref (q 4) :: rest))) : W p l e R s m args below meth c H locs cells slots Q (F0 m pc ls (.ref h :: rest)) :=
  va_get (D := D) (ci := 0) (C := RX0) (T := TX0) (N := 13) (v := .ref (q 4)) C.1.1 C.1.2.1 C.1.2.2.2.2 in_X0 C.1.2.2.2.1 C.2.1 hP 0 rfl rfl 4 (by decide) (C.1.2.2.2.2 _ q27) (fun _ h9 => h9) rfl hdg kk
theorem xl_4 (C : Cx p s m args c cc RX0 nL D d b A) (hP : va_P D clX (wX d h q S) H) {i v : Nat} (hi : i < 576) (hv : S 4 i = v) (hdg : decode cc pc = .ok (.iaload, 1)) (kk : W p l e R s m args below meth c H locs cells slots Q (F0 m (pc + 1) ls (.int (mI v) :: rest))) : W p l e R s m args below meth c H locs cells slots Q (F0 m pc ls (.int (nI i) :: .ref (q 4) :: rest)) := by
  have ei : (nI i).toNatClampNeg = i := nI_clamp (by omega)
  subst hv
  refine va_iald (f := vM (S 4)) C.1.1 C.1.2.1 C.2.1 hP 4 0 rfl rfl (vp_in_nI hi (by decide)) hdg ?_
  rw [ei]
  exact kk
theorem xs_4 (C : Cx p s m args c cc RX0 nL D d b A) (hG : Gd D A s.heap H locs (wX d h q S)) {i v : Nat} (hi : i < 576) (hdg : decode cc pc = .ok (.iastore, 1)) (kk : ∀ (H1 : Heap) (locs1 : List Loc), Gd D A s.heap H1 locs1 (wX d h q (sU S 4 i v)) → W p l e R s m args below meth c H1 locs1 cells slots Q (F0 m (pc + 1) ls (rest))) : W p l e R s m args below meth c H locs cells slots Q (F0 m pc ls (.int (mI v) :: .int (nI i) :: .ref (q 4) :: rest)) := by
  have ei : (nI i).toNatClampNeg = i := nI_clamp (by omega)
  refine va_iast (f := vM (S 4)) C.1.1 C.1.2.1 C.2.1 hG.1 hG.2.1 hG.2.2 4 0 rfl rfl (vp_in_nI hi (by decide)) hdg (fun H1 locs1 hP hD hS => kk H1 locs1 ?_)
  rw [ei, upd_vM] at hP hD
  exact ⟨hP, hD, hS⟩
theorem xg_5 (C : Cx p s m args c cc RX0 nL D d b A) (hP : va_P D clX (wX d h q S) H) (hdg : decode cc pc = .ok (.getfield 22, 3)) (kk : W p l e R s m args below meth c H locs cells slots Q (F0 m (pc + 3) ls (.ref (q 5) :: rest))) : W p l e R s m args below meth c H locs cells slots Q (F0 m pc ls (.ref h :: rest)) :=
  va_get (D := D) (ci := 0) (C := RX0) (T := TX0) (N := 13) (v := .ref (q 5)) C.1.1 C.1.2.1 C.1.2.2.2.2 in_X0 C.1.2.2.2.1 C.2.1 hP 0 rfl rfl 5 (by decide) (C.1.2.2.2.2 _ q28) (fun _ h9 => h9) rfl hdg kk
theorem xl_5 (C : Cx p s m args c cc RX0 nL D d b A) (hP : va_P D clX (wX d h q S) H) {i v : Nat} (hi : i < 9) (hv : S 5 i = v) (hdg : decode cc pc = .ok (.iaload, 1)) (kk : W p l e R s m args below meth c H locs cells slots Q (F0 m (pc + 1) ls (.int (nI v) :: rest))) : W p l e R s m args below meth c H locs cells slots Q (F0 m pc ls (.int (nI i) :: .ref (q 5) :: rest)) := by
  have ei : (nI i).toNatClampNeg = i := nI_clamp (by omega)
  subst hv
  refine va_iald (f := vN (S 5)) C.1.1 C.1.2.1 C.2.1 hP 5 0 rfl rfl (vp_in_nI hi (by decide)) hdg ?_
  rw [ei]
  exact kk
theorem xs_5 (C : Cx p s m args c cc RX0 nL D d b A) (hG : Gd D A s.heap H locs (wX d h q S)) {i v : Nat} (hi : i < 9) (hdg : decode cc pc = .ok (.iastore, 1)) (kk : ∀ (H1 : Heap) (locs1 : List Loc), Gd D A s.heap H1 locs1 (wX d h q (sU S 5 i v)) → W p l e R s m args below meth c H1 locs1 cells slots Q (F0 m (pc + 1) ls (rest))) : W p l e R s m args below meth c H locs cells slots Q (F0 m pc ls (.int (nI v) :: .int (nI i) :: .ref (q 5) :: rest)) := by
  have ei : (nI i).toNatClampNeg = i := nI_clamp (by omega)
  refine va_iast (f := vN (S 5)) C.1.1 C.1.2.1 C.2.1 hG.1 hG.2.1 hG.2.2 5 0 rfl rfl (vp_in_nI hi (by decide)) hdg (fun H1 locs1 hP hD hS => kk H1 locs1 ?_)
  rw [ei, upd_vN] at hP hD
  exact ⟨hP, hD, hS⟩
theorem xg_6 (C : Cx p s m args c cc RX0 nL D d b A) (hP : va_P D clX (wX d h q S) H) (hdg : decode cc pc = .ok (.getfield 25, 3)) (kk : W p l e R s m args below meth c H locs cells slots Q (F0 m (pc + 3) ls (.ref (q 6) :: rest))) : W p l e R s m args below meth c H locs cells slots Q (F0 m pc ls (.ref h :: rest)) :=
  va_get (D := D) (ci := 0) (C := RX0) (T := TX0) (N := 13) (v := .ref (q 6)) C.1.1 C.1.2.1 C.1.2.2.2.2 in_X0 C.1.2.2.2.1 C.2.1 hP 0 rfl rfl 6 (by decide) (C.1.2.2.2.2 _ q29) (fun _ h9 => h9) rfl hdg kk
theorem xl_6 (C : Cx p s m args c cc RX0 nL D d b A) (hP : va_P D clX (wX d h q S) H) {i v : Nat} (hi : i < 9) (hv : S 6 i = v) (hdg : decode cc pc = .ok (.iaload, 1)) (kk : W p l e R s m args below meth c H locs cells slots Q (F0 m (pc + 1) ls (.int (nI v) :: rest))) : W p l e R s m args below meth c H locs cells slots Q (F0 m pc ls (.int (nI i) :: .ref (q 6) :: rest)) := by
  have ei : (nI i).toNatClampNeg = i := nI_clamp (by omega)
  subst hv
  refine va_iald (f := vN (S 6)) C.1.1 C.1.2.1 C.2.1 hP 6 0 rfl rfl (vp_in_nI hi (by decide)) hdg ?_
  rw [ei]
  exact kk
theorem xs_6 (C : Cx p s m args c cc RX0 nL D d b A) (hG : Gd D A s.heap H locs (wX d h q S)) {i v : Nat} (hi : i < 9) (hdg : decode cc pc = .ok (.iastore, 1)) (kk : ∀ (H1 : Heap) (locs1 : List Loc), Gd D A s.heap H1 locs1 (wX d h q (sU S 6 i v)) → W p l e R s m args below meth c H1 locs1 cells slots Q (F0 m (pc + 1) ls (rest))) : W p l e R s m args below meth c H locs cells slots Q (F0 m pc ls (.int (nI v) :: .int (nI i) :: .ref (q 6) :: rest)) := by
  have ei : (nI i).toNatClampNeg = i := nI_clamp (by omega)
  refine va_iast (f := vN (S 6)) C.1.1 C.1.2.1 C.2.1 hG.1 hG.2.1 hG.2.2 6 0 rfl rfl (vp_in_nI hi (by decide)) hdg (fun H1 locs1 hP hD hS => kk H1 locs1 ?_)
  rw [ei, upd_vN] at hP hD
  exact ⟨hP, hD, hS⟩
theorem xg_7 (C : Cx p s m args c cc RX0 nL D d b A) (hP : va_P D clX (wX d h q S) H) (hdg : decode cc pc = .ok (.getfield 28, 3)) (kk : W p l e R s m args below meth c H locs cells slots Q (F0 m (pc + 3) ls (.ref (q 7) :: rest))) : W p l e R s m args below meth c H locs cells slots Q (F0 m pc ls (.ref h :: rest)) :=
  va_get (D := D) (ci := 0) (C := RX0) (T := TX0) (N := 13) (v := .ref (q 7)) C.1.1 C.1.2.1 C.1.2.2.2.2 in_X0 C.1.2.2.2.1 C.2.1 hP 0 rfl rfl 7 (by decide) (C.1.2.2.2.2 _ q30) (fun _ h9 => h9) rfl hdg kk
theorem xl_7 (C : Cx p s m args c cc RX0 nL D d b A) (hP : va_P D clX (wX d h q S) H) {i v : Nat} (hi : i < 3) (hv : S 7 i = v) (hdg : decode cc pc = .ok (.iaload, 1)) (kk : W p l e R s m args below meth c H locs cells slots Q (F0 m (pc + 1) ls (.int (nI v) :: rest))) : W p l e R s m args below meth c H locs cells slots Q (F0 m pc ls (.int (nI i) :: .ref (q 7) :: rest)) := by
  have ei : (nI i).toNatClampNeg = i := nI_clamp (by omega)
  subst hv
  refine va_iald (f := vN (S 7)) C.1.1 C.1.2.1 C.2.1 hP 7 0 rfl rfl (vp_in_nI hi (by decide)) hdg ?_
  rw [ei]
  exact kk
theorem xs_7 (C : Cx p s m args c cc RX0 nL D d b A) (hG : Gd D A s.heap H locs (wX d h q S)) {i v : Nat} (hi : i < 3) (hdg : decode cc pc = .ok (.iastore, 1)) (kk : ∀ (H1 : Heap) (locs1 : List Loc), Gd D A s.heap H1 locs1 (wX d h q (sU S 7 i v)) → W p l e R s m args below meth c H1 locs1 cells slots Q (F0 m (pc + 1) ls (rest))) : W p l e R s m args below meth c H locs cells slots Q (F0 m pc ls (.int (nI v) :: .int (nI i) :: .ref (q 7) :: rest)) := by
  have ei : (nI i).toNatClampNeg = i := nI_clamp (by omega)
  refine va_iast (f := vN (S 7)) C.1.1 C.1.2.1 C.2.1 hG.1 hG.2.1 hG.2.2 7 0 rfl rfl (vp_in_nI hi (by decide)) hdg (fun H1 locs1 hP hD hS => kk H1 locs1 ?_)
  rw [ei, upd_vN] at hP hD
  exact ⟨hP, hD, hS⟩
theorem xg_8 (C : Cx p s m args c cc RX0 nL D d b A) (hP : va_P D clX (wX d h q S) H) (hdg : decode cc pc = .ok (.getfield 31, 3)) (kk : W p l e R s m args below meth c H locs cells slots Q (F0 m (pc + 3) ls (.ref (q 8) :: rest))) : W p l e R s m args below meth c H locs cells slots Q (F0 m pc ls (.ref h :: rest)) :=
  va_get (D := D) (ci := 0) (C := RX0) (T := TX0) (N := 13) (v := .ref (q 8)) C.1.1 C.1.2.1 C.1.2.2.2.2 in_X0 C.1.2.2.2.1 C.2.1 hP 0 rfl rfl 8 (by decide) (C.1.2.2.2.2 _ q31) (fun _ h9 => h9) rfl hdg kk
theorem xl_8 (C : Cx p s m args c cc RX0 nL D d b A) (hP : va_P D clX (wX d h q S) H) {i v : Nat} (hi : i < 9) (hv : S 8 i = v) (hdg : decode cc pc = .ok (.iaload, 1)) (kk : W p l e R s m args below meth c H locs cells slots Q (F0 m (pc + 1) ls (.int (nI v) :: rest))) : W p l e R s m args below meth c H locs cells slots Q (F0 m pc ls (.int (nI i) :: .ref (q 8) :: rest)) := by
  have ei : (nI i).toNatClampNeg = i := nI_clamp (by omega)
  subst hv
  refine va_iald (f := vN (S 8)) C.1.1 C.1.2.1 C.2.1 hP 8 0 rfl rfl (vp_in_nI hi (by decide)) hdg ?_
  rw [ei]
  exact kk
theorem xs_8 (C : Cx p s m args c cc RX0 nL D d b A) (hG : Gd D A s.heap H locs (wX d h q S)) {i v : Nat} (hi : i < 9) (hdg : decode cc pc = .ok (.iastore, 1)) (kk : ∀ (H1 : Heap) (locs1 : List Loc), Gd D A s.heap H1 locs1 (wX d h q (sU S 8 i v)) → W p l e R s m args below meth c H1 locs1 cells slots Q (F0 m (pc + 1) ls (rest))) : W p l e R s m args below meth c H locs cells slots Q (F0 m pc ls (.int (nI v) :: .int (nI i) :: .ref (q 8) :: rest)) := by
  have ei : (nI i).toNatClampNeg = i := nI_clamp (by omega)
  refine va_iast (f := vN (S 8)) C.1.1 C.1.2.1 C.2.1 hG.1 hG.2.1 hG.2.2 8 0 rfl rfl (vp_in_nI hi (by decide)) hdg (fun H1 locs1 hP hD hS => kk H1 locs1 ?_)
  rw [ei, upd_vN] at hP hD
  exact ⟨hP, hD, hS⟩
theorem xg_9 (C : Cx p s m args c cc RX0 nL D d b A) (hP : va_P D clX (wX d h q S) H) (hdg : decode cc pc = .ok (.getfield 34, 3)) (kk : W p l e R s m args below meth c H locs cells slots Q (F0 m (pc + 3) ls (.ref (q 9) :: rest))) : W p l e R s m args below meth c H locs cells slots Q (F0 m pc ls (.ref h :: rest)) :=
  va_get (D := D) (ci := 0) (C := RX0) (T := TX0) (N := 13) (v := .ref (q 9)) C.1.1 C.1.2.1 C.1.2.2.2.2 in_X0 C.1.2.2.2.1 C.2.1 hP 0 rfl rfl 9 (by decide) (C.1.2.2.2.2 _ q32) (fun _ h9 => h9) rfl hdg kk
theorem xl_9 (C : Cx p s m args c cc RX0 nL D d b A) (hP : va_P D clX (wX d h q S) H) {i v : Nat} (hi : i < 3) (hv : S 9 i = v) (hdg : decode cc pc = .ok (.iaload, 1)) (kk : W p l e R s m args below meth c H locs cells slots Q (F0 m (pc + 1) ls (.int (nI v) :: rest))) : W p l e R s m args below meth c H locs cells slots Q (F0 m pc ls (.int (nI i) :: .ref (q 9) :: rest)) := by
  have ei : (nI i).toNatClampNeg = i := nI_clamp (by omega)
  subst hv
  refine va_iald (f := vN (S 9)) C.1.1 C.1.2.1 C.2.1 hP 9 0 rfl rfl (vp_in_nI hi (by decide)) hdg ?_
  rw [ei]
  exact kk
theorem xs_9 (C : Cx p s m args c cc RX0 nL D d b A) (hG : Gd D A s.heap H locs (wX d h q S)) {i v : Nat} (hi : i < 3) (hdg : decode cc pc = .ok (.iastore, 1)) (kk : ∀ (H1 : Heap) (locs1 : List Loc), Gd D A s.heap H1 locs1 (wX d h q (sU S 9 i v)) → W p l e R s m args below meth c H1 locs1 cells slots Q (F0 m (pc + 1) ls (rest))) : W p l e R s m args below meth c H locs cells slots Q (F0 m pc ls (.int (nI v) :: .int (nI i) :: .ref (q 9) :: rest)) := by
  have ei : (nI i).toNatClampNeg = i := nI_clamp (by omega)
  refine va_iast (f := vN (S 9)) C.1.1 C.1.2.1 C.2.1 hG.1 hG.2.1 hG.2.2 9 0 rfl rfl (vp_in_nI hi (by decide)) hdg (fun H1 locs1 hP hD hS => kk H1 locs1 ?_)
  rw [ei, upd_vN] at hP hD
  exact ⟨hP, hD, hS⟩
theorem xg_10 (C : Cx p s m args c cc RX0 nL D d b A) (hP : va_P D clX (wX d h q S) H) (hdg : decode cc pc = .ok (.getfield 37, 3)) (kk : W p l e R s m args below meth c H locs cells slots Q (F0 m (pc + 3) ls (.ref (q 10) :: rest))) : W p l e R s m args below meth c H locs cells slots Q (F0 m pc ls (.ref h :: rest)) :=
  va_get (D := D) (ci := 0) (C := RX0) (T := TX0) (N := 13) (v := .ref (q 10)) C.1.1 C.1.2.1 C.1.2.2.2.2 in_X0 C.1.2.2.2.1 C.2.1 hP 0 rfl rfl 10 (by decide) (C.1.2.2.2.2 _ q33) (fun _ h9 => h9) rfl hdg kk
theorem xl_10 (C : Cx p s m args c cc RX0 nL D d b A) (hP : va_P D clX (wX d h q S) H) {i v : Nat} (hi : i < 120) (hv : S 10 i = v) (hdg : decode cc pc = .ok (.iaload, 1)) (kk : W p l e R s m args below meth c H locs cells slots Q (F0 m (pc + 1) ls (.int (nI v) :: rest))) : W p l e R s m args below meth c H locs cells slots Q (F0 m pc ls (.int (nI i) :: .ref (q 10) :: rest)) := by
  have ei : (nI i).toNatClampNeg = i := nI_clamp (by omega)
  subst hv
  refine va_iald (f := vN (S 10)) C.1.1 C.1.2.1 C.2.1 hP 10 0 rfl rfl (vp_in_nI hi (by decide)) hdg ?_
  rw [ei]
  exact kk
theorem xs_10 (C : Cx p s m args c cc RX0 nL D d b A) (hG : Gd D A s.heap H locs (wX d h q S)) {i v : Nat} (hi : i < 120) (hdg : decode cc pc = .ok (.iastore, 1)) (kk : ∀ (H1 : Heap) (locs1 : List Loc), Gd D A s.heap H1 locs1 (wX d h q (sU S 10 i v)) → W p l e R s m args below meth c H1 locs1 cells slots Q (F0 m (pc + 1) ls (rest))) : W p l e R s m args below meth c H locs cells slots Q (F0 m pc ls (.int (nI v) :: .int (nI i) :: .ref (q 10) :: rest)) := by
  have ei : (nI i).toNatClampNeg = i := nI_clamp (by omega)
  refine va_iast (f := vN (S 10)) C.1.1 C.1.2.1 C.2.1 hG.1 hG.2.1 hG.2.2 10 0 rfl rfl (vp_in_nI hi (by decide)) hdg (fun H1 locs1 hP hD hS => kk H1 locs1 ?_)
  rw [ei, upd_vN] at hP hD
  exact ⟨hP, hD, hS⟩
theorem xg_11 (C : Cx p s m args c cc RX0 nL D d b A) (hP : va_P D clX (wX d h q S) H) (hdg : decode cc pc = .ok (.getfield 40, 3)) (kk : W p l e R s m args below meth c H locs cells slots Q (F0 m (pc + 3) ls (.ref (q 11) :: rest))) : W p l e R s m args below meth c H locs cells slots Q (F0 m pc ls (.ref h :: rest)) :=
  va_get (D := D) (ci := 0) (C := RX0) (T := TX0) (N := 13) (v := .ref (q 11)) C.1.1 C.1.2.1 C.1.2.2.2.2 in_X0 C.1.2.2.2.1 C.2.1 hP 0 rfl rfl 11 (by decide) (C.1.2.2.2.2 _ q34) (fun _ h9 => h9) rfl hdg kk
theorem xl_11 (C : Cx p s m args c cc RX0 nL D d b A) (hP : va_P D clX (wX d h q S) H) {i v : Nat} (hi : i < 3) (hv : S 11 i = v) (hdg : decode cc pc = .ok (.iaload, 1)) (kk : W p l e R s m args below meth c H locs cells slots Q (F0 m (pc + 1) ls (.int (nI v) :: rest))) : W p l e R s m args below meth c H locs cells slots Q (F0 m pc ls (.int (nI i) :: .ref (q 11) :: rest)) := by
  have ei : (nI i).toNatClampNeg = i := nI_clamp (by omega)
  subst hv
  refine va_iald (f := vN (S 11)) C.1.1 C.1.2.1 C.2.1 hP 11 0 rfl rfl (vp_in_nI hi (by decide)) hdg ?_
  rw [ei]
  exact kk
theorem xs_11 (C : Cx p s m args c cc RX0 nL D d b A) (hG : Gd D A s.heap H locs (wX d h q S)) {i v : Nat} (hi : i < 3) (hdg : decode cc pc = .ok (.iastore, 1)) (kk : ∀ (H1 : Heap) (locs1 : List Loc), Gd D A s.heap H1 locs1 (wX d h q (sU S 11 i v)) → W p l e R s m args below meth c H1 locs1 cells slots Q (F0 m (pc + 1) ls (rest))) : W p l e R s m args below meth c H locs cells slots Q (F0 m pc ls (.int (nI v) :: .int (nI i) :: .ref (q 11) :: rest)) := by
  have ei : (nI i).toNatClampNeg = i := nI_clamp (by omega)
  refine va_iast (f := vN (S 11)) C.1.1 C.1.2.1 C.2.1 hG.1 hG.2.1 hG.2.2 11 0 rfl rfl (vp_in_nI hi (by decide)) hdg (fun H1 locs1 hP hD hS => kk H1 locs1 ?_)
  rw [ei, upd_vN] at hP hD
  exact ⟨hP, hD, hS⟩
theorem xg_12 (C : Cx p s m args c cc RX0 nL D d b A) (hP : va_P D clX (wX d h q S) H) (hdg : decode cc pc = .ok (.getfield 43, 3)) (kk : W p l e R s m args below meth c H locs cells slots Q (F0 m (pc + 3) ls (.ref (q 12) :: rest))) : W p l e R s m args below meth c H locs cells slots Q (F0 m pc ls (.ref h :: rest)) :=
  va_get (D := D) (ci := 0) (C := RX0) (T := TX0) (N := 13) (v := .ref (q 12)) C.1.1 C.1.2.1 C.1.2.2.2.2 in_X0 C.1.2.2.2.1 C.2.1 hP 0 rfl rfl 12 (by decide) (C.1.2.2.2.2 _ q35) (fun _ h9 => h9) rfl hdg kk
theorem xl_12 (C : Cx p s m args c cc RX0 nL D d b A) (hP : va_P D clX (wX d h q S) H) {i v : Nat} (hi : i < 120) (hv : S 12 i = v) (hdg : decode cc pc = .ok (.iaload, 1)) (kk : W p l e R s m args below meth c H locs cells slots Q (F0 m (pc + 1) ls (.int (nI v) :: rest))) : W p l e R s m args below meth c H locs cells slots Q (F0 m pc ls (.int (nI i) :: .ref (q 12) :: rest)) := by
  have ei : (nI i).toNatClampNeg = i := nI_clamp (by omega)
  subst hv
  refine va_iald (f := vN (S 12)) C.1.1 C.1.2.1 C.2.1 hP 12 0 rfl rfl (vp_in_nI hi (by decide)) hdg ?_
  rw [ei]
  exact kk
theorem xs_12 (C : Cx p s m args c cc RX0 nL D d b A) (hG : Gd D A s.heap H locs (wX d h q S)) {i v : Nat} (hi : i < 120) (hdg : decode cc pc = .ok (.iastore, 1)) (kk : ∀ (H1 : Heap) (locs1 : List Loc), Gd D A s.heap H1 locs1 (wX d h q (sU S 12 i v)) → W p l e R s m args below meth c H1 locs1 cells slots Q (F0 m (pc + 1) ls (rest))) : W p l e R s m args below meth c H locs cells slots Q (F0 m pc ls (.int (nI v) :: .int (nI i) :: .ref (q 12) :: rest)) := by
  have ei : (nI i).toNatClampNeg = i := nI_clamp (by omega)
  refine va_iast (f := vN (S 12)) C.1.1 C.1.2.1 C.2.1 hG.1 hG.2.1 hG.2.2 12 0 rfl rfl (vp_in_nI hi (by decide)) hdg (fun H1 locs1 hP hD hS => kk H1 locs1 ?_)
  rw [ei, upd_vN] at hP hD
  exact ⟨hP, hD, hS⟩
theorem mg_0 (C : Cx p s m args c cc RX1 nL D d b A) (hP : va_P D clX (wM d b h q S) H) (hdg : decode cc pc = .ok (.getfield 7, 3)) (kk : W p l e R s m args below meth c H locs cells slots Q (F0 m (pc + 3) ls (.ref (q 0) :: rest))) : W p l e R s m args below meth c H locs cells slots Q (F0 m pc ls (.ref h :: rest)) :=
  va_get (D := D) (ci := 1) (C := RX1) (T := TX1) (N := 12) (v := .ref (q 0)) C.1.1 C.1.2.1 C.1.2.2.2.2 in_X1 C.1.2.2.2.1 C.2.1 hP 0 rfl rfl 0 (by decide) (C.1.2.2.2.2 _ q133) (fun _ h9 => h9) rfl hdg kk
theorem ml_0 (C : Cx p s m args c cc RX1 nL D d b A) (hP : va_P D clX (wM d b h q S) H) {i v : Nat} (hi : i < 3) (hv : S 0 i = v) (hdg : decode cc pc = .ok (.iaload, 1)) (kk : W p l e R s m args below meth c H locs cells slots Q (F0 m (pc + 1) ls (.int (nI v) :: rest))) : W p l e R s m args below meth c H locs cells slots Q (F0 m pc ls (.int (nI i) :: .ref (q 0) :: rest)) := by
  have ei : (nI i).toNatClampNeg = i := nI_clamp (by omega)
  subst hv
  refine va_iald (f := vN (S 0)) C.1.1 C.1.2.1 C.2.1 hP 1 0 rfl rfl (vp_in_nI hi (by decide)) hdg ?_
  rw [ei]
  exact kk
theorem ms_0 (C : Cx p s m args c cc RX1 nL D d b A) (hG : Gd D A s.heap H locs (wM d b h q S)) {i v : Nat} (hi : i < 3) (hdg : decode cc pc = .ok (.iastore, 1)) (kk : ∀ (H1 : Heap) (locs1 : List Loc), Gd D A s.heap H1 locs1 (wM d b h q (sU S 0 i v)) → W p l e R s m args below meth c H1 locs1 cells slots Q (F0 m (pc + 1) ls (rest))) : W p l e R s m args below meth c H locs cells slots Q (F0 m pc ls (.int (nI v) :: .int (nI i) :: .ref (q 0) :: rest)) := by
  have ei : (nI i).toNatClampNeg = i := nI_clamp (by omega)
  refine va_iast (f := vN (S 0)) C.1.1 C.1.2.1 C.2.1 hG.1 hG.2.1 hG.2.2 1 0 rfl rfl (vp_in_nI hi (by decide)) hdg (fun H1 locs1 hP hD hS => kk H1 locs1 ?_)
  rw [ei, upd_vN] at hP hD
  exact ⟨hP, hD, hS⟩
theorem mg_1 (C : Cx p s m args c cc RX1 nL D d b A) (hP : va_P D clX (wM d b h q S) H) (hdg : decode cc pc = .ok (.getfield 48, 3)) (kk : W p l e R s m args below meth c H locs cells slots Q (F0 m (pc + 3) ls (.int (nI (S 1 0)) :: rest))) : W p l e R s m args below meth c H locs cells slots Q (F0 m pc ls (.ref h :: rest)) :=
  va_get (D := D) (ci := 1) (C := RX1) (T := TX1) (N := 12) (v := .int (nI (S 1 0))) C.1.1 C.1.2.1 C.1.2.2.2.2 in_X1 C.1.2.2.2.1 C.2.1 hP 0 rfl rfl 1 (by decide) (C.1.2.2.2.2 _ q134) (fun _ h9 => h9) rfl hdg kk
theorem mp_1 (C : Cx p s m args c cc RX1 nL D d b A) (hG : Gd D A s.heap H locs (wM d b h q S)) {v : Nat} (hdg : decode cc pc = .ok (.putfield 48, 3)) (kk : ∀ (H1 : Heap) (locs1 : List Loc), Gd D A s.heap H1 locs1 (wM d b h q (sU S 1 0 v)) → W p l e R s m args below meth c H1 locs1 cells slots Q (F0 m (pc + 3) ls (rest))) : W p l e R s m args below meth c H locs cells slots Q (F0 m pc ls (.int (nI v) :: .ref h :: rest)) :=
  va_put (D := D) (ci := 1) (v := .int (nI v)) (ty := .int) (C := RX1) (T := TX1) (N := 12) C.1.1 C.1.2.1 C.1.2.2.2.2 in_X1 tyX1 tyX1_ok nmX1 C.1.2.2.2.1 C.2.1 hG.1 hG.2.1 hG.2.2 0 rfl rfl 1 (by decide) (C.1.2.2.2.2 _ q134) (fun _ h9 => h9) rfl (by decide +kernel) rfl rfl (Nat.le_of_ble_eq_true rfl) hdg (fun H1 locs1 hP hD hS => kk H1 locs1 ⟨hP, hD, hS⟩)
theorem mg_2 (C : Cx p s m args c cc RX1 nL D d b A) (hP : va_P D clX (wM d b h q S) H) (hdg : decode cc pc = .ok (.getfield 13, 3)) (kk : W p l e R s m args below meth c H locs cells slots Q (F0 m (pc + 3) ls (.ref (q 2) :: rest))) : W p l e R s m args below meth c H locs cells slots Q (F0 m pc ls (.ref h :: rest)) :=
  va_get (D := D) (ci := 1) (C := RX1) (T := TX1) (N := 12) (v := .ref (q 2)) C.1.1 C.1.2.1 C.1.2.2.2.2 in_X1 C.1.2.2.2.1 C.2.1 hP 0 rfl rfl 2 (by decide) (C.1.2.2.2.2 _ q135) (fun _ h9 => h9) rfl hdg kk
theorem ml_2 (C : Cx p s m args c cc RX1 nL D d b A) (hP : va_P D clX (wM d b h q S) H) {i v : Nat} (hi : i < 40) (hv : S 2 i = v) (hdg : decode cc pc = .ok (.iaload, 1)) (kk : W p l e R s m args below meth c H locs cells slots Q (F0 m (pc + 1) ls (.int (nI v) :: rest))) : W p l e R s m args below meth c H locs cells slots Q (F0 m pc ls (.int (nI i) :: .ref (q 2) :: rest)) := by
  have ei : (nI i).toNatClampNeg = i := nI_clamp (by omega)
  subst hv
  refine va_iald (f := vN (S 2)) C.1.1 C.1.2.1 C.2.1 hP 2 0 rfl rfl (vp_in_nI hi (by decide)) hdg ?_
  rw [ei]
  exact kk
theorem ms_2 (C : Cx p s m args c cc RX1 nL D d b A) (hG : Gd D A s.heap H locs (wM d b h q S)) {i v : Nat} (hi : i < 40) (hdg : decode cc pc = .ok (.iastore, 1)) (kk : ∀ (H1 : Heap) (locs1 : List Loc), Gd D A s.heap H1 locs1 (wM d b h q (sU S 2 i v)) → W p l e R s m args below meth c H1 locs1 cells slots Q (F0 m (pc + 1) ls (rest))) : W p l e R s m args below meth c H locs cells slots Q (F0 m pc ls (.int (nI v) :: .int (nI i) :: .ref (q 2) :: rest)) := by
  have ei : (nI i).toNatClampNeg = i := nI_clamp (by omega)
  refine va_iast (f := vN (S 2)) C.1.1 C.1.2.1 C.2.1 hG.1 hG.2.1 hG.2.2 2 0 rfl rfl (vp_in_nI hi (by decide)) hdg (fun H1 locs1 hP hD hS => kk H1 locs1 ?_)
  rw [ei, upd_vN] at hP hD
  exact ⟨hP, hD, hS⟩
theorem mg_3 (C : Cx p s m args c cc RX1 nL D d b A) (hP : va_P D clX (wM d b h q S) H) (hdg : decode cc pc = .ok (.getfield 16, 3)) (kk : W p l e R s m args below meth c H locs cells slots Q (F0 m (pc + 3) ls (.ref (q 3) :: rest))) : W p l e R s m args below meth c H locs cells slots Q (F0 m pc ls (.ref h :: rest)) :=
  va_get (D := D) (ci := 1) (C := RX1) (T := TX1) (N := 12) (v := .ref (q 3)) C.1.1 C.1.2.1 C.1.2.2.2.2 in_X1 C.1.2.2.2.1 C.2.1 hP 0 rfl rfl 3 (by decide) (C.1.2.2.2.2 _ q136) (fun _ h9 => h9) rfl hdg kk
theorem ml_3 (C : Cx p s m args c cc RX1 nL D d b A) (hP : va_P D clX (wM d b h q S) H) {i v : Nat} (hi : i < 40) (hv : S 3 i = v) (hdg : decode cc pc = .ok (.iaload, 1)) (kk : W p l e R s m args below meth c H locs cells slots Q (F0 m (pc + 1) ls (.int (nI v) :: rest))) : W p l e R s m args below meth c H locs cells slots Q (F0 m pc ls (.int (nI i) :: .ref (q 3) :: rest)) := by
  have ei : (nI i).toNatClampNeg = i := nI_clamp (by omega)
  subst hv
  refine va_iald (f := vN (S 3)) C.1.1 C.1.2.1 C.2.1 hP 3 0 rfl rfl (vp_in_nI hi (by decide)) hdg ?_
  rw [ei]
  exact kk
theorem ms_3 (C : Cx p s m args c cc RX1 nL D d b A) (hG : Gd D A s.heap H locs (wM d b h q S)) {i v : Nat} (hi : i < 40) (hdg : decode cc pc = .ok (.iastore, 1)) (kk : ∀ (H1 : Heap) (locs1 : List Loc), Gd D A s.heap H1 locs1 (wM d b h q (sU S 3 i v)) → W p l e R s m args below meth c H1 locs1 cells slots Q (F0 m (pc + 1) ls (rest))) : W p l e R s m args below meth c H locs cells slots Q (F0 m pc ls (.int (nI v) :: .int (nI i) :: .ref (q 3) :: rest)) := by
  have ei : (nI i).toNatClampNeg = i := nI_clamp (by omega)
  refine va_iast (f := vN (S 3)) C.1.1 C.1.2.1 C.2.1 hG.1 hG.2.1 hG.2.2 3 0 rfl rfl (vp_in_nI hi (by decide)) hdg (fun H1 locs1 hP hD hS => kk H1 locs1 ?_)
  rw [ei, upd_vN] at hP hD
  exact ⟨hP, hD, hS⟩
theorem mg_4 (C : Cx p s m args c cc RX1 nL D d b A) (hP : va_P D clX (wM d b h q S) H) (hdg : decode cc pc = .ok (.getfield 19, 3)) (kk : W p l e R s m args below meth c H locs cells slots Q (F0 m (pc + 3) ls (.ref (q 4) :: rest))) : W p l e R s m args below meth c H locs cells slots Q (F0 m pc ls (.ref h :: rest)) :=
  va_get (D := D) (ci := 1) (C := RX1) (T := TX1) (N := 12) (v := .ref (q 4)) C.1.1 C.1.2.1 C.1.2.2.2.2 in_X1 C.1.2.2.2.1 C.2.1 hP 0 rfl rfl 4 (by decide) (C.1.2.2.2.2 _ q137) (fun _ h9 => h9) rfl hdg kk
theorem ml_4 (C : Cx p s m args c cc RX1 nL D d b A) (hP : va_P D clX (wM d b h q S) H) {i v : Nat} (hi : i < 120) (hv : S 4 i = v) (hdg : decode cc pc = .ok (.baload, 1)) (kk : W p l e R s m args below meth c H locs cells slots Q (F0 m (pc + 1) ls (.int (nI v) :: rest))) : W p l e R s m args below meth c H locs cells slots Q (F0 m pc ls (.int (nI i) :: .ref (q 4) :: rest)) := by
  have ei : (nI i).toNatClampNeg = i := nI_clamp (by omega)
  subst hv
  refine va_zald (f := vN (S 4)) C.1.1 C.1.2.1 C.2.1 hP 4 1 rfl rfl (vp_in_nI hi (by decide)) hdg ?_
  rw [ei]
  exact kk
theorem ms_4 (C : Cx p s m args c cc RX1 nL D d b A) (hG : Gd D A s.heap H locs (wM d b h q S)) {i : Nat} (hi : i < 120) (hdg : decode cc pc = .ok (.bastore, 1)) (kk : ∀ (H1 : Heap) (locs1 : List Loc), Gd D A s.heap H1 locs1 (wM d b h q (sU S 4 i 1)) → W p l e R s m args below meth c H1 locs1 cells slots Q (F0 m (pc + 1) ls (rest))) : W p l e R s m args below meth c H locs cells slots Q (F0 m pc ls (.int (nI 1) :: .int (nI i) :: .ref (q 4) :: rest)) := by
  have ei : (nI i).toNatClampNeg = i := nI_clamp (by omega)
  have e1 : vp_nar .boolean (nI 1) = nI 1 := by decide
  refine va_zast (f := vN (S 4)) C.1.1 C.1.2.1 C.2.1 hG.1 hG.2.1 hG.2.2 4 1 rfl rfl (vp_in_nI hi (by decide)) hdg (fun H1 locs1 hP hD hS => kk H1 locs1 ?_)
  rw [ei, e1, upd_vN] at hP hD
  exact ⟨hP, hD, hS⟩
theorem mg_5 (C : Cx p s m args c cc RX1 nL D d b A) (hP : va_P D clX (wM d b h q S) H) (hdg : decode cc pc = .ok (.getfield 23, 3)) (kk : W p l e R s m args below meth c H locs cells slots Q (F0 m (pc + 3) ls (.ref (q 5) :: rest))) : W p l e R s m args below meth c H locs cells slots Q (F0 m pc ls (.ref h :: rest)) :=
  va_get (D := D) (ci := 1) (C := RX1) (T := TX1) (N := 12) (v := .ref (q 5)) C.1.1 C.1.2.1 C.1.2.2.2.2 in_X1 C.1.2.2.2.1 C.2.1 hP 0 rfl rfl 5 (by decide) (C.1.2.2.2.2 _ q138) (fun _ h9 => h9) rfl hdg kk
theorem ml_5 (C : Cx p s m args c cc RX1 nL D d b A) (hP : va_P D clX (wM d b h q S) H) {i v : Nat} (hi : i < 120) (hv : S 5 i = v) (hdg : decode cc pc = .ok (.baload, 1)) (kk : W p l e R s m args below meth c H locs cells slots Q (F0 m (pc + 1) ls (.int (nI v) :: rest))) : W p l e R s m args below meth c H locs cells slots Q (F0 m pc ls (.int (nI i) :: .ref (q 5) :: rest)) := by
  have ei : (nI i).toNatClampNeg = i := nI_clamp (by omega)
  subst hv
  refine va_zald (f := vN (S 5)) C.1.1 C.1.2.1 C.2.1 hP 5 1 rfl rfl (vp_in_nI hi (by decide)) hdg ?_
  rw [ei]
  exact kk
theorem ms_5 (C : Cx p s m args c cc RX1 nL D d b A) (hG : Gd D A s.heap H locs (wM d b h q S)) {i : Nat} (hi : i < 120) (hdg : decode cc pc = .ok (.bastore, 1)) (kk : ∀ (H1 : Heap) (locs1 : List Loc), Gd D A s.heap H1 locs1 (wM d b h q (sU S 5 i 1)) → W p l e R s m args below meth c H1 locs1 cells slots Q (F0 m (pc + 1) ls (rest))) : W p l e R s m args below meth c H locs cells slots Q (F0 m pc ls (.int (nI 1) :: .int (nI i) :: .ref (q 5) :: rest)) := by
  have ei : (nI i).toNatClampNeg = i := nI_clamp (by omega)
  have e1 : vp_nar .boolean (nI 1) = nI 1 := by decide
  refine va_zast (f := vN (S 5)) C.1.1 C.1.2.1 C.2.1 hG.1 hG.2.1 hG.2.2 5 1 rfl rfl (vp_in_nI hi (by decide)) hdg (fun H1 locs1 hP hD hS => kk H1 locs1 ?_)
  rw [ei, e1, upd_vN] at hP hD
  exact ⟨hP, hD, hS⟩
theorem mg_6 (C : Cx p s m args c cc RX1 nL D d b A) (hP : va_P D clX (wM d b h q S) H) (hdg : decode cc pc = .ok (.getfield 26, 3)) (kk : W p l e R s m args below meth c H locs cells slots Q (F0 m (pc + 3) ls (.ref (q 6) :: rest))) : W p l e R s m args below meth c H locs cells slots Q (F0 m pc ls (.ref h :: rest)) :=
  va_get (D := D) (ci := 1) (C := RX1) (T := TX1) (N := 12) (v := .ref (q 6)) C.1.1 C.1.2.1 C.1.2.2.2.2 in_X1 C.1.2.2.2.1 C.2.1 hP 0 rfl rfl 6 (by decide) (C.1.2.2.2.2 _ q139) (fun _ h9 => h9) rfl hdg kk
theorem ml_6 (C : Cx p s m args c cc RX1 nL D d b A) (hP : va_P D clX (wM d b h q S) H) {i v : Nat} (hi : i < 3) (hv : S 6 i = v) (hdg : decode cc pc = .ok (.iaload, 1)) (kk : W p l e R s m args below meth c H locs cells slots Q (F0 m (pc + 1) ls (.int (nI v) :: rest))) : W p l e R s m args below meth c H locs cells slots Q (F0 m pc ls (.int (nI i) :: .ref (q 6) :: rest)) := by
  have ei : (nI i).toNatClampNeg = i := nI_clamp (by omega)
  subst hv
  refine va_iald (f := vN (S 6)) C.1.1 C.1.2.1 C.2.1 hP 6 0 rfl rfl (vp_in_nI hi (by decide)) hdg ?_
  rw [ei]
  exact kk
theorem ms_6 (C : Cx p s m args c cc RX1 nL D d b A) (hG : Gd D A s.heap H locs (wM d b h q S)) {i v : Nat} (hi : i < 3) (hdg : decode cc pc = .ok (.iastore, 1)) (kk : ∀ (H1 : Heap) (locs1 : List Loc), Gd D A s.heap H1 locs1 (wM d b h q (sU S 6 i v)) → W p l e R s m args below meth c H1 locs1 cells slots Q (F0 m (pc + 1) ls (rest))) : W p l e R s m args below meth c H locs cells slots Q (F0 m pc ls (.int (nI v) :: .int (nI i) :: .ref (q 6) :: rest)) := by
  have ei : (nI i).toNatClampNeg = i := nI_clamp (by omega)
  refine va_iast (f := vN (S 6)) C.1.1 C.1.2.1 C.2.1 hG.1 hG.2.1 hG.2.2 6 0 rfl rfl (vp_in_nI hi (by decide)) hdg (fun H1 locs1 hP hD hS => kk H1 locs1 ?_)
  rw [ei, upd_vN] at hP hD
  exact ⟨hP, hD, hS⟩
theorem mg_7 (C : Cx p s m args c cc RX1 nL D d b A) (hP : va_P D clX (wM d b h q S) H) (hdg : decode cc pc = .ok (.getfield 29, 3)) (kk : W p l e R s m args below meth c H locs cells slots Q (F0 m (pc + 3) ls (.ref (q 7) :: rest))) : W p l e R s m args below meth c H locs cells slots Q (F0 m pc ls (.ref h :: rest)) :=
  va_get (D := D) (ci := 1) (C := RX1) (T := TX1) (N := 12) (v := .ref (q 7)) C.1.1 C.1.2.1 C.1.2.2.2.2 in_X1 C.1.2.2.2.1 C.2.1 hP 0 rfl rfl 7 (by decide) (C.1.2.2.2.2 _ q140) (fun _ h9 => h9) rfl hdg kk
theorem ml_7 (C : Cx p s m args c cc RX1 nL D d b A) (hP : va_P D clX (wM d b h q S) H) {i v : Nat} (hi : i < 120) (hv : S 7 i = v) (hdg : decode cc pc = .ok (.iaload, 1)) (kk : W p l e R s m args below meth c H locs cells slots Q (F0 m (pc + 1) ls (.int (nI v) :: rest))) : W p l e R s m args below meth c H locs cells slots Q (F0 m pc ls (.int (nI i) :: .ref (q 7) :: rest)) := by
  have ei : (nI i).toNatClampNeg = i := nI_clamp (by omega)
  subst hv
  refine va_iald (f := vN (S 7)) C.1.1 C.1.2.1 C.2.1 hP 7 0 rfl rfl (vp_in_nI hi (by decide)) hdg ?_
  rw [ei]
  exact kk
theorem ms_7 (C : Cx p s m args c cc RX1 nL D d b A) (hG : Gd D A s.heap H locs (wM d b h q S)) {i v : Nat} (hi : i < 120) (hdg : decode cc pc = .ok (.iastore, 1)) (kk : ∀ (H1 : Heap) (locs1 : List Loc), Gd D A s.heap H1 locs1 (wM d b h q (sU S 7 i v)) → W p l e R s m args below meth c H1 locs1 cells slots Q (F0 m (pc + 1) ls (rest))) : W p l e R s m args below meth c H locs cells slots Q (F0 m pc ls (.int (nI v) :: .int (nI i) :: .ref (q 7) :: rest)) := by
  have ei : (nI i).toNatClampNeg = i := nI_clamp (by omega)
  refine va_iast (f := vN (S 7)) C.1.1 C.1.2.1 C.2.1 hG.1 hG.2.1 hG.2.2 7 0 rfl rfl (vp_in_nI hi (by decide)) hdg (fun H1 locs1 hP hD hS => kk H1 locs1 ?_)
  rw [ei, upd_vN] at hP hD
  exact ⟨hP, hD, hS⟩
theorem mg_8 (C : Cx p s m args c cc RX1 nL D d b A) (hP : va_P D clX (wM d b h q S) H) (hdg : decode cc pc = .ok (.getfield 32, 3)) (kk : W p l e R s m args below meth c H locs cells slots Q (F0 m (pc + 3) ls (.ref (q 8) :: rest))) : W p l e R s m args below meth c H locs cells slots Q (F0 m pc ls (.ref h :: rest)) :=
  va_get (D := D) (ci := 1) (C := RX1) (T := TX1) (N := 12) (v := .ref (q 8)) C.1.1 C.1.2.1 C.1.2.2.2.2 in_X1 C.1.2.2.2.1 C.2.1 hP 0 rfl rfl 8 (by decide) (C.1.2.2.2.2 _ q141) (fun _ h9 => h9) rfl hdg kk
theorem ml_8 (C : Cx p s m args c cc RX1 nL D d b A) (hP : va_P D clX (wM d b h q S) H) {i v : Nat} (hi : i < 9) (hv : S 8 i = v) (hdg : decode cc pc = .ok (.iaload, 1)) (kk : W p l e R s m args below meth c H locs cells slots Q (F0 m (pc + 1) ls (.int (nI v) :: rest))) : W p l e R s m args below meth c H locs cells slots Q (F0 m pc ls (.int (nI i) :: .ref (q 8) :: rest)) := by
  have ei : (nI i).toNatClampNeg = i := nI_clamp (by omega)
  subst hv
  refine va_iald (f := vN (S 8)) C.1.1 C.1.2.1 C.2.1 hP 8 0 rfl rfl (vp_in_nI hi (by decide)) hdg ?_
  rw [ei]
  exact kk
theorem ms_8 (C : Cx p s m args c cc RX1 nL D d b A) (hG : Gd D A s.heap H locs (wM d b h q S)) {i v : Nat} (hi : i < 9) (hdg : decode cc pc = .ok (.iastore, 1)) (kk : ∀ (H1 : Heap) (locs1 : List Loc), Gd D A s.heap H1 locs1 (wM d b h q (sU S 8 i v)) → W p l e R s m args below meth c H1 locs1 cells slots Q (F0 m (pc + 1) ls (rest))) : W p l e R s m args below meth c H locs cells slots Q (F0 m pc ls (.int (nI v) :: .int (nI i) :: .ref (q 8) :: rest)) := by
  have ei : (nI i).toNatClampNeg = i := nI_clamp (by omega)
  refine va_iast (f := vN (S 8)) C.1.1 C.1.2.1 C.2.1 hG.1 hG.2.1 hG.2.2 8 0 rfl rfl (vp_in_nI hi (by decide)) hdg (fun H1 locs1 hP hD hS => kk H1 locs1 ?_)
  rw [ei, upd_vN] at hP hD
  exact ⟨hP, hD, hS⟩
theorem mg_9 (C : Cx p s m args c cc RX1 nL D d b A) (hP : va_P D clX (wM d b h q S) H) (hdg : decode cc pc = .ok (.getfield 35, 3)) (kk : W p l e R s m args below meth c H locs cells slots Q (F0 m (pc + 3) ls (.ref (q 9) :: rest))) : W p l e R s m args below meth c H locs cells slots Q (F0 m pc ls (.ref h :: rest)) :=
  va_get (D := D) (ci := 1) (C := RX1) (T := TX1) (N := 12) (v := .ref (q 9)) C.1.1 C.1.2.1 C.1.2.2.2.2 in_X1 C.1.2.2.2.1 C.2.1 hP 0 rfl rfl 9 (by decide) (C.1.2.2.2.2 _ q142) (fun _ h9 => h9) rfl hdg kk
theorem ml_9 (C : Cx p s m args c cc RX1 nL D d b A) (hP : va_P D clX (wM d b h q S) H) {i v : Nat} (hi : i < 9) (hv : S 9 i = v) (hdg : decode cc pc = .ok (.iaload, 1)) (kk : W p l e R s m args below meth c H locs cells slots Q (F0 m (pc + 1) ls (.int (nI v) :: rest))) : W p l e R s m args below meth c H locs cells slots Q (F0 m pc ls (.int (nI i) :: .ref (q 9) :: rest)) := by
  have ei : (nI i).toNatClampNeg = i := nI_clamp (by omega)
  subst hv
  refine va_iald (f := vN (S 9)) C.1.1 C.1.2.1 C.2.1 hP 9 0 rfl rfl (vp_in_nI hi (by decide)) hdg ?_
  rw [ei]
  exact kk
theorem ms_9 (C : Cx p s m args c cc RX1 nL D d b A) (hG : Gd D A s.heap H locs (wM d b h q S)) {i v : Nat} (hi : i < 9) (hdg : decode cc pc = .ok (.iastore, 1)) (kk : ∀ (H1 : Heap) (locs1 : List Loc), Gd D A s.heap H1 locs1 (wM d b h q (sU S 9 i v)) → W p l e R s m args below meth c H1 locs1 cells slots Q (F0 m (pc + 1) ls (rest))) : W p l e R s m args below meth c H locs cells slots Q (F0 m pc ls (.int (nI v) :: .int (nI i) :: .ref (q 9) :: rest)) := by
  have ei : (nI i).toNatClampNeg = i := nI_clamp (by omega)
  refine va_iast (f := vN (S 9)) C.1.1 C.1.2.1 C.2.1 hG.1 hG.2.1 hG.2.2 9 0 rfl rfl (vp_in_nI hi (by decide)) hdg (fun H1 locs1 hP hD hS => kk H1 locs1 ?_)
  rw [ei, upd_vN] at hP hD
  exact ⟨hP, hD, hS⟩
theorem mg_10 (C : Cx p s m args c cc RX1 nL D d b A) (hP : va_P D clX (wM d b h q S) H) (hdg : decode cc pc = .ok (.getfield 38, 3)) (kk : W p l e R s m args below meth c H locs cells slots Q (F0 m (pc + 3) ls (.ref (q 10) :: rest))) : W p l e R s m args below meth c H locs cells slots Q (F0 m pc ls (.ref h :: rest)) :=
  va_get (D := D) (ci := 1) (C := RX1) (T := TX1) (N := 12) (v := .ref (q 10)) C.1.1 C.1.2.1 C.1.2.2.2.2 in_X1 C.1.2.2.2.1 C.2.1 hP 0 rfl rfl 10 (by decide) (C.1.2.2.2.2 _ q143) (fun _ h9 => h9) rfl hdg kk
theorem ml_10 (C : Cx p s m args c cc RX1 nL D d b A) (hP : va_P D clX (wM d b h q S) H) {i v : Nat} (hi : i < 540) (hv : S 10 i = v) (hdg : decode cc pc = .ok (.iaload, 1)) (kk : W p l e R s m args below meth c H locs cells slots Q (F0 m (pc + 1) ls (.int (nI v) :: rest))) : W p l e R s m args below meth c H locs cells slots Q (F0 m pc ls (.int (nI i) :: .ref (q 10) :: rest)) := by
  have ei : (nI i).toNatClampNeg = i := nI_clamp (by omega)
  subst hv
  refine va_iald (f := vN (S 10)) C.1.1 C.1.2.1 C.2.1 hP 10 0 rfl rfl (vp_in_nI hi (by decide)) hdg ?_
  rw [ei]
  exact kk
theorem ms_10 (C : Cx p s m args c cc RX1 nL D d b A) (hG : Gd D A s.heap H locs (wM d b h q S)) {i v : Nat} (hi : i < 540) (hdg : decode cc pc = .ok (.iastore, 1)) (kk : ∀ (H1 : Heap) (locs1 : List Loc), Gd D A s.heap H1 locs1 (wM d b h q (sU S 10 i v)) → W p l e R s m args below meth c H1 locs1 cells slots Q (F0 m (pc + 1) ls (rest))) : W p l e R s m args below meth c H locs cells slots Q (F0 m pc ls (.int (nI v) :: .int (nI i) :: .ref (q 10) :: rest)) := by
  have ei : (nI i).toNatClampNeg = i := nI_clamp (by omega)
  refine va_iast (f := vN (S 10)) C.1.1 C.1.2.1 C.2.1 hG.1 hG.2.1 hG.2.2 10 0 rfl rfl (vp_in_nI hi (by decide)) hdg (fun H1 locs1 hP hD hS => kk H1 locs1 ?_)
  rw [ei, upd_vN] at hP hD
  exact ⟨hP, hD, hS⟩
theorem mg_11 (C : Cx p s m args c cc RX1 nL D d b A) (hP : va_P D clX (wM d b h q S) H) (hdg : decode cc pc = .ok (.getfield 41, 3)) (kk : W p l e R s m args below meth c H locs cells slots Q (F0 m (pc + 3) ls (.ref (q 11) :: rest))) : W p l e R s m args below meth c H locs cells slots Q (F0 m pc ls (.ref h :: rest)) :=
  va_get (D := D) (ci := 1) (C := RX1) (T := TX1) (N := 12) (v := .ref (q 11)) C.1.1 C.1.2.1 C.1.2.2.2.2 in_X1 C.1.2.2.2.1 C.2.1 hP 0 rfl rfl 11 (by decide) (C.1.2.2.2.2 _ q144) (fun _ h9 => h9) rfl hdg kk
theorem ml_11 (C : Cx p s m args c cc RX1 nL D d b A) (hP : va_P D clX (wM d b h q S) H) {i v : Nat} (hi : i < 540) (hv : S 11 i = v) (hdg : decode cc pc = .ok (.iaload, 1)) (kk : W p l e R s m args below meth c H locs cells slots Q (F0 m (pc + 1) ls (.int (mI v) :: rest))) : W p l e R s m args below meth c H locs cells slots Q (F0 m pc ls (.int (nI i) :: .ref (q 11) :: rest)) := by
  have ei : (nI i).toNatClampNeg = i := nI_clamp (by omega)
  subst hv
  refine va_iald (f := vM (S 11)) C.1.1 C.1.2.1 C.2.1 hP 11 0 rfl rfl (vp_in_nI hi (by decide)) hdg ?_
  rw [ei]
  exact kk
theorem ms_11 (C : Cx p s m args c cc RX1 nL D d b A) (hG : Gd D A s.heap H locs (wM d b h q S)) {i v : Nat} (hi : i < 540) (hdg : decode cc pc = .ok (.iastore, 1)) (kk : ∀ (H1 : Heap) (locs1 : List Loc), Gd D A s.heap H1 locs1 (wM d b h q (sU S 11 i v)) → W p l e R s m args below meth c H1 locs1 cells slots Q (F0 m (pc + 1) ls (rest))) : W p l e R s m args below meth c H locs cells slots Q (F0 m pc ls (.int (mI v) :: .int (nI i) :: .ref (q 11) :: rest)) := by
  have ei : (nI i).toNatClampNeg = i := nI_clamp (by omega)
  refine va_iast (f := vM (S 11)) C.1.1 C.1.2.1 C.2.1 hG.1 hG.2.1 hG.2.2 11 0 rfl rfl (vp_in_nI hi (by decide)) hdg (fun H1 locs1 hP hD hS => kk H1 locs1 ?_)
  rw [ei, upd_vM] at hP hD
  exact ⟨hP, hD, hS⟩
theorem oi_add (hx : p.tables.exec = Jvm.exec) (hb : c.code = cc) {a b : Nat} (hdg : decode cc pc = .ok (.iadd, 1)) (kk : W p l e R s m args below meth c H locs cells slots Q (F0 m (pc + 1) ls (.int (nI (a + b)) :: rest))) : W p l e R s m args below meth c H locs cells slots Q (F0 m pc ls (.int (nI b) :: .int (nI a) :: rest)) := lv_iadd hx hb hdg (by rw [nI_add]; exact kk)
theorem oi_mul (hx : p.tables.exec = Jvm.exec) (hb : c.code = cc) {a b : Nat} (hdg : decode cc pc = .ok (.imul, 1)) (kk : W p l e R s m args below meth c H locs cells slots Q (F0 m (pc + 1) ls (.int (nI (a * b)) :: rest))) : W p l e R s m args below meth c H locs cells slots Q (F0 m pc ls (.int (nI b) :: .int (nI a) :: rest)) := lv_imul hx hb hdg (by rw [pk_mul]; exact kk)
theorem oi_sub (hx : p.tables.exec = Jvm.exec) (hb : c.code = cc) {a b : Nat} (hs : b ≤ a) (hdg : decode cc pc = .ok (.isub, 1)) (kk : W p l e R s m args below meth c H locs cells slots Q (F0 m (pc + 1) ls (.int (nI (a - b)) :: rest))) : W p l e R s m args below meth c H locs cells slots Q (F0 m pc ls (.int (nI b) :: .int (nI a) :: rest)) := lv_isub hx hb hdg (by rw [pk_sub hs]; exact kk)
theorem oi_div (hx : p.tables.exec = Jvm.exec) (hb : c.code = cc) {a b : Nat} (h0 : 0 < b) (ha : a < 2 ^ 31) (hb2 : b < 2 ^ 31) (hdg : decode cc pc = .ok (.idiv, 1)) (kk : W p l e R s m args below meth c H locs cells slots Q (F0 m (pc + 1) ls (.int (nI (a / b)) :: rest))) : W p l e R s m args below meth c H locs cells slots Q (F0 m pc ls (.int (nI b) :: .int (nI a) :: rest)) := lv_idiv hx hb hdg (nI_ne0 h0 hb2) (by rw [pk_div ha h0 hb2]; exact kk)
theorem oi_and (hx : p.tables.exec = Jvm.exec) (hb : c.code = cc) {a : Nat} (ha : a < 2 ^ 32) (hdg : decode cc pc = .ok (.iand, 1)) (kk : W p l e R s m args below meth c H locs cells slots Q (F0 m (pc + 1) ls (.int (nI (a % 64)) :: rest))) : W p l e R s m args below meth c H locs cells slots Q (F0 m pc ls (.int (nI 63) :: .int (nI a) :: rest)) := lv_iand hx hb hdg (by rw [pk_andN ha 6 (by decide)]; exact kk)
theorem oi_inc (a : Nat) : nI a + Int32.ofInt 1 = nI (a + 1) := nI_1 a
theorem oi_inc3 (a : Nat) : nI a + Int32.ofInt 3 = nI (a + 3) := nI_add a 3
theorem oi_top {x y : Int32} (hxy : x = y) (kk : W p l e R s m args below meth c H locs cells slots Q (F0 m pc ls (.int y :: rest))) : W p l e R s m args below meth c H locs cells slots Q (F0 m pc ls (.int x :: rest)) := by rw [hxy]; exact kk
theorem oi_eq (hx : p.tables.exec = Jvm.exec) (hb : c.code = cc) {a b : Nat} {off : Int} {tgt : Nat} (hdg : decode cc pc = .ok (.if_icmp .eq off, 3)) (ht : (pc : Int) + off = (tgt : Int)) (ha : a < 2 ^ 31) (hb2 : b < 2 ^ 31) (kt : a = b → W p l e R s m args below meth c H locs cells slots Q (F0 m tgt ls (rest))) (kf : a ≠ b → W p l e R s m args below meth c H locs cells slots Q (F0 m (pc + 3) ls (rest))) : W p l e R s m args below meth c H locs cells slots Q (F0 m pc ls (.int (nI b) :: .int (nI a) :: rest)) := lv_icmp_eq hx hb hdg ht (fun z => kt ((nI_eq ha hb2).mp z)) (fun z => kf (fun y => z ((nI_eq ha hb2).mpr y)))
theorem oi_ne (hx : p.tables.exec = Jvm.exec) (hb : c.code = cc) {a b : Nat} {off : Int} {tgt : Nat} (hdg : decode cc pc = .ok (.if_icmp .ne off, 3)) (ht : (pc : Int) + off = (tgt : Int)) (ha : a < 2 ^ 31) (hb2 : b < 2 ^ 31) (kt : a ≠ b → W p l e R s m args below meth c H locs cells slots Q (F0 m tgt ls (rest))) (kf : a = b → W p l e R s m args below meth c H locs cells slots Q (F0 m (pc + 3) ls (rest))) : W p l e R s m args below meth c H locs cells slots Q (F0 m pc ls (.int (nI b) :: .int (nI a) :: rest)) := lv_icmp_ne hx hb hdg ht (fun z => kt (fun y => z ((nI_eq ha hb2).mpr y))) (fun z => kf ((nI_eq ha hb2).mp z))
theorem oi_lt (hx : p.tables.exec = Jvm.exec) (hb : c.code = cc) {a b : Nat} {off : Int} {tgt : Nat} (hdg : decode cc pc = .ok (.if_icmp .lt off, 3)) (ht : (pc : Int) + off = (tgt : Int)) (ha : a < 2 ^ 31) (hb2 : b < 2 ^ 31) (kt : a < b → W p l e R s m args below meth c H locs cells slots Q (F0 m tgt ls (rest))) (kf : b ≤ a → W p l e R s m args below meth c H locs cells slots Q (F0 m (pc + 3) ls (rest))) : W p l e R s m args below meth c H locs cells slots Q (F0 m pc ls (.int (nI b) :: .int (nI a) :: rest)) := lv_icmp_lt hx hb hdg ht (fun z => kt ((nI_ltI ha hb2).mp z)) (fun z => kf (Nat.not_lt.mp fun y => z ((nI_ltI ha hb2).mpr y)))
theorem oi_ge (hx : p.tables.exec = Jvm.exec) (hb : c.code = cc) {a b : Nat} {off : Int} {tgt : Nat} (hdg : decode cc pc = .ok (.if_icmp .ge off, 3)) (ht : (pc : Int) + off = (tgt : Int)) (ha : a < 2 ^ 31) (hb2 : b < 2 ^ 31) (kt : b ≤ a → W p l e R s m args below meth c H locs cells slots Q (F0 m tgt ls (rest))) (kf : a < b → W p l e R s m args below meth c H locs cells slots Q (F0 m (pc + 3) ls (rest))) : W p l e R s m args below meth c H locs cells slots Q (F0 m pc ls (.int (nI b) :: .int (nI a) :: rest)) := lv_icmp_ge hx hb hdg ht (fun z => kt ((nI_leI hb2 ha).mp z)) (fun z => kf (Nat.not_le.mp fun y => z ((nI_leI hb2 ha).mpr y)))
theorem oi_gt (hx : p.tables.exec = Jvm.exec) (hb : c.code = cc) {a b : Nat} {off : Int} {tgt : Nat} (hdg : decode cc pc = .ok (.if_icmp .gt off, 3)) (ht : (pc : Int) + off = (tgt : Int)) (ha : a < 2 ^ 31) (hb2 : b < 2 ^ 31) (kt : b < a → W p l e R s m args below meth c H locs cells slots Q (F0 m tgt ls (rest))) (kf : a ≤ b → W p l e R s m args below meth c H locs cells slots Q (F0 m (pc + 3) ls (rest))) : W p l e R s m args below meth c H locs cells slots Q (F0 m pc ls (.int (nI b) :: .int (nI a) :: rest)) := lv_icmp_gt hx hb hdg ht (fun z => kt ((nI_ltI hb2 ha).mp z)) (fun z => kf (Nat.not_lt.mp fun y => z ((nI_ltI hb2 ha).mpr y)))
theorem oi_le (hx : p.tables.exec = Jvm.exec) (hb : c.code = cc) {a b : Nat} {off : Int} {tgt : Nat} (hdg : decode cc pc = .ok (.if_icmp .le off, 3)) (ht : (pc : Int) + off = (tgt : Int)) (ha : a < 2 ^ 31) (hb2 : b < 2 ^ 31) (kt : a ≤ b → W p l e R s m args below meth c H locs cells slots Q (F0 m tgt ls (rest))) (kf : b < a → W p l e R s m args below meth c H locs cells slots Q (F0 m (pc + 3) ls (rest))) : W p l e R s m args below meth c H locs cells slots Q (F0 m pc ls (.int (nI b) :: .int (nI a) :: rest)) := lv_icmp_le hx hb hdg ht (fun z => kt ((nI_leI ha hb2).mp z)) (fun z => kf (Nat.not_le.mp fun y => z ((nI_leI ha hb2).mpr y)))
theorem oz_eq (hx : p.tables.exec = Jvm.exec) (hb : c.code = cc) {a : Nat} {off : Int} {tgt : Nat} (hdg : decode cc pc = .ok (.ifCond .eq off, 3)) (ht : (pc : Int) + off = (tgt : Int)) (ha : a < 2 ^ 31) (kt : a = 0 → W p l e R s m args below meth c H locs cells slots Q (F0 m tgt ls (rest))) (kf : a ≠ 0 → W p l e R s m args below meth c H locs cells slots Q (F0 m (pc + 3) ls (rest))) : W p l e R s m args below meth c H locs cells slots Q (F0 m pc ls (.int (nI a) :: rest)) := lv_if_eq hx hb hdg ht (fun z => kt ((nI_eq ha (show (0 : Nat) < 2 ^ 31 by decide)).mp (z.trans nI_0.symm))) (fun z => kf (fun y => z (((nI_eq ha (show (0 : Nat) < 2 ^ 31 by decide)).mpr y).trans nI_0)))
theorem oz_ne (hx : p.tables.exec = Jvm.exec) (hb : c.code = cc) {a : Nat} {off : Int} {tgt : Nat} (hdg : decode cc pc = .ok (.ifCond .ne off, 3)) (ht : (pc : Int) + off = (tgt : Int)) (ha : a < 2 ^ 31) (kt : a ≠ 0 → W p l e R s m args below meth c H locs cells slots Q (F0 m tgt ls (rest))) (kf : a = 0 → W p l e R s m args below meth c H locs cells slots Q (F0 m (pc + 3) ls (rest))) : W p l e R s m args below meth c H locs cells slots Q (F0 m pc ls (.int (nI a) :: rest)) := lv_if_ne hx hb hdg ht (fun z => kt (fun y => z (((nI_eq ha (show (0 : Nat) < 2 ^ 31 by decide)).mpr y).trans nI_0))) (fun z => kf ((nI_eq ha (show (0 : Nat) < 2 ^ 31 by decide)).mp (z.trans nI_0.symm)))
theorem oz_le (hx : p.tables.exec = Jvm.exec) (hb : c.code = cc) {a : Nat} {off : Int} {tgt : Nat} (hdg : decode cc pc = .ok (.ifCond .le off, 3)) (ht : (pc : Int) + off = (tgt : Int)) (ha : a < 2 ^ 31) (kt : a = 0 → W p l e R s m args below meth c H locs cells slots Q (F0 m tgt ls (rest))) (kf : 0 < a → W p l e R s m args below meth c H locs cells slots Q (F0 m (pc + 3) ls (rest))) : W p l e R s m args below meth c H locs cells slots Q (F0 m pc ls (.int (nI a) :: rest)) := lv_if_le hx hb hdg ht (fun z => kt (Nat.le_zero.mp ((nI_leI ha (show (0 : Nat) < 2 ^ 31 by decide)).mp (nI_0.symm ▸ z)))) (fun z => kf (Nat.pos_of_ne_zero fun y => z (by rw [y, nI_0]; decide)))
theorem mI_neg {v : Nat} (hv : v ≤ 2 ^ 31) : mI v < 0 ↔ v = 0 := by
  cases v with
  | zero => simp [mI]
  | succ v => simp only [mI]; exact ⟨fun z => absurd z (nI_pos (by omega)), fun z => by omega⟩
theorem om_lt (hx : p.tables.exec = Jvm.exec) (hb : c.code = cc) {v : Nat} {off : Int} {tgt : Nat} (hdg : decode cc pc = .ok (.ifCond .lt off, 3)) (ht : (pc : Int) + off = (tgt : Int)) (hv : v ≤ 2 ^ 31) (kt : v = 0 → W p l e R s m args below meth c H locs cells slots Q (F0 m tgt ls (rest))) (kf : 0 < v → W p l e R s m args below meth c H locs cells slots Q (F0 m (pc + 3) ls (rest))) : W p l e R s m args below meth c H locs cells slots Q (F0 m pc ls (.int (mI v) :: rest)) := lv_if_lt hx hb hdg ht (fun z => kt ((mI_neg hv).mp z)) (fun z => kf (Nat.pos_of_ne_zero fun y => z ((mI_neg hv).mpr y)))
theorem ob_eq (hx : p.tables.exec = Jvm.exec) (hb : c.code = cc) {P : Prop} [Decidable P] {off : Int} {tgt : Nat} (hdg : decode cc pc = .ok (.ifCond .eq off, 3)) (ht : (pc : Int) + off = (tgt : Int)) (kt : ¬ P → W p l e R s m args below meth c H locs cells slots Q (F0 m tgt ls (rest))) (kf : P → W p l e R s m args below meth c H locs cells slots Q (F0 m (pc + 3) ls (rest))) : W p l e R s m args below meth c H locs cells slots Q (F0 m pc ls (.int (bI P) :: rest)) := by
  unfold bI
  exact lv_if_eq hx hb hdg ht (fun z => kt (fun y => by rw [if_pos y] at z; exact absurd z (by decide))) (fun z => kf (Classical.byContradiction fun y => z (if_neg y)))
theorem ob_ne (hx : p.tables.exec = Jvm.exec) (hb : c.code = cc) {P : Prop} [Decidable P] {off : Int} {tgt : Nat} (hdg : decode cc pc = .ok (.ifCond .ne off, 3)) (ht : (pc : Int) + off = (tgt : Int)) (kt : P → W p l e R s m args below meth c H locs cells slots Q (F0 m tgt ls (rest))) (kf : ¬ P → W p l e R s m args below meth c H locs cells slots Q (F0 m (pc + 3) ls (rest))) : W p l e R s m args below meth c H locs cells slots Q (F0 m pc ls (.int (bI P) :: rest)) := by
  unfold bI
  exact lv_if_ne hx hb hdg ht (fun z => kt (Classical.byContradiction fun y => z (if_neg y))) (fun z => kf (fun y => by rw [if_pos y] at z; exact absurd z (by decide)))
theorem Gd.free {w : va_W} (C : Cx p s m args c cc own nL D d b A) (hG : Gd D A s.heap H locs w) : ∀ q : Nat, va_A w H.size q → A q := by
  intro q hq
  rcases hq with ⟨k, e, hk⟩ | hq
  · exact hG.2.1.2 k (q, e) hk
  · exact C.2.2 q (Nat.le_trans hG.2.2.1 hq)
theorem oc_R {y : MethodName} {bytes : ByteArray} {maxL index n : Nat} {ret : Option FieldType} {rm : Room} {C1 : String} {w : va_W} {As st : List Value} {post : Int32 → Prop} (C : Cx p s m args c cc own nL D d b A) (hP : va_P D clX w H)
    (hM : cR l y bytes maxL ret rm (.ref h :: As) D d b w post) (cw : CallW R s args own C1 index y bytes maxL ret (ws_ y bytes maxL ret) rm 0 0 n)
    (hrc : ∃ cell : Cell, H[h]? = some cell ∧ cell.vm.isStatics = false ∧ s.vm.findClass C1 = some cell.cls)
    (hn : As.length = n) (hsz : ls.size = nL) (hst : st = As.reverse ++ .ref h :: rest) (hro : (rest.map fun v => v.category).sum ≤ 8) (hdg : decode cc pc = .ok (.invokevirtual index, 3)) (hf : cells ≤ R.cells ∧ slots ≤ R.slots)
    (kk : ∀ r : Int32, post r → W p l e R s m args below meth c H locs cells slots Q (F0 m (pc + 3) ls (.int r :: rest))) : W p l e R s m args below meth c H locs cells slots Q (F0 m pc ls st) :=
  vp_callSi (va_Run.run (va_runV C.1 hM cw ⟨fun a U g mk z => ⟨z.1, z.2.1, va_K.moved (u := U) (U := U.calling g mk a) (Vm.Alike.refl U.vm) z.2.2⟩, hrc, fun U hU hW => ⟨rfl, by rw [hU]; exact hP, va_K.moved hW.alike C.2.1⟩⟩ rfl hn hsz hst (lv_room hro) hdg hf)) kk
theorem oc_S {y : MethodName} {bytes : ByteArray} {maxL index n : Nat} {ret : Option FieldType} {rm : Room} {As st : List Value} {post : Int32 → Prop} (C : Cx p s m args c cc own nL D d b A)
    (hM : cS l y bytes maxL ret rm As post) (cw : CallB R s args own index y bytes maxL ret (ws_ y bytes maxL ret) rm 0 0 n ∧ (Cond.static y).before args s = true)
    (hn : As.length = n) (hsz : ls.size = nL) (hst : st = As.reverse ++ rest) (hro : (rest.map fun v => v.category).sum ≤ 8) (hdg : decode cc pc = .ok (.invokestatic index, 3)) (hf : cells ≤ R.cells ∧ slots ≤ R.slots)
    (kk : ∀ r : Int32, post r → W p l e R s m args below meth c H locs cells slots Q (F0 m (pc + 3) ls (.int r :: rest))) : W p l e R s m args below meth c H locs cells slots Q (F0 m pc ls st) :=
  vp_callSi (va_Run.run (va_runS C.1 hM cw ⟨fun a U g mk z => ⟨z.1, trivial⟩, fun U hU hW => ⟨rfl, trivial⟩⟩ rfl hn hsz hst (lv_room hro) hdg hf)) kk
theorem oc_I {y : MethodName} {bytes : ByteArray} {maxL index n : Nat} {ret : Option FieldType} {rm : Room} {C1 : String} {w w' : va_W} {As st : List Value} {r0 : Int32} (C : Cx p s m args c cc own nL D d b A) (hG : Gd D A s.heap H locs w)
    (hM : cI l y bytes maxL ret rm (.ref h :: As) D d b H.size w w' r0) (cw : CallW R s args own C1 index y bytes maxL ret (ws_ y bytes maxL ret) rm 0 0 n)
    (hrc : ∃ cell : Cell, H[h]? = some cell ∧ cell.vm.isStatics = false ∧ s.vm.findClass C1 = some cell.cls)
    (hn : As.length = n) (hsz : ls.size = nL) (hst : st = As.reverse ++ .ref h :: rest) (hro : (rest.map fun v => v.category).sum ≤ 8) (hdg : decode cc pc = .ok (.invokevirtual index, 3)) (hf : cells ≤ R.cells ∧ slots ≤ R.slots)
    (kk : ∀ (H1 : Heap) (locs1 : List Loc), Gd D A s.heap H1 locs1 w' → W p l e R s m args below meth c H1 locs1 cells slots Q (F0 m (pc + 3) ls (.int r0 :: rest))) : W p l e R s m args below meth c H locs cells slots Q (F0 m pc ls st) := by
  have hF := Gd.free C hG
  refine va_calli (va_runV C.1 hM cw ⟨fun a U g mk z => ⟨z.1, z.2.1, z.2.2.1, va_K.moved (u := U) (U := U.calling g mk a) (Vm.Alike.refl U.vm) z.2.2.2.1, z.2.2.2.2⟩, hrc, fun U hU hW => ⟨rfl, by rw [hU], by rw [hU]; exact hG.1, va_K.moved hW.alike C.2.1, hG.2.1.weaken (fun _ _ _ _ => trivial)⟩⟩ rfl hn hsz hst (lv_room hro) hdg hf) hG.2.2 (fun q _ z => hF q z) hF (fun r u t H1 locs1 ht hvm hp hB hz hk hS => ?_)
  have hp : r = r0 := hp
  subst hp
  exact kk H1 locs1 ⟨by rw [← ht]; exact hB.1, hB.2.2.weaken (fun k x hx z => hF _ z), hS⟩
theorem oc_V {y : MethodName} {bytes : ByteArray} {maxL index n : Nat} {rm : Room} {C1 : String} {w w' : va_W} {As st : List Value} (C : Cx p s m args c cc own nL D d b A) (hG : Gd D A s.heap H locs w)
    (hM : cV l y bytes maxL rm (.ref h :: As) D d b H.size w w') (cw : CallW R s args own C1 index y bytes maxL none (ws_ y bytes maxL none) rm 0 0 n)
    (hrc : ∃ cell : Cell, H[h]? = some cell ∧ cell.vm.isStatics = false ∧ s.vm.findClass C1 = some cell.cls)
    (hn : As.length = n) (hsz : ls.size = nL) (hst : st = As.reverse ++ .ref h :: rest) (hro : (rest.map fun v => v.category).sum ≤ 8) (hdg : decode cc pc = .ok (.invokevirtual index, 3)) (hf : cells ≤ R.cells ∧ slots ≤ R.slots)
    (kk : ∀ (H1 : Heap) (locs1 : List Loc), Gd D A s.heap H1 locs1 w' → W p l e R s m args below meth c H1 locs1 cells slots Q (F0 m (pc + 3) ls rest)) : W p l e R s m args below meth c H locs cells slots Q (F0 m pc ls st) := by
  have hF := Gd.free C hG
  refine va_callv (va_runV C.1 hM cw ⟨fun a U g mk z => ⟨z.1, z.2.1, z.2.2.1, va_K.moved (u := U) (U := U.calling g mk a) (Vm.Alike.refl U.vm) z.2.2.2.1, z.2.2.2.2⟩, hrc, fun U hU hW => ⟨rfl, by rw [hU], by rw [hU]; exact hG.1, va_K.moved hW.alike C.2.1, hG.2.1.weaken (fun _ _ _ _ => trivial)⟩⟩ rfl hn hsz hst (lv_room hro) hdg hf) hG.2.2 (fun q _ z => hF q z) hF (fun u t H1 locs1 ht hvm hp hB hz hk hS => ?_)
  exact kk H1 locs1 ⟨by rw [← ht]; exact hB.1, hB.2.2.weaken (fun k x hx z => hF _ z), hS⟩
theorem rcX (C : Cx p s m args c cc own nL D d b A) (hP : va_P D clX (wX d h q S) H) : ∃ cell : Cell, H[h]? = some cell ∧ cell.vm.isStatics = false ∧ s.vm.findClass RX0 = some cell.cls := va_recv C.2.1 hP (ci := 0) (q0 := 0) rfl rfl
theorem rcM (C : Cx p s m args c cc own nL D d b A) (hP : va_P D clX (wM d b h q S) H) : ∃ cell : Cell, H[h]? = some cell ∧ cell.vm.isStatics = false ∧ s.vm.findClass RX1 = some cell.cls := va_recv C.2.1 hP (ci := 1) (q0 := 0) rfl rfl
/-- ends -/
theorem oe_R {post : Int32 → Prop} {v : Int32} (hx : p.tables.exec = Jvm.exec) (hb : c.code = cc) (hr : meth.sig.returnType = some .int) (hk : meth.locks = false) (hq : post v) (hdg : decode cc pc = .ok (.ireturn, 1)) :
    W p l e R s m args below meth c s.heap [] 0 0 (MQ below (vp_Si post) args s 0 0 (fun _ => False)) (F0 m pc ls [.int v]) :=
  W.iret hx hb hr (fun t ht hW => ⟨v, rfl, hq, ht⟩) (fun z hz => by cases hz) hdg hk
theorem oe_Z {post : Int32 → Prop} {v : Int32} (hx : p.tables.exec = Jvm.exec) (hb : c.code = cc) (hr : meth.sig.returnType = some .boolean) (hk : meth.locks = false) (hn : narrow .boolean (.int v) = .int v) (hq : post v) (hdg : decode cc pc = .ok (.ireturn, 1)) :
    W p l e R s m args below meth c s.heap [] 0 0 (MQ below (vp_Si post) args s 0 0 (fun _ => False)) (F0 m pc ls [.int v]) :=
  W.zret hx hb hr hn (fun t ht hW => ⟨v, rfl, hq, ht⟩) (fun z hz => by cases hz) hdg hk
theorem oe_I {r0 v : Int32} {w : va_W} (C : Cx p s m args c cc own nL D d b A) (hG : Gd D A s.heap H locs w) (hr : meth.sig.returnType = some .int) (hk : meth.locks = false) (hv : v = r0) (hdg : decode cc pc = .ok (.ireturn, 1)) :
    W p l e R s m args below meth c H locs 0 0 (MQ below (va_Qi (fun r (_ : Unit) => r = r0) (fun _ t => Bw D d b A w t) A) args s 0 0 A) (F0 m pc ls [.int v]) :=
  W.iret C.1.1 C.1.2.1 hr (fun t ht hW => ⟨⟨v, (), rfl, hv, by rw [ht]; exact hG.1, va_K.moved hW.alike C.2.1, hG.2.1⟩, hG.2.2.F ht⟩) hG.2.2.2.2 hdg hk
theorem oe_V {w : va_W} (C : Cx p s m args c cc own nL D d b A) (hG : Gd D A s.heap H locs w) (hr : meth.sig.returnType = none) (hk : meth.locks = false) (hdg : decode cc pc = .ok (.return_, 1)) :
    W p l e R s m args below meth c H locs 0 0 (MQ below (va_Qv (fun _ : Unit => True) (fun _ t => Bw D d b A w t) A) args s 0 0 A) (F0 m pc ls []) :=
  W.vret C.1.1 C.1.2.1 hr (fun t ht hW => ⟨⟨(), rfl, trivial, by rw [ht]; exact hG.1, va_K.moved hW.alike C.2.1, hG.2.1⟩, hG.2.2.F ht⟩) hG.2.2.2.2 hdg hk
end ORows
/-! entries -/
section OEnt
variable {l : Launch} {y : MethodName} {code : ByteArray} {maxL : Nat} {ret : Option FieldType} {rm : Room} {vs : List Value} {D : va_G} {d b : ClassId} {sz : Nat} {w w' : va_W} {r0 : Int32} {post : Int32 → Prop}
theorem ent_R (hy : plainName y.cls = true) (hL : (lg_sl vs).length ≤ maxL)
    (body : ∀ (p : Program) (e : Env) (s : State) (m : MethodId) (below : List Frame) (meth : Method) (c : Code) (ls : Array Slot), Cx p s m vs.toArray c code y.cls maxL D d b (fun _ => True) → meth.sig.returnType = ret → meth.locks = false → va_P D clX w s.heap → lv_has ls maxL (lv_args 0 vs) →
      W p l e (headSpec (ws_ y code maxL ret) rm).room s m vs.toArray below meth c s.heap [] 0 0 (MQ below (vp_Si post) vs.toArray s 0 0 (fun _ => False)) (F0 m 0 ls [])) : cR l y code maxL ret rm vs D d b w post := by
  refine Met.ofW (cc := code) (maxL := maxL) (ret := ret) hy rfl ?_
  intro p e s m args below meth c s₁ B hml hv
  obtain ⟨rfl, hP, hK⟩ := hv
  have hts := atoms_spec (ws := ws_ y code maxL ret) B.pre
  have hts : ∀ w ∈ lw_all, w.before _ s = true := fun w h => hts w (List.mem_cons_of_mem _ h)
  have hown : s.vm.findClass y.cls = some m.cls := findClass_of_methodNamed B.named
  have hl := lv_entry vs (n := maxL) hL
  rw [lg_entry_eq]
  exact body p e s m below meth c _ ⟨⟨B.exec, B.bytes, hml, hown, hts⟩, hK, fun _ _ => trivial⟩ B.returns B.notSynchronized hP hl
theorem ent_S (hy : plainName y.cls = true) (hL : (lg_sl vs).length ≤ maxL)
    (body : ∀ (p : Program) (e : Env) (s : State) (m : MethodId) (below : List Frame) (meth : Method) (c : Code) (ls : Array Slot), p.tables.exec = Jvm.exec → c.code = code → meth.sig.returnType = ret → meth.locks = false → lv_has ls maxL (lv_args 0 vs) →
      W p l e (headSpec (ws_ y code maxL ret) rm).room s m vs.toArray below meth c s.heap [] 0 0 (MQ below (vp_Si post) vs.toArray s 0 0 (fun _ => False)) (F0 m 0 ls [])) : cS l y code maxL ret rm vs post := by
  refine Met.ofW (cc := code) (maxL := maxL) (ret := ret) hy rfl ?_
  intro p e s m args below meth c s₁ B hml hv
  obtain ⟨rfl, -⟩ := hv
  have hl := lv_entry vs (n := maxL) hL
  rw [lg_entry_eq]
  exact body p e s m below meth c _ B.exec B.bytes B.returns B.notSynchronized hl
theorem ent_I (hy : plainName y.cls = true) (hL : (lg_sl vs).length ≤ maxL)
    (body : ∀ (p : Program) (e : Env) (s : State) (m : MethodId) (below : List Frame) (meth : Method) (c : Code) (ls : Array Slot), Cx p s m vs.toArray c code y.cls maxL D d b (va_A w sz) → meth.sig.returnType = ret → meth.locks = false → Gd D (va_A w sz) s.heap s.heap [] w → lv_has ls maxL (lv_args 0 vs) →
      W p l e (headSpec (ws_ y code maxL ret) rm).room s m vs.toArray below meth c s.heap [] 0 0 (MQ below (va_Qi (fun r (_ : Unit) => r = r0) (fun _ t => Bw D d b (va_A w sz) w' t) (va_A w sz)) vs.toArray s 0 0 (va_A w sz)) (F0 m 0 ls [])) : cI l y code maxL ret rm vs D d b sz w w' r0 := by
  refine Met.ofW (cc := code) (maxL := maxL) (ret := ret) hy rfl ?_
  intro p e s m args below meth c s₁ B hml hv
  obtain ⟨rfl, hsz, hP, hK, hD0⟩ := hv
  have hts := atoms_spec (ws := ws_ y code maxL ret) B.pre
  have hts : ∀ w ∈ lw_all, w.before _ s = true := fun w h => hts w (List.mem_cons_of_mem _ h)
  have hown : s.vm.findClass y.cls = some m.cls := findClass_of_methodNamed B.named
  have hl := lv_entry vs (n := maxL) hL
  rw [lg_entry_eq]
  exact body p e s m below meth c _ ⟨⟨B.exec, B.bytes, hml, hown, hts⟩, hK, fun q hq => Or.inr (hsz ▸ hq)⟩ B.returns B.notSynchronized ⟨hP, hD0.self (sz := sz), va_S.rf⟩ hl
theorem ent_V (hy : plainName y.cls = true) (hL : (lg_sl vs).length ≤ maxL)
    (body : ∀ (p : Program) (e : Env) (s : State) (m : MethodId) (below : List Frame) (meth : Method) (c : Code) (ls : Array Slot), Cx p s m vs.toArray c code y.cls maxL D d b (va_A w sz) → meth.sig.returnType = none → meth.locks = false → Gd D (va_A w sz) s.heap s.heap [] w → lv_has ls maxL (lv_args 0 vs) →
      W p l e (headSpec (ws_ y code maxL none) rm).room s m vs.toArray below meth c s.heap [] 0 0 (MQ below (va_Qv (fun _ : Unit => True) (fun _ t => Bw D d b (va_A w sz) w' t) (va_A w sz)) vs.toArray s 0 0 (va_A w sz)) (F0 m 0 ls [])) : cV l y code maxL rm vs D d b sz w w' := by
  refine Met.ofW (cc := code) (maxL := maxL) (ret := none) hy rfl ?_
  intro p e s m args below meth c s₁ B hml hv
  obtain ⟨rfl, hsz, hP, hK, hD0⟩ := hv
  have hts := atoms_spec (ws := ws_ y code maxL none) B.pre
  have hts : ∀ w ∈ lw_all, w.before _ s = true := fun w h => hts w (List.mem_cons_of_mem _ h)
  have hown : s.vm.findClass y.cls = some m.cls := findClass_of_methodNamed B.named
  have hl := lv_entry vs (n := maxL) hL
  rw [lg_entry_eq]
  exact body p e s m below meth c _ ⟨⟨B.exec, B.bytes, hml, hown, hts⟩, hK, fun q hq => Or.inr (hsz ▸ hq)⟩ B.returns B.notSynchronized ⟨hP, hD0.self (sz := sz), va_S.rf⟩ hl
end OEnt
/-! an int of the script as a member: 0, 1, 2, or 3 for none -/
def xm (x : Int32) : Nat := if x = nI 0 then 0 else if x = nI 1 then 1 else if x = nI 2 then 2 else 3
theorem xm_le (x : Int32) : xm x ≤ 3 := by
  unfold xm
  split
  · omega
  · split
    · omega
    · split <;> omega
theorem xm_ok {x : Int32} (h : xm x < 3) : x = nI (xm x) := by
  unfold xm at h ⊢
  split
  · assumption
  · split
    · assumption
    · split
      · assumption
      · rename_i h1 h2 h3
        rw [if_neg h1, if_neg h2, if_neg h3] at h
        omega
theorem xm_nI : ∀ a, a < 3 → xm (nI a) = a := by decide
theorem xm_in {x : Int32} (h0 : ¬ x < 0) (h2 : ¬ nI 2 < x) : xm x < 3 := by
  obtain ⟨j, hj, rfl⟩ := nI_of h0
  have h3 : ¬ 2 < j := fun z => h2 ((nI_ltI (by decide) hj).mpr z)
  rw [xm_nI j (by omega)]
  omega
theorem xm_neg {x : Int32} (h0 : x < 0) : xm x = 3 := by
  rcases Nat.lt_or_ge (xm x) 3 with z | z
  · rw [xm_ok z] at h0
    exact absurd h0 (nI_pos (by omega))
  · have := xm_le x
    omega
theorem xm_big {x : Int32} (h0 : nI 2 < x) : xm x = 3 := by
  rcases Nat.lt_or_ge (xm x) 3 with z | z
  · rw [xm_ok z] at h0
    have := (nI_ltI (a := 2) (b := xm x) (by decide) (by omega)).mp h0
    omega
  · have := xm_le x
    omega
end
section
/-! what the methods compute: pure functions of the state (field, index) -/
abbrev earS (wr st : Nat → Nat) (m n : Nat) : Prop := st m < st n ∨ (st m = st n ∧ wr m < wr n)
/-- from s member a has heard enough for message m -/
abbrev rd1 (wr st hf : Nat → Nat) (a m s : Nat) : Prop := s = a ∨ s = wr m ∨ st m < hf s ∨ (hf s = st m ∧ wr m ≤ s)
abbrev rdy (wr st hf : Nat → Nat) (a m : Nat) : Prop := rd1 wr st hf a m 0 ∧ rd1 wr st hf a m 1 ∧ rd1 wr st hf a m 2
/-! OrderedRoom: 0 messages, 1 writer, 2 stamp, 3 thingClock, 4 thingMessage (one up), 5 first, 6 count, 7 clockOf, 8 heard, 9 heapSize, 10 heap, 11 readCount, 12 readOnes -/
def soX1 (S : Nat → Nat → Nat) (a v o : Nat) : Nat → Nat → Nat := if o = a then S else
  sU (sU (sU S 3 (64 * (3 * a + o) + (S 5 (3 * a + o) + S 6 (3 * a + o)) % 64) (S 7 a)) 4 (64 * (3 * a + o) + (S 5 (3 * a + o) + S 6 (3 * a + o)) % 64) v) 6 (3 * a + o) (S 6 (3 * a + o) + 1)
def soX (S : Nat → Nat → Nat) (a v : Nat) : Nat → Nat → Nat := soX1 (soX1 (soX1 S a v 0) a v 1) a v 2
def pushL (a m : Nat) : Nat → (Nat → Nat → Nat) → Nat → (Nat → Nat → Nat)
  | 0, S, _ => S
  | f + 1, S, k => if 0 < k ∧ earS (S 1) (S 2) m (S 10 (40 * a + (k - 1) / 2)) then
      pushL a m f (sU (sU S 10 (40 * a + k) (S 10 (40 * a + (k - 1) / 2))) 10 (40 * a + (k - 1) / 2) m) ((k - 1) / 2) else S
def pushF (S : Nat → Nat → Nat) (a m : Nat) : Nat → Nat → Nat := pushL a m 6 (sU (sU S 10 (40 * a + S 9 a) m) 9 a (S 9 a + 1)) (S 9 a)
def chX (S : Nat → Nat → Nat) (a size k : Nat) : Nat :=
  if 2 * k + 1 + 1 < size ∧ earS (S 1) (S 2) (S 10 (40 * a + (2 * k + 1) + 1)) (S 10 (40 * a + (2 * k + 1))) then 2 * k + 1 + 1 else 2 * k + 1
def popL (a size last : Nat) : Nat → (Nat → Nat → Nat) → Nat → (Nat → Nat → Nat)
  | 0, S, k => sU S 10 (40 * a + k) last
  | f + 1, S, k => if chX S a size k < size ∧ earS (S 1) (S 2) (S 10 (40 * a + chX S a size k)) last then
      popL a size last f (sU S 10 (40 * a + k) (S 10 (40 * a + chX S a size k))) (chX S a size k) else sU S 10 (40 * a + k) last
def popF (S : Nat → Nat → Nat) (a : Nat) : Nat → Nat → Nat := popL a (S 9 a - 1) (S 10 (40 * a + (S 9 a - 1))) 7 (sU S 9 a (S 9 a - 1)) 0
def rdX (S : Nat → Nat → Nat) (a : Nat) : Nat → Nat → Nat := sU (sU (popF S a) 12 (40 * a + popF S a 11 a) (S 10 (40 * a))) 11 a (popF S a 11 a + 1)
abbrev sfX (S : Nat → Nat → Nat) (a m : Nat) : Prop := rdy (S 1) (S 2) (fun s => S 8 (3 * a + s)) a m
def roL (a : Nat) : Nat → (Nat → Nat → Nat) → Nat → (Nat → Nat → Nat) × Nat
  | 0, S, n => (S, n)
  | f + 1, S, n => if 0 < S 9 a ∧ sfX S a (S 10 (40 * a)) then roL a f (rdX S a) (n + 1) else (S, n)
def wr4 (S : Nat → Nat → Nat) (a : Nat) : Nat → Nat → Nat := sU (sU (sU (sU S 7 a (S 7 a + 1)) 1 (S 0 0) a) 2 (S 0 0) (S 7 a + 1)) 0 0 (S 0 0 + 1)
def writeX (S : Nat → Nat → Nat) (a : Nat) : Nat → Nat → Nat := (roL a 40 (pushF (soX (wr4 S a) a (S 0 0 + 1)) a (S 0 0)) 0).1
def tickX (S : Nat → Nat → Nat) (a : Nat) : Nat → Nat → Nat := soX (sU S 7 a (S 7 a + 1)) a 0
abbrev mx (x y : Nat) : Nat := if x < y then y else x
def tk4 (S : Nat → Nat → Nat) (f t : Nat) : Nat → Nat → Nat :=
  sU (sU (sU (sU S 5 (3 * f + t) ((S 5 (3 * f + t) + 1) % 64)) 6 (3 * f + t) (S 6 (3 * f + t) - 1)) 8 (3 * t + f) (S 3 (64 * (3 * f + t) + S 5 (3 * f + t)))) 7 t (mx (S 7 t) (S 3 (64 * (3 * f + t) + S 5 (3 * f + t))) + 1)
def tk5 (S : Nat → Nat → Nat) (f t : Nat) : Nat → Nat → Nat :=
  if 0 < S 4 (64 * (3 * f + t) + S 5 (3 * f + t)) then pushF (tk4 S f t) t (S 4 (64 * (3 * f + t) + S 5 (3 * f + t)) - 1) else tk4 S f t
def takeX (S : Nat → Nat → Nat) (f t : Nat) : (Nat → Nat → Nat) × Nat := roL t 40 (tk5 S f t) 0
/-! OrderedRoomModel: 0 clocks, 1 written, 2 writers, 3 stamps, 4 has, 5 done, 6 counts, 7 order, 8 heard, 9 lengths, 10 wayClocks, 11 wayMessages (one up) -/
def soM1 (Z : Nat → Nat → Nat) (a v o : Nat) : Nat → Nat → Nat := if o = a then Z else
  sU (sU (sU Z 10 (60 * (3 * a + o) + Z 9 (3 * a + o)) (Z 0 a)) 11 (60 * (3 * a + o) + Z 9 (3 * a + o)) v) 9 (3 * a + o) (Z 9 (3 * a + o) + 1)
def soM (Z : Nat → Nat → Nat) (a v : Nat) : Nat → Nat → Nat := soM1 (soM1 (soM1 Z a v 0) a v 1) a v 2
def wrM (Z : Nat → Nat → Nat) (a : Nat) : Nat → Nat → Nat := sU (sU (sU (sU Z 0 a (Z 0 a + 1)) 2 (Z 1 0) a) 3 (Z 1 0) (Z 0 a + 1)) 4 (40 * a + Z 1 0) 1
def writeM (Z : Nat → Nat → Nat) (a : Nat) : Nat → Nat → Nat := sU (soM (wrM Z a) a (Z 1 0 + 1)) 1 0 (Z 1 0 + 1)
abbrev fl1 (Z : Nat → Nat → Nat) (a o : Nat) : Prop := o ≠ a ∧ 20 ≤ Z 9 (3 * a + o)
abbrev fullM (Z : Nat → Nat → Nat) (a : Nat) : Prop := fl1 Z a 0 ∨ fl1 Z a 1 ∨ fl1 Z a 2
def tickM (Z : Nat → Nat → Nat) (a : Nat) : Nat → Nat → Nat := soM (sU Z 0 a (Z 0 a + 1)) a 0
abbrev opn (hs dn : Nat → Nat) (a i : Nat) : Prop := hs (40 * a + i) ≠ 0 ∧ dn (40 * a + i) = 0
def eaF (hs dn wr st : Nat → Nat) (a : Nat) : Nat → Nat
  | 0 => 0
  | i + 1 => if opn hs dn a i ∧ (eaF hs dn wr st a i = 0 ∨ earS wr st i (eaF hs dn wr st a i - 1)) then i + 1 else eaF hs dn wr st a i
def eaZ (Z : Nat → Nat → Nat) (a : Nat) : Nat := eaF (Z 4) (Z 5) (Z 2) (Z 3) a (Z 1 0)
abbrev sfM (Z : Nat → Nat → Nat) (a m : Nat) : Prop := rdy (Z 2) (Z 3) (fun s => Z 8 (3 * s + a)) a m
def rdM (Z : Nat → Nat → Nat) (a m : Nat) : Nat → Nat → Nat := sU (sU (sU Z 5 (40 * a + m) 1) 7 (40 * a + Z 6 a) m) 6 a (Z 6 a + 1)
def raL (a : Nat) : Nat → (Nat → Nat → Nat) → Nat → (Nat → Nat → Nat) × Nat
  | 0, Z, n => (Z, n)
  | f + 1, Z, n => if 0 < eaZ Z a ∧ sfM Z a (eaZ Z a - 1) then raL a f (rdM Z a (eaZ Z a - 1)) (n + 1) else (Z, n)
def shL (y : Nat) (Z : Nat → Nat → Nat) : Nat → (Nat → Nat → Nat)
  | 0 => Z
  | i + 1 => sU (sU (shL y Z i) 10 (60 * y + i) (shL y Z i 10 (60 * y + i + 1))) 11 (60 * y + i) (shL y Z i 11 (60 * y + i + 1))
def tm4 (Z : Nat → Nat → Nat) (f t : Nat) : Nat → Nat → Nat :=
  sU (sU (shL (3 * f + t) (sU Z 9 (3 * f + t) (Z 9 (3 * f + t) - 1)) (Z 9 (3 * f + t) - 1)) 0 t (mx (Z 0 t) (Z 10 (60 * (3 * f + t))) + 1)) 8 (3 * f + t) (Z 10 (60 * (3 * f + t)))
def tm5 (Z : Nat → Nat → Nat) (f t : Nat) : Nat → Nat → Nat :=
  if 0 < Z 11 (60 * (3 * f + t)) then sU (tm4 Z f t) 4 (40 * t + (Z 11 (60 * (3 * f + t)) - 1)) 1 else tm4 Z f t
def takeM (Z : Nat → Nat → Nat) (f t : Nat) : (Nat → Nat → Nat) × Nat := raL t 40 (tm5 Z f t) 0
def hF (hs dn : Nat → Nat) (a : Nat) : Nat → Nat
  | 0 => 0
  | i + 1 => if opn hs dn a i then hF hs dn a i + 1 else hF hs dn a i
/-! answers -/
def aWait (x y : Int32) (cn : Nat → Nat) : Int32 := if xm x < 3 ∧ xm y < 3 ∧ xm x ≠ xm y then nI (cn (3 * xm x + xm y)) else mI 0
def aOne (x : Int32) (g : Nat → Nat) : Int32 := if xm x < 3 then nI (g (xm x)) else mI 0
def aRead (x y : Int32) (rc ro : Nat → Nat) : Int32 := if xm x < 3 ∧ ¬ y < 0 ∧ y.toNatClampNeg < rc (xm x) then nI (ro (40 * xm x + y.toNatClampNeg)) else mI 0
def aAgree (x y : Int32) (rc ro : Nat → Nat) (r : Int32) : Prop :=
  (xm x < 3 ∧ xm y < 3 → ((∀ k, k < rc (xm x) → k < rc (xm y) → ro (40 * xm x + k) = ro (40 * xm y + k)) ∧ r = 1) ∨ (¬ (∀ k, k < rc (xm x) → k < rc (xm y) → ro (40 * xm x + k) = ro (40 * xm y + k)) ∧ r = 0)) ∧ (¬ (xm x < 3 ∧ xm y < 3) → r = mI 0)
/-! small rows -/
theorem va_same {α : Type} (f : Nat → α) (i : Nat) (v : α) : va_up f i v i = v := by simp [va_up]
theorem va_other {α : Type} {f : Nat → α} {i j : Nat} {v : α} (h : j ≠ i) : va_up f i v j = f j := by simp [va_up, h]
theorem sU_same (S : Nat → Nat → Nat) (k i v : Nat) : sU S k i v k = va_up (S k) i v := by simp [sU]
theorem sU_ne {S : Nat → Nat → Nat} {k k' i v : Nat} (h : k' ≠ k) : sU S k i v k' = S k' := by simp [sU, h]
theorem sU_bd {S : Nat → Nat → Nat} {B k i v : Nat} (hB : ∀ k j, S k j < B) (hv : v < B) : ∀ k' j, sU S k i v k' j < B := by
  intro k' j
  by_cases h : k' = k
  · subst h
    rw [sU_same]
    by_cases hj : j = i
    · subst hj; rw [va_same]; exact hv
    · rw [va_other hj]; exact hB _ _
  · rw [sU_ne h]; exact hB _ _
end
section
set_option maxRecDepth 100000
/-! OrderedRoom: contracts of the methods that call nothing but isMember, and setOut, tick -/
theorem cX_isMember (l : Launch) (x : Int32) : cS l yX0_isMember cX0_isMember 1 (some .boolean) (rmk 0 0) [.int x] (fun r => r = bI (xm x < 3)) := by
  refine ent_S (by decide) (Nat.le_of_ble_eq_true rfl) ?_
  intro p e s m below meth c ls hx hb hr hk hl
  have hl : lv_has ls 1 [(0, .int x)] := hl
  refine lv_iload_n hx hb dX0_isMember_0 rfl (lv_at hl 0 rfl) ?_
  refine lv_if_lt (tgt := 13) hx hb dX0_isMember_1 (by decide) (fun c1 => ?_) (fun c1 => ?_)
  · refine lv_iconst (v := (nI (0))) hx hb dX0_isMember_13 (by decide) ?_
    exact oe_Z hx hb hr hk rfl ((by rw [bI, if_neg (by rw [xm_neg c1]; omega)]; rfl)) dX0_isMember_14
  · refine lv_iload_n hx hb dX0_isMember_4 rfl (lv_at hl 0 rfl) ?_
    refine lv_iconst (v := (nI (2))) hx hb dX0_isMember_5 (by decide) ?_
    refine lv_icmp_gt (tgt := 13) hx hb dX0_isMember_6 (by decide) (fun c2 => ?_) (fun c2 => ?_)
    · refine lv_iconst (v := (nI (0))) hx hb dX0_isMember_13 (by decide) ?_
      exact oe_Z hx hb hr hk rfl ((by rw [bI, if_neg (by rw [xm_big c2]; omega)]; rfl)) dX0_isMember_14
    · refine lv_iconst (v := (nI (1))) hx hb dX0_isMember_9 (by decide) ?_
      refine lv_goto (tgt := 14) hx hb dX0_isMember_10 (by decide) ?_
      exact oe_Z hx hb hr hk rfl ((by rw [bI, if_pos (xm_in c1 c2)]; rfl)) dX0_isMember_14
theorem cwX_isMember {R : Room} {s : State} {args : Array Value} (ht : ∀ w ∈ lw_all, w.before args s = true) (hR : 0 + 1 ≤ R.frames ∧ 8 + (1 + 11) + 0 ≤ R.locals) : CallB R s args RX0 46 yX0_isMember cX0_isMember 1 (some .boolean) (ws_ yX0_isMember cX0_isMember 1 (some .boolean)) (rmk 0 0) 0 0 1 ∧ (Cond.static yX0_isMember).before args s = true := va_cwS 1 ht (lw_S q68 q69 q13 q70) rfl rfl rfl (by decide +kernel) hR
theorem cwX_isEarlier {R : Room} {s : State} {args : Array Value} (ht : ∀ w ∈ lw_all, w.before args s = true) (hR : 0 + 1 ≤ R.frames ∧ 8 + (3 + 11) + 0 ≤ R.locals) : CallW R s args RX0 RX0 73 yX0_isEarlier cX0_isEarlier 3 (some .boolean) (ws_ yX0_isEarlier cX0_isEarlier 3 (some .boolean)) (rmk 0 0) 0 0 2 := cwV 2 ht (lw_V q79 q81 qs2 q13 q82) rfl rfl rfl (by decide +kernel) hR
theorem cwX_isSafe {R : Room} {s : State} {args : Array Value} (ht : ∀ w ∈ lw_all, w.before args s = true) (hR : 0 + 1 ≤ R.frames ∧ 8 + (6 + 11) + 0 ≤ R.locals) : CallW R s args RX0 RX0 65 yX0_isSafe cX0_isSafe 6 (some .boolean) (ws_ yX0_isSafe cX0_isSafe 6 (some .boolean)) (rmk 0 0) 0 0 2 := cwV 2 ht (lw_V q87 q89 qs4 q13 q90) rfl rfl rfl (by decide +kernel) hR
theorem cwX_setOut {R : Room} {s : State} {args : Array Value} (ht : ∀ w ∈ lw_all, w.before args s = true) (hR : 0 + 1 ≤ R.frames ∧ 8 + (6 + 11) + 0 ≤ R.locals) : CallW R s args RX0 RX0 54 yX0_setOut cX0_setOut 6 none (ws_ yX0_setOut cX0_setOut 6 none) (rmk 0 0) 0 0 2 := cwV 2 ht (lw_V q71 q73 qs0 q13 q74) rfl rfl rfl (by decide +kernel) hR
set_option maxHeartbeats 4000000 in
/-- isEarlier(m1, n1) -/
theorem cX_isEarlier (l : Launch) (D : va_G) (d b : ClassId) (h : Nat) (q : Nat → Nat) (S : Nat → Nat → Nat) (hB : ∀ k j, S k j < 2 ^ 30) {m1 n1 : Nat} (h1 : m1 < 40) (h2 : n1 < 40) : cR l yX0_isEarlier cX0_isEarlier 3 (some .boolean) (rmk 0 0) [.ref (h), .int (nI (m1)), .int (nI (n1))] D d b (wX d h q S) (fun r => r = bI (earS (S 1) (S 2) m1 n1)) := by
  refine ent_R (by decide) (Nat.le_of_ble_eq_true rfl) ?_
  intro p e s m below meth c ls C hr hk hP hl
  have C : Cx p s m _ c cX0_isEarlier RX0 3 D d b (fun _ => True) := C
  have hx := C.1.1
  have hb := C.1.2.1
  have hl : lv_has ls 3 [(0, .ref (h)), (1, .int (nI (m1))), (2, .int (nI (n1)))] := hl
  have b2m1 := hB 2 m1
  have b2n1 := hB 2 n1
  have b1m1 := hB 1 m1
  have b1n1 := hB 1 n1
  refine lv_aload_n hx hb dX0_isEarlier_0 rfl (lv_at hl 0 rfl) ?_
  refine xg_2 C hP dX0_isEarlier_1 ?_
  refine lv_iload_n hx hb dX0_isEarlier_4 rfl (lv_at hl 1 rfl) ?_
  refine xl_2 (v := S 2 (m1)) C hP (by omega) rfl dX0_isEarlier_5 ?_
  refine lv_aload_n hx hb dX0_isEarlier_6 rfl (lv_at hl 0 rfl) ?_
  refine xg_2 C hP dX0_isEarlier_7 ?_
  refine lv_iload_n hx hb dX0_isEarlier_10 rfl (lv_at hl 2 rfl) ?_
  refine xl_2 (v := S 2 (n1)) C hP (by omega) rfl dX0_isEarlier_11 ?_
  refine oi_eq (tgt := 36) hx hb dX0_isEarlier_12 (by decide) (by omega) (by omega) (fun c1 => ?_) (fun c1 => ?_)
  · refine lv_aload_n hx hb dX0_isEarlier_36 rfl (lv_at hl 0 rfl) ?_
    refine xg_1 C hP dX0_isEarlier_37 ?_
    refine lv_iload_n hx hb dX0_isEarlier_40 rfl (lv_at hl 1 rfl) ?_
    refine xl_1 (v := S 1 (m1)) C hP (by omega) rfl dX0_isEarlier_41 ?_
    refine lv_aload_n hx hb dX0_isEarlier_42 rfl (lv_at hl 0 rfl) ?_
    refine xg_1 C hP dX0_isEarlier_43 ?_
    refine lv_iload_n hx hb dX0_isEarlier_46 rfl (lv_at hl 2 rfl) ?_
    refine xl_1 (v := S 1 (n1)) C hP (by omega) rfl dX0_isEarlier_47 ?_
    refine oi_ge (tgt := 55) hx hb dX0_isEarlier_48 (by decide) (by omega) (by omega) (fun c2 => ?_) (fun c2 => ?_)
    · refine lv_iconst (v := (nI (0))) hx hb dX0_isEarlier_55 (by decide) ?_
      exact oe_Z hx hb hr hk rfl ((by rw [bI, if_neg (by omega)]; rfl)) dX0_isEarlier_56
    · refine lv_iconst (v := (nI (1))) hx hb dX0_isEarlier_51 (by decide) ?_
      refine lv_goto (tgt := 56) hx hb dX0_isEarlier_52 (by decide) ?_
      exact oe_Z hx hb hr hk rfl ((by rw [bI, if_pos (by omega)]; rfl)) dX0_isEarlier_56
  · refine lv_aload_n hx hb dX0_isEarlier_15 rfl (lv_at hl 0 rfl) ?_
    refine xg_2 C hP dX0_isEarlier_16 ?_
    refine lv_iload_n hx hb dX0_isEarlier_19 rfl (lv_at hl 1 rfl) ?_
    refine xl_2 (v := S 2 (m1)) C hP (by omega) rfl dX0_isEarlier_20 ?_
    refine lv_aload_n hx hb dX0_isEarlier_21 rfl (lv_at hl 0 rfl) ?_
    refine xg_2 C hP dX0_isEarlier_22 ?_
    refine lv_iload_n hx hb dX0_isEarlier_25 rfl (lv_at hl 2 rfl) ?_
    refine xl_2 (v := S 2 (n1)) C hP (by omega) rfl dX0_isEarlier_26 ?_
    refine oi_ge (tgt := 34) hx hb dX0_isEarlier_27 (by decide) (by omega) (by omega) (fun c2 => ?_) (fun c2 => ?_)
    · refine lv_iconst (v := (nI (0))) hx hb dX0_isEarlier_34 (by decide) ?_
      exact oe_Z hx hb hr hk rfl ((by rw [bI, if_neg (by omega)]; rfl)) dX0_isEarlier_35
    · refine lv_iconst (v := (nI (1))) hx hb dX0_isEarlier_30 (by decide) ?_
      refine lv_goto (tgt := 35) hx hb dX0_isEarlier_31 (by decide) ?_
      exact oe_Z hx hb hr hk rfl ((by rw [bI, if_pos (by omega)]; rfl)) dX0_isEarlier_35
set_option maxHeartbeats 4000000 in
/-- clock(x) -/
theorem cX_clock (l : Launch) (D : va_G) (d b : ClassId) (h : Nat) (q : Nat → Nat) (S : Nat → Nat → Nat) (x : Int32) : cR l yX0_clock cX0_clock 2 (some .int) (rmk 1 20) [.ref (h), .int (x)] D d b (wX d h q S) (fun r => r = aOne x (S 7)) := by
  refine ent_R (by decide) (Nat.le_of_ble_eq_true rfl) ?_
  intro p e s m below meth c ls C hr hk hP hl
  have C : Cx p s m _ c cX0_clock RX0 2 D d b (fun _ => True) := C
  have hx := C.1.1
  have hb := C.1.2.1
  have hl : lv_has ls 2 [(0, .ref (h)), (1, .int (x))] := hl
  refine lv_iload_n hx hb dX0_clock_0 rfl (lv_at hl 1 rfl) ?_
  refine oc_S (As := [.int (x)]) (rest := []) C (cX_isMember l x) (cwX_isMember C.1.2.2.2.2 ⟨Nat.le_of_ble_eq_true rfl, Nat.le_of_ble_eq_true rfl⟩) rfl hl.1 rfl (Nat.le_of_ble_eq_true rfl) dX0_clock_1 ⟨Nat.zero_le _, Nat.zero_le _⟩ (fun r1 hr1 => ?_)
  subst hr1
  refine ob_eq (tgt := 16) hx hb dX0_clock_4 (by decide) (fun c1 => ?_) (fun c1 => ?_)
  · refine lv_iconst (v := (mI (0))) hx hb dX0_clock_16 (by decide) ?_
    exact oe_R hx hb hr hk (by rw [aOne, if_neg c1]) dX0_clock_17
  · obtain ⟨a, ea⟩ : ∃ z, z = xm x := ⟨_, rfl⟩
    have kx := xm_ok c1
    rw [← ea] at c1 kx
    subst kx
    refine lv_aload_n hx hb dX0_clock_7 rfl (lv_at hl 0 rfl) ?_
    refine xg_7 C hP dX0_clock_8 ?_
    refine lv_iload_n hx hb dX0_clock_11 rfl (lv_at hl 1 rfl) ?_
    refine xl_7 (v := S 7 (a)) C hP (by omega) rfl dX0_clock_12 ?_
    refine lv_goto (tgt := 17) hx hb dX0_clock_13 (by decide) ?_
    exact oe_R hx hb hr hk (by rw [aOne, ← ea, if_pos c1]) dX0_clock_17
set_option maxHeartbeats 4000000 in
/-- count(x) -/
theorem cX_count (l : Launch) (D : va_G) (d b : ClassId) (h : Nat) (q : Nat → Nat) (S : Nat → Nat → Nat) (x : Int32) : cR l yX0_count cX0_count 2 (some .int) (rmk 1 20) [.ref (h), .int (x)] D d b (wX d h q S) (fun r => r = aOne x (S 11)) := by
  refine ent_R (by decide) (Nat.le_of_ble_eq_true rfl) ?_
  intro p e s m below meth c ls C hr hk hP hl
  have C : Cx p s m _ c cX0_count RX0 2 D d b (fun _ => True) := C
  have hx := C.1.1
  have hb := C.1.2.1
  have hl : lv_has ls 2 [(0, .ref (h)), (1, .int (x))] := hl
  refine lv_iload_n hx hb dX0_count_0 rfl (lv_at hl 1 rfl) ?_
  refine oc_S (As := [.int (x)]) (rest := []) C (cX_isMember l x) (cwX_isMember C.1.2.2.2.2 ⟨Nat.le_of_ble_eq_true rfl, Nat.le_of_ble_eq_true rfl⟩) rfl hl.1 rfl (Nat.le_of_ble_eq_true rfl) dX0_count_1 ⟨Nat.zero_le _, Nat.zero_le _⟩ (fun r1 hr1 => ?_)
  subst hr1
  refine ob_eq (tgt := 16) hx hb dX0_count_4 (by decide) (fun c1 => ?_) (fun c1 => ?_)
  · refine lv_iconst (v := (mI (0))) hx hb dX0_count_16 (by decide) ?_
    exact oe_R hx hb hr hk (by rw [aOne, if_neg c1]) dX0_count_17
  · obtain ⟨a, ea⟩ : ∃ z, z = xm x := ⟨_, rfl⟩
    have kx := xm_ok c1
    rw [← ea] at c1 kx
    subst kx
    refine lv_aload_n hx hb dX0_count_7 rfl (lv_at hl 0 rfl) ?_
    refine xg_11 C hP dX0_count_8 ?_
    refine lv_iload_n hx hb dX0_count_11 rfl (lv_at hl 1 rfl) ?_
    refine xl_11 (v := S 11 (a)) C hP (by omega) rfl dX0_count_12 ?_
    refine lv_goto (tgt := 17) hx hb dX0_count_13 (by decide) ?_
    exact oe_R hx hb hr hk (by rw [aOne, ← ea, if_pos c1]) dX0_count_17
set_option maxHeartbeats 4000000 in
/-- held(x) -/
theorem cX_held (l : Launch) (D : va_G) (d b : ClassId) (h : Nat) (q : Nat → Nat) (S : Nat → Nat → Nat) (x : Int32) : cR l yX0_held cX0_held 2 (some .int) (rmk 1 20) [.ref (h), .int (x)] D d b (wX d h q S) (fun r => r = aOne x (S 9)) := by
  refine ent_R (by decide) (Nat.le_of_ble_eq_true rfl) ?_
  intro p e s m below meth c ls C hr hk hP hl
  have C : Cx p s m _ c cX0_held RX0 2 D d b (fun _ => True) := C
  have hx := C.1.1
  have hb := C.1.2.1
  have hl : lv_has ls 2 [(0, .ref (h)), (1, .int (x))] := hl
  refine lv_iload_n hx hb dX0_held_0 rfl (lv_at hl 1 rfl) ?_
  refine oc_S (As := [.int (x)]) (rest := []) C (cX_isMember l x) (cwX_isMember C.1.2.2.2.2 ⟨Nat.le_of_ble_eq_true rfl, Nat.le_of_ble_eq_true rfl⟩) rfl hl.1 rfl (Nat.le_of_ble_eq_true rfl) dX0_held_1 ⟨Nat.zero_le _, Nat.zero_le _⟩ (fun r1 hr1 => ?_)
  subst hr1
  refine ob_eq (tgt := 16) hx hb dX0_held_4 (by decide) (fun c1 => ?_) (fun c1 => ?_)
  · refine lv_iconst (v := (mI (0))) hx hb dX0_held_16 (by decide) ?_
    exact oe_R hx hb hr hk (by rw [aOne, if_neg c1]) dX0_held_17
  · obtain ⟨a, ea⟩ : ∃ z, z = xm x := ⟨_, rfl⟩
    have kx := xm_ok c1
    rw [← ea] at c1 kx
    subst kx
    refine lv_aload_n hx hb dX0_held_7 rfl (lv_at hl 0 rfl) ?_
    refine xg_9 C hP dX0_held_8 ?_
    refine lv_iload_n hx hb dX0_held_11 rfl (lv_at hl 1 rfl) ?_
    refine xl_9 (v := S 9 (a)) C hP (by omega) rfl dX0_held_12 ?_
    refine lv_goto (tgt := 17) hx hb dX0_held_13 (by decide) ?_
    exact oe_R hx hb hr hk (by rw [aOne, ← ea, if_pos c1]) dX0_held_17
set_option maxHeartbeats 4000000 in
/-- waiting(x, y) -/
theorem cX_waiting (l : Launch) (D : va_G) (d b : ClassId) (h : Nat) (q : Nat → Nat) (S : Nat → Nat → Nat) (x y : Int32) : cR l yX0_waiting cX0_waiting 3 (some .int) (rmk 1 20) [.ref (h), .int (x), .int (y)] D d b (wX d h q S) (fun r => r = aWait x y (S 6)) := by
  refine ent_R (by decide) (Nat.le_of_ble_eq_true rfl) ?_
  intro p e s m below meth c ls C hr hk hP hl
  have C : Cx p s m _ c cX0_waiting RX0 3 D d b (fun _ => True) := C
  have hx := C.1.1
  have hb := C.1.2.1
  have hl : lv_has ls 3 [(0, .ref (h)), (1, .int (x)), (2, .int (y))] := hl
  refine lv_iload_n hx hb dX0_waiting_0 rfl (lv_at hl 1 rfl) ?_
  refine oc_S (As := [.int (x)]) (rest := []) C (cX_isMember l x) (cwX_isMember C.1.2.2.2.2 ⟨Nat.le_of_ble_eq_true rfl, Nat.le_of_ble_eq_true rfl⟩) rfl hl.1 rfl (Nat.le_of_ble_eq_true rfl) dX0_waiting_1 ⟨Nat.zero_le _, Nat.zero_le _⟩ (fun r1 hr1 => ?_)
  subst hr1
  refine ob_eq (tgt := 19) hx hb dX0_waiting_4 (by decide) (fun c1 => ?_) (fun c1 => ?_)
  · refine lv_iconst (v := (mI (0))) hx hb dX0_waiting_19 (by decide) ?_
    exact oe_R hx hb hr hk (by rw [aWait, if_neg (by omega)]) dX0_waiting_20
  · obtain ⟨a1, ea1⟩ : ∃ z, z = xm x := ⟨_, rfl⟩
    have kx := xm_ok c1
    rw [← ea1] at c1 kx
    subst kx
    refine lv_iload_n hx hb dX0_waiting_7 rfl (lv_at hl 2 rfl) ?_
    refine oc_S (As := [.int (y)]) (rest := []) C (cX_isMember l y) (cwX_isMember C.1.2.2.2.2 ⟨Nat.le_of_ble_eq_true rfl, Nat.le_of_ble_eq_true rfl⟩) rfl hl.1 rfl (Nat.le_of_ble_eq_true rfl) dX0_waiting_8 ⟨Nat.zero_le _, Nat.zero_le _⟩ (fun r1 hr1 => ?_)
    subst hr1
    refine ob_eq (tgt := 19) hx hb dX0_waiting_11 (by decide) (fun c2 => ?_) (fun c2 => ?_)
    · refine lv_iconst (v := (mI (0))) hx hb dX0_waiting_19 (by decide) ?_
      exact oe_R hx hb hr hk (by rw [aWait, if_neg (by omega)]) dX0_waiting_20
    · obtain ⟨a2, ea2⟩ : ∃ z, z = xm y := ⟨_, rfl⟩
      have ky := xm_ok c2
      rw [← ea2] at c2 ky
      subst ky
      refine lv_iload_n hx hb dX0_waiting_14 rfl (lv_at hl 1 rfl) ?_
      refine lv_iload_n hx hb dX0_waiting_15 rfl (lv_at hl 2 rfl) ?_
      refine oi_ne (tgt := 21) hx hb dX0_waiting_16 (by decide) (by omega) (by omega) (fun c3 => ?_) (fun c3 => ?_)
      · refine lv_aload_n hx hb dX0_waiting_21 rfl (lv_at hl 0 rfl) ?_
        refine xg_6 C hP dX0_waiting_22 ?_
        refine lv_iconst (v := (nI (3))) hx hb dX0_waiting_25 (by decide) ?_
        refine lv_iload_n hx hb dX0_waiting_26 rfl (lv_at hl 1 rfl) ?_
        refine oi_mul hx hb dX0_waiting_27 ?_
        refine lv_iload_n hx hb dX0_waiting_28 rfl (lv_at hl 2 rfl) ?_
        refine oi_add hx hb dX0_waiting_29 ?_
        refine xl_6 (v := S 6 ((3 * a1) + a2)) C hP (by omega) rfl dX0_waiting_30 ?_
        exact oe_R hx hb hr hk (by rw [aWait, ← ea1, ← ea2, if_pos (by omega)]) dX0_waiting_31
      · refine lv_iconst (v := (mI (0))) hx hb dX0_waiting_19 (by decide) ?_
        exact oe_R hx hb hr hk (by rw [aWait, if_neg (by omega)]) dX0_waiting_20
set_option maxHeartbeats 4000000 in
/-- read(x, y) -/
theorem cX_read (l : Launch) (D : va_G) (d b : ClassId) (h : Nat) (q : Nat → Nat) (S : Nat → Nat → Nat) (hB : ∀ j, S 11 j ≤ 40) (x y : Int32) : cR l yX0_read cX0_read 3 (some .int) (rmk 1 20) [.ref (h), .int (x), .int (y)] D d b (wX d h q S) (fun r => r = aRead x y (S 11) (S 12)) := by
  refine ent_R (by decide) (Nat.le_of_ble_eq_true rfl) ?_
  intro p e s m below meth c ls C hr hk hP hl
  have C : Cx p s m _ c cX0_read RX0 3 D d b (fun _ => True) := C
  have hx := C.1.1
  have hb := C.1.2.1
  have hl : lv_has ls 3 [(0, .ref (h)), (1, .int (x)), (2, .int (y))] := hl
  refine lv_iload_n hx hb dX0_read_0 rfl (lv_at hl 1 rfl) ?_
  refine oc_S (As := [.int (x)]) (rest := []) C (cX_isMember l x) (cwX_isMember C.1.2.2.2.2 ⟨Nat.le_of_ble_eq_true rfl, Nat.le_of_ble_eq_true rfl⟩) rfl hl.1 rfl (Nat.le_of_ble_eq_true rfl) dX0_read_1 ⟨Nat.zero_le _, Nat.zero_le _⟩ (fun r1 hr1 => ?_)
  subst hr1
  refine ob_eq (tgt := 21) hx hb dX0_read_4 (by decide) (fun c1 => ?_) (fun c1 => ?_)
  · refine lv_iconst (v := (mI (0))) hx hb dX0_read_21 (by decide) ?_
    exact oe_R hx hb hr hk (by rw [aRead, if_neg (fun z => c1 z.1)]) dX0_read_22
  · obtain ⟨a, ea⟩ : ∃ z, z = xm x := ⟨_, rfl⟩
    have kx := xm_ok c1
    rw [← ea] at c1 kx
    subst kx
    refine lv_iload_n hx hb dX0_read_7 rfl (lv_at hl 2 rfl) ?_
    refine lv_if_lt (tgt := 21) hx hb dX0_read_8 (by decide) (fun c2 => ?_) (fun c2 => ?_)
    · refine lv_iconst (v := (mI (0))) hx hb dX0_read_21 (by decide) ?_
      exact oe_R hx hb hr hk (by rw [aRead, if_neg (fun z => z.2.1 c2)]) dX0_read_22
    · obtain ⟨j, hj, rfl⟩ := nI_of c2
      have ej : (nI j).toNatClampNeg = j := nI_clamp hj
      have b11 := hB a
      refine lv_iload_n hx hb dX0_read_11 rfl (lv_at hl 2 rfl) ?_
      refine lv_aload_n hx hb dX0_read_12 rfl (lv_at hl 0 rfl) ?_
      refine xg_11 C hP dX0_read_13 ?_
      refine lv_iload_n hx hb dX0_read_16 rfl (lv_at hl 1 rfl) ?_
      refine xl_11 (v := S 11 (a)) C hP (by omega) rfl dX0_read_17 ?_
      refine oi_lt (tgt := 23) hx hb dX0_read_18 (by decide) (by omega) (by omega) (fun c3 => ?_) (fun c3 => ?_)
      · refine lv_aload_n hx hb dX0_read_23 rfl (lv_at hl 0 rfl) ?_
        refine xg_12 C hP dX0_read_24 ?_
        refine lv_bipush (v := (nI (40))) hx hb dX0_read_27 (by decide) ?_
        refine lv_iload_n hx hb dX0_read_29 rfl (lv_at hl 1 rfl) ?_
        refine oi_mul hx hb dX0_read_30 ?_
        refine lv_iload_n hx hb dX0_read_31 rfl (lv_at hl 2 rfl) ?_
        refine oi_add hx hb dX0_read_32 ?_
        refine xl_12 (v := S 12 ((40 * a) + j)) C hP (by omega) rfl dX0_read_33 ?_
        exact oe_R hx hb hr hk (by rw [aRead, ← ea, ej, if_pos ⟨c1, c2, c3⟩]) dX0_read_34
      · refine lv_iconst (v := (mI (0))) hx hb dX0_read_21 (by decide) ?_
        exact oe_R hx hb hr hk (by rw [aRead, ← ea, ej, if_neg (fun z => by omega)]) dX0_read_22
end
section
/-! fields that stay, bounds that stay -/
theorem va_bd {g : Nat → Nat} {B i v : Nat} (hB : ∀ j, g j < B) (hv : v < B) : ∀ j, va_up g i v j < B := by
  intro j
  by_cases hj : j = i
  · subst hj; rw [va_same]; exact hv
  · rw [va_other hj]; exact hB _
theorem soX1_f {S : Nat → Nat → Nat} {a v o k : Nat} (h3 : k ≠ 3) (h4 : k ≠ 4) (h6 : k ≠ 6) : soX1 S a v o k = S k := by
  unfold soX1
  split
  · rfl
  · rw [sU_ne h6, sU_ne h4, sU_ne h3]
theorem soX_f {S : Nat → Nat → Nat} {a v k : Nat} (h3 : k ≠ 3) (h4 : k ≠ 4) (h6 : k ≠ 6) : soX S a v k = S k := by
  unfold soX
  rw [soX1_f h3 h4 h6, soX1_f h3 h4 h6, soX1_f h3 h4 h6]
theorem soX1_bd {S : Nat → Nat → Nat} {B a v o : Nat} (hB : ∀ k j, S k j < B) (h6 : ∀ j, S 6 j + 1 < B) (hv : v < B) : ∀ k j, soX1 S a v o k j < B := by
  unfold soX1
  split
  · exact hB
  · exact sU_bd (sU_bd (sU_bd hB (hB _ _)) hv) (h6 _)
theorem soX1_6 {S : Nat → Nat → Nat} {a v o : Nat} {B : Nat} (h6 : ∀ j, S 6 j < B) : ∀ j, soX1 S a v o 6 j < B + 1 := by
  unfold soX1
  split
  · exact fun j => Nat.lt_succ_of_lt (h6 j)
  · intro j
    rw [sU_same, sU_ne (by decide), sU_ne (by decide)]
    exact va_bd (fun j => Nat.lt_succ_of_lt (h6 j)) (by have := h6 (3 * a + o); omega) j
theorem soX_bd {S : Nat → Nat → Nat} {B a v : Nat} (hB : ∀ k j, S k j < B) (hv : v < B + 3) : ∀ k j, soX S a v k j < B + 3 := by
  have e1 := soX1_6 (a := a) (v := v) (o := 0) (hB 6)
  have e2 := soX1_6 (a := a) (v := v) (o := 1) e1
  have w0 : ∀ k j, S k j < B + 3 := fun k j => Nat.lt_of_lt_of_le (hB k j) (by omega)
  have w1 := soX1_bd (a := a) (v := v) (o := 0) w0 (fun j => by have := hB 6 j; omega) hv
  have w2 := soX1_bd (a := a) (v := v) (o := 1) w1 (fun j => by have := e1 j; omega) hv
  exact soX1_bd (a := a) (v := v) (o := 2) w2 (fun j => by have := e2 j; omega) hv
theorem pushL_f {a m k : Nat} (h : k ≠ 10) : ∀ (f : Nat) (S : Nat → Nat → Nat) (n : Nat), pushL a m f S n k = S k := by
  intro f
  induction f with
  | zero => intro S n; rfl
  | succ f ih =>
    intro S n
    rw [pushL]
    split
    · rw [ih, sU_ne h, sU_ne h]
    · rfl
theorem pushL_10 {a m B : Nat} (hm : m < B) : ∀ (f : Nat) (S : Nat → Nat → Nat) (n : Nat), (∀ j, S 10 j < B) → ∀ j, pushL a m f S n 10 j < B := by
  intro f
  induction f with
  | zero => intro S n h; exact h
  | succ f ih =>
    intro S n h
    rw [pushL]
    split
    · exact ih _ _ (va_bd (va_bd h (h _)) hm)
    · exact h
theorem pushF_f {S : Nat → Nat → Nat} {a m k : Nat} (h9 : k ≠ 9) (h10 : k ≠ 10) : pushF S a m k = S k := by
  unfold pushF
  rw [pushL_f h10, sU_ne h9, sU_ne h10]
theorem pushF_9 {S : Nat → Nat → Nat} {a m : Nat} : pushF S a m 9 = va_up (S 9) a (S 9 a + 1) := by
  unfold pushF
  rw [pushL_f (by decide), sU_same, sU_ne (by decide)]
theorem pushF_10 {S : Nat → Nat → Nat} {a m B : Nat} (h : ∀ j, S 10 j < B) (hm : m < B) : ∀ j, pushF S a m 10 j < B := pushL_10 hm _ _ _ (va_bd h hm)
theorem bd_of {T : Nat → Nat → Nat} {B : Nat} (h : ∀ k, k ≠ 9 → k ≠ 10 → ∀ j, T k j < B) (h9 : ∀ j, T 9 j < B) (h10 : ∀ j, T 10 j < B) : ∀ k j, T k j < B := by
  intro k j
  by_cases e9 : k = 9
  · subst e9; exact h9 j
  · by_cases e10 : k = 10
    · subst e10; exact h10 j
    · exact h k e9 e10 j
theorem pushF_bd {S : Nat → Nat → Nat} {a m B : Nat} (hB : ∀ k j, S k j < B) (hm : m < B) (h9 : S 9 a + 1 < B) : ∀ k j, pushF S a m k j < B :=
  bd_of (fun k e9 e10 j => by rw [pushF_f e9 e10]; exact hB k j) (fun j => by rw [pushF_9]; exact va_bd (hB 9) h9 j) (pushF_10 (hB 10) hm)
theorem popL_f {a z y k : Nat} (h : k ≠ 10) : ∀ (f : Nat) (S : Nat → Nat → Nat) (n : Nat), popL a z y f S n k = S k := by
  intro f
  induction f with
  | zero => intro S n; rw [popL, sU_ne h]
  | succ f ih =>
    intro S n
    rw [popL]
    split
    · rw [ih, sU_ne h]
    · rw [sU_ne h]
theorem popL_10 {a z y B : Nat} (hy : y < B) : ∀ (f : Nat) (S : Nat → Nat → Nat) (n : Nat), (∀ j, S 10 j < B) → ∀ j, popL a z y f S n 10 j < B := by
  intro f
  induction f with
  | zero => intro S n h; exact va_bd h hy
  | succ f ih =>
    intro S n h
    rw [popL]
    split
    · exact ih _ _ (va_bd h (h _))
    · exact va_bd h hy
theorem popF_f {S : Nat → Nat → Nat} {a k : Nat} (h9 : k ≠ 9) (h10 : k ≠ 10) : popF S a k = S k := by
  unfold popF
  rw [popL_f h10, sU_ne h9]
theorem popF_9 {S : Nat → Nat → Nat} {a : Nat} : popF S a 9 = va_up (S 9) a (S 9 a - 1) := by
  unfold popF
  rw [popL_f (by decide), sU_same]
theorem popF_10 {S : Nat → Nat → Nat} {a B : Nat} (h : ∀ j, S 10 j < B) : ∀ j, popF S a 10 j < B := popL_10 (h _) _ _ _ h
theorem popF_bd {S : Nat → Nat → Nat} {a B : Nat} (hB : ∀ k j, S k j < B) : ∀ k j, popF S a k j < B :=
  bd_of (fun k e9 e10 j => by rw [popF_f e9 e10]; exact hB k j) (fun j => by rw [popF_9]; exact va_bd (hB 9) (by have := hB 9 a; omega) j) (popF_10 (hB 10))
theorem rdX_f {S : Nat → Nat → Nat} {a k : Nat} (h9 : k ≠ 9) (h10 : k ≠ 10) (h11 : k ≠ 11) (h12 : k ≠ 12) : rdX S a k = S k := by
  unfold rdX
  rw [sU_ne h11, sU_ne h12, popF_f h9 h10]
theorem rdX_9 {S : Nat → Nat → Nat} {a : Nat} : rdX S a 9 = va_up (S 9) a (S 9 a - 1) := by
  unfold rdX
  rw [sU_ne (by decide), sU_ne (by decide), popF_9]
theorem rdX_10 {S : Nat → Nat → Nat} {a : Nat} : rdX S a 10 = popF S a 10 := by
  unfold rdX
  rw [sU_ne (by decide), sU_ne (by decide)]
theorem rdX_11 {S : Nat → Nat → Nat} {a : Nat} : rdX S a 11 = va_up (S 11) a (S 11 a + 1) := by
  unfold rdX
  rw [sU_same, sU_ne (by decide), popF_f (by decide) (by decide)]
theorem rdX_12 {S : Nat → Nat → Nat} {a : Nat} : rdX S a 12 = va_up (S 12) (40 * a + S 11 a) (S 10 (40 * a)) := by
  unfold rdX
  rw [sU_ne (by decide), sU_same, popF_f (by decide) (by decide), popF_f (by decide) (by decide)]
theorem rdX_bd {S : Nat → Nat → Nat} {a B : Nat} (hB : ∀ k j, S k j < B) (h11 : S 11 a + 1 < B) : ∀ k j, rdX S a k j < B := by
  unfold rdX
  exact sU_bd (sU_bd (popF_bd hB) (hB _ _)) (by rw [popF_f (by decide) (by decide)]; exact h11)
theorem roL_f {a k : Nat} (h9 : k ≠ 9) (h10 : k ≠ 10) (h11 : k ≠ 11) (h12 : k ≠ 12) : ∀ (f : Nat) (S : Nat → Nat → Nat) (n : Nat), (roL a f S n).1 k = S k := by
  intro f
  induction f with
  | zero => intro S n; rfl
  | succ f ih =>
    intro S n
    rw [roL]
    split
    · rw [ih, rdX_f h9 h10 h11 h12]
    · rfl
theorem soM1_f {Z : Nat → Nat → Nat} {a v o k : Nat} (h3 : k ≠ 10) (h4 : k ≠ 11) (h6 : k ≠ 9) : soM1 Z a v o k = Z k := by
  unfold soM1
  split
  · rfl
  · rw [sU_ne h6, sU_ne h4, sU_ne h3]
theorem soM_f {Z : Nat → Nat → Nat} {a v k : Nat} (h3 : k ≠ 10) (h4 : k ≠ 11) (h6 : k ≠ 9) : soM Z a v k = Z k := by
  unfold soM
  rw [soM1_f h3 h4 h6, soM1_f h3 h4 h6, soM1_f h3 h4 h6]
theorem soM1_bd {S : Nat → Nat → Nat} {B a v o : Nat} (hB : ∀ k j, S k j < B) (h6 : ∀ j, S 9 j + 1 < B) (hv : v < B) : ∀ k j, soM1 S a v o k j < B := by
  unfold soM1
  split
  · exact hB
  · exact sU_bd (sU_bd (sU_bd hB (hB _ _)) hv) (h6 _)
theorem soM1_9 {S : Nat → Nat → Nat} {a v o j : Nat} (h : j ≠ 3 * a + o) : soM1 S a v o 9 j = S 9 j := by
  unfold soM1
  split
  · rfl
  · rw [sU_same, sU_ne (by decide), sU_ne (by decide), va_other h]
theorem soM1_9s {S : Nat → Nat → Nat} {a v o : Nat} (h : o ≠ a) : soM1 S a v o 9 (3 * a + o) = S 9 (3 * a + o) + 1 := by
  unfold soM1
  rw [if_neg h, sU_same, sU_ne (by decide), sU_ne (by decide), va_same]
theorem shL_f {y k : Nat} {Z : Nat → Nat → Nat} (h3 : k ≠ 10) (h4 : k ≠ 11) : ∀ i, shL y Z i k = Z k := by
  intro i
  induction i with
  | zero => rfl
  | succ i ih => rw [shL, sU_ne h4, sU_ne h3, ih]
theorem shL_bd {y B : Nat} {Z : Nat → Nat → Nat} (hB : ∀ k j, Z k j < B) : ∀ i k j, shL y Z i k j < B := by
  intro i
  induction i with
  | zero => exact hB
  | succ i ih => exact sU_bd (sU_bd ih (ih _ _)) (ih _ _)
theorem rdM_f {Z : Nat → Nat → Nat} {a m k : Nat} (h5 : k ≠ 5) (h6 : k ≠ 6) (h7 : k ≠ 7) : rdM Z a m k = Z k := by
  unfold rdM
  rw [sU_ne h6, sU_ne h7, sU_ne h5]
theorem raL_f {a k : Nat} (h5 : k ≠ 5) (h6 : k ≠ 6) (h7 : k ≠ 7) : ∀ (f : Nat) (Z : Nat → Nat → Nat) (n : Nat), (raL a f Z n).1 k = Z k := by
  intro f
  induction f with
  | zero => intro Z n; rfl
  | succ f ih =>
    intro Z n
    rw [raL]
    split
    · rw [ih, rdM_f h5 h6 h7]
    · rfl
end
section
set_option maxRecDepth 100000
/-! OrderedRoom: isSafe, agree, setOut, tick -/
section X2
variable {p : Program} {l : Launch} {e : Env} {R : Room} {s : State} {m : MethodId} {args : Array Value} {below : List Frame} {meth : Method} {c : Code} {H : Heap} {locs : List Loc} {Q : State → Prop}
variable {ls : Array Slot} {D : va_G} {A : Nat → Prop} {d b : ClassId} {h : Nat} {q : Nat → Nat} {S : Nat → Nat → Nat}
set_option maxHeartbeats 4000000 in
theorem sX_isSafe (C : Cx p s m args c cX0_isSafe RX0 6 D d b A) (hP : va_P D clX (wX d h q S) H) (hB : ∀ k j, S k j < 2 ^ 30) {a m1 o : Nat} (ha : a < 3) (h1 : m1 < 40) (ho : o < 3) (hl : lv_has ls 6 [(0, .ref (h)), (1, .int (nI (a))), (2, .int (nI (m1))), (3, .int (nI (o)))]) (kf : ¬ rd1 (S 1) (S 2) (fun s => S 8 (3 * a + s)) a m1 o → ∀ ls : Array Slot, W p l e R s m args below meth c H locs 0 0 Q (F0 m 79 ls [.int (nI 0)])) (kk : rd1 (S 1) (S 2) (fun s => S 8 (3 * a + s)) a m1 o → ∀ ls : Array Slot, lv_has ls 6 [(0, .ref (h)), (1, .int (nI (a))), (2, .int (nI (m1))), (3, .int (nI (o + 1)))] → W p l e R s m args below meth c H locs 0 0 Q (F0 m 2 ls [])) : W p l e R s m args below meth c H locs 0 0 Q (F0 m 2 ls []) := by
  have hx := C.1.1
  have hb := C.1.2.1
  have b2m1 := hB 2 m1
  have b1m1 := hB 1 m1
  have b8 := hB 8 (3 * a + o)
  refine lv_iload_n hx hb dX0_isSafe_2 rfl (lv_at hl 3 rfl) ?_
  refine lv_iconst (v := (nI (3))) hx hb dX0_isSafe_3 (by decide) ?_
  refine oi_ge (tgt := 86) hx hb dX0_isSafe_4 (by decide) (by omega) (by omega) (fun c1 => False.elim (by omega)) (fun c1 => ?_)
  refine lv_iload_n hx hb dX0_isSafe_7 rfl (lv_at hl 3 rfl) ?_
  refine lv_iload_n hx hb dX0_isSafe_8 rfl (lv_at hl 1 rfl) ?_
  refine oi_eq (tgt := 80) hx hb dX0_isSafe_9 (by decide) (by omega) (by omega) (fun c2 => ?_) (fun c2 => ?_)
  · refine lv_iinc (v := nI (o + 1)) (lv' := [(3, .int (nI (o + 1))), (0, .ref (h)), (1, .int (nI (a))), (2, .int (nI (m1)))]) hx hb dX0_isSafe_80 hl (k := 3) rfl (oi_inc _) (by decide) rfl (fun ls hl => ?_)
    refine lv_goto (tgt := 2) hx hb dX0_isSafe_83 (by decide) ?_
    exact kk (Or.inl c2) ls (lv_sub hl [1, 2, 3, 0] rfl)
  · refine lv_iload_n hx hb dX0_isSafe_12 rfl (lv_at hl 3 rfl) ?_
    refine lv_aload_n hx hb dX0_isSafe_13 rfl (lv_at hl 0 rfl) ?_
    refine xg_1 C hP dX0_isSafe_14 ?_
    refine lv_iload_n hx hb dX0_isSafe_17 rfl (lv_at hl 2 rfl) ?_
    refine xl_1 (v := S 1 (m1)) C hP (by omega) rfl dX0_isSafe_18 ?_
    refine oi_eq (tgt := 80) hx hb dX0_isSafe_19 (by decide) (by omega) (by omega) (fun c3 => ?_) (fun c3 => ?_)
    · refine lv_iinc (v := nI (o + 1)) (lv' := [(3, .int (nI (o + 1))), (0, .ref (h)), (1, .int (nI (a))), (2, .int (nI (m1)))]) hx hb dX0_isSafe_80 hl (k := 3) rfl (oi_inc _) (by decide) rfl (fun ls hl => ?_)
      refine lv_goto (tgt := 2) hx hb dX0_isSafe_83 (by decide) ?_
      exact kk (Or.inr (Or.inl c3)) ls (lv_sub hl [1, 2, 3, 0] rfl)
    · refine lv_aload_n hx hb dX0_isSafe_22 rfl (lv_at hl 0 rfl) ?_
      refine xg_8 C hP dX0_isSafe_23 ?_
      refine lv_iconst (v := (nI (3))) hx hb dX0_isSafe_26 (by decide) ?_
      refine lv_iload_n hx hb dX0_isSafe_27 rfl (lv_at hl 1 rfl) ?_
      refine oi_mul hx hb dX0_isSafe_28 ?_
      refine lv_iload_n hx hb dX0_isSafe_29 rfl (lv_at hl 3 rfl) ?_
      refine oi_add hx hb dX0_isSafe_30 ?_
      refine xl_8 (v := S 8 ((3 * a) + o)) C hP (by omega) rfl dX0_isSafe_31 ?_
      refine lv_istore (lv' := [(4, .int (nI (S 8 ((3 * a) + o)))), (0, .ref (h)), (1, .int (nI (a))), (2, .int (nI (m1))), (3, .int (nI (o)))]) hx hb dX0_isSafe_32 hl (by decide) rfl (fun ls hl => ?_)
      refine lv_iload hx hb dX0_isSafe_34 (lv_at hl 0 rfl) ?_
      refine lv_aload_n hx hb dX0_isSafe_36 rfl (lv_at hl 1 rfl) ?_
      refine xg_2 C hP dX0_isSafe_37 ?_
      refine lv_iload_n hx hb dX0_isSafe_40 rfl (lv_at hl 3 rfl) ?_
      refine xl_2 (v := S 2 (m1)) C hP (by omega) rfl dX0_isSafe_41 ?_
      refine oi_gt (tgt := 66) hx hb dX0_isSafe_42 (by decide) (by omega) (by omega) (fun c4 => ?_) (fun c4 => ?_)
      · refine lv_iconst (v := (nI (1))) hx hb dX0_isSafe_66 (by decide) ?_
        refine lv_goto (tgt := 71) hx hb dX0_isSafe_67 (by decide) ?_
        refine lv_istore (lv' := [(5, .int (nI (1))), (4, .int (nI (S 8 ((3 * a) + o)))), (0, .ref (h)), (1, .int (nI (a))), (2, .int (nI (m1))), (3, .int (nI (o)))]) hx hb dX0_isSafe_71 hl (by decide) rfl (fun ls hl => ?_)
        refine lv_iload hx hb dX0_isSafe_73 (lv_at hl 0 rfl) ?_
        refine oz_ne (tgt := 80) hx hb dX0_isSafe_75 (by decide) (by omega) (fun c9 => ?_) (fun c9 => False.elim (by omega))
        refine lv_iinc (v := nI (o + 1)) (lv' := [(3, .int (nI (o + 1))), (5, .int (nI (1))), (4, .int (nI (S 8 ((3 * a) + o)))), (0, .ref (h)), (1, .int (nI (a))), (2, .int (nI (m1)))]) hx hb dX0_isSafe_80 hl (k := 5) rfl (oi_inc _) (by decide) rfl (fun ls hl => ?_)
        refine lv_goto (tgt := 2) hx hb dX0_isSafe_83 (by decide) ?_
        exact kk (Or.inr (Or.inr (Or.inl c4))) ls (lv_sub hl [3, 4, 5, 0] rfl)
      · refine lv_iload hx hb dX0_isSafe_45 (lv_at hl 0 rfl) ?_
        refine lv_aload_n hx hb dX0_isSafe_47 rfl (lv_at hl 1 rfl) ?_
        refine xg_2 C hP dX0_isSafe_48 ?_
        refine lv_iload_n hx hb dX0_isSafe_51 rfl (lv_at hl 3 rfl) ?_
        refine xl_2 (v := S 2 (m1)) C hP (by omega) rfl dX0_isSafe_52 ?_
        refine oi_ne (tgt := 70) hx hb dX0_isSafe_53 (by decide) (by omega) (by omega) (fun c5 => ?_) (fun c5 => ?_)
        · refine lv_iconst (v := (nI (0))) hx hb dX0_isSafe_70 (by decide) ?_
          refine lv_istore (lv' := [(5, .int (nI (0))), (4, .int (nI (S 8 ((3 * a) + o)))), (0, .ref (h)), (1, .int (nI (a))), (2, .int (nI (m1))), (3, .int (nI (o)))]) hx hb dX0_isSafe_71 hl (by decide) rfl (fun ls hl => ?_)
          refine lv_iload hx hb dX0_isSafe_73 (lv_at hl 0 rfl) ?_
          refine oz_ne (tgt := 80) hx hb dX0_isSafe_75 (by decide) (by omega) (fun c9 => False.elim (by omega)) (fun c9 => ?_)
          refine lv_iconst (v := (nI (0))) hx hb dX0_isSafe_78 (by decide) ?_
          exact kf (fun z => by rcases z with z | z | z | ⟨z, z2⟩ <;> (try dsimp only at z) <;> omega) ls
        · refine lv_iload_n hx hb dX0_isSafe_56 rfl (lv_at hl 4 rfl) ?_
          refine lv_aload_n hx hb dX0_isSafe_57 rfl (lv_at hl 1 rfl) ?_
          refine xg_1 C hP dX0_isSafe_58 ?_
          refine lv_iload_n hx hb dX0_isSafe_61 rfl (lv_at hl 3 rfl) ?_
          refine xl_1 (v := S 1 (m1)) C hP (by omega) rfl dX0_isSafe_62 ?_
          refine oi_lt (tgt := 70) hx hb dX0_isSafe_63 (by decide) (by omega) (by omega) (fun c6 => ?_) (fun c6 => ?_)
          · refine lv_iconst (v := (nI (0))) hx hb dX0_isSafe_70 (by decide) ?_
            refine lv_istore (lv' := [(5, .int (nI (0))), (4, .int (nI (S 8 ((3 * a) + o)))), (0, .ref (h)), (1, .int (nI (a))), (2, .int (nI (m1))), (3, .int (nI (o)))]) hx hb dX0_isSafe_71 hl (by decide) rfl (fun ls hl => ?_)
            refine lv_iload hx hb dX0_isSafe_73 (lv_at hl 0 rfl) ?_
            refine oz_ne (tgt := 80) hx hb dX0_isSafe_75 (by decide) (by omega) (fun c9 => False.elim (by omega)) (fun c9 => ?_)
            refine lv_iconst (v := (nI (0))) hx hb dX0_isSafe_78 (by decide) ?_
            exact kf (fun z => by rcases z with z | z | z | ⟨z, z2⟩ <;> (try dsimp only at z) <;> omega) ls
          · refine lv_iconst (v := (nI (1))) hx hb dX0_isSafe_66 (by decide) ?_
            refine lv_goto (tgt := 71) hx hb dX0_isSafe_67 (by decide) ?_
            refine lv_istore (lv' := [(5, .int (nI (1))), (4, .int (nI (S 8 ((3 * a) + o)))), (0, .ref (h)), (1, .int (nI (a))), (2, .int (nI (m1))), (3, .int (nI (o)))]) hx hb dX0_isSafe_71 hl (by decide) rfl (fun ls hl => ?_)
            refine lv_iload hx hb dX0_isSafe_73 (lv_at hl 0 rfl) ?_
            refine oz_ne (tgt := 80) hx hb dX0_isSafe_75 (by decide) (by omega) (fun c9 => ?_) (fun c9 => False.elim (by omega))
            refine lv_iinc (v := nI (o + 1)) (lv' := [(3, .int (nI (o + 1))), (5, .int (nI (1))), (4, .int (nI (S 8 ((3 * a) + o)))), (0, .ref (h)), (1, .int (nI (a))), (2, .int (nI (m1)))]) hx hb dX0_isSafe_80 hl (k := 5) rfl (oi_inc _) (by decide) rfl (fun ls hl => ?_)
            refine lv_goto (tgt := 2) hx hb dX0_isSafe_83 (by decide) ?_
            exact kk (Or.inr (Or.inr (Or.inr ⟨c5, c6⟩))) ls (lv_sub hl [3, 4, 5, 0] rfl)
end X2
set_option maxHeartbeats 4000000 in
/-- isSafe(a, m1) -/
theorem cX_isSafe (l : Launch) (D : va_G) (d b : ClassId) (h : Nat) (q : Nat → Nat) (S : Nat → Nat → Nat) (hB : ∀ k j, S k j < 2 ^ 30) {a m1 : Nat} (ha : a < 3) (h1 : m1 < 40) : cR l yX0_isSafe cX0_isSafe 6 (some .boolean) (rmk 0 0) [.ref (h), .int (nI (a)), .int (nI (m1))] D d b (wX d h q S) (fun r => r = bI (sfX S a m1)) := by
  refine ent_R (by decide) (Nat.le_of_ble_eq_true rfl) ?_
  intro p e s m below meth c ls C hr hk hP hl
  have C : Cx p s m _ c cX0_isSafe RX0 6 D d b (fun _ => True) := C
  have hx := C.1.1
  have hb := C.1.2.1
  have hl : lv_has ls 6 [(0, .ref (h)), (1, .int (nI (a))), (2, .int (nI (m1)))] := hl
  refine lv_iconst (v := (nI (0))) hx hb dX0_isSafe_0 (by decide) ?_
  refine lv_istore_n (lv' := [(3, .int (nI (0))), (0, .ref (h)), (1, .int (nI (a))), (2, .int (nI (m1)))]) hx hb dX0_isSafe_1 rfl hl (by decide) rfl (fun ls hl => ?_)
  refine sX_isSafe C hP hB (o := 0) ha h1 (by decide) (lv_sub hl [1, 2, 3, 0] rfl) (fun c0 ls => oe_Z hx hb hr hk rfl (by rw [bI, if_neg (fun z => c0 z.1)]; rfl) dX0_isSafe_79) (fun c0 ls hl => ?_)
  refine sX_isSafe C hP hB (o := 1) ha h1 (by decide) hl (fun c1 ls => oe_Z hx hb hr hk rfl (by rw [bI, if_neg (fun z => c1 z.2.1)]; rfl) dX0_isSafe_79) (fun c1 ls hl => ?_)
  refine sX_isSafe C hP hB (o := 2) ha h1 (by decide) hl (fun c2 ls => oe_Z hx hb hr hk rfl (by rw [bI, if_neg (fun z => c2 z.2.2)]; rfl) dX0_isSafe_79) (fun c2 ls hl => ?_)
  have hl : lv_has ls 6 [(0, .ref (h)), (1, .int (nI (a))), (2, .int (nI (m1))), (3, .int (nI (3)))] := hl
  refine lv_iload_n hx hb dX0_isSafe_2 rfl (lv_at hl 3 rfl) ?_
  refine lv_iconst (v := (nI (3))) hx hb dX0_isSafe_3 (by decide) ?_
  refine oi_ge (tgt := 86) hx hb dX0_isSafe_4 (by decide) (by omega) (by omega) (fun c3 => ?_) (fun c3 => False.elim (by omega))
  refine lv_iconst (v := (nI (1))) hx hb dX0_isSafe_86 (by decide) ?_
  exact oe_Z hx hb hr hk rfl ((by rw [bI, if_pos ⟨c0, c1, c2⟩]; rfl)) dX0_isSafe_87
section X2b
variable {p : Program} {l : Launch} {e : Env} {R : Room} {s : State} {m : MethodId} {args : Array Value} {below : List Frame} {meth : Method} {c : Code} {H : Heap} {locs : List Loc} {Q : State → Prop}
variable {ls : Array Slot} {D : va_G} {A : Nat → Prop} {d b : ClassId} {h : Nat} {q : Nat → Nat} {S : Nat → Nat → Nat}
set_option maxHeartbeats 4000000 in
theorem sX_agree (C : Cx p s m args c cX0_agree RX0 4 D d b A) (hP : va_P D clX (wX d h q S) H) (h11 : ∀ j, S 11 j ≤ 40) (hB : ∀ j, S 12 j < 2 ^ 30) {a1 a2 : Nat} (ha1 : a1 < 3) (ha2 : a2 < 3) (k1 : (∀ j, j < S 11 a1 → j < S 11 a2 → S 12 (40 * a1 + j) = S 12 (40 * a2 + j)) → ∀ ls : Array Slot, W p l e R s m args below meth c H locs 0 0 Q (F0 m 72 ls [.int (nI 1)])) (k0 : ¬ (∀ j, j < S 11 a1 → j < S 11 a2 → S 12 (40 * a1 + j) = S 12 (40 * a2 + j)) → ∀ ls : Array Slot, W p l e R s m args below meth c H locs 0 0 Q (F0 m 64 ls [.int (nI 0)])) : ∀ (n k : Nat) (ls : Array Slot), k + n = 41 → k ≤ 40 → (∀ j, j < k → S 12 (40 * a1 + j) = S 12 (40 * a2 + j)) → lv_has ls 4 [(0, .ref (h)), (1, .int (nI (a1))), (2, .int (nI (a2))), (3, .int (nI (k)))] → W p l e R s m args below meth c H locs 0 0 Q (F0 m 18 ls []) := by
  have hx := C.1.1
  have hb := C.1.2.1
  intro n
  induction n with
  | zero => intro k ls h0 h1; omega
  | succ n ih =>
    intro k ls hn hk40 hj hl
    have b1 := h11 a1
    have b2 := h11 a2
    refine lv_iload_n hx hb dX0_agree_18 rfl (lv_at hl 3 rfl) ?_
    refine lv_aload_n hx hb dX0_agree_19 rfl (lv_at hl 0 rfl) ?_
    refine xg_11 C hP dX0_agree_20 ?_
    refine lv_iload_n hx hb dX0_agree_23 rfl (lv_at hl 1 rfl) ?_
    refine xl_11 (v := S 11 (a1)) C hP (by omega) rfl dX0_agree_24 ?_
    refine oi_ge (tgt := 71) hx hb dX0_agree_25 (by decide) (by omega) (by omega) (fun c1 => ?_) (fun c1 => ?_)
    · refine lv_iconst (v := (nI (1))) hx hb dX0_agree_71 (by decide) ?_
      exact k1 (fun j z1 z2 => hj j (by omega)) ls
    · refine lv_iload_n hx hb dX0_agree_28 rfl (lv_at hl 3 rfl) ?_
      refine lv_aload_n hx hb dX0_agree_29 rfl (lv_at hl 0 rfl) ?_
      refine xg_11 C hP dX0_agree_30 ?_
      refine lv_iload_n hx hb dX0_agree_33 rfl (lv_at hl 2 rfl) ?_
      refine xl_11 (v := S 11 (a2)) C hP (by omega) rfl dX0_agree_34 ?_
      refine oi_ge (tgt := 71) hx hb dX0_agree_35 (by decide) (by omega) (by omega) (fun c2 => ?_) (fun c2 => ?_)
      · refine lv_iconst (v := (nI (1))) hx hb dX0_agree_71 (by decide) ?_
        exact k1 (fun j z1 z2 => hj j (by omega)) ls
      · have b3 := hB (40 * a1 + k)
        have b4 := hB (40 * a2 + k)
        refine lv_aload_n hx hb dX0_agree_38 rfl (lv_at hl 0 rfl) ?_
        refine xg_12 C hP dX0_agree_39 ?_
        refine lv_bipush (v := (nI (40))) hx hb dX0_agree_42 (by decide) ?_
        refine lv_iload_n hx hb dX0_agree_44 rfl (lv_at hl 1 rfl) ?_
        refine oi_mul hx hb dX0_agree_45 ?_
        refine lv_iload_n hx hb dX0_agree_46 rfl (lv_at hl 3 rfl) ?_
        refine oi_add hx hb dX0_agree_47 ?_
        refine xl_12 (v := S 12 ((40 * a1) + k)) C hP (by omega) rfl dX0_agree_48 ?_
        refine lv_aload_n hx hb dX0_agree_49 rfl (lv_at hl 0 rfl) ?_
        refine xg_12 C hP dX0_agree_50 ?_
        refine lv_bipush (v := (nI (40))) hx hb dX0_agree_53 (by decide) ?_
        refine lv_iload_n hx hb dX0_agree_55 rfl (lv_at hl 2 rfl) ?_
        refine oi_mul hx hb dX0_agree_56 ?_
        refine lv_iload_n hx hb dX0_agree_57 rfl (lv_at hl 3 rfl) ?_
        refine oi_add hx hb dX0_agree_58 ?_
        refine xl_12 (v := S 12 ((40 * a2) + k)) C hP (by omega) rfl dX0_agree_59 ?_
        refine oi_eq (tgt := 65) hx hb dX0_agree_60 (by decide) (by omega) (by omega) (fun c3 => ?_) (fun c3 => ?_)
        · refine lv_iinc (v := nI (k + 1)) (lv' := [(3, .int (nI (k + 1))), (0, .ref (h)), (1, .int (nI (a1))), (2, .int (nI (a2)))]) hx hb dX0_agree_65 hl (k := 3) rfl (oi_inc _) (by decide) rfl (fun ls hl => ?_)
          refine lv_goto (tgt := 18) hx hb dX0_agree_68 (by decide) ?_
          exact ih (k + 1) ls (by omega) (by omega) (fun j z => by rcases Nat.lt_succ_iff_lt_or_eq.mp z with y | y; exact hj j y; rw [y]; exact c3) (lv_sub hl [1, 2, 3, 0] rfl)
        · refine lv_iconst (v := (nI (0))) hx hb dX0_agree_63 (by decide) ?_
          exact k0 (fun z => c3 (z k c1 c2)) ls
end X2b
set_option maxHeartbeats 4000000 in
/-- agree(x, y) -/
theorem cX_agree (l : Launch) (D : va_G) (d b : ClassId) (h : Nat) (q : Nat → Nat) (S : Nat → Nat → Nat) (h11 : ∀ j, S 11 j ≤ 40) (hB : ∀ j, S 12 j < 2 ^ 30) (x y : Int32) : cR l yX0_agree cX0_agree 4 (some .int) (rmk 1 20) [.ref (h), .int (x), .int (y)] D d b (wX d h q S) (fun r => aAgree x y (S 11) (S 12) r) := by
  refine ent_R (by decide) (Nat.le_of_ble_eq_true rfl) ?_
  intro p e s m below meth c ls C hr hk hP hl
  have C : Cx p s m _ c cX0_agree RX0 4 D d b (fun _ => True) := C
  have hx := C.1.1
  have hb := C.1.2.1
  have hl : lv_has ls 4 [(0, .ref (h)), (1, .int (x)), (2, .int (y))] := hl
  refine lv_iload_n hx hb dX0_agree_0 rfl (lv_at hl 1 rfl) ?_
  refine oc_S (As := [.int (x)]) (rest := []) C (cX_isMember l x) (cwX_isMember C.1.2.2.2.2 ⟨Nat.le_of_ble_eq_true rfl, Nat.le_of_ble_eq_true rfl⟩) rfl hl.1 rfl (Nat.le_of_ble_eq_true rfl) dX0_agree_1 ⟨Nat.zero_le _, Nat.zero_le _⟩ (fun r1 hr1 => ?_)
  subst hr1
  refine ob_eq (tgt := 14) hx hb dX0_agree_4 (by decide) (fun c1 => ?_) (fun c1 => ?_)
  · refine lv_iconst (v := (mI (0))) hx hb dX0_agree_14 (by decide) ?_
    exact oe_R hx hb hr hk ⟨fun z => absurd z (by omega), fun _ => rfl⟩ dX0_agree_15
  · obtain ⟨a1, ea1⟩ : ∃ z, z = xm x := ⟨_, rfl⟩
    have kx := xm_ok c1
    rw [← ea1] at c1 kx
    subst kx
    refine lv_iload_n hx hb dX0_agree_7 rfl (lv_at hl 2 rfl) ?_
    refine oc_S (As := [.int (y)]) (rest := []) C (cX_isMember l y) (cwX_isMember C.1.2.2.2.2 ⟨Nat.le_of_ble_eq_true rfl, Nat.le_of_ble_eq_true rfl⟩) rfl hl.1 rfl (Nat.le_of_ble_eq_true rfl) dX0_agree_8 ⟨Nat.zero_le _, Nat.zero_le _⟩ (fun r1 hr1 => ?_)
    subst hr1
    refine ob_ne (tgt := 16) hx hb dX0_agree_11 (by decide) (fun c2 => ?_) (fun c2 => ?_)
    · obtain ⟨a2, ea2⟩ : ∃ z, z = xm y := ⟨_, rfl⟩
      have ky := xm_ok c2
      rw [← ea2] at c2 ky
      subst ky
      refine lv_iconst (v := (nI (0))) hx hb dX0_agree_16 (by decide) ?_
      refine lv_istore_n (lv' := [(3, .int (nI (0))), (0, .ref (h)), (1, .int (nI (a1))), (2, .int (nI (a2)))]) hx hb dX0_agree_17 rfl hl (by decide) rfl (fun ls hl => ?_)
      refine sX_agree C hP h11 hB c1 c2 (fun z ls => ?_) (fun z ls => ?_) 41 0 ls (by omega) (by omega) (fun j z => by omega) (lv_sub hl [1, 2, 3, 0] rfl)
      · exact oe_R hx hb hr hk ⟨fun _ => Or.inl ⟨by rw [← ea1, ← ea2]; exact z, rfl⟩, fun y => absurd (show _ from ⟨by rw [← ea1]; exact c1, by rw [← ea2]; exact c2⟩) y⟩ dX0_agree_72
      · exact oe_R hx hb hr hk ⟨fun _ => Or.inr ⟨by rw [← ea1, ← ea2]; exact z, rfl⟩, fun y => absurd (show _ from ⟨by rw [← ea1]; exact c1, by rw [← ea2]; exact c2⟩) y⟩ dX0_agree_64
    · refine lv_iconst (v := (mI (0))) hx hb dX0_agree_14 (by decide) ?_
      exact oe_R hx hb hr hk ⟨fun z => absurd z (by omega), fun _ => rfl⟩ dX0_agree_15
section X2c
variable {p : Program} {l : Launch} {e : Env} {R : Room} {s : State} {m : MethodId} {args : Array Value} {below : List Frame} {meth : Method} {c : Code} {H : Heap} {locs : List Loc} {Q : State → Prop}
variable {ls : Array Slot} {D : va_G} {A : Nat → Prop} {d b : ClassId} {h : Nat} {q : Nat → Nat} {S : Nat → Nat → Nat}
set_option maxHeartbeats 4000000 in
theorem sX_setOut (C : Cx p s m args c cX0_setOut RX0 6 D d b A) (hG : Gd D A s.heap H locs (wX d h q S)) (hB : ∀ k j, S k j < 2 ^ 30) {a v o : Nat} (ha : a < 3) (ho : o < 3) (hl : lv_has ls 6 [(0, .ref (h)), (1, .int (nI (a))), (2, .int (mI (v))), (3, .int (nI (o)))]) (kk : ∀ (H1 : Heap) (locs1 : List Loc) (ls1 : Array Slot), Gd D A s.heap H1 locs1 (wX d h q (soX1 S a v o)) → lv_has ls1 6 [(0, .ref (h)), (1, .int (nI (a))), (2, .int (mI (v))), (3, .int (nI (o + 1)))] → W p l e R s m args below meth c H1 locs1 0 0 Q (F0 m 2 ls1 [])) : W p l e R s m args below meth c H locs 0 0 Q (F0 m 2 ls []) := by
  have hx := C.1.1
  have hb := C.1.2.1
  have b5 := hB 5 (3 * a + o)
  have b6 := hB 6 (3 * a + o)
  refine lv_iload_n hx hb dX0_setOut_2 rfl (lv_at hl 3 rfl) ?_
  refine lv_iconst (v := (nI (3))) hx hb dX0_setOut_3 (by decide) ?_
  refine oi_ge (tgt := 83) hx hb dX0_setOut_4 (by decide) (by omega) (by omega) (fun c1 => False.elim (by omega)) (fun c1 => ?_)
  refine lv_iconst (v := (nI (3))) hx hb dX0_setOut_7 (by decide) ?_
  refine lv_iload_n hx hb dX0_setOut_8 rfl (lv_at hl 1 rfl) ?_
  refine oi_mul hx hb dX0_setOut_9 ?_
  refine lv_iload_n hx hb dX0_setOut_10 rfl (lv_at hl 3 rfl) ?_
  refine oi_add hx hb dX0_setOut_11 ?_
  refine lv_istore (lv' := [(4, .int (nI ((3 * a) + o))), (0, .ref (h)), (1, .int (nI (a))), (2, .int (mI (v))), (3, .int (nI (o)))]) hx hb dX0_setOut_12 hl (by decide) rfl (fun ls hl => ?_)
  refine lv_iload_n hx hb dX0_setOut_14 rfl (lv_at hl 4 rfl) ?_
  refine lv_iload_n hx hb dX0_setOut_15 rfl (lv_at hl 2 rfl) ?_
  refine oi_eq (tgt := 77) hx hb dX0_setOut_16 (by decide) (by omega) (by omega) (fun c2 => ?_) (fun c2 => ?_)
  · refine lv_iinc (v := nI (o + 1)) (lv' := [(3, .int (nI (o + 1))), (4, .int (nI ((3 * a) + o))), (0, .ref (h)), (1, .int (nI (a))), (2, .int (mI (v)))]) hx hb dX0_setOut_77 hl (k := 4) rfl (oi_inc _) (by decide) rfl (fun ls hl => ?_)
    refine lv_goto (tgt := 2) hx hb dX0_setOut_80 (by decide) ?_
    exact kk H locs ls (by rw [soX1, if_pos c2]; exact hG) (lv_sub hl [2, 3, 4, 0] rfl)
  · refine lv_bipush (v := (nI (64))) hx hb dX0_setOut_19 (by decide) ?_
    refine lv_iload hx hb dX0_setOut_21 (lv_at hl 0 rfl) ?_
    refine oi_mul hx hb dX0_setOut_23 ?_
    refine lv_aload_n hx hb dX0_setOut_24 rfl (lv_at hl 1 rfl) ?_
    refine xg_5 C hG.1 dX0_setOut_25 ?_
    refine lv_iload hx hb dX0_setOut_28 (lv_at hl 0 rfl) ?_
    refine xl_5 (v := S 5 ((3 * a) + o)) C hG.1 (by omega) rfl dX0_setOut_30 ?_
    refine lv_aload_n hx hb dX0_setOut_31 rfl (lv_at hl 1 rfl) ?_
    refine xg_6 C hG.1 dX0_setOut_32 ?_
    refine lv_iload hx hb dX0_setOut_35 (lv_at hl 0 rfl) ?_
    refine xl_6 (v := S 6 ((3 * a) + o)) C hG.1 (by omega) rfl dX0_setOut_37 ?_
    refine oi_add hx hb dX0_setOut_38 ?_
    refine lv_bipush (v := (nI (63))) hx hb dX0_setOut_39 (by decide) ?_
    refine oi_and hx hb (by omega) dX0_setOut_41 ?_
    refine oi_add hx hb dX0_setOut_42 ?_
    refine lv_istore (lv' := [(5, .int (nI ((64 * ((3 * a) + o)) + (((S 5 ((3 * a) + o)) + (S 6 ((3 * a) + o))) % 64)))), (4, .int (nI ((3 * a) + o))), (0, .ref (h)), (1, .int (nI (a))), (2, .int (mI (v))), (3, .int (nI (o)))]) hx hb dX0_setOut_43 hl (by decide) rfl (fun ls hl => ?_)
    refine lv_aload_n hx hb dX0_setOut_45 rfl (lv_at hl 2 rfl) ?_
    refine xg_3 C hG.1 dX0_setOut_46 ?_
    refine lv_iload hx hb dX0_setOut_49 (lv_at hl 0 rfl) ?_
    refine lv_aload_n hx hb dX0_setOut_51 rfl (lv_at hl 2 rfl) ?_
    refine xg_7 C hG.1 dX0_setOut_52 ?_
    refine lv_iload_n hx hb dX0_setOut_55 rfl (lv_at hl 3 rfl) ?_
    refine xl_7 (v := S 7 (a)) C hG.1 (by omega) rfl dX0_setOut_56 ?_
    refine xs_3 C hG (by omega) dX0_setOut_57 (fun H locs hG => ?_)
    refine lv_aload_n hx hb dX0_setOut_58 rfl (lv_at hl 2 rfl) ?_
    refine xg_4 C hG.1 dX0_setOut_59 ?_
    refine lv_iload hx hb dX0_setOut_62 (lv_at hl 0 rfl) ?_
    refine lv_iload_n hx hb dX0_setOut_64 rfl (lv_at hl 4 rfl) ?_
    refine xs_4 C hG (by omega) dX0_setOut_65 (fun H locs hG => ?_)
    refine lv_aload_n hx hb dX0_setOut_66 rfl (lv_at hl 2 rfl) ?_
    refine xg_6 C hG.1 dX0_setOut_67 ?_
    refine lv_iload hx hb dX0_setOut_70 (lv_at hl 1 rfl) ?_
    refine lv_dup2_11 hx hb dX0_setOut_72 rfl rfl ?_
    refine xl_6 (v := S 6 ((3 * a) + o)) C hG.1 (by omega) rfl dX0_setOut_73 ?_
    refine lv_iconst (v := (nI (1))) hx hb dX0_setOut_74 (by decide) ?_
    refine oi_add hx hb dX0_setOut_75 ?_
    refine xs_6 C hG (by omega) dX0_setOut_76 (fun H locs hG => ?_)
    refine lv_iinc (v := nI (o + 1)) (lv' := [(3, .int (nI (o + 1))), (5, .int (nI ((64 * ((3 * a) + o)) + (((S 5 ((3 * a) + o)) + (S 6 ((3 * a) + o))) % 64)))), (4, .int (nI ((3 * a) + o))), (0, .ref (h)), (1, .int (nI (a))), (2, .int (mI (v)))]) hx hb dX0_setOut_77 hl (k := 5) rfl (oi_inc _) (by decide) rfl (fun ls hl => ?_)
    refine lv_goto (tgt := 2) hx hb dX0_setOut_80 (by decide) ?_
    exact kk H locs ls (by rw [soX1, if_neg c2]; exact hG) (lv_sub hl [3, 4, 5, 0] rfl)
end X2c
set_option maxHeartbeats 4000000 in
/-- setOut(a, v - 1) -/
theorem cX_setOut (l : Launch) (D : va_G) (d b : ClassId) (h : Nat) (q : Nat → Nat) (S : Nat → Nat → Nat) (sz : Nat) (hB : ∀ k j, S k j < 2 ^ 29) {a v : Nat} (ha : a < 3) (hv : v < 2 ^ 29) : cV l yX0_setOut cX0_setOut 6 (rmk 0 0) [.ref (h), .int (nI (a)), .int (mI (v))] D d b sz (wX d h q S) (wX d h q (soX S a v)) := by
  refine ent_V (by decide) (Nat.le_of_ble_eq_true rfl) ?_
  intro p e s m below meth c ls C hr hk hG hl
  have C : Cx p s m _ c cX0_setOut RX0 6 D d b (va_A (wX d h q S) sz) := C
  have hx := C.1.1
  have hb := C.1.2.1
  have hl : lv_has ls 6 [(0, .ref (h)), (1, .int (nI (a))), (2, .int (mI (v)))] := hl
  have g0 : ∀ k j, S k j < 2 ^ 29 + 3 := fun k j => Nat.lt_of_lt_of_le (hB k j) (by omega)
  have e1 := soX1_6 (a := a) (v := v) (o := 0) (hB 6)
  have g1 := soX1_bd (a := a) (v := v) (o := 0) g0 (fun j => by have := hB 6 j; omega) (by omega)
  have g2 := soX1_bd (a := a) (v := v) (o := 1) g1 (fun j => by have := e1 j; omega) (by omega)
  refine lv_iconst (v := (nI (0))) hx hb dX0_setOut_0 (by decide) ?_
  refine lv_istore_n (lv' := [(3, .int (nI (0))), (0, .ref (h)), (1, .int (nI (a))), (2, .int (mI (v)))]) hx hb dX0_setOut_1 rfl hl (by decide) rfl (fun ls hl => ?_)
  refine sX_setOut C hG (fun k j => Nat.lt_of_lt_of_le (g0 k j) (by decide)) (o := 0) ha (by decide) (lv_sub hl [1, 2, 3, 0] rfl) (fun H locs ls hG hl => ?_)
  refine sX_setOut C hG (fun k j => Nat.lt_of_lt_of_le (g1 k j) (by decide)) (o := 1) ha (by decide) hl (fun H locs ls hG hl => ?_)
  refine sX_setOut C hG (fun k j => Nat.lt_of_lt_of_le (g2 k j) (by decide)) (o := 2) ha (by decide) hl (fun H locs ls hG hl => ?_)
  have hl : lv_has ls 6 [(0, .ref (h)), (1, .int (nI (a))), (2, .int (mI (v))), (3, .int (nI (3)))] := hl
  refine lv_iload_n hx hb dX0_setOut_2 rfl (lv_at hl 3 rfl) ?_
  refine lv_iconst (v := (nI (3))) hx hb dX0_setOut_3 (by decide) ?_
  refine oi_ge (tgt := 83) hx hb dX0_setOut_4 (by decide) (by omega) (by omega) (fun c3 => ?_) (fun c3 => False.elim (by omega))
  exact oe_V C hG hr hk dX0_setOut_83
abbrev tkX (S : Nat → Nat → Nat) (x : Int32) : Prop := xm x < 3 ∧ S 6 (3 * xm x + 0) < 20 ∧ S 6 (3 * xm x + 1) < 20 ∧ S 6 (3 * xm x + 2) < 20
def tkS (S : Nat → Nat → Nat) (x : Int32) : Nat → Nat → Nat := if tkX S x then tickX S (xm x) else S
def tkR (S : Nat → Nat → Nat) (x : Int32) : Int32 := if tkX S x then nI (S 7 (xm x) + 1) else mI 0
section X2d
variable {p : Program} {l : Launch} {e : Env} {R : Room} {s : State} {m : MethodId} {args : Array Value} {below : List Frame} {meth : Method} {c : Code} {H : Heap} {locs : List Loc} {Q : State → Prop}
variable {ls : Array Slot} {D : va_G} {A : Nat → Prop} {d b : ClassId} {h : Nat} {q : Nat → Nat} {S : Nat → Nat → Nat}
set_option maxHeartbeats 4000000 in
theorem sX_tick (C : Cx p s m args c cX0_tick RX0 3 D d b A) (hG : Gd D A s.heap H locs (wX d h q S)) (hB : ∀ k j, S k j < 2 ^ 30) {a o : Nat} (ha : a < 3) (ho : o < 3) (hl : lv_has ls 3 [(0, .ref (h)), (1, .int (nI (a))), (2, .int (nI (o)))]) (kf : ¬ S 6 (3 * a + o) < 20 → ∀ ls : Array Slot, W p l e R s m args below meth c H locs 0 0 Q (F0 m 32 ls [.int (mI 0)])) (kk : S 6 (3 * a + o) < 20 → ∀ ls : Array Slot, lv_has ls 3 [(0, .ref (h)), (1, .int (nI (a))), (2, .int (nI (o + 1)))] → W p l e R s m args below meth c H locs 0 0 Q (F0 m 11 ls [])) : W p l e R s m args below meth c H locs 0 0 Q (F0 m 11 ls []) := by
  have hx := C.1.1
  have hb := C.1.2.1
  have b6 := hB 6 (3 * a + o)
  refine lv_iload_n hx hb dX0_tick_11 rfl (lv_at hl 2 rfl) ?_
  refine lv_iconst (v := (nI (3))) hx hb dX0_tick_12 (by decide) ?_
  refine oi_ge (tgt := 39) hx hb dX0_tick_13 (by decide) (by omega) (by omega) (fun c1 => False.elim (by omega)) (fun c1 => ?_)
  refine lv_aload_n hx hb dX0_tick_16 rfl (lv_at hl 0 rfl) ?_
  refine xg_6 C hG.1 dX0_tick_17 ?_
  refine lv_iconst (v := (nI (3))) hx hb dX0_tick_20 (by decide) ?_
  refine lv_iload_n hx hb dX0_tick_21 rfl (lv_at hl 1 rfl) ?_
  refine oi_mul hx hb dX0_tick_22 ?_
  refine lv_iload_n hx hb dX0_tick_23 rfl (lv_at hl 2 rfl) ?_
  refine oi_add hx hb dX0_tick_24 ?_
  refine xl_6 (v := S 6 ((3 * a) + o)) C hG.1 (by omega) rfl dX0_tick_25 ?_
  refine lv_bipush (v := (nI (20))) hx hb dX0_tick_26 (by decide) ?_
  refine oi_lt (tgt := 33) hx hb dX0_tick_28 (by decide) (by omega) (by omega) (fun c2 => ?_) (fun c2 => ?_)
  · refine lv_iinc (v := nI (o + 1)) (lv' := [(2, .int (nI (o + 1))), (0, .ref (h)), (1, .int (nI (a)))]) hx hb dX0_tick_33 hl (k := 2) rfl (oi_inc _) (by decide) rfl (fun ls hl => ?_)
    refine lv_goto (tgt := 11) hx hb dX0_tick_36 (by decide) ?_
    exact kk c2 ls (lv_sub hl [1, 2, 0] rfl)
  · refine lv_iconst (v := (mI (0))) hx hb dX0_tick_31 (by decide) ?_
    exact kf (by omega) ls
end X2d
set_option maxHeartbeats 4000000 in
/-- tick(x) -/
theorem cX_tick (l : Launch) (D : va_G) (d b : ClassId) (h : Nat) (q : Nat → Nat) (S : Nat → Nat → Nat) (sz : Nat) (hB : ∀ k j, S k j < 2 ^ 28) (x : Int32) : cI l yX0_tick cX0_tick 3 (some .int) (rmk 1 25) [.ref (h), .int (x)] D d b sz (wX d h q S) (wX d h q (tkS S x)) (tkR S x) := by
  refine ent_I (by decide) (Nat.le_of_ble_eq_true rfl) ?_
  intro p e s m below meth c ls C hr hk hG hl
  have C : Cx p s m _ c cX0_tick RX0 3 D d b (va_A (wX d h q S) sz) := C
  have hx := C.1.1
  have hb := C.1.2.1
  have hl : lv_has ls 3 [(0, .ref (h)), (1, .int (x))] := hl
  have hB0 : ∀ k j, S k j < 2 ^ 30 := fun k j => Nat.lt_of_lt_of_le (hB k j) (by decide)
  refine lv_iload_n hx hb dX0_tick_0 rfl (lv_at hl 1 rfl) ?_
  refine oc_S (As := [.int (x)]) (rest := []) C (cX_isMember l x) (cwX_isMember C.1.2.2.2.2 ⟨Nat.le_of_ble_eq_true rfl, Nat.le_of_ble_eq_true rfl⟩) rfl hl.1 rfl (Nat.le_of_ble_eq_true rfl) dX0_tick_1 ⟨Nat.zero_le _, Nat.zero_le _⟩ (fun r1 hr1 => ?_)
  subst hr1
  refine ob_ne (tgt := 9) hx hb dX0_tick_4 (by decide) (fun c1 => ?_) (fun c1 => ?_)
  · obtain ⟨a, ea⟩ : ∃ z, z = xm x := ⟨_, rfl⟩
    have kx := xm_ok c1
    rw [← ea] at c1 kx
    subst kx
    refine lv_iconst (v := (nI (0))) hx hb dX0_tick_9 (by decide) ?_
    refine lv_istore_n (lv' := [(2, .int (nI (0))), (0, .ref (h)), (1, .int (nI (a)))]) hx hb dX0_tick_10 rfl hl (by decide) rfl (fun ls hl => ?_)
    refine sX_tick C hG hB0 (o := 0) c1 (by decide) (lv_sub hl [1, 2, 0] rfl) (fun z0 ls => oe_I C (by rw [tkS, if_neg (fun z => z0 (by rw [ea]; exact z.2.1))]; exact hG) hr hk (by rw [tkR, if_neg (fun z => z0 (by rw [ea]; exact z.2.1))]) dX0_tick_32) (fun t0 ls hl => ?_)
    refine sX_tick C hG hB0 (o := 1) c1 (by decide) hl (fun z0 ls => oe_I C (by rw [tkS, if_neg (fun z => z0 (by rw [ea]; exact z.2.2.1))]; exact hG) hr hk (by rw [tkR, if_neg (fun z => z0 (by rw [ea]; exact z.2.2.1))]) dX0_tick_32) (fun t1 ls hl => ?_)
    refine sX_tick C hG hB0 (o := 2) c1 (by decide) hl (fun z0 ls => oe_I C (by rw [tkS, if_neg (fun z => z0 (by rw [ea]; exact z.2.2.2))]; exact hG) hr hk (by rw [tkR, if_neg (fun z => z0 (by rw [ea]; exact z.2.2.2))]) dX0_tick_32) (fun t2 ls hl => ?_)
    have hl : lv_has ls 3 [(0, .ref (h)), (1, .int (nI (a))), (2, .int (nI (3)))] := hl
    refine lv_iload_n hx hb dX0_tick_11 rfl (lv_at hl 2 rfl) ?_
    refine lv_iconst (v := (nI (3))) hx hb dX0_tick_12 (by decide) ?_
    refine oi_ge (tgt := 39) hx hb dX0_tick_13 (by decide) (by omega) (by omega) (fun c3 => ?_) (fun c3 => False.elim (by omega))
    refine lv_aload_n hx hb dX0_tick_39 rfl (lv_at hl 0 rfl) ?_
    refine xg_7 C hG.1 dX0_tick_40 ?_
    refine lv_iload_n hx hb dX0_tick_43 rfl (lv_at hl 1 rfl) ?_
    refine lv_dup2_11 hx hb dX0_tick_44 rfl rfl ?_
    refine xl_7 (v := S 7 (a)) C hG.1 (by omega) rfl dX0_tick_45 ?_
    refine lv_iconst (v := (nI (1))) hx hb dX0_tick_46 (by decide) ?_
    refine oi_add hx hb dX0_tick_47 ?_
    refine xs_7 C hG (by omega) dX0_tick_48 (fun H locs hG => ?_)
    refine lv_aload_n hx hb dX0_tick_49 rfl (lv_at hl 0 rfl) ?_
    refine lv_iload_n hx hb dX0_tick_50 rfl (lv_at hl 1 rfl) ?_
    refine lv_iconst (v := (mI (0))) hx hb dX0_tick_51 (by decide) ?_
    refine oc_V (As := [.int (nI (a)), .int (mI (0))]) (rest := []) C hG (cX_setOut l D d b h q _ _ (sU_bd (fun k j => Nat.lt_of_lt_of_le (hB k j) (by decide)) (by have := hB 7 a; omega)) c1 (v := 0) (by decide)) (cwX_setOut C.1.2.2.2.2 ⟨Nat.le_of_ble_eq_true rfl, Nat.le_of_ble_eq_true rfl⟩) (rcX C hG.1) rfl hl.1 rfl (Nat.le_of_ble_eq_true rfl) dX0_tick_52 ⟨Nat.zero_le _, Nat.zero_le _⟩ (fun H locs hG => ?_)
    refine lv_aload_n hx hb dX0_tick_55 rfl (lv_at hl 0 rfl) ?_
    refine xg_7 C hG.1 dX0_tick_56 ?_
    refine lv_iload_n hx hb dX0_tick_59 rfl (lv_at hl 1 rfl) ?_
    refine xl_7 (v := S 7 a + 1) C hG.1 (by omega) (by rw [soX_f (by decide) (by decide) (by decide)]; simp [sU, va_up]) dX0_tick_60 ?_
    have hc : tkX S (nI a) := by unfold tkX; rw [← ea]; exact ⟨c1, t0, t1, t2⟩
    exact oe_I C (by rw [tkS, if_pos hc, ← ea]; exact hG) hr hk (by rw [tkR, if_pos hc, ← ea]) dX0_tick_61
  · refine lv_iconst (v := (mI (0))) hx hb dX0_tick_7 (by decide) ?_
    exact oe_I C (by rw [tkS, if_neg (fun z => c1 z.1)]; exact hG) hr hk (by rw [tkR, if_neg (fun z => c1 z.1)]) dX0_tick_8
end
section
set_option maxRecDepth 100000
/-! OrderedRoom: push, pop, readOn -/
section X3a
variable {p : Program} {l : Launch} {e : Env} {R : Room} {s : State} {m : MethodId} {args : Array Value} {below : List Frame} {meth : Method} {c : Code} {H : Heap} {locs : List Loc} {Q : State → Prop}
variable {ls : Array Slot} {D : va_G} {A : Nat → Prop} {d b : ClassId} {h : Nat} {q : Nat → Nat} {S : Nat → Nat → Nat}
set_option maxHeartbeats 4000000 in
theorem sX_push (C : Cx p s m args c cX0_push RX0 6 D d b A) (hR : 0 + 1 ≤ R.frames ∧ 8 + (3 + 11) + 0 ≤ R.locals) {a m1 : Nat} (ha : a < 3) (h1 : m1 < 40) : ∀ (f : Nat) (S : Nat → Nat → Nat) (k t : Nat) (H : Heap) (locs : List Loc) (ls : Array Slot), Gd D A s.heap H locs (wX d h q S) → lv_has ls 6 [(0, .ref (h)), (1, .int (nI (a))), (2, .int (nI (m1))), (3, .int (nI (40 * a))), (4, .int (nI (k))), (5, .int (nI (t)))] → f + t = 6 → k < 40 → (∀ k j, S k j < 2 ^ 30) → (∀ j, S 10 j < 40) → (∀ (H1 : Heap) (locs1 : List Loc) (ls1 : Array Slot), Gd D A s.heap H1 locs1 (wX d h q (pushL a m1 f S k)) → W p l e R s m args below meth c H1 locs1 0 0 Q (F0 m 115 ls1 [])) → W p l e R s m args below meth c H locs 0 0 Q (F0 m 36 ls []) := by
  have hx := C.1.1
  have hb := C.1.2.1
  intro f
  induction f with
  | zero =>
    intro S k t H locs ls hG hl hf hk40 hB h10 kk
    refine lv_iload hx hb dX0_push_36 (lv_at hl 5 rfl) ?_
    refine lv_bipush (v := (nI (6))) hx hb dX0_push_38 (by decide) ?_
    refine oi_ge (tgt := 115) hx hb dX0_push_40 (by decide) (by omega) (by omega) (fun c1 => ?_) (fun c1 => False.elim (by omega))
    exact kk H locs ls hG
  | succ f ih =>
    intro S k t H locs ls hG hl hf hk40 hB h10 kk
    refine lv_iload hx hb dX0_push_36 (lv_at hl 5 rfl) ?_
    refine lv_bipush (v := (nI (6))) hx hb dX0_push_38 (by decide) ?_
    refine oi_ge (tgt := 115) hx hb dX0_push_40 (by decide) (by omega) (by omega) (fun c1 => False.elim (by omega)) (fun c1 => ?_)
    refine lv_iload hx hb dX0_push_43 (lv_at hl 4 rfl) ?_
    refine oz_le (tgt := 115) hx hb dX0_push_45 (by decide) (by omega) (fun c2 => ?_) (fun c2 => ?_)
    · exact kk H locs ls (by rw [pushL, if_neg (fun z => by omega)]; exact hG)
    · refine lv_aload_n hx hb dX0_push_48 rfl (lv_at hl 0 rfl) ?_
      refine lv_iload_n hx hb dX0_push_49 rfl (lv_at hl 2 rfl) ?_
      refine lv_aload_n hx hb dX0_push_50 rfl (lv_at hl 0 rfl) ?_
      refine xg_10 C hG.1 dX0_push_51 ?_
      refine lv_iload_n hx hb dX0_push_54 rfl (lv_at hl 3 rfl) ?_
      refine lv_iload hx hb dX0_push_55 (lv_at hl 4 rfl) ?_
      refine lv_iconst (v := (nI (1))) hx hb dX0_push_57 (by decide) ?_
      refine oi_sub hx hb (by omega) dX0_push_58 ?_
      refine lv_iconst (v := (nI (2))) hx hb dX0_push_59 (by decide) ?_
      refine oi_div hx hb (by decide) (by omega) (by decide) dX0_push_60 ?_
      refine oi_add hx hb dX0_push_61 ?_
      refine xl_10 (v := S 10 ((40 * a) + ((k - 1) / 2))) C hG.1 (by omega) rfl dX0_push_62 ?_
      refine oc_R (As := [.int (nI (m1)), .int (nI (S 10 ((40 * a) + ((k - 1) / 2))))]) (rest := []) C hG.1 (cX_isEarlier l D d b h q S hB h1 (h10 (40 * a + (k - 1) / 2))) (cwX_isEarlier C.1.2.2.2.2 hR) (rcX C hG.1) rfl hl.1 rfl (Nat.le_of_ble_eq_true rfl) dX0_push_63 ⟨Nat.zero_le _, Nat.zero_le _⟩ (fun r1 hr1 => ?_)
      subst hr1
      refine ob_eq (tgt := 115) hx hb dX0_push_66 (by decide) (fun c3 => ?_) (fun c3 => ?_)
      · exact kk H locs ls (by rw [pushL, if_neg (fun z => c3 z.2)]; exact hG)
      · refine lv_aload_n hx hb dX0_push_69 rfl (lv_at hl 0 rfl) ?_
        refine xg_10 C hG.1 dX0_push_70 ?_
        refine lv_iload_n hx hb dX0_push_73 rfl (lv_at hl 3 rfl) ?_
        refine lv_iload hx hb dX0_push_74 (lv_at hl 4 rfl) ?_
        refine oi_add hx hb dX0_push_76 ?_
        refine lv_aload_n hx hb dX0_push_77 rfl (lv_at hl 0 rfl) ?_
        refine xg_10 C hG.1 dX0_push_78 ?_
        refine lv_iload_n hx hb dX0_push_81 rfl (lv_at hl 3 rfl) ?_
        refine lv_iload hx hb dX0_push_82 (lv_at hl 4 rfl) ?_
        refine lv_iconst (v := (nI (1))) hx hb dX0_push_84 (by decide) ?_
        refine oi_sub hx hb (by omega) dX0_push_85 ?_
        refine lv_iconst (v := (nI (2))) hx hb dX0_push_86 (by decide) ?_
        refine oi_div hx hb (by decide) (by omega) (by decide) dX0_push_87 ?_
        refine oi_add hx hb dX0_push_88 ?_
        refine xl_10 (v := S 10 ((40 * a) + ((k - 1) / 2))) C hG.1 (by omega) rfl dX0_push_89 ?_
        refine xs_10 C hG (by omega) dX0_push_90 (fun H locs hG => ?_)
        refine lv_iload hx hb dX0_push_91 (lv_at hl 4 rfl) ?_
        refine lv_iconst (v := (nI (1))) hx hb dX0_push_93 (by decide) ?_
        refine oi_sub hx hb (by omega) dX0_push_94 ?_
        refine lv_iconst (v := (nI (2))) hx hb dX0_push_95 (by decide) ?_
        refine oi_div hx hb (by decide) (by omega) (by decide) dX0_push_96 ?_
        refine lv_istore (lv' := [(4, .int (nI ((k - 1) / 2))), (0, .ref (h)), (1, .int (nI (a))), (2, .int (nI (m1))), (3, .int (nI (40 * a))), (5, .int (nI (t)))]) hx hb dX0_push_97 hl (by decide) rfl (fun ls hl => ?_)
        refine lv_aload_n hx hb dX0_push_99 rfl (lv_at hl 1 rfl) ?_
        refine xg_10 C hG.1 dX0_push_100 ?_
        refine lv_iload_n hx hb dX0_push_103 rfl (lv_at hl 4 rfl) ?_
        refine lv_iload hx hb dX0_push_104 (lv_at hl 0 rfl) ?_
        refine oi_add hx hb dX0_push_106 ?_
        refine lv_iload_n hx hb dX0_push_107 rfl (lv_at hl 3 rfl) ?_
        refine xs_10 C hG (by omega) dX0_push_108 (fun H locs hG => ?_)
        refine lv_iinc (v := nI (t + 1)) (lv' := [(5, .int (nI (t + 1))), (4, .int (nI ((k - 1) / 2))), (0, .ref (h)), (1, .int (nI (a))), (2, .int (nI (m1))), (3, .int (nI (40 * a)))]) hx hb dX0_push_109 hl (k := 5) rfl (oi_inc _) (by decide) rfl (fun ls hl => ?_)
        refine lv_goto (tgt := 36) hx hb dX0_push_112 (by decide) ?_
        exact ih _ ((k - 1) / 2) (t + 1) H locs ls hG (lv_sub hl [2, 3, 4, 5, 1, 0] rfl) (by omega) (by omega) (sU_bd (sU_bd hB (hB _ _)) (by omega)) (va_bd (va_bd h10 (h10 _)) h1) (fun H1 locs1 ls1 hG1 => kk H1 locs1 ls1 (by rw [pushL, if_pos ⟨c2, c3⟩]; exact hG1))
end X3a
theorem cwX_push {R : Room} {s : State} {args : Array Value} (ht : ∀ w ∈ lw_all, w.before args s = true) (hR : 1 + 1 ≤ R.frames ∧ 8 + (6 + 11) + 22 ≤ R.locals) : CallW R s args RX0 RX0 58 yX0_push cX0_push 6 none (ws_ yX0_push cX0_push 6 none) (rmk 1 22) 0 0 2 := cwV 2 ht (lw_V q75 q77 qs1 q13 q78) rfl rfl rfl (by decide +kernel) hR
set_option maxHeartbeats 4000000 in
/-- push(a, m1) -/
theorem cX_push (l : Launch) (D : va_G) (d b : ClassId) (h : Nat) (q : Nat → Nat) (S : Nat → Nat → Nat) (sz : Nat) (hB : ∀ k j, S k j < 2 ^ 29) {a m1 : Nat} (ha : a < 3) (h1 : m1 < 40) (h9 : S 9 a < 40) (h10 : ∀ j, S 10 j < 40) : cV l yX0_push cX0_push 6 (rmk 1 22) [.ref (h), .int (nI (a)), .int (nI (m1))] D d b sz (wX d h q S) (wX d h q (pushF S a m1)) := by
  refine ent_V (by decide) (Nat.le_of_ble_eq_true rfl) ?_
  intro p e s m below meth c ls C hr hk hG hl
  have C : Cx p s m _ c cX0_push RX0 6 D d b (va_A (wX d h q S) sz) := C
  have hx := C.1.1
  have hb := C.1.2.1
  have hl : lv_has ls 6 [(0, .ref (h)), (1, .int (nI (a))), (2, .int (nI (m1)))] := hl
  refine lv_bipush (v := (nI (40))) hx hb dX0_push_0 (by decide) ?_
  refine lv_iload_n hx hb dX0_push_2 rfl (lv_at hl 1 rfl) ?_
  refine oi_mul hx hb dX0_push_3 ?_
  refine lv_istore_n (lv' := [(3, .int (nI (40 * a))), (0, .ref (h)), (1, .int (nI (a))), (2, .int (nI (m1)))]) hx hb dX0_push_4 rfl hl (by decide) rfl (fun ls hl => ?_)
  refine lv_aload_n hx hb dX0_push_5 rfl (lv_at hl 1 rfl) ?_
  refine xg_9 C hG.1 dX0_push_6 ?_
  refine lv_iload_n hx hb dX0_push_9 rfl (lv_at hl 2 rfl) ?_
  refine xl_9 (v := S 9 (a)) C hG.1 (by omega) rfl dX0_push_10 ?_
  refine lv_istore (lv' := [(4, .int (nI (S 9 (a)))), (3, .int (nI (40 * a))), (0, .ref (h)), (1, .int (nI (a))), (2, .int (nI (m1)))]) hx hb dX0_push_11 hl (by decide) rfl (fun ls hl => ?_)
  refine lv_aload_n hx hb dX0_push_13 rfl (lv_at hl 2 rfl) ?_
  refine xg_10 C hG.1 dX0_push_14 ?_
  refine lv_iload_n hx hb dX0_push_17 rfl (lv_at hl 1 rfl) ?_
  refine lv_iload hx hb dX0_push_18 (lv_at hl 0 rfl) ?_
  refine oi_add hx hb dX0_push_20 ?_
  refine lv_iload_n hx hb dX0_push_21 rfl (lv_at hl 4 rfl) ?_
  refine xs_10 C hG (by omega) dX0_push_22 (fun H locs hG => ?_)
  refine lv_aload_n hx hb dX0_push_23 rfl (lv_at hl 2 rfl) ?_
  refine xg_9 C hG.1 dX0_push_24 ?_
  refine lv_iload_n hx hb dX0_push_27 rfl (lv_at hl 3 rfl) ?_
  refine lv_dup2_11 hx hb dX0_push_28 rfl rfl ?_
  refine xl_9 (v := S 9 (a)) C hG.1 (by omega) rfl dX0_push_29 ?_
  refine lv_iconst (v := (nI (1))) hx hb dX0_push_30 (by decide) ?_
  refine oi_add hx hb dX0_push_31 ?_
  refine xs_9 C hG (by omega) dX0_push_32 (fun H locs hG => ?_)
  refine lv_iconst (v := (nI (0))) hx hb dX0_push_33 (by decide) ?_
  refine lv_istore (lv' := [(5, .int (nI (0))), (4, .int (nI (S 9 (a)))), (3, .int (nI (40 * a))), (0, .ref (h)), (1, .int (nI (a))), (2, .int (nI (m1)))]) hx hb dX0_push_34 hl (by decide) rfl (fun ls hl => ?_)
  refine sX_push C ⟨Nat.le_of_ble_eq_true rfl, Nat.le_of_ble_eq_true rfl⟩ ha h1 6 _ (S 9 a) 0 H locs ls hG (lv_sub hl [3, 4, 5, 2, 1, 0] rfl) (by omega) h9 (sU_bd (sU_bd (fun k j => Nat.lt_of_lt_of_le (hB k j) (by decide)) (by omega)) (by omega)) (va_bd h10 h1) (fun H1 locs1 ls1 hG1 => ?_)
  exact oe_V C hG1 hr hk dX0_push_115
section X3b
variable {p : Program} {l : Launch} {e : Env} {R : Room} {s : State} {m : MethodId} {args : Array Value} {below : List Frame} {meth : Method} {c : Code} {H : Heap} {locs : List Loc} {Q : State → Prop}
variable {ls : Array Slot} {D : va_G} {A : Nat → Prop} {d b : ClassId} {h : Nat} {q : Nat → Nat} {S : Nat → Nat → Nat}
set_option maxHeartbeats 4000000 in
theorem sX_pop163 (C : Cx p s m args c cX0_pop RX0 9 D d b A) (hG : Gd D A s.heap H locs (wX d h q S)) {a z y k t v6 : Nat} (ha : a < 3) (hk40 : k < 40) (hl : lv_has ls 9 [(0, .ref (h)), (1, .int (nI (a))), (2, .int (nI (40 * a))), (3, .int (nI (z))), (4, .int (nI (y))), (5, .int (nI (k))), (6, .int (nI (v6))), (7, .int (nI (t)))]) (kk : ∀ (H1 : Heap) (locs1 : List Loc) (ls1 : Array Slot), Gd D A s.heap H1 locs1 (wX d h q (sU S 10 (40 * a + k) y)) → W p l e R s m args below meth c H1 locs1 0 0 Q (F0 m 174 ls1 [])) : W p l e R s m args below meth c H locs 0 0 Q (F0 m 163 ls []) := by
  have hx := C.1.1
  have hb := C.1.2.1
  refine lv_aload_n hx hb dX0_pop_163 rfl (lv_at hl 0 rfl) ?_
  refine xg_10 C hG.1 dX0_pop_164 ?_
  refine lv_iload_n hx hb dX0_pop_167 rfl (lv_at hl 2 rfl) ?_
  refine lv_iload hx hb dX0_pop_168 (lv_at hl 5 rfl) ?_
  refine oi_add hx hb dX0_pop_170 ?_
  refine lv_iload hx hb dX0_pop_171 (lv_at hl 4 rfl) ?_
  refine xs_10 C hG (by omega) dX0_pop_173 (fun H locs hG => ?_)
  exact kk H locs ls hG
set_option maxHeartbeats 4000000 in
theorem sX_pop127 (C : Cx p s m args c cX0_pop RX0 9 D d b A) (hG : Gd D A s.heap H locs (wX d h q S)) {a z y k t ch : Nat} (ha : a < 3) (hk40 : k < 40) (ht : t < 7) (hl : lv_has ls 9 [(0, .ref (h)), (1, .int (nI (a))), (2, .int (nI (40 * a))), (3, .int (nI (z))), (4, .int (nI (y))), (5, .int (nI (k))), (6, .int (nI (1))), (7, .int (nI (t))), (8, .int (nI (ch)))]) (kk : ∀ (H1 : Heap) (locs1 : List Loc) (ls1 : Array Slot), Gd D A s.heap H1 locs1 (wX d h q (sU S 10 (40 * a + k) y)) → W p l e R s m args below meth c H1 locs1 0 0 Q (F0 m 174 ls1 [])) : W p l e R s m args below meth c H locs 0 0 Q (F0 m 127 ls []) := by
  have hx := C.1.1
  have hb := C.1.2.1
  refine lv_iconst (v := (nI (0))) hx hb dX0_pop_127 (by decide) ?_
  refine lv_istore (lv' := [(6, .int (nI (0))), (0, .ref (h)), (1, .int (nI (a))), (2, .int (nI (40 * a))), (3, .int (nI (z))), (4, .int (nI (y))), (5, .int (nI (k))), (7, .int (nI (t))), (8, .int (nI (ch)))]) hx hb dX0_pop_128 hl (by decide) rfl (fun ls hl => ?_)
  refine lv_iload hx hb dX0_pop_130 (lv_at hl 0 rfl) ?_
  refine oz_eq (tgt := 157) hx hb dX0_pop_132 (by decide) (by omega) (fun c1 => ?_) (fun c1 => False.elim (by omega))
  refine lv_iinc (v := nI (t + 1)) (lv' := [(7, .int (nI (t + 1))), (6, .int (nI (0))), (0, .ref (h)), (1, .int (nI (a))), (2, .int (nI (40 * a))), (3, .int (nI (z))), (4, .int (nI (y))), (5, .int (nI (k))), (8, .int (nI (ch)))]) hx hb dX0_pop_157 hl (k := 7) rfl (oi_inc _) (by decide) rfl (fun ls hl => ?_)
  refine lv_goto (tgt := 41) hx hb dX0_pop_160 (by decide) ?_
  refine lv_iload hx hb dX0_pop_41 (lv_at hl 0 rfl) ?_
  refine lv_bipush (v := (nI (7))) hx hb dX0_pop_43 (by decide) ?_
  refine oi_ge (tgt := 163) hx hb dX0_pop_45 (by decide) (by omega) (by omega) (fun c2 => ?_) (fun c2 => ?_)
  · exact sX_pop163 C hG ha hk40 (lv_sub hl [2, 3, 4, 5, 6, 7, 1, 0] rfl) kk
  · refine lv_iload hx hb dX0_pop_48 (lv_at hl 1 rfl) ?_
    refine oz_eq (tgt := 163) hx hb dX0_pop_50 (by decide) (by omega) (fun c3 => ?_) (fun c3 => False.elim (by omega))
    exact sX_pop163 C hG ha hk40 (lv_sub hl [2, 3, 4, 5, 6, 7, 1, 0] rfl) kk
set_option maxHeartbeats 4000000 in
theorem sX_pop99 (C : Cx p s m args c cX0_pop RX0 9 D d b A) (hG : Gd D A s.heap H locs (wX d h q S)) (hR : 0 + 1 ≤ R.frames ∧ 8 + (3 + 11) + 0 ≤ R.locals) (hB : ∀ k j, S k j < 2 ^ 30) (h10 : ∀ j, S 10 j < 40) {a z y k t ch : Nat} (ha : a < 3) (hk40 : k < 40) (ht : t < 7) (hz : z ≤ 40) (hc : ch < 2 ^ 20) (hy : y < 40) (hl : lv_has ls 9 [(0, .ref (h)), (1, .int (nI (a))), (2, .int (nI (40 * a))), (3, .int (nI (z))), (4, .int (nI (y))), (5, .int (nI (k))), (6, .int (nI (1))), (7, .int (nI (t))), (8, .int (nI (ch)))]) (k0 : ¬ (ch < z ∧ earS (S 1) (S 2) (S 10 (40 * a + ch)) y) → ∀ (H1 : Heap) (locs1 : List Loc) (ls1 : Array Slot), Gd D A s.heap H1 locs1 (wX d h q (sU S 10 (40 * a + k) y)) → W p l e R s m args below meth c H1 locs1 0 0 Q (F0 m 174 ls1 [])) (k1 : (ch < z ∧ earS (S 1) (S 2) (S 10 (40 * a + ch)) y) → ∀ (H1 : Heap) (locs1 : List Loc) (ls1 : Array Slot), Gd D A s.heap H1 locs1 (wX d h q (sU S 10 (40 * a + k) (S 10 (40 * a + ch)))) → lv_has ls1 9 [(0, .ref (h)), (1, .int (nI (a))), (2, .int (nI (40 * a))), (3, .int (nI (z))), (4, .int (nI (y))), (5, .int (nI (ch))), (6, .int (nI (1))), (7, .int (nI (t + 1)))] → W p l e R s m args below meth c H1 locs1 0 0 Q (F0 m 41 ls1 [])) : W p l e R s m args below meth c H locs 0 0 Q (F0 m 99 ls []) := by
  have hx := C.1.1
  have hb := C.1.2.1
  refine lv_iload hx hb dX0_pop_99 (lv_at hl 8 rfl) ?_
  refine lv_iload_n hx hb dX0_pop_101 rfl (lv_at hl 3 rfl) ?_
  refine oi_ge (tgt := 127) hx hb dX0_pop_102 (by decide) (by omega) (by omega) (fun c1 => ?_) (fun c1 => ?_)
  · exact sX_pop127 C hG ha hk40 ht (lv_sub hl [0, 1, 2, 3, 4, 5, 6, 7, 8] rfl) (k0 (fun z => by omega))
  · refine lv_aload_n hx hb dX0_pop_105 rfl (lv_at hl 0 rfl) ?_
    refine lv_aload_n hx hb dX0_pop_106 rfl (lv_at hl 0 rfl) ?_
    refine xg_10 C hG.1 dX0_pop_107 ?_
    refine lv_iload_n hx hb dX0_pop_110 rfl (lv_at hl 2 rfl) ?_
    refine lv_iload hx hb dX0_pop_111 (lv_at hl 8 rfl) ?_
    refine oi_add hx hb dX0_pop_113 ?_
    refine xl_10 (v := S 10 ((40 * a) + ch)) C hG.1 (by omega) rfl dX0_pop_114 ?_
    refine lv_iload hx hb dX0_pop_115 (lv_at hl 4 rfl) ?_
    refine oc_R (As := [.int (nI (S 10 ((40 * a) + ch))), .int (nI (y))]) (rest := []) C hG.1 (cX_isEarlier l D d b h q S hB (h10 (40 * a + ch)) hy) (cwX_isEarlier C.1.2.2.2.2 hR) (rcX C hG.1) rfl hl.1 rfl (Nat.le_of_ble_eq_true rfl) dX0_pop_117 ⟨Nat.zero_le _, Nat.zero_le _⟩ (fun r1 hr1 => ?_)
    subst hr1
    refine ob_eq (tgt := 127) hx hb dX0_pop_120 (by decide) (fun c2 => ?_) (fun c2 => ?_)
    · exact sX_pop127 C hG ha hk40 ht (lv_sub hl [0, 1, 2, 3, 4, 5, 6, 7, 8] rfl) (k0 (fun z => c2 z.2))
    · refine lv_iconst (v := (nI (1))) hx hb dX0_pop_123 (by decide) ?_
      refine lv_goto (tgt := 128) hx hb dX0_pop_124 (by decide) ?_
      refine lv_istore (lv' := [(6, .int (nI (1))), (0, .ref (h)), (1, .int (nI (a))), (2, .int (nI (40 * a))), (3, .int (nI (z))), (4, .int (nI (y))), (5, .int (nI (k))), (7, .int (nI (t))), (8, .int (nI (ch)))]) hx hb dX0_pop_128 hl (by decide) rfl (fun ls hl => ?_)
      refine lv_iload hx hb dX0_pop_130 (lv_at hl 0 rfl) ?_
      refine oz_eq (tgt := 157) hx hb dX0_pop_132 (by decide) (by omega) (fun c3 => False.elim (by omega)) (fun c3 => ?_)
      refine lv_aload_n hx hb dX0_pop_135 rfl (lv_at hl 1 rfl) ?_
      refine xg_10 C hG.1 dX0_pop_136 ?_
      refine lv_iload_n hx hb dX0_pop_139 rfl (lv_at hl 3 rfl) ?_
      refine lv_iload hx hb dX0_pop_140 (lv_at hl 6 rfl) ?_
      refine oi_add hx hb dX0_pop_142 ?_
      refine lv_aload_n hx hb dX0_pop_143 rfl (lv_at hl 1 rfl) ?_
      refine xg_10 C hG.1 dX0_pop_144 ?_
      refine lv_iload_n hx hb dX0_pop_147 rfl (lv_at hl 3 rfl) ?_
      refine lv_iload hx hb dX0_pop_148 (lv_at hl 8 rfl) ?_
      refine oi_add hx hb dX0_pop_150 ?_
      refine xl_10 (v := S 10 ((40 * a) + ch)) C hG.1 (by omega) rfl dX0_pop_151 ?_
      refine xs_10 C hG (by omega) dX0_pop_152 (fun H locs hG => ?_)
      refine lv_iload hx hb dX0_pop_153 (lv_at hl 8 rfl) ?_
      refine lv_istore (lv' := [(5, .int (nI (ch))), (6, .int (nI (1))), (0, .ref (h)), (1, .int (nI (a))), (2, .int (nI (40 * a))), (3, .int (nI (z))), (4, .int (nI (y))), (7, .int (nI (t))), (8, .int (nI (ch)))]) hx hb dX0_pop_155 hl (by decide) rfl (fun ls hl => ?_)
      refine lv_iinc (v := nI (t + 1)) (lv' := [(7, .int (nI (t + 1))), (5, .int (nI (ch))), (6, .int (nI (1))), (0, .ref (h)), (1, .int (nI (a))), (2, .int (nI (40 * a))), (3, .int (nI (z))), (4, .int (nI (y))), (8, .int (nI (ch)))]) hx hb dX0_pop_157 hl (k := 7) rfl (oi_inc _) (by decide) rfl (fun ls hl => ?_)
      refine lv_goto (tgt := 41) hx hb dX0_pop_160 (by decide) ?_
      exact k1 ⟨c1, c2⟩ H locs ls hG (lv_sub hl [3, 4, 5, 6, 7, 1, 2, 0] rfl)
set_option maxHeartbeats 4000000 in
theorem sX_pop (C : Cx p s m args c cX0_pop RX0 9 D d b A) (hR : 0 + 1 ≤ R.frames ∧ 8 + (3 + 11) + 0 ≤ R.locals) {a z y : Nat} (ha : a < 3) (hz : z ≤ 40) (hy : y < 40) : ∀ (f : Nat) (S : Nat → Nat → Nat) (k t : Nat) (H : Heap) (locs : List Loc) (ls : Array Slot), Gd D A s.heap H locs (wX d h q S) → lv_has ls 9 [(0, .ref (h)), (1, .int (nI (a))), (2, .int (nI (40 * a))), (3, .int (nI (z))), (4, .int (nI (y))), (5, .int (nI (k))), (6, .int (nI (1))), (7, .int (nI (t)))] → f + t = 7 → k < 40 → (∀ k j, S k j < 2 ^ 30) → (∀ j, S 10 j < 40) → (∀ (H1 : Heap) (locs1 : List Loc) (ls1 : Array Slot), Gd D A s.heap H1 locs1 (wX d h q (popL a z y f S k)) → W p l e R s m args below meth c H1 locs1 0 0 Q (F0 m 174 ls1 [])) → W p l e R s m args below meth c H locs 0 0 Q (F0 m 41 ls []) := by
  have hx := C.1.1
  have hb := C.1.2.1
  intro f
  induction f with
  | zero =>
    intro S k t H locs ls hG hl hf hk40 hB h10 kk
    refine lv_iload hx hb dX0_pop_41 (lv_at hl 7 rfl) ?_
    refine lv_bipush (v := (nI (7))) hx hb dX0_pop_43 (by decide) ?_
    refine oi_ge (tgt := 163) hx hb dX0_pop_45 (by decide) (by omega) (by omega) (fun c1 => ?_) (fun c1 => False.elim (by omega))
    exact sX_pop163 C hG ha hk40 (lv_sub hl [0, 1, 2, 3, 4, 5, 6, 7] rfl) (fun H1 locs1 ls1 hG1 => kk H1 locs1 ls1 (by rw [popL]; exact hG1))
  | succ f ih =>
    intro S k t H locs ls hG hl hf hk40 hB h10 kk
    refine lv_iload hx hb dX0_pop_41 (lv_at hl 7 rfl) ?_
    refine lv_bipush (v := (nI (7))) hx hb dX0_pop_43 (by decide) ?_
    refine oi_ge (tgt := 163) hx hb dX0_pop_45 (by decide) (by omega) (by omega) (fun c1 => False.elim (by omega)) (fun c1 => ?_)
    refine lv_iload hx hb dX0_pop_48 (lv_at hl 6 rfl) ?_
    refine oz_eq (tgt := 163) hx hb dX0_pop_50 (by decide) (by omega) (fun c2 => False.elim (by omega)) (fun c2 => ?_)
    refine lv_iconst (v := (nI (2))) hx hb dX0_pop_53 (by decide) ?_
    refine lv_iload hx hb dX0_pop_54 (lv_at hl 5 rfl) ?_
    refine oi_mul hx hb dX0_pop_56 ?_
    refine lv_iconst (v := (nI (1))) hx hb dX0_pop_57 (by decide) ?_
    refine oi_add hx hb dX0_pop_58 ?_
    refine lv_istore (lv' := [(8, .int (nI ((2 * k) + 1))), (0, .ref (h)), (1, .int (nI (a))), (2, .int (nI (40 * a))), (3, .int (nI (z))), (4, .int (nI (y))), (5, .int (nI (k))), (6, .int (nI (1))), (7, .int (nI (t)))]) hx hb dX0_pop_59 hl (by decide) rfl (fun ls hl => ?_)
    refine lv_iload hx hb dX0_pop_61 (lv_at hl 0 rfl) ?_
    refine lv_iconst (v := (nI (1))) hx hb dX0_pop_63 (by decide) ?_
    refine oi_add hx hb dX0_pop_64 ?_
    refine lv_iload_n hx hb dX0_pop_65 rfl (lv_at hl 4 rfl) ?_
    refine oi_ge (tgt := 99) hx hb dX0_pop_66 (by decide) (by omega) (by omega) (fun c3 => ?_) (fun c3 => ?_)
    · have ec : chX S a z k = 2 * k + 1 := by rw [chX, if_neg (fun z => by omega)]
      refine sX_pop99 C hG hR hB h10 ha hk40 (by omega) hz (by omega) hy (lv_sub hl [1, 2, 3, 4, 5, 6, 7, 8, 0] rfl) (fun z0 H1 locs1 ls1 hG1 => kk H1 locs1 ls1 (by rw [popL, ec, if_neg z0]; exact hG1)) (fun z0 H1 locs1 ls1 hG1 hl1 => ?_)
      exact ih _ (2 * k + 1) (t + 1) H1 locs1 ls1 hG1 hl1 (by omega) (by omega) (sU_bd hB (hB _ _)) (va_bd h10 (h10 _)) (fun H2 locs2 ls2 hG2 => kk H2 locs2 ls2 (by rw [popL, ec, if_pos z0]; exact hG2))
    · refine lv_aload_n hx hb dX0_pop_69 rfl (lv_at hl 1 rfl) ?_
      refine lv_aload_n hx hb dX0_pop_70 rfl (lv_at hl 1 rfl) ?_
      refine xg_10 C hG.1 dX0_pop_71 ?_
      refine lv_iload_n hx hb dX0_pop_74 rfl (lv_at hl 3 rfl) ?_
      refine lv_iload hx hb dX0_pop_75 (lv_at hl 0 rfl) ?_
      refine oi_add hx hb dX0_pop_77 ?_
      refine lv_iconst (v := (nI (1))) hx hb dX0_pop_78 (by decide) ?_
      refine oi_add hx hb dX0_pop_79 ?_
      refine xl_10 (v := S 10 (((40 * a) + ((2 * k) + 1)) + 1)) C hG.1 (by omega) rfl dX0_pop_80 ?_
      refine lv_aload_n hx hb dX0_pop_81 rfl (lv_at hl 1 rfl) ?_
      refine xg_10 C hG.1 dX0_pop_82 ?_
      refine lv_iload_n hx hb dX0_pop_85 rfl (lv_at hl 3 rfl) ?_
      refine lv_iload hx hb dX0_pop_86 (lv_at hl 0 rfl) ?_
      refine oi_add hx hb dX0_pop_88 ?_
      refine xl_10 (v := S 10 ((40 * a) + ((2 * k) + 1))) C hG.1 (by omega) rfl dX0_pop_89 ?_
      refine oc_R (As := [.int (nI (S 10 (((40 * a) + ((2 * k) + 1)) + 1))), .int (nI (S 10 ((40 * a) + ((2 * k) + 1))))]) (rest := []) C hG.1 (cX_isEarlier l D d b h q S hB (h10 (40 * a + (2 * k + 1) + 1)) (h10 (40 * a + (2 * k + 1)))) (cwX_isEarlier C.1.2.2.2.2 hR) (rcX C hG.1) rfl hl.1 rfl (Nat.le_of_ble_eq_true rfl) dX0_pop_90 ⟨Nat.zero_le _, Nat.zero_le _⟩ (fun r1 hr1 => ?_)
      subst hr1
      refine ob_eq (tgt := 99) hx hb dX0_pop_93 (by decide) (fun c4 => ?_) (fun c4 => ?_)
      · have ec : chX S a z k = 2 * k + 1 := by rw [chX, if_neg (fun z => c4 z.2)]
        refine sX_pop99 C hG hR hB h10 ha hk40 (by omega) hz (by omega) hy (lv_sub hl [1, 2, 3, 4, 5, 6, 7, 8, 0] rfl) (fun z0 H1 locs1 ls1 hG1 => kk H1 locs1 ls1 (by rw [popL, ec, if_neg z0]; exact hG1)) (fun z0 H1 locs1 ls1 hG1 hl1 => ?_)
        exact ih _ (2 * k + 1) (t + 1) H1 locs1 ls1 hG1 hl1 (by omega) (by omega) (sU_bd hB (hB _ _)) (va_bd h10 (h10 _)) (fun H2 locs2 ls2 hG2 => kk H2 locs2 ls2 (by rw [popL, ec, if_pos z0]; exact hG2))
      · refine lv_iinc (v := nI (((2 * k) + 1) + 1)) (lv' := [(8, .int (nI (((2 * k) + 1) + 1))), (0, .ref (h)), (1, .int (nI (a))), (2, .int (nI (40 * a))), (3, .int (nI (z))), (4, .int (nI (y))), (5, .int (nI (k))), (6, .int (nI (1))), (7, .int (nI (t)))]) hx hb dX0_pop_96 hl (k := 0) rfl (oi_inc _) (by decide) rfl (fun ls hl => ?_)
        have ec : chX S a z k = 2 * k + 1 + 1 := by rw [chX, if_pos ⟨c3, c4⟩]
        refine sX_pop99 C hG hR hB h10 ha hk40 (by omega) hz (by omega) hy (lv_sub hl [1, 2, 3, 4, 5, 6, 7, 8, 0] rfl) (fun z0 H1 locs1 ls1 hG1 => kk H1 locs1 ls1 (by rw [popL, ec, if_neg z0]; exact hG1)) (fun z0 H1 locs1 ls1 hG1 hl1 => ?_)
        exact ih _ (2 * k + 1 + 1) (t + 1) H1 locs1 ls1 hG1 hl1 (by omega) (by omega) (sU_bd hB (hB _ _)) (va_bd h10 (h10 _)) (fun H2 locs2 ls2 hG2 => kk H2 locs2 ls2 (by rw [popL, ec, if_pos z0]; exact hG2))
end X3b
theorem cwX_pop {R : Room} {s : State} {args : Array Value} (ht : ∀ w ∈ lw_all, w.before args s = true) (hR : 1 + 1 ≤ R.frames ∧ 8 + (9 + 11) + 22 ≤ R.locals) : CallW R s args RX0 RX0 69 yX0_pop cX0_pop 9 none (ws_ yX0_pop cX0_pop 9 none) (rmk 1 22) 0 0 1 := cwV 1 ht (lw_V q91 q93 qs5 q13 q94) rfl rfl rfl (by decide +kernel) hR
set_option maxHeartbeats 4000000 in
/-- pop(a) -/
theorem cX_pop (l : Launch) (D : va_G) (d b : ClassId) (h : Nat) (q : Nat → Nat) (S : Nat → Nat → Nat) (sz : Nat) (hB : ∀ k j, S k j < 2 ^ 30) {a : Nat} (ha : a < 3) (h9 : 0 < S 9 a) (h9b : S 9 a ≤ 40) (h10 : ∀ j, S 10 j < 40) : cV l yX0_pop cX0_pop 9 (rmk 1 22) [.ref (h), .int (nI (a))] D d b sz (wX d h q S) (wX d h q (popF S a)) := by
  refine ent_V (by decide) (Nat.le_of_ble_eq_true rfl) ?_
  intro p e s m below meth c ls C hr hk hG hl
  have C : Cx p s m _ c cX0_pop RX0 9 D d b (va_A (wX d h q S) sz) := C
  have hx := C.1.1
  have hb := C.1.2.1
  have hl : lv_has ls 9 [(0, .ref (h)), (1, .int (nI (a)))] := hl
  refine lv_bipush (v := (nI (40))) hx hb dX0_pop_0 (by decide) ?_
  refine lv_iload_n hx hb dX0_pop_2 rfl (lv_at hl 1 rfl) ?_
  refine oi_mul hx hb dX0_pop_3 ?_
  refine lv_istore_n (lv' := [(2, .int (nI (40 * a))), (0, .ref (h)), (1, .int (nI (a)))]) hx hb dX0_pop_4 rfl hl (by decide) rfl (fun ls hl => ?_)
  refine lv_aload_n hx hb dX0_pop_5 rfl (lv_at hl 1 rfl) ?_
  refine xg_9 C hG.1 dX0_pop_6 ?_
  refine lv_iload_n hx hb dX0_pop_9 rfl (lv_at hl 2 rfl) ?_
  refine lv_dup2_11 hx hb dX0_pop_10 rfl rfl ?_
  refine xl_9 (v := S 9 (a)) C hG.1 (by omega) rfl dX0_pop_11 ?_
  refine lv_iconst (v := (nI (1))) hx hb dX0_pop_12 (by decide) ?_
  refine oi_sub hx hb (by omega) dX0_pop_13 ?_
  refine xs_9 C hG (by omega) dX0_pop_14 (fun H locs hG => ?_)
  refine lv_aload_n hx hb dX0_pop_15 rfl (lv_at hl 1 rfl) ?_
  refine xg_9 C hG.1 dX0_pop_16 ?_
  refine lv_iload_n hx hb dX0_pop_19 rfl (lv_at hl 2 rfl) ?_
  refine xl_9 (v := (S 9 (a)) - 1) C hG.1 (by omega) (by simp [sU, va_up]) dX0_pop_20 ?_
  refine lv_istore_n (lv' := [(3, .int (nI ((S 9 (a)) - 1))), (2, .int (nI (40 * a))), (0, .ref (h)), (1, .int (nI (a)))]) hx hb dX0_pop_21 rfl hl (by decide) rfl (fun ls hl => ?_)
  refine lv_aload_n hx hb dX0_pop_22 rfl (lv_at hl 2 rfl) ?_
  refine xg_10 C hG.1 dX0_pop_23 ?_
  refine lv_iload_n hx hb dX0_pop_26 rfl (lv_at hl 1 rfl) ?_
  refine lv_iload_n hx hb dX0_pop_27 rfl (lv_at hl 0 rfl) ?_
  refine oi_add hx hb dX0_pop_28 ?_
  refine xl_10 (v := S 10 ((40 * a) + ((S 9 (a)) - 1))) C hG.1 (by omega) rfl dX0_pop_29 ?_
  refine lv_istore (lv' := [(4, .int (nI (S 10 ((40 * a) + ((S 9 (a)) - 1))))), (3, .int (nI ((S 9 (a)) - 1))), (2, .int (nI (40 * a))), (0, .ref (h)), (1, .int (nI (a)))]) hx hb dX0_pop_30 hl (by decide) rfl (fun ls hl => ?_)
  refine lv_iconst (v := (nI (0))) hx hb dX0_pop_32 (by decide) ?_
  refine lv_istore (lv' := [(5, .int (nI (0))), (4, .int (nI (S 10 ((40 * a) + ((S 9 (a)) - 1))))), (3, .int (nI ((S 9 (a)) - 1))), (2, .int (nI (40 * a))), (0, .ref (h)), (1, .int (nI (a)))]) hx hb dX0_pop_33 hl (by decide) rfl (fun ls hl => ?_)
  refine lv_iconst (v := (nI (1))) hx hb dX0_pop_35 (by decide) ?_
  refine lv_istore (lv' := [(6, .int (nI (1))), (5, .int (nI (0))), (4, .int (nI (S 10 ((40 * a) + ((S 9 (a)) - 1))))), (3, .int (nI ((S 9 (a)) - 1))), (2, .int (nI (40 * a))), (0, .ref (h)), (1, .int (nI (a)))]) hx hb dX0_pop_36 hl (by decide) rfl (fun ls hl => ?_)
  refine lv_iconst (v := (nI (0))) hx hb dX0_pop_38 (by decide) ?_
  refine lv_istore (lv' := [(7, .int (nI (0))), (6, .int (nI (1))), (5, .int (nI (0))), (4, .int (nI (S 10 ((40 * a) + ((S 9 (a)) - 1))))), (3, .int (nI ((S 9 (a)) - 1))), (2, .int (nI (40 * a))), (0, .ref (h)), (1, .int (nI (a)))]) hx hb dX0_pop_39 hl (by decide) rfl (fun ls hl => ?_)
  refine sX_pop C ⟨Nat.le_of_ble_eq_true rfl, Nat.le_of_ble_eq_true rfl⟩ ha (by omega) (h10 _) 7 _ 0 0 H locs ls hG (lv_sub hl [6, 7, 5, 4, 3, 2, 1, 0] rfl) (by omega) (by omega) (sU_bd hB (by omega)) h10 (fun H1 locs1 ls1 hG1 => ?_)
  exact oe_V C hG1 hr hk dX0_pop_174
section X3c
variable {p : Program} {l : Launch} {e : Env} {R : Room} {s : State} {m : MethodId} {args : Array Value} {below : List Frame} {meth : Method} {c : Code} {H : Heap} {locs : List Loc} {Q : State → Prop}
variable {ls : Array Slot} {D : va_G} {A : Nat → Prop} {d b : ClassId} {h : Nat} {q : Nat → Nat} {S : Nat → Nat → Nat}
set_option maxHeartbeats 4000000 in
theorem sX_readOn (C : Cx p s m args c cX0_readOn RX0 5 D d b A) (hR : 1 + 1 ≤ R.frames ∧ 8 + (9 + 11) + 22 ≤ R.locals) {a : Nat} (ha : a < 3) : ∀ (f : Nat) (S : Nat → Nat → Nat) (n t : Nat) (H : Heap) (locs : List Loc) (ls : Array Slot), f + t = 40 → (∀ k j, S k j < 2 ^ 30) → S 9 a + S 11 a ≤ 40 → (∀ j, S 10 j < 40) → Gd D A s.heap H locs (wX d h q S) → lv_has ls 5 [(0, .ref (h)), (1, .int (nI (a))), (2, .int (nI (n))), (3, .int (nI (t)))] → (∀ (pc : Nat) (hd : decode cX0_readOn pc = .ok (.ireturn, 1)) (H1 : Heap) (locs1 : List Loc) (ls1 : Array Slot), Gd D A s.heap H1 locs1 (wX d h q (roL a f S n).1) → W p l e R s m args below meth c H1 locs1 0 0 Q (F0 m pc ls1 [.int (nI (roL a f S n).2)])) → W p l e R s m args below meth c H locs 0 0 Q (F0 m 4 ls []) := by
  have hx := C.1.1
  have hb := C.1.2.1
  intro f
  induction f with
  | zero =>
    intro S n t H locs ls hf hB h9 h10 hG hl kk
    refine lv_iload_n hx hb dX0_readOn_4 rfl (lv_at hl 3 rfl) ?_
    refine lv_bipush (v := (nI (40))) hx hb dX0_readOn_5 (by decide) ?_
    refine oi_ge (tgt := 84) hx hb dX0_readOn_7 (by decide) (by omega) (by omega) (fun c1 => ?_) (fun c1 => False.elim (by omega))
    refine lv_iload_n hx hb dX0_readOn_84 rfl (lv_at hl 2 rfl) ?_
    exact kk _ dX0_readOn_85 H locs ls hG
  | succ f ih =>
    intro S n t H locs ls hf hB h9 h10 hG hl kk
    have b9 := hB 9 a
    refine lv_iload_n hx hb dX0_readOn_4 rfl (lv_at hl 3 rfl) ?_
    refine lv_bipush (v := (nI (40))) hx hb dX0_readOn_5 (by decide) ?_
    refine oi_ge (tgt := 84) hx hb dX0_readOn_7 (by decide) (by omega) (by omega) (fun c1 => False.elim (by omega)) (fun c1 => ?_)
    refine lv_aload_n hx hb dX0_readOn_10 rfl (lv_at hl 0 rfl) ?_
    refine xg_9 C hG.1 dX0_readOn_11 ?_
    refine lv_iload_n hx hb dX0_readOn_14 rfl (lv_at hl 1 rfl) ?_
    refine xl_9 (v := S 9 (a)) C hG.1 (by omega) rfl dX0_readOn_15 ?_
    refine oz_le (tgt := 84) hx hb dX0_readOn_16 (by decide) (by omega) (fun c2 => ?_) (fun c2 => ?_)
    · refine lv_iload_n hx hb dX0_readOn_84 rfl (lv_at hl 2 rfl) ?_
      have hn : roL a (f + 1) S n = (S, n) := by rw [roL, if_neg (fun z => by omega)]
      have kk := kk _ dX0_readOn_85 H locs ls
      rw [hn] at kk
      exact kk hG
    · refine lv_aload_n hx hb dX0_readOn_19 rfl (lv_at hl 0 rfl) ?_
      refine xg_10 C hG.1 dX0_readOn_20 ?_
      refine lv_bipush (v := (nI (40))) hx hb dX0_readOn_23 (by decide) ?_
      refine lv_iload_n hx hb dX0_readOn_25 rfl (lv_at hl 1 rfl) ?_
      refine oi_mul hx hb dX0_readOn_26 ?_
      refine xl_10 (v := S 10 (40 * a)) C hG.1 (by omega) rfl dX0_readOn_27 ?_
      refine lv_istore (lv' := [(4, .int (nI (S 10 (40 * a)))), (0, .ref (h)), (1, .int (nI (a))), (2, .int (nI (n))), (3, .int (nI (t)))]) hx hb dX0_readOn_28 hl (by decide) rfl (fun ls hl => ?_)
      refine lv_aload_n hx hb dX0_readOn_30 rfl (lv_at hl 1 rfl) ?_
      refine lv_iload_n hx hb dX0_readOn_31 rfl (lv_at hl 2 rfl) ?_
      refine lv_iload hx hb dX0_readOn_32 (lv_at hl 0 rfl) ?_
      refine oc_R (As := [.int (nI (a)), .int (nI (S 10 (40 * a)))]) (rest := []) C hG.1 (cX_isSafe l D d b h q S hB ha (h10 (40 * a))) (cwX_isSafe C.1.2.2.2.2 ⟨by omega, by omega⟩) (rcX C hG.1) rfl hl.1 rfl (Nat.le_of_ble_eq_true rfl) dX0_readOn_34 ⟨Nat.zero_le _, Nat.zero_le _⟩ (fun r1 hr1 => ?_)
      subst hr1
      refine ob_ne (tgt := 42) hx hb dX0_readOn_37 (by decide) (fun c3 => ?_) (fun c3 => ?_)
      · refine lv_aload_n hx hb dX0_readOn_42 rfl (lv_at hl 1 rfl) ?_
        refine lv_iload_n hx hb dX0_readOn_43 rfl (lv_at hl 2 rfl) ?_
        refine oc_V (As := [.int (nI (a))]) (rest := []) C hG (cX_pop l D d b h q S _ hB ha c2 (by omega) h10) (cwX_pop C.1.2.2.2.2 hR) (rcX C hG.1) rfl hl.1 rfl (Nat.le_of_ble_eq_true rfl) dX0_readOn_44 ⟨Nat.zero_le _, Nat.zero_le _⟩ (fun H locs hG => ?_)
        have e11 : popF S a 11 a = S 11 a := by rw [popF_f (by decide) (by decide)]
        refine lv_aload_n hx hb dX0_readOn_47 rfl (lv_at hl 1 rfl) ?_
        refine xg_12 C hG.1 dX0_readOn_48 ?_
        refine lv_bipush (v := (nI (40))) hx hb dX0_readOn_51 (by decide) ?_
        refine lv_iload_n hx hb dX0_readOn_53 rfl (lv_at hl 2 rfl) ?_
        refine oi_mul hx hb dX0_readOn_54 ?_
        refine lv_aload_n hx hb dX0_readOn_55 rfl (lv_at hl 1 rfl) ?_
        refine xg_11 C hG.1 dX0_readOn_56 ?_
        refine lv_iload_n hx hb dX0_readOn_59 rfl (lv_at hl 2 rfl) ?_
        refine xl_11 (v := popF S a 11 (a)) C hG.1 (by omega) rfl dX0_readOn_60 ?_
        refine oi_add hx hb dX0_readOn_61 ?_
        refine lv_iload hx hb dX0_readOn_62 (lv_at hl 0 rfl) ?_
        refine xs_12 C hG (by omega) dX0_readOn_64 (fun H locs hG => ?_)
        refine lv_aload_n hx hb dX0_readOn_65 rfl (lv_at hl 1 rfl) ?_
        refine xg_11 C hG.1 dX0_readOn_66 ?_
        refine lv_iload_n hx hb dX0_readOn_69 rfl (lv_at hl 2 rfl) ?_
        refine lv_dup2_11 hx hb dX0_readOn_70 rfl rfl ?_
        refine xl_11 (v := popF S a 11 (a)) C hG.1 (by omega) rfl dX0_readOn_71 ?_
        refine lv_iconst (v := (nI (1))) hx hb dX0_readOn_72 (by decide) ?_
        refine oi_add hx hb dX0_readOn_73 ?_
        refine xs_11 C hG (by omega) dX0_readOn_74 (fun H locs hG => ?_)
        refine lv_iinc (v := nI (n + 1)) (lv' := [(2, .int (nI (n + 1))), (4, .int (nI (S 10 (40 * a)))), (0, .ref (h)), (1, .int (nI (a))), (3, .int (nI (t)))]) hx hb dX0_readOn_75 hl (k := 3) rfl (oi_inc _) (by decide) rfl (fun ls hl => ?_)
        refine lv_iinc (v := nI (t + 1)) (lv' := [(3, .int (nI (t + 1))), (2, .int (nI (n + 1))), (4, .int (nI (S 10 (40 * a)))), (0, .ref (h)), (1, .int (nI (a)))]) hx hb dX0_readOn_78 hl (k := 4) rfl (oi_inc _) (by decide) rfl (fun ls hl => ?_)
        refine lv_goto (tgt := 4) hx hb dX0_readOn_81 (by decide) ?_
        have hn : roL a (f + 1) S n = roL a f (rdX S a) (n + 1) := by rw [roL, if_pos ⟨c2, c3⟩]
        rw [hn] at kk
        exact ih (rdX S a) (n + 1) (t + 1) H locs ls (by omega) (rdX_bd hB (by omega)) (by rw [rdX_9, rdX_11, va_same, va_same]; omega) (by rw [rdX_10]; exact popF_10 h10) hG (lv_sub hl [3, 4, 1, 0] rfl) kk
      · refine lv_iload_n hx hb dX0_readOn_40 rfl (lv_at hl 3 rfl) ?_
        have hn : roL a (f + 1) S n = (S, n) := by rw [roL, if_neg (fun z => c3 z.2)]
        have kk := kk _ dX0_readOn_41 H locs ls
        rw [hn] at kk
        exact kk hG
end X3c
theorem cwX_readOn {R : Room} {s : State} {args : Array Value} (ht : ∀ w ∈ lw_all, w.before args s = true) (hR : 2 + 1 ≤ R.frames ∧ 8 + (5 + 11) + 50 ≤ R.locals) : CallW R s args RX0 RX0 61 yX0_readOn cX0_readOn 5 (some .int) (ws_ yX0_readOn cX0_readOn 5 (some .int)) (rmk 2 50) 0 0 1 := cwV 1 ht (lw_V q83 q85 qs3 q13 q86) rfl rfl rfl (by decide +kernel) hR
set_option maxHeartbeats 4000000 in
/-- readOn(a) -/
theorem cX_readOn (l : Launch) (D : va_G) (d b : ClassId) (h : Nat) (q : Nat → Nat) (S : Nat → Nat → Nat) (sz : Nat) (hB : ∀ k j, S k j < 2 ^ 30) {a : Nat} (ha : a < 3) (h9 : S 9 a + S 11 a ≤ 40) (h10 : ∀ j, S 10 j < 40) : cI l yX0_readOn cX0_readOn 5 (some .int) (rmk 2 50) [.ref (h), .int (nI (a))] D d b sz (wX d h q S) (wX d h q (roL a 40 S 0).1) (nI (roL a 40 S 0).2) := by
  refine ent_I (by decide) (Nat.le_of_ble_eq_true rfl) ?_
  intro p e s m below meth c ls C hr hk hG hl
  have C : Cx p s m _ c cX0_readOn RX0 5 D d b (va_A (wX d h q S) sz) := C
  have hx := C.1.1
  have hb := C.1.2.1
  have hl : lv_has ls 5 [(0, .ref (h)), (1, .int (nI (a)))] := hl
  refine lv_iconst (v := (nI (0))) hx hb dX0_readOn_0 (by decide) ?_
  refine lv_istore_n (lv' := [(2, .int (nI (0))), (0, .ref (h)), (1, .int (nI (a)))]) hx hb dX0_readOn_1 rfl hl (by decide) rfl (fun ls hl => ?_)
  refine lv_iconst (v := (nI (0))) hx hb dX0_readOn_2 (by decide) ?_
  refine lv_istore_n (lv' := [(3, .int (nI (0))), (2, .int (nI (0))), (0, .ref (h)), (1, .int (nI (a)))]) hx hb dX0_readOn_3 rfl hl (by decide) rfl (fun ls hl => ?_)
  exact sX_readOn C ⟨Nat.le_of_ble_eq_true rfl, Nat.le_of_ble_eq_true rfl⟩ ha 40 S 0 0 _ _ ls (by omega) hB h9 h10 hG (lv_sub hl [2, 3, 1, 0] rfl) (fun pc hd H1 locs1 ls1 hG1 => oe_I C hG1 hr hk rfl hd)
end
section
set_option maxRecDepth 100000
/-! OrderedRoom: write, take -/
theorem mI_pos {v : Nat} (h : 0 < v) : mI v = nI (v - 1) := by
  cases v with
  | zero => omega
  | succ v => rfl
theorem wr4_bd {S : Nat → Nat → Nat} {a : Nat} (hB : ∀ k j, S k j < 2 ^ 27) (ha : a < 3) : ∀ k j, wr4 S a k j < 2 ^ 28 := by
  have h0 := hB 0 0
  have h7 := hB 7 a
  exact sU_bd (sU_bd (sU_bd (sU_bd (fun k j => Nat.lt_of_lt_of_le (hB k j) (by decide)) (by omega)) (by omega)) (by omega)) (by omega)
abbrev wrO (S : Nat → Nat → Nat) (x : Int32) : Prop := xm x < 3 ∧ S 0 0 < 40
def wrS (S : Nat → Nat → Nat) (x : Int32) : Nat → Nat → Nat := if wrO S x then writeX S (xm x) else S
def wrR (S : Nat → Nat → Nat) (x : Int32) : Int32 := if wrO S x then nI (S 0 0) else mI 0
set_option maxHeartbeats 4000000 in
/-- write(x) -/
theorem cX_write (l : Launch) (D : va_G) (d b : ClassId) (h : Nat) (q : Nat → Nat) (S : Nat → Nat → Nat) (sz : Nat) (hB : ∀ k j, S k j < 2 ^ 27) (h10 : ∀ j, S 10 j < 40) (h9 : S 0 0 < 40 → ∀ a, a < 3 → S 9 a + S 11 a < 40) (x : Int32) : cI l yX0_write cX0_write 2 (some .int) (rmk 3 74) [.ref (h), .int (x)] D d b sz (wX d h q S) (wX d h q (wrS S x)) (wrR S x) := by
  refine ent_I (by decide) (Nat.le_of_ble_eq_true rfl) ?_
  intro p e s m below meth c ls C hr hk hG hl
  have C : Cx p s m _ c cX0_write RX0 2 D d b (va_A (wX d h q S) sz) := C
  have hx := C.1.1
  have hb := C.1.2.1
  have hl : lv_has ls 2 [(0, .ref (h)), (1, .int (x))] := hl
  refine lv_iload_n hx hb dX0_write_0 rfl (lv_at hl 1 rfl) ?_
  refine oc_S (As := [.int (x)]) (rest := []) C (cX_isMember l x) (cwX_isMember C.1.2.2.2.2 ⟨Nat.le_of_ble_eq_true rfl, Nat.le_of_ble_eq_true rfl⟩) rfl hl.1 rfl (Nat.le_of_ble_eq_true rfl) dX0_write_1 ⟨Nat.zero_le _, Nat.zero_le _⟩ (fun r1 hr1 => ?_)
  subst hr1
  refine ob_eq (tgt := 16) hx hb dX0_write_4 (by decide) (fun c1 => ?_) (fun c1 => ?_)
  · refine lv_iconst (v := (mI (0))) hx hb dX0_write_16 (by decide) ?_
    exact oe_I C (by rw [wrS, if_neg (fun z => c1 z.1)]; exact hG) hr hk (by rw [wrR, if_neg (fun z => c1 z.1)]) dX0_write_17
  · obtain ⟨a, ea⟩ : ∃ z, z = xm x := ⟨_, rfl⟩
    have kx := xm_ok c1
    rw [← ea] at c1 kx
    subst kx
    have b0 := hB 0 0
    have b7 := hB 7 a
    refine lv_aload_n hx hb dX0_write_7 rfl (lv_at hl 0 rfl) ?_
    refine xg_0 C hG.1 dX0_write_8 ?_
    refine lv_bipush (v := (nI (40))) hx hb dX0_write_11 (by decide) ?_
    refine oi_lt (tgt := 18) hx hb dX0_write_13 (by decide) (by omega) (by omega) (fun c2 => ?_) (fun c2 => ?_)
    · have h9a := h9 c2 a c1
      refine lv_aload_n hx hb dX0_write_18 rfl (lv_at hl 0 rfl) ?_
      refine xg_7 C hG.1 dX0_write_19 ?_
      refine lv_iload_n hx hb dX0_write_22 rfl (lv_at hl 1 rfl) ?_
      refine lv_dup2_11 hx hb dX0_write_23 rfl rfl ?_
      refine xl_7 (v := S 7 (a)) C hG.1 (by omega) rfl dX0_write_24 ?_
      refine lv_iconst (v := (nI (1))) hx hb dX0_write_25 (by decide) ?_
      refine oi_add hx hb dX0_write_26 ?_
      refine xs_7 C hG (by omega) dX0_write_27 (fun H locs hG => ?_)
      refine lv_aload_n hx hb dX0_write_28 rfl (lv_at hl 0 rfl) ?_
      refine xg_1 C hG.1 dX0_write_29 ?_
      refine lv_aload_n hx hb dX0_write_32 rfl (lv_at hl 0 rfl) ?_
      refine xg_0 C hG.1 dX0_write_33 ?_
      refine oi_top (y := nI (S 0 (0))) (congrArg nI rfl) ?_
      refine lv_iload_n hx hb dX0_write_36 rfl (lv_at hl 1 rfl) ?_
      refine xs_1 C hG (by omega) dX0_write_37 (fun H locs hG => ?_)
      refine lv_aload_n hx hb dX0_write_38 rfl (lv_at hl 0 rfl) ?_
      refine xg_2 C hG.1 dX0_write_39 ?_
      refine lv_aload_n hx hb dX0_write_42 rfl (lv_at hl 0 rfl) ?_
      refine xg_0 C hG.1 dX0_write_43 ?_
      refine oi_top (y := nI (S 0 (0))) (congrArg nI rfl) ?_
      refine lv_aload_n hx hb dX0_write_46 rfl (lv_at hl 0 rfl) ?_
      refine xg_7 C hG.1 dX0_write_47 ?_
      refine lv_iload_n hx hb dX0_write_50 rfl (lv_at hl 1 rfl) ?_
      refine xl_7 (v := (S 7 (a)) + 1) C hG.1 (by omega) (by simp [sU, va_up]) dX0_write_51 ?_
      refine xs_2 C hG (by omega) dX0_write_52 (fun H locs hG => ?_)
      refine lv_aload_n hx hb dX0_write_53 rfl (lv_at hl 0 rfl) ?_
      refine lv_dup hx hb dX0_write_54 rfl ?_
      refine xg_0 C hG.1 dX0_write_55 ?_
      refine oi_top (y := nI (S 0 (0))) (congrArg nI rfl) ?_
      refine lv_iconst (v := (nI (1))) hx hb dX0_write_58 (by decide) ?_
      refine oi_add hx hb dX0_write_59 ?_
      refine xp_0 C hG dX0_write_60 (fun H locs hG => ?_)
      refine lv_aload_n hx hb dX0_write_63 rfl (lv_at hl 0 rfl) ?_
      refine lv_iload_n hx hb dX0_write_64 rfl (lv_at hl 1 rfl) ?_
      refine lv_aload_n hx hb dX0_write_65 rfl (lv_at hl 0 rfl) ?_
      refine xg_0 C hG.1 dX0_write_66 ?_
      refine oi_top (y := nI ((S 0 (0)) + 1)) (congrArg nI (by simp [sU, va_up])) ?_
      refine lv_iconst (v := (nI (1))) hx hb dX0_write_69 (by decide) ?_
      refine oi_sub hx hb (by omega) dX0_write_70 ?_
      refine oi_top (y := nI ((S 0 (0)))) (congrArg nI (Nat.add_sub_cancel _ _)) ?_
      refine oc_V (As := [.int (nI (a)), .int (nI ((S 0 (0))))]) (rest := []) C hG (cX_setOut l D d b h q (wr4 S a) _ (fun k j => Nat.lt_of_lt_of_le (wr4_bd hB c1 k j) (by decide)) c1 (v := S 0 0 + 1) (by omega)) (cwX_setOut C.1.2.2.2.2 ⟨Nat.le_of_ble_eq_true rfl, Nat.le_of_ble_eq_true rfl⟩) (rcX C hG.1) rfl hl.1 rfl (Nat.le_of_ble_eq_true rfl) dX0_write_71 ⟨Nat.zero_le _, Nat.zero_le _⟩ (fun H locs hG => ?_)
      have g1 : ∀ k j, soX (wr4 S a) a (S 0 0 + 1) k j < 2 ^ 29 := fun k j => Nat.lt_of_lt_of_le (soX_bd (B := 2 ^ 28) (wr4_bd hB c1) (by omega) k j) (by decide)
      have e0 : soX (wr4 S a) a (S 0 0 + 1) 0 = wr4 S a 0 := soX_f (by decide) (by decide) (by decide)
      have e9 : soX (wr4 S a) a (S 0 0 + 1) 9 = S 9 := soX_f (by decide) (by decide) (by decide)
      have e10 : soX (wr4 S a) a (S 0 0 + 1) 10 = S 10 := soX_f (by decide) (by decide) (by decide)
      have e11 : soX (wr4 S a) a (S 0 0 + 1) 11 = S 11 := soX_f (by decide) (by decide) (by decide)
      refine lv_aload_n hx hb dX0_write_74 rfl (lv_at hl 0 rfl) ?_
      refine lv_iload_n hx hb dX0_write_75 rfl (lv_at hl 1 rfl) ?_
      refine lv_aload_n hx hb dX0_write_76 rfl (lv_at hl 0 rfl) ?_
      refine xg_0 C hG.1 dX0_write_77 ?_
      refine oi_top (y := nI (S 0 0 + 1)) (congrArg nI (by rw [e0]; simp [wr4, sU, va_up])) ?_
      refine lv_iconst (v := (nI (1))) hx hb dX0_write_80 (by decide) ?_
      refine oi_sub hx hb (by omega) dX0_write_81 ?_
      refine oi_top (y := nI (S 0 0)) (congrArg nI (Nat.add_sub_cancel _ _)) ?_
      refine oc_V (As := [.int (nI (a)), .int (nI (S 0 0))]) (rest := []) C hG (cX_push l D d b h q (soX (wr4 S a) a (S 0 0 + 1)) _ g1 c1 c2 (by rw [e9]; omega) (by rw [e10]; exact h10)) (cwX_push C.1.2.2.2.2 ⟨Nat.le_of_ble_eq_true rfl, Nat.le_of_ble_eq_true rfl⟩) (rcX C hG.1) rfl hl.1 rfl (Nat.le_of_ble_eq_true rfl) dX0_write_82 ⟨Nat.zero_le _, Nat.zero_le _⟩ (fun H locs hG => ?_)
      refine lv_aload_n hx hb dX0_write_85 rfl (lv_at hl 0 rfl) ?_
      refine lv_iload_n hx hb dX0_write_86 rfl (lv_at hl 1 rfl) ?_
      refine oc_I (As := [.int (nI (a))]) (rest := []) C hG (cX_readOn l D d b h q (pushF (soX (wr4 S a) a (S 0 0 + 1)) a (S 0 0)) _ (pushF_bd (fun k j => Nat.lt_of_lt_of_le (g1 k j) (by decide)) (by omega) (by rw [e9]; omega)) c1 (by rw [pushF_9, va_same, pushF_f (by decide) (by decide), e9, e11]; omega) (pushF_10 (by rw [e10]; exact h10) c2)) (cwX_readOn C.1.2.2.2.2 ⟨Nat.le_of_ble_eq_true rfl, Nat.le_of_ble_eq_true rfl⟩) (rcX C hG.1) rfl hl.1 rfl (Nat.le_of_ble_eq_true rfl) dX0_write_87 ⟨Nat.zero_le _, Nat.zero_le _⟩ (fun H locs hG => ?_)
      refine lv_pop hx hb dX0_write_90 rfl ?_
      refine lv_aload_n hx hb dX0_write_91 rfl (lv_at hl 0 rfl) ?_
      refine xg_0 C hG.1 dX0_write_92 ?_
      refine oi_top (y := nI (S 0 0 + 1)) (congrArg nI (by rw [roL_f (by decide) (by decide) (by decide) (by decide), pushF_f (by decide) (by decide), e0]; simp [wr4, sU, va_up])) ?_
      refine lv_iconst (v := (nI (1))) hx hb dX0_write_95 (by decide) ?_
      refine oi_sub hx hb (by omega) dX0_write_96 ?_
      refine oi_top (y := nI (S 0 0)) (congrArg nI (Nat.add_sub_cancel _ _)) ?_
      have hc : wrO S (nI a) := ⟨by rw [← ea]; exact c1, c2⟩
      exact oe_I C (by rw [wrS, if_pos hc, ← ea]; exact hG) hr hk (by rw [wrR, if_pos hc]) dX0_write_97
    · refine lv_iconst (v := (mI (0))) hx hb dX0_write_16 (by decide) ?_
      exact oe_I C (by rw [wrS, if_neg (fun z => by have := z.2; omega)]; exact hG) hr hk (by rw [wrR, if_neg (fun z => by have := z.2; omega)]) dX0_write_17
abbrev tkO (S : Nat → Nat → Nat) (x y : Int32) : Prop := xm x < 3 ∧ xm y < 3 ∧ xm x ≠ xm y ∧ S 6 (3 * xm x + xm y) ≠ 0
def takS (S : Nat → Nat → Nat) (x y : Int32) : Nat → Nat → Nat := if tkO S x y then (takeX S (xm x) (xm y)).1 else S
def takR (S : Nat → Nat → Nat) (x y : Int32) : Int32 := if tkO S x y then nI (takeX S (xm x) (xm y)).2 else mI 0
section X4
variable {p : Program} {l : Launch} {e : Env} {R : Room} {s : State} {m : MethodId} {args : Array Value} {below : List Frame} {meth : Method} {c : Code} {H : Heap} {locs : List Loc} {Q : State → Prop}
variable {ls : Array Slot} {D : va_G} {A : Nat → Prop} {d b : ClassId} {h : Nat} {q : Nat → Nat} {S : Nat → Nat → Nat}
set_option maxHeartbeats 4000000 in
theorem sX_take128 (C : Cx p s m args c cX0_take RX0 6 D d b A) (hG : Gd D A s.heap H locs (wX d h q S)) (hR : 2 + 1 ≤ R.frames ∧ 8 + (5 + 11) + 50 ≤ R.locals) (hB : ∀ k j, S k j < 2 ^ 28) {f t u M : Nat} (ht : t < 3) (hu : u < 576) (hM : M < 2 ^ 27) (h4 : S 4 u ≤ 40) (h9 : S 9 t + S 11 t ≤ 40) (h9b : 0 < S 4 u → S 9 t + S 11 t < 40) (h10 : ∀ j, S 10 j < 40) (hl : lv_has ls 6 [(0, .ref (h)), (1, .int (nI (f))), (2, .int (nI (t))), (4, .int (nI (u)))]) (kk : ∀ (H1 : Heap) (locs1 : List Loc) (ls1 : Array Slot), Gd D A s.heap H1 locs1 (wX d h q (roL t 40 (if 0 < S 4 u then pushF (sU S 7 t (M + 1)) t (S 4 u - 1) else sU S 7 t (M + 1)) 0).1) → W p l e R s m args below meth c H1 locs1 0 0 Q (F0 m 158 ls1 [.int (nI (roL t 40 (if 0 < S 4 u then pushF (sU S 7 t (M + 1)) t (S 4 u - 1) else sU S 7 t (M + 1)) 0).2)])) : W p l e R s m args below meth c H locs 0 0 Q (F0 m 128 ls [.int (nI (M)), .int (nI (t)), .ref (q 7)]) := by
  have hx := C.1.1
  have hb := C.1.2.1
  have b4 := hB 4 u
  have g4 : ∀ k j, sU S 7 t (M + 1) k j < 2 ^ 28 := sU_bd hB (by omega)
  refine lv_iconst (v := (nI (1))) hx hb dX0_take_128 (by decide) ?_
  refine oi_add hx hb dX0_take_129 ?_
  refine xs_7 C hG (by omega) dX0_take_130 (fun H locs hG => ?_)
  refine lv_aload_n hx hb dX0_take_131 rfl (lv_at hl 0 rfl) ?_
  refine xg_4 C hG.1 dX0_take_132 ?_
  refine lv_iload hx hb dX0_take_135 (lv_at hl 3 rfl) ?_
  refine xl_4 (v := S 4 (u)) C hG.1 (by omega) rfl dX0_take_137 ?_
  refine om_lt (tgt := 153) hx hb dX0_take_138 (by decide) (by omega) (fun c1 => ?_) (fun c1 => ?_)
  · refine lv_aload_n hx hb dX0_take_153 rfl (lv_at hl 0 rfl) ?_
    refine lv_iload_n hx hb dX0_take_154 rfl (lv_at hl 2 rfl) ?_
    rw [if_neg (by omega)] at kk
    refine oc_I (As := [.int (nI (t))]) (rest := []) C hG (cX_readOn l D d b h q (sU S 7 t (M + 1)) _ (fun k j => Nat.lt_of_lt_of_le (g4 k j) (by decide)) ht h9 h10) (cwX_readOn C.1.2.2.2.2 hR) (rcX C hG.1) rfl hl.1 rfl (Nat.le_of_ble_eq_true rfl) dX0_take_155 ⟨Nat.zero_le _, Nat.zero_le _⟩ (fun H locs hG => ?_)
    exact kk H locs ls hG
  · refine lv_aload_n hx hb dX0_take_141 rfl (lv_at hl 0 rfl) ?_
    refine lv_iload_n hx hb dX0_take_142 rfl (lv_at hl 2 rfl) ?_
    refine lv_aload_n hx hb dX0_take_143 rfl (lv_at hl 0 rfl) ?_
    refine xg_4 C hG.1 dX0_take_144 ?_
    refine lv_iload hx hb dX0_take_147 (lv_at hl 3 rfl) ?_
    refine xl_4 (v := S 4 (u)) C hG.1 (by omega) rfl dX0_take_149 ?_
    refine oi_top (mI_pos c1) ?_
    rw [if_pos c1] at kk
    refine oc_V (As := [.int (nI (t)), .int (nI (S 4 u - 1))]) (rest := []) C hG (cX_push l D d b h q (sU S 7 t (M + 1)) _ (fun k j => Nat.lt_of_lt_of_le (g4 k j) (by decide)) ht (m1 := S 4 u - 1) (by omega) (by have := h9b c1; show S 9 t < 40; omega) h10) (cwX_push C.1.2.2.2.2 ⟨by omega, by omega⟩) (rcX C hG.1) rfl hl.1 rfl (Nat.le_of_ble_eq_true rfl) dX0_take_150 ⟨Nat.zero_le _, Nat.zero_le _⟩ (fun H locs hG => ?_)
    refine lv_aload_n hx hb dX0_take_153 rfl (lv_at hl 0 rfl) ?_
    refine lv_iload_n hx hb dX0_take_154 rfl (lv_at hl 2 rfl) ?_
    refine oc_I (As := [.int (nI (t))]) (rest := []) C hG (cX_readOn l D d b h q (pushF (sU S 7 t (M + 1)) t (S 4 u - 1)) _ (pushF_bd (fun k j => Nat.lt_of_lt_of_le (g4 k j) (by decide)) (by omega) (by show S 9 t + 1 < 2 ^ 30; omega)) ht (by rw [pushF_9, va_same, pushF_f (by decide) (by decide)]; have := h9b c1; show S 9 t + 1 + S 11 t ≤ 40; omega) (pushF_10 h10 (by omega))) (cwX_readOn C.1.2.2.2.2 hR) (rcX C hG.1) rfl hl.1 rfl (Nat.le_of_ble_eq_true rfl) dX0_take_155 ⟨Nat.zero_le _, Nat.zero_le _⟩ (fun H locs hG => ?_)
    exact kk H locs ls hG
end X4
set_option maxHeartbeats 4000000 in
/-- take(x, y) -/
theorem cX_take (l : Launch) (D : va_G) (d b : ClassId) (h : Nat) (q : Nat → Nat) (S : Nat → Nat → Nat) (sz : Nat) (hB : ∀ k j, S k j < 2 ^ 26) (h5 : ∀ j, S 5 j < 64) (h4 : ∀ j, S 4 j ≤ 40) (h10 : ∀ j, S 10 j < 40) (h9 : ∀ a, a < 3 → S 9 a + S 11 a ≤ 40) (x y : Int32) (h9b : xm x < 3 → xm y < 3 → S 6 (3 * xm x + xm y) ≠ 0 → 0 < S 4 (64 * (3 * xm x + xm y) + S 5 (3 * xm x + xm y)) → S 9 (xm y) + S 11 (xm y) < 40) : cI l yX0_take cX0_take 6 (some .int) (rmk 3 74) [.ref (h), .int (x), .int (y)] D d b sz (wX d h q S) (wX d h q (takS S x y)) (takR S x y) := by
  refine ent_I (by decide) (Nat.le_of_ble_eq_true rfl) ?_
  intro p e s m below meth c ls C hr hk hG hl
  have C : Cx p s m _ c cX0_take RX0 6 D d b (va_A (wX d h q S) sz) := C
  have hx := C.1.1
  have hb := C.1.2.1
  have hl : lv_has ls 6 [(0, .ref (h)), (1, .int (x)), (2, .int (y))] := hl
  refine lv_iload_n hx hb dX0_take_0 rfl (lv_at hl 1 rfl) ?_
  refine oc_S (As := [.int (x)]) (rest := []) C (cX_isMember l x) (cwX_isMember C.1.2.2.2.2 ⟨Nat.le_of_ble_eq_true rfl, Nat.le_of_ble_eq_true rfl⟩) rfl hl.1 rfl (Nat.le_of_ble_eq_true rfl) dX0_take_1 ⟨Nat.zero_le _, Nat.zero_le _⟩ (fun r1 hr1 => ?_)
  subst hr1
  refine ob_eq (tgt := 32) hx hb dX0_take_4 (by decide) (fun c1 => ?_) (fun c1 => ?_)
  · refine lv_iconst (v := (mI (0))) hx hb dX0_take_32 (by decide) ?_
    exact oe_I C (by rw [takS, if_neg (fun z => c1 z.1)]; exact hG) hr hk (by rw [takR, if_neg (fun z => c1 z.1)]) dX0_take_33
  · obtain ⟨f, ef⟩ : ∃ z, z = xm x := ⟨_, rfl⟩
    have kx := xm_ok c1
    rw [← ef] at c1 kx
    subst kx
    refine lv_iload_n hx hb dX0_take_7 rfl (lv_at hl 2 rfl) ?_
    refine oc_S (As := [.int (y)]) (rest := []) C (cX_isMember l y) (cwX_isMember C.1.2.2.2.2 ⟨Nat.le_of_ble_eq_true rfl, Nat.le_of_ble_eq_true rfl⟩) rfl hl.1 rfl (Nat.le_of_ble_eq_true rfl) dX0_take_8 ⟨Nat.zero_le _, Nat.zero_le _⟩ (fun r1 hr1 => ?_)
    subst hr1
    refine ob_eq (tgt := 32) hx hb dX0_take_11 (by decide) (fun c2 => ?_) (fun c2 => ?_)
    · refine lv_iconst (v := (mI (0))) hx hb dX0_take_32 (by decide) ?_
      exact oe_I C (by rw [takS, if_neg (fun z => c2 z.2.1)]; exact hG) hr hk (by rw [takR, if_neg (fun z => c2 z.2.1)]) dX0_take_33
    · obtain ⟨t, et⟩ : ∃ z, z = xm y := ⟨_, rfl⟩
      have ky := xm_ok c2
      rw [← et] at c2 ky
      subst ky
      have b6 := hB 6 (3 * f + t)
      have b5 := h5 (3 * f + t)
      refine lv_iload_n hx hb dX0_take_14 rfl (lv_at hl 1 rfl) ?_
      refine lv_iload_n hx hb dX0_take_15 rfl (lv_at hl 2 rfl) ?_
      refine oi_eq (tgt := 32) hx hb dX0_take_16 (by decide) (by omega) (by omega) (fun c3 => ?_) (fun c3 => ?_)
      · refine lv_iconst (v := (mI (0))) hx hb dX0_take_32 (by decide) ?_
        exact oe_I C (by rw [takS, if_neg (fun z => z.2.2.1 (by rw [← ef, ← et]; exact c3))]; exact hG) hr hk (by rw [takR, if_neg (fun z => z.2.2.1 (by rw [← ef, ← et]; exact c3))]) dX0_take_33
      · refine lv_aload_n hx hb dX0_take_19 rfl (lv_at hl 0 rfl) ?_
        refine xg_6 C hG.1 dX0_take_20 ?_
        refine lv_iconst (v := (nI (3))) hx hb dX0_take_23 (by decide) ?_
        refine lv_iload_n hx hb dX0_take_24 rfl (lv_at hl 1 rfl) ?_
        refine oi_mul hx hb dX0_take_25 ?_
        refine lv_iload_n hx hb dX0_take_26 rfl (lv_at hl 2 rfl) ?_
        refine oi_add hx hb dX0_take_27 ?_
        refine xl_6 (v := S 6 ((3 * f) + t)) C hG.1 (by omega) rfl dX0_take_28 ?_
        refine oz_ne (tgt := 34) hx hb dX0_take_29 (by decide) (by omega) (fun c4 => ?_) (fun c4 => ?_)
        · have bc := hB 3 (64 * (3 * f + t) + S 5 (3 * f + t))
          have b7 := hB 7 t
          have h9c := h9b (by rw [← ef]; exact c1) (by rw [← et]; exact c2)
          rw [← ef, ← et] at h9c
          have hc : tkO S (nI f) (nI t) := by unfold tkO; rw [← ef, ← et]; exact ⟨c1, c2, c3, c4⟩
          have eS : takS S (nI f) (nI t) = (roL t 40 (tk5 S f t) 0).1 := by rw [takS, if_pos hc, ← ef, ← et]; rfl
          have eR : takR S (nI f) (nI t) = nI (roL t 40 (tk5 S f t) 0).2 := by rw [takR, if_pos hc, ← ef, ← et]; rfl
          refine lv_iconst (v := (nI (3))) hx hb dX0_take_34 (by decide) ?_
          refine lv_iload_n hx hb dX0_take_35 rfl (lv_at hl 1 rfl) ?_
          refine oi_mul hx hb dX0_take_36 ?_
          refine lv_iload_n hx hb dX0_take_37 rfl (lv_at hl 2 rfl) ?_
          refine oi_add hx hb dX0_take_38 ?_
          refine lv_istore_n (lv' := [(3, .int (nI ((3 * f) + t))), (0, .ref (h)), (1, .int (nI (f))), (2, .int (nI (t)))]) hx hb dX0_take_39 rfl hl (by decide) rfl (fun ls hl => ?_)
          refine lv_bipush (v := (nI (64))) hx hb dX0_take_40 (by decide) ?_
          refine lv_iload_n hx hb dX0_take_42 rfl (lv_at hl 0 rfl) ?_
          refine oi_mul hx hb dX0_take_43 ?_
          refine lv_aload_n hx hb dX0_take_44 rfl (lv_at hl 1 rfl) ?_
          refine xg_5 C hG.1 dX0_take_45 ?_
          refine lv_iload_n hx hb dX0_take_48 rfl (lv_at hl 0 rfl) ?_
          refine xl_5 (v := S 5 ((3 * f) + t)) C hG.1 (by omega) rfl dX0_take_49 ?_
          refine oi_add hx hb dX0_take_50 ?_
          refine lv_istore (lv' := [(4, .int (nI ((64 * ((3 * f) + t)) + (S 5 ((3 * f) + t))))), (3, .int (nI ((3 * f) + t))), (0, .ref (h)), (1, .int (nI (f))), (2, .int (nI (t)))]) hx hb dX0_take_51 hl (by decide) rfl (fun ls hl => ?_)
          refine lv_aload_n hx hb dX0_take_53 rfl (lv_at hl 2 rfl) ?_
          refine xg_5 C hG.1 dX0_take_54 ?_
          refine lv_iload_n hx hb dX0_take_57 rfl (lv_at hl 1 rfl) ?_
          refine lv_aload_n hx hb dX0_take_58 rfl (lv_at hl 2 rfl) ?_
          refine xg_5 C hG.1 dX0_take_59 ?_
          refine lv_iload_n hx hb dX0_take_62 rfl (lv_at hl 1 rfl) ?_
          refine xl_5 (v := S 5 ((3 * f) + t)) C hG.1 (by omega) rfl dX0_take_63 ?_
          refine lv_iconst (v := (nI (1))) hx hb dX0_take_64 (by decide) ?_
          refine oi_add hx hb dX0_take_65 ?_
          refine lv_bipush (v := (nI (63))) hx hb dX0_take_66 (by decide) ?_
          refine oi_and hx hb (by omega) dX0_take_68 ?_
          refine xs_5 C hG (by omega) dX0_take_69 (fun H locs hG => ?_)
          refine lv_aload_n hx hb dX0_take_70 rfl (lv_at hl 2 rfl) ?_
          refine xg_6 C hG.1 dX0_take_71 ?_
          refine lv_iload_n hx hb dX0_take_74 rfl (lv_at hl 1 rfl) ?_
          refine lv_dup2_11 hx hb dX0_take_75 rfl rfl ?_
          refine xl_6 (v := S 6 ((3 * f) + t)) C hG.1 (by omega) rfl dX0_take_76 ?_
          refine lv_iconst (v := (nI (1))) hx hb dX0_take_77 (by decide) ?_
          refine oi_sub hx hb (by omega) dX0_take_78 ?_
          refine xs_6 C hG (by omega) dX0_take_79 (fun H locs hG => ?_)
          refine lv_aload_n hx hb dX0_take_80 rfl (lv_at hl 2 rfl) ?_
          refine xg_3 C hG.1 dX0_take_81 ?_
          refine lv_iload hx hb dX0_take_84 (lv_at hl 0 rfl) ?_
          refine xl_3 (v := S 3 ((64 * ((3 * f) + t)) + (S 5 ((3 * f) + t)))) C hG.1 (by omega) rfl dX0_take_86 ?_
          refine lv_istore (lv' := [(5, .int (nI (S 3 ((64 * ((3 * f) + t)) + (S 5 ((3 * f) + t)))))), (4, .int (nI ((64 * ((3 * f) + t)) + (S 5 ((3 * f) + t))))), (3, .int (nI ((3 * f) + t))), (0, .ref (h)), (1, .int (nI (f))), (2, .int (nI (t)))]) hx hb dX0_take_87 hl (by decide) rfl (fun ls hl => ?_)
          refine lv_aload_n hx hb dX0_take_89 rfl (lv_at hl 3 rfl) ?_
          refine xg_8 C hG.1 dX0_take_90 ?_
          refine lv_iconst (v := (nI (3))) hx hb dX0_take_93 (by decide) ?_
          refine lv_iload_n hx hb dX0_take_94 rfl (lv_at hl 5 rfl) ?_
          refine oi_mul hx hb dX0_take_95 ?_
          refine lv_iload_n hx hb dX0_take_96 rfl (lv_at hl 4 rfl) ?_
          refine oi_add hx hb dX0_take_97 ?_
          refine lv_iload hx hb dX0_take_98 (lv_at hl 0 rfl) ?_
          refine xs_8 C hG (by omega) dX0_take_100 (fun H locs hG => ?_)
          refine lv_aload_n hx hb dX0_take_101 rfl (lv_at hl 3 rfl) ?_
          refine xg_7 C hG.1 dX0_take_102 ?_
          refine lv_iload_n hx hb dX0_take_105 rfl (lv_at hl 5 rfl) ?_
          refine lv_iload hx hb dX0_take_106 (lv_at hl 0 rfl) ?_
          refine lv_aload_n hx hb dX0_take_108 rfl (lv_at hl 3 rfl) ?_
          refine xg_7 C hG.1 dX0_take_109 ?_
          refine lv_iload_n hx hb dX0_take_112 rfl (lv_at hl 5 rfl) ?_
          refine xl_7 (v := S 7 (t)) C hG.1 (by omega) rfl dX0_take_113 ?_
          refine oi_le (tgt := 122) hx hb dX0_take_114 (by decide) (by omega) (by omega) (fun c5 => ?_) (fun c5 => ?_)
          · refine lv_aload_n hx hb dX0_take_122 rfl (lv_at hl 3 rfl) ?_
            refine xg_7 C hG.1 dX0_take_123 ?_
            refine lv_iload_n hx hb dX0_take_126 rfl (lv_at hl 5 rfl) ?_
            refine xl_7 (v := S 7 (t)) C hG.1 (by omega) rfl dX0_take_127 ?_
            have em : mx (S 7 t) (S 3 (64 * (3 * f + t) + S 5 (3 * f + t))) = _ := if_neg (by omega)
            refine sX_take128 C hG ⟨Nat.le_of_ble_eq_true rfl, Nat.le_of_ble_eq_true rfl⟩ (sU_bd (sU_bd (sU_bd (fun k j => Nat.lt_of_lt_of_le (hB k j) (by decide)) (by omega)) (by omega)) (by omega)) c2 (by omega) (by omega) (h4 _) (h9 t c2) (h9c c4) h10 (lv_sub hl [3, 4, 5, 1] rfl) (fun H1 locs1 ls1 hG1 => ?_)
            have e5 : tk5 S f t = tk5 S f t := rfl
            conv at e5 => lhs; rw [tk5, tk4, em]
            refine oe_I C (by rw [eS, ← e5]; exact hG1) hr hk (by rw [eR, ← e5]; rfl) dX0_take_158
          · refine lv_iload hx hb dX0_take_117 (lv_at hl 0 rfl) ?_
            refine lv_goto (tgt := 128) hx hb dX0_take_119 (by decide) ?_
            have em : mx (S 7 t) (S 3 (64 * (3 * f + t) + S 5 (3 * f + t))) = _ := if_pos c5
            refine sX_take128 C hG ⟨Nat.le_of_ble_eq_true rfl, Nat.le_of_ble_eq_true rfl⟩ (sU_bd (sU_bd (sU_bd (fun k j => Nat.lt_of_lt_of_le (hB k j) (by decide)) (by omega)) (by omega)) (by omega)) c2 (by omega) (by omega) (h4 _) (h9 t c2) (h9c c4) h10 (lv_sub hl [3, 4, 5, 1] rfl) (fun H1 locs1 ls1 hG1 => ?_)
            have e5 : tk5 S f t = tk5 S f t := rfl
            conv at e5 => lhs; rw [tk5, tk4, em]
            refine oe_I C (by rw [eS, ← e5]; exact hG1) hr hk (by rw [eR, ← e5]; rfl) dX0_take_158
        · refine lv_iconst (v := (mI (0))) hx hb dX0_take_32 (by decide) ?_
          exact oe_I C (by rw [takS, if_neg (fun z => z.2.2.2 (by rw [← ef, ← et]; exact c4))]; exact hG) hr hk (by rw [takR, if_neg (fun z => z.2.2.2 (by rw [← ef, ← et]; exact c4))]) dX0_take_33
end
section
/-! the earliest open message, the number of open ones -/
theorem eaF_le (hs dn wr st : Nat → Nat) (a : Nat) : ∀ i, eaF hs dn wr st a i ≤ i := by
  intro i
  induction i with
  | zero => exact Nat.le_refl _
  | succ i ih =>
    rw [eaF]
    split
    · exact Nat.le_refl _
    · omega
theorem eaF_open (hs dn wr st : Nat → Nat) (a : Nat) : ∀ i, 0 < eaF hs dn wr st a i → opn hs dn a (eaF hs dn wr st a i - 1) := by
  intro i
  induction i with
  | zero => intro h; exact absurd h (Nat.lt_irrefl _)
  | succ i ih =>
    rw [eaF]
    split
    · rename_i h; intro _; exact h.1
    · exact ih
theorem hF_pos (hs dn : Nat → Nat) (a x : Nat) (h : opn hs dn a x) : ∀ i, x < i → 0 < hF hs dn a i := by
  intro i
  induction i with
  | zero => intro z; omega
  | succ i ih =>
    intro z
    rw [hF]
    split
    · omega
    · rename_i hn
      rcases Nat.lt_succ_iff_lt_or_eq.mp z with y | y
      · exact ih y
      · subst y; exact absurd h hn
theorem hF_le (hs dn : Nat → Nat) (a : Nat) : ∀ i, hF hs dn a i ≤ i := by
  intro i
  induction i with
  | zero => exact Nat.le_refl _
  | succ i ih =>
    rw [hF]
    split <;> omega
theorem eaF_hF {hs dn wr st : Nat → Nat} {a i : Nat} (h : 0 < eaF hs dn wr st a i) : 0 < hF hs dn a i :=
  hF_pos hs dn a _ (eaF_open hs dn wr st a i h) i (by have := eaF_le hs dn wr st a i; omega)
/-- two pictures with the same open ones below i -/
theorem hF_congr {hs dn hs' dn' : Nat → Nat} {a a' : Nat} : ∀ i, (∀ x, x < i → (opn hs dn a x ↔ opn hs' dn' a' x)) → hF hs dn a i = hF hs' dn' a' i := by
  intro i
  induction i with
  | zero => intro _; rfl
  | succ i ih =>
    intro h
    have e := ih (fun x z => h x (by omega))
    have hi := h i (Nat.lt_succ_self i)
    rw [hF, hF]
    by_cases c : opn hs dn a i
    · rw [if_pos c, if_pos (hi.mp c), e]
    · rw [if_neg c, if_neg (fun z => c (hi.mpr z)), e]
/-- one that was open isn't any more -/
theorem hF_less {hs dn hs' dn' : Nat → Nat} {a m : Nat} (hm : opn hs dn a m) (hm' : ¬ opn hs' dn' a m) : ∀ i, m < i → (∀ x, x < i → x ≠ m → (opn hs dn a x ↔ opn hs' dn' a x)) → hF hs dn a i = hF hs' dn' a i + 1 := by
  intro i
  induction i with
  | zero => intro z; omega
  | succ i ih =>
    intro z h
    rw [hF, hF]
    rcases Nat.lt_succ_iff_lt_or_eq.mp z with y | y
    · have e := ih y (fun x z1 z2 => h x (by omega) z2)
      have hi := h i (Nat.lt_succ_self i) (by omega)
      by_cases c : opn hs dn a i
      · rw [if_pos c, if_pos (hi.mp c), e]
      · rw [if_neg c, if_neg (fun z => c (hi.mpr z)), e]
    · subst y
      rw [if_pos hm, if_neg hm', hF_congr m (fun x z1 => h x (by omega) (by omega))]
theorem opn_done {hs dn : Nat → Nat} {a m x : Nat} (h : x ≠ m) : opn hs (va_up dn (40 * a + m) 1) a x ↔ opn hs dn a x := by
  unfold opn
  rw [va_other (by omega)]
theorem hF_done {hs dn : Nat → Nat} {a m i : Nat} (hm : opn hs dn a m) (hi : m < i) : hF hs dn a i = hF hs (va_up dn (40 * a + m) 1) a i + 1 :=
  hF_less hm (fun z => by have := z.2; rw [va_same] at this; omega) i hi (fun x _ h => (opn_done h).symm)
end
section
set_option maxRecDepth 100000
/-! OrderedRoomModel: bad, earlier, the queries, setOut, full, tick, write -/
theorem cM_bad (l : Launch) (x : Int32) : cS l yX1_bad cX1_bad 1 (some .boolean) (rmk 0 0) [.int x] (fun r => r = bI (¬ xm x < 3)) := by
  refine ent_S (by decide) (Nat.le_of_ble_eq_true rfl) ?_
  intro p e s m below meth c ls hx hb hr hk hl
  have hl : lv_has ls 1 [(0, .int x)] := hl
  refine lv_iload_n hx hb dX1_bad_0 rfl (lv_at hl 0 rfl) ?_
  refine lv_if_lt (tgt := 9) hx hb dX1_bad_1 (by decide) (fun c1 => ?_) (fun c1 => ?_)
  · refine lv_iconst (v := (nI (1))) hx hb dX1_bad_9 (by decide) ?_
    refine lv_goto (tgt := 14) hx hb dX1_bad_10 (by decide) ?_
    exact oe_Z hx hb hr hk rfl ((by rw [bI, if_pos (by rw [xm_neg c1]; omega)]; rfl)) dX1_bad_14
  · refine lv_iload_n hx hb dX1_bad_4 rfl (lv_at hl 0 rfl) ?_
    refine lv_iconst (v := (nI (2))) hx hb dX1_bad_5 (by decide) ?_
    refine lv_icmp_le (tgt := 13) hx hb dX1_bad_6 (by decide) (fun c2 => ?_) (fun c2 => ?_)
    · refine lv_iconst (v := (nI (0))) hx hb dX1_bad_13 (by decide) ?_
      exact oe_Z hx hb hr hk rfl ((by rw [bI, if_neg (fun z => z (xm_in c1 (Int32.not_lt.mpr c2)))]; rfl)) dX1_bad_14
    · refine lv_iconst (v := (nI (1))) hx hb dX1_bad_9 (by decide) ?_
      refine lv_goto (tgt := 14) hx hb dX1_bad_10 (by decide) ?_
      exact oe_Z hx hb hr hk rfl ((by rw [bI, if_pos (by rw [xm_big (Int32.not_le.mp c2)]; omega)]; rfl)) dX1_bad_14
theorem cwM_bad {R : Room} {s : State} {args : Array Value} (ht : ∀ w ∈ lw_all, w.before args s = true) (hR : 0 + 1 ≤ R.frames ∧ 8 + (1 + 11) + 0 ≤ R.locals) : CallB R s args RX1 44 yX1_bad cX1_bad 1 (some .boolean) (ws_ yX1_bad cX1_bad 1 (some .boolean)) (rmk 0 0) 0 0 1 ∧ (Cond.static yX1_bad).before args s = true := va_cwS 1 ht (lw_S q175 q176 q14 q177) rfl rfl rfl (by decide +kernel) hR
theorem cwM_earlier {R : Room} {s : State} {args : Array Value} (ht : ∀ w ∈ lw_all, w.before args s = true) (hR : 0 + 1 ≤ R.frames ∧ 8 + (5 + 11) + 0 ≤ R.locals) : CallW R s args RX1 RX1 59 yX1_earlier cX1_earlier 5 (some .boolean) (ws_ yX1_earlier cX1_earlier 5 (some .boolean)) (rmk 0 0) 0 0 4 := cwV 4 ht (lw_V q202 q204 qs10 q14 q205) rfl rfl rfl (by decide +kernel) hR
theorem cwM_full {R : Room} {s : State} {args : Array Value} (ht : ∀ w ∈ lw_all, w.before args s = true) (hR : 0 + 1 ≤ R.frames ∧ 8 + (3 + 11) + 0 ≤ R.locals) : CallW R s args RX1 RX1 56 yX1_full cX1_full 3 (some .boolean) (ws_ yX1_full cX1_full 3 (some .boolean)) (rmk 0 0) 0 0 1 := cwV 1 ht (lw_V q186 q188 qs7 q14 q189) rfl rfl rfl (by decide +kernel) hR
theorem cwM_setOut {R : Room} {s : State} {args : Array Value} (ht : ∀ w ∈ lw_all, w.before args s = true) (hR : 0 + 1 ≤ R.frames ∧ 8 + (5 + 11) + 0 ≤ R.locals) : CallW R s args RX1 RX1 52 yX1_setOut cX1_setOut 5 none (ws_ yX1_setOut cX1_setOut 5 none) (rmk 0 0) 0 0 2 := cwV 2 ht (lw_V q178 q180 qs6 q14 q181) rfl rfl rfl (by decide +kernel) hR
set_option maxHeartbeats 4000000 in
/-- earlier(u1, u2, u3, u4) -/
theorem cM_earlier (l : Launch) (D : va_G) (d b : ClassId) (h : Nat) (q : Nat → Nat) (S : Nat → Nat → Nat) {u1 u2 u3 u4 : Nat} (h1 : u1 < 2 ^ 30) (h2 : u2 < 2 ^ 30) (h3 : u3 < 2 ^ 30) (h4 : u4 < 2 ^ 30) : cR l yX1_earlier cX1_earlier 5 (some .boolean) (rmk 0 0) [.ref (h), .int (nI (u1)), .int (nI (u2)), .int (nI (u3)), .int (nI (u4))] D d b (wM d b h q S) (fun r => r = bI (u1 < u3 ∨ (u1 = u3 ∧ u2 < u4))) := by
  refine ent_R (by decide) (Nat.le_of_ble_eq_true rfl) ?_
  intro p e s m below meth c ls C hr hk hP hl
  have C : Cx p s m _ c cX1_earlier RX1 5 D d b (fun _ => True) := C
  have hx := C.1.1
  have hb := C.1.2.1
  have hl : lv_has ls 5 [(0, .ref (h)), (1, .int (nI (u1))), (2, .int (nI (u2))), (3, .int (nI (u3))), (4, .int (nI (u4)))] := hl
  refine lv_iload_n hx hb dX1_earlier_0 rfl (lv_at hl 1 rfl) ?_
  refine lv_iload_n hx hb dX1_earlier_1 rfl (lv_at hl 3 rfl) ?_
  refine oi_lt (tgt := 16) hx hb dX1_earlier_2 (by decide) (by omega) (by omega) (fun c1 => ?_) (fun c1 => ?_)
  · refine lv_iconst (v := (nI (1))) hx hb dX1_earlier_16 (by decide) ?_
    refine lv_goto (tgt := 21) hx hb dX1_earlier_17 (by decide) ?_
    exact oe_Z hx hb hr hk rfl ((by rw [bI, if_pos (by omega)]; rfl)) dX1_earlier_21
  · refine lv_iload_n hx hb dX1_earlier_5 rfl (lv_at hl 1 rfl) ?_
    refine lv_iload_n hx hb dX1_earlier_6 rfl (lv_at hl 3 rfl) ?_
    refine oi_ne (tgt := 20) hx hb dX1_earlier_7 (by decide) (by omega) (by omega) (fun c2 => ?_) (fun c2 => ?_)
    · refine lv_iconst (v := (nI (0))) hx hb dX1_earlier_20 (by decide) ?_
      exact oe_Z hx hb hr hk rfl ((by rw [bI, if_neg (by omega)]; rfl)) dX1_earlier_21
    · refine lv_iload_n hx hb dX1_earlier_10 rfl (lv_at hl 2 rfl) ?_
      refine lv_iload hx hb dX1_earlier_11 (lv_at hl 4 rfl) ?_
      refine oi_ge (tgt := 20) hx hb dX1_earlier_13 (by decide) (by omega) (by omega) (fun c3 => ?_) (fun c3 => ?_)
      · refine lv_iconst (v := (nI (0))) hx hb dX1_earlier_20 (by decide) ?_
        exact oe_Z hx hb hr hk rfl ((by rw [bI, if_neg (by omega)]; rfl)) dX1_earlier_21
      · refine lv_iconst (v := (nI (1))) hx hb dX1_earlier_16 (by decide) ?_
        refine lv_goto (tgt := 21) hx hb dX1_earlier_17 (by decide) ?_
        exact oe_Z hx hb hr hk rfl ((by rw [bI, if_pos (by omega)]; rfl)) dX1_earlier_21
set_option maxHeartbeats 4000000 in
/-- clock(x) -/
theorem cM_clock (l : Launch) (D : va_G) (d b : ClassId) (h : Nat) (q : Nat → Nat) (S : Nat → Nat → Nat) (x : Int32) : cR l yX1_clock cX1_clock 2 (some .int) (rmk 1 20) [.ref (h), .int (x)] D d b (wM d b h q S) (fun r => r = aOne x (S 0)) := by
  refine ent_R (by decide) (Nat.le_of_ble_eq_true rfl) ?_
  intro p e s m below meth c ls C hr hk hP hl
  have C : Cx p s m _ c cX1_clock RX1 2 D d b (fun _ => True) := C
  have hx := C.1.1
  have hb := C.1.2.1
  have hl : lv_has ls 2 [(0, .ref (h)), (1, .int (x))] := hl
  refine lv_iload_n hx hb dX1_clock_0 rfl (lv_at hl 1 rfl) ?_
  refine oc_S (As := [.int (x)]) (rest := []) C (cM_bad l x) (cwM_bad C.1.2.2.2.2 ⟨Nat.le_of_ble_eq_true rfl, Nat.le_of_ble_eq_true rfl⟩) rfl hl.1 rfl (Nat.le_of_ble_eq_true rfl) dX1_clock_1 ⟨Nat.zero_le _, Nat.zero_le _⟩ (fun r1 hr1 => ?_)
  subst hr1
  refine ob_eq (tgt := 11) hx hb dX1_clock_4 (by decide) (fun yc1 => ?_) (fun yc1 => ?_)
  · have c1 := Classical.not_not.mp yc1
    clear yc1
    obtain ⟨a, ea⟩ : ∃ z, z = xm x := ⟨_, rfl⟩
    have kx := xm_ok c1
    rw [← ea] at c1 kx
    subst kx
    refine lv_aload_n hx hb dX1_clock_11 rfl (lv_at hl 0 rfl) ?_
    refine mg_0 C hP dX1_clock_12 ?_
    refine lv_iload_n hx hb dX1_clock_15 rfl (lv_at hl 1 rfl) ?_
    refine ml_0 (v := S 0 (a)) C hP (by omega) rfl dX1_clock_16 ?_
    exact oe_R hx hb hr hk (by rw [aOne, ← ea, if_pos c1]) dX1_clock_17
  · have c1 := yc1
    refine lv_iconst (v := (mI (0))) hx hb dX1_clock_7 (by decide) ?_
    refine lv_goto (tgt := 17) hx hb dX1_clock_8 (by decide) ?_
    exact oe_R hx hb hr hk (by rw [aOne, if_neg c1]) dX1_clock_17
set_option maxHeartbeats 4000000 in
/-- count(x) -/
theorem cM_count (l : Launch) (D : va_G) (d b : ClassId) (h : Nat) (q : Nat → Nat) (S : Nat → Nat → Nat) (x : Int32) : cR l yX1_count cX1_count 2 (some .int) (rmk 1 20) [.ref (h), .int (x)] D d b (wM d b h q S) (fun r => r = aOne x (S 6)) := by
  refine ent_R (by decide) (Nat.le_of_ble_eq_true rfl) ?_
  intro p e s m below meth c ls C hr hk hP hl
  have C : Cx p s m _ c cX1_count RX1 2 D d b (fun _ => True) := C
  have hx := C.1.1
  have hb := C.1.2.1
  have hl : lv_has ls 2 [(0, .ref (h)), (1, .int (x))] := hl
  refine lv_iload_n hx hb dX1_count_0 rfl (lv_at hl 1 rfl) ?_
  refine oc_S (As := [.int (x)]) (rest := []) C (cM_bad l x) (cwM_bad C.1.2.2.2.2 ⟨Nat.le_of_ble_eq_true rfl, Nat.le_of_ble_eq_true rfl⟩) rfl hl.1 rfl (Nat.le_of_ble_eq_true rfl) dX1_count_1 ⟨Nat.zero_le _, Nat.zero_le _⟩ (fun r1 hr1 => ?_)
  subst hr1
  refine ob_eq (tgt := 11) hx hb dX1_count_4 (by decide) (fun yc1 => ?_) (fun yc1 => ?_)
  · have c1 := Classical.not_not.mp yc1
    clear yc1
    obtain ⟨a, ea⟩ : ∃ z, z = xm x := ⟨_, rfl⟩
    have kx := xm_ok c1
    rw [← ea] at c1 kx
    subst kx
    refine lv_aload_n hx hb dX1_count_11 rfl (lv_at hl 0 rfl) ?_
    refine mg_6 C hP dX1_count_12 ?_
    refine lv_iload_n hx hb dX1_count_15 rfl (lv_at hl 1 rfl) ?_
    refine ml_6 (v := S 6 (a)) C hP (by omega) rfl dX1_count_16 ?_
    exact oe_R hx hb hr hk (by rw [aOne, ← ea, if_pos c1]) dX1_count_17
  · have c1 := yc1
    refine lv_iconst (v := (mI (0))) hx hb dX1_count_7 (by decide) ?_
    refine lv_goto (tgt := 17) hx hb dX1_count_8 (by decide) ?_
    exact oe_R hx hb hr hk (by rw [aOne, if_neg c1]) dX1_count_17
set_option maxHeartbeats 4000000 in
/-- waiting(x, y) -/
theorem cM_waiting (l : Launch) (D : va_G) (d b : ClassId) (h : Nat) (q : Nat → Nat) (S : Nat → Nat → Nat) (x y : Int32) : cR l yX1_waiting cX1_waiting 3 (some .int) (rmk 1 20) [.ref (h), .int (x), .int (y)] D d b (wM d b h q S) (fun r => r = aWait x y (S 9)) := by
  refine ent_R (by decide) (Nat.le_of_ble_eq_true rfl) ?_
  intro p e s m below meth c ls C hr hk hP hl
  have C : Cx p s m _ c cX1_waiting RX1 3 D d b (fun _ => True) := C
  have hx := C.1.1
  have hb := C.1.2.1
  have hl : lv_has ls 3 [(0, .ref (h)), (1, .int (x)), (2, .int (y))] := hl
  refine lv_iload_n hx hb dX1_waiting_0 rfl (lv_at hl 1 rfl) ?_
  refine oc_S (As := [.int (x)]) (rest := []) C (cM_bad l x) (cwM_bad C.1.2.2.2.2 ⟨Nat.le_of_ble_eq_true rfl, Nat.le_of_ble_eq_true rfl⟩) rfl hl.1 rfl (Nat.le_of_ble_eq_true rfl) dX1_waiting_1 ⟨Nat.zero_le _, Nat.zero_le _⟩ (fun r1 hr1 => ?_)
  subst hr1
  refine ob_ne (tgt := 19) hx hb dX1_waiting_4 (by decide) (fun yc1 => ?_) (fun yc1 => ?_)
  · have c1 := yc1
    refine lv_iconst (v := (mI (0))) hx hb dX1_waiting_19 (by decide) ?_
    refine lv_goto (tgt := 33) hx hb dX1_waiting_20 (by decide) ?_
    exact oe_R hx hb hr hk (by rw [aWait, if_neg (by omega)]) dX1_waiting_33
  · have c1 := Classical.not_not.mp yc1
    clear yc1
    obtain ⟨a1, ea1⟩ : ∃ z, z = xm x := ⟨_, rfl⟩
    have kx := xm_ok c1
    rw [← ea1] at c1 kx
    subst kx
    refine lv_iload_n hx hb dX1_waiting_7 rfl (lv_at hl 2 rfl) ?_
    refine oc_S (As := [.int (y)]) (rest := []) C (cM_bad l y) (cwM_bad C.1.2.2.2.2 ⟨Nat.le_of_ble_eq_true rfl, Nat.le_of_ble_eq_true rfl⟩) rfl hl.1 rfl (Nat.le_of_ble_eq_true rfl) dX1_waiting_8 ⟨Nat.zero_le _, Nat.zero_le _⟩ (fun r1 hr1 => ?_)
    subst hr1
    refine ob_ne (tgt := 19) hx hb dX1_waiting_11 (by decide) (fun yc2 => ?_) (fun yc2 => ?_)
    · have c2 := yc2
      refine lv_iconst (v := (mI (0))) hx hb dX1_waiting_19 (by decide) ?_
      refine lv_goto (tgt := 33) hx hb dX1_waiting_20 (by decide) ?_
      exact oe_R hx hb hr hk (by rw [aWait, if_neg (by omega)]) dX1_waiting_33
    · have c2 := Classical.not_not.mp yc2
      clear yc2
      obtain ⟨a2, ea2⟩ : ∃ z, z = xm y := ⟨_, rfl⟩
      have ky := xm_ok c2
      rw [← ea2] at c2 ky
      subst ky
      refine lv_iload_n hx hb dX1_waiting_14 rfl (lv_at hl 1 rfl) ?_
      refine lv_iload_n hx hb dX1_waiting_15 rfl (lv_at hl 2 rfl) ?_
      refine oi_ne (tgt := 23) hx hb dX1_waiting_16 (by decide) (by omega) (by omega) (fun c3 => ?_) (fun c3 => ?_)
      · refine lv_aload_n hx hb dX1_waiting_23 rfl (lv_at hl 0 rfl) ?_
        refine mg_9 C hP dX1_waiting_24 ?_
        refine lv_iconst (v := (nI (3))) hx hb dX1_waiting_27 (by decide) ?_
        refine lv_iload_n hx hb dX1_waiting_28 rfl (lv_at hl 1 rfl) ?_
        refine oi_mul hx hb dX1_waiting_29 ?_
        refine lv_iload_n hx hb dX1_waiting_30 rfl (lv_at hl 2 rfl) ?_
        refine oi_add hx hb dX1_waiting_31 ?_
        refine ml_9 (v := S 9 ((3 * a1) + a2)) C hP (by omega) rfl dX1_waiting_32 ?_
        exact oe_R hx hb hr hk (by rw [aWait, ← ea1, ← ea2, if_pos (by omega)]) dX1_waiting_33
      · refine lv_iconst (v := (mI (0))) hx hb dX1_waiting_19 (by decide) ?_
        refine lv_goto (tgt := 33) hx hb dX1_waiting_20 (by decide) ?_
        exact oe_R hx hb hr hk (by rw [aWait, if_neg (by omega)]) dX1_waiting_33
set_option maxHeartbeats 4000000 in
/-- read(x, y) -/
theorem cM_read (l : Launch) (D : va_G) (d b : ClassId) (h : Nat) (q : Nat → Nat) (S : Nat → Nat → Nat) (hB : ∀ j, S 6 j ≤ 40) (x y : Int32) : cR l yX1_read cX1_read 3 (some .int) (rmk 1 20) [.ref (h), .int (x), .int (y)] D d b (wM d b h q S) (fun r => r = aRead x y (S 6) (S 7)) := by
  refine ent_R (by decide) (Nat.le_of_ble_eq_true rfl) ?_
  intro p e s m below meth c ls C hr hk hP hl
  have C : Cx p s m _ c cX1_read RX1 3 D d b (fun _ => True) := C
  have hx := C.1.1
  have hb := C.1.2.1
  have hl : lv_has ls 3 [(0, .ref (h)), (1, .int (x)), (2, .int (y))] := hl
  refine lv_iload_n hx hb dX1_read_0 rfl (lv_at hl 1 rfl) ?_
  refine oc_S (As := [.int (x)]) (rest := []) C (cM_bad l x) (cwM_bad C.1.2.2.2.2 ⟨Nat.le_of_ble_eq_true rfl, Nat.le_of_ble_eq_true rfl⟩) rfl hl.1 rfl (Nat.le_of_ble_eq_true rfl) dX1_read_1 ⟨Nat.zero_le _, Nat.zero_le _⟩ (fun r1 hr1 => ?_)
  subst hr1
  refine ob_ne (tgt := 21) hx hb dX1_read_4 (by decide) (fun yc1 => ?_) (fun yc1 => ?_)
  · have c1 := yc1
    refine lv_iconst (v := (mI (0))) hx hb dX1_read_21 (by decide) ?_
    refine lv_goto (tgt := 36) hx hb dX1_read_22 (by decide) ?_
    exact oe_R hx hb hr hk (by rw [aRead, if_neg (fun z => c1 z.1)]) dX1_read_36
  · have c1 := Classical.not_not.mp yc1
    clear yc1
    obtain ⟨a, ea⟩ : ∃ z, z = xm x := ⟨_, rfl⟩
    have kx := xm_ok c1
    rw [← ea] at c1 kx
    subst kx
    refine lv_iload_n hx hb dX1_read_7 rfl (lv_at hl 2 rfl) ?_
    refine lv_if_lt (tgt := 21) hx hb dX1_read_8 (by decide) (fun c2 => ?_) (fun c2 => ?_)
    · refine lv_iconst (v := (mI (0))) hx hb dX1_read_21 (by decide) ?_
      refine lv_goto (tgt := 36) hx hb dX1_read_22 (by decide) ?_
      exact oe_R hx hb hr hk (by rw [aRead, if_neg (fun z => z.2.1 c2)]) dX1_read_36
    · obtain ⟨j, hj, rfl⟩ := nI_of c2
      have ej : (nI j).toNatClampNeg = j := nI_clamp hj
      have b11 := hB a
      refine lv_iload_n hx hb dX1_read_11 rfl (lv_at hl 2 rfl) ?_
      refine lv_aload_n hx hb dX1_read_12 rfl (lv_at hl 0 rfl) ?_
      refine mg_6 C hP dX1_read_13 ?_
      refine lv_iload_n hx hb dX1_read_16 rfl (lv_at hl 1 rfl) ?_
      refine ml_6 (v := S 6 (a)) C hP (by omega) rfl dX1_read_17 ?_
      refine oi_lt (tgt := 25) hx hb dX1_read_18 (by decide) (by omega) (by omega) (fun c3 => ?_) (fun c3 => ?_)
      · refine lv_aload_n hx hb dX1_read_25 rfl (lv_at hl 0 rfl) ?_
        refine mg_7 C hP dX1_read_26 ?_
        refine lv_bipush (v := (nI (40))) hx hb dX1_read_29 (by decide) ?_
        refine lv_iload_n hx hb dX1_read_31 rfl (lv_at hl 1 rfl) ?_
        refine oi_mul hx hb dX1_read_32 ?_
        refine lv_iload_n hx hb dX1_read_33 rfl (lv_at hl 2 rfl) ?_
        refine oi_add hx hb dX1_read_34 ?_
        refine ml_7 (v := S 7 ((40 * a) + j)) C hP (by omega) rfl dX1_read_35 ?_
        exact oe_R hx hb hr hk (by rw [aRead, ← ea, ej, if_pos ⟨c1, c2, c3⟩]) dX1_read_36
      · refine lv_iconst (v := (mI (0))) hx hb dX1_read_21 (by decide) ?_
        refine lv_goto (tgt := 36) hx hb dX1_read_22 (by decide) ?_
        exact oe_R hx hb hr hk (by rw [aRead, ← ea, ej, if_neg (fun z => by omega)]) dX1_read_36
section M1h
variable {p : Program} {l : Launch} {e : Env} {R : Room} {s : State} {m : MethodId} {args : Array Value} {below : List Frame} {meth : Method} {c : Code} {H : Heap} {locs : List Loc} {Q : State → Prop}
variable {ls : Array Slot} {D : va_G} {A : Nat → Prop} {d b : ClassId} {h : Nat} {q : Nat → Nat} {S : Nat → Nat → Nat}
set_option maxHeartbeats 4000000 in
theorem sM_held (C : Cx p s m args c cX1_held RX1 4 D d b A) (hP : va_P D clX (wM d b h q S) H) (hB : ∀ k j, S k j < 2 ^ 30) (h1 : S 1 0 ≤ 40) {a : Nat} (ha : a < 3) (kk : ∀ ls : Array Slot, W p l e R s m args below meth c H locs 0 0 Q (F0 m 59 ls [.int (nI (hF (S 4) (S 5) a (S 1 0)))])) : ∀ (g i n : Nat) (ls : Array Slot), i + g = S 1 0 → n = hF (S 4) (S 5) a i → lv_has ls 4 [(0, .ref (h)), (1, .int (nI (a))), (2, .int (nI (n))), (3, .int (nI (i)))] → W p l e R s m args below meth c H locs 0 0 Q (F0 m 13 ls []) := by
  have hx := C.1.1
  have hb := C.1.2.1
  intro g
  induction g with
  | zero =>
    intro i n ls hi hn hl
    refine lv_iload_n hx hb dX1_held_13 rfl (lv_at hl 3 rfl) ?_
    refine lv_aload_n hx hb dX1_held_14 rfl (lv_at hl 0 rfl) ?_
    refine mg_1 C hP dX1_held_15 ?_
    refine oi_ge (tgt := 58) hx hb dX1_held_18 (by decide) (by omega) (by omega) (fun c1 => ?_) (fun c1 => False.elim (by omega))
    refine lv_iload_n hx hb dX1_held_58 rfl (lv_at hl 2 rfl) ?_
    have ei : i = S 1 0 := by omega
    subst hn
    rw [ei]
    exact kk ls
  | succ g ih =>
    intro i n ls hi hn hl
    have b4 := hB 4 (40 * a + i)
    have b5 := hB 5 (40 * a + i)
    refine lv_iload_n hx hb dX1_held_13 rfl (lv_at hl 3 rfl) ?_
    refine lv_aload_n hx hb dX1_held_14 rfl (lv_at hl 0 rfl) ?_
    refine mg_1 C hP dX1_held_15 ?_
    refine oi_ge (tgt := 58) hx hb dX1_held_18 (by decide) (by omega) (by omega) (fun c1 => False.elim (by omega)) (fun c1 => ?_)
    refine lv_aload_n hx hb dX1_held_21 rfl (lv_at hl 0 rfl) ?_
    refine mg_4 C hP dX1_held_22 ?_
    refine lv_bipush (v := (nI (40))) hx hb dX1_held_25 (by decide) ?_
    refine lv_iload_n hx hb dX1_held_27 rfl (lv_at hl 1 rfl) ?_
    refine oi_mul hx hb dX1_held_28 ?_
    refine lv_iload_n hx hb dX1_held_29 rfl (lv_at hl 3 rfl) ?_
    refine oi_add hx hb dX1_held_30 ?_
    refine ml_4 (v := S 4 ((40 * a) + i)) C hP (by omega) rfl dX1_held_31 ?_
    refine oz_eq (tgt := 52) hx hb dX1_held_32 (by decide) (by omega) (fun c2 => ?_) (fun c2 => ?_)
    · refine lv_iinc (v := nI (i + 1)) (lv' := [(3, .int (nI (i + 1))), (0, .ref (h)), (1, .int (nI (a))), (2, .int (nI (n)))]) hx hb dX1_held_52 hl (k := 3) rfl (oi_inc _) (by decide) rfl (fun ls hl => ?_)
      refine lv_goto (tgt := 13) hx hb dX1_held_55 (by decide) ?_
      exact ih (i + 1) (n) ls (by omega) (by rw [hF, if_neg (fun z => z.1 c2), hn]) (lv_sub hl [1, 2, 3, 0] rfl)
    · refine lv_aload_n hx hb dX1_held_35 rfl (lv_at hl 0 rfl) ?_
      refine mg_5 C hP dX1_held_36 ?_
      refine lv_bipush (v := (nI (40))) hx hb dX1_held_39 (by decide) ?_
      refine lv_iload_n hx hb dX1_held_41 rfl (lv_at hl 1 rfl) ?_
      refine oi_mul hx hb dX1_held_42 ?_
      refine lv_iload_n hx hb dX1_held_43 rfl (lv_at hl 3 rfl) ?_
      refine oi_add hx hb dX1_held_44 ?_
      refine ml_5 (v := S 5 ((40 * a) + i)) C hP (by omega) rfl dX1_held_45 ?_
      refine oz_ne (tgt := 52) hx hb dX1_held_46 (by decide) (by omega) (fun c3 => ?_) (fun c3 => ?_)
      · refine lv_iinc (v := nI (i + 1)) (lv' := [(3, .int (nI (i + 1))), (0, .ref (h)), (1, .int (nI (a))), (2, .int (nI (n)))]) hx hb dX1_held_52 hl (k := 3) rfl (oi_inc _) (by decide) rfl (fun ls hl => ?_)
        refine lv_goto (tgt := 13) hx hb dX1_held_55 (by decide) ?_
        exact ih (i + 1) (n) ls (by omega) (by rw [hF, if_neg (fun z => c3 z.2), hn]) (lv_sub hl [1, 2, 3, 0] rfl)
      · refine lv_iinc (v := nI (n + 1)) (lv' := [(2, .int (nI (n + 1))), (0, .ref (h)), (1, .int (nI (a))), (3, .int (nI (i)))]) hx hb dX1_held_49 hl (k := 2) rfl (oi_inc _) (by decide) rfl (fun ls hl => ?_)
        refine lv_iinc (v := nI (i + 1)) (lv' := [(3, .int (nI (i + 1))), (2, .int (nI (n + 1))), (0, .ref (h)), (1, .int (nI (a)))]) hx hb dX1_held_52 hl (k := 3) rfl (oi_inc _) (by decide) rfl (fun ls hl => ?_)
        refine lv_goto (tgt := 13) hx hb dX1_held_55 (by decide) ?_
        exact ih (i + 1) (n + 1) ls (by omega) (by rw [hF, if_pos ⟨c2, c3⟩, hn]) (lv_sub hl [2, 3, 1, 0] rfl)
end M1h
set_option maxHeartbeats 4000000 in
/-- held(x) -/
theorem cM_held (l : Launch) (D : va_G) (d b : ClassId) (h : Nat) (q : Nat → Nat) (S : Nat → Nat → Nat) (hB : ∀ k j, S k j < 2 ^ 30) (h1 : S 1 0 ≤ 40) (x : Int32) : cR l yX1_held cX1_held 4 (some .int) (rmk 1 20) [.ref (h), .int (x)] D d b (wM d b h q S) (fun r => r = aOne x (fun a => hF (S 4) (S 5) a (S 1 0))) := by
  refine ent_R (by decide) (Nat.le_of_ble_eq_true rfl) ?_
  intro p e s m below meth c ls C hr hk hP hl
  have C : Cx p s m _ c cX1_held RX1 4 D d b (fun _ => True) := C
  have hx := C.1.1
  have hb := C.1.2.1
  have hl : lv_has ls 4 [(0, .ref (h)), (1, .int (x))] := hl
  refine lv_iload_n hx hb dX1_held_0 rfl (lv_at hl 1 rfl) ?_
  refine oc_S (As := [.int (x)]) (rest := []) C (cM_bad l x) (cwM_bad C.1.2.2.2.2 ⟨Nat.le_of_ble_eq_true rfl, Nat.le_of_ble_eq_true rfl⟩) rfl hl.1 rfl (Nat.le_of_ble_eq_true rfl) dX1_held_1 ⟨Nat.zero_le _, Nat.zero_le _⟩ (fun r1 hr1 => ?_)
  subst hr1
  refine ob_eq (tgt := 9) hx hb dX1_held_4 (by decide) (fun yc1 => ?_) (fun yc1 => ?_)
  · have c1 := Classical.not_not.mp yc1
    clear yc1
    obtain ⟨a, ea⟩ : ∃ z, z = xm x := ⟨_, rfl⟩
    have kx := xm_ok c1
    rw [← ea] at c1 kx
    subst kx
    refine lv_iconst (v := (nI (0))) hx hb dX1_held_9 (by decide) ?_
    refine lv_istore_n (lv' := [(2, .int (nI (0))), (0, .ref (h)), (1, .int (nI (a)))]) hx hb dX1_held_10 rfl hl (by decide) rfl (fun ls hl => ?_)
    refine lv_iconst (v := (nI (0))) hx hb dX1_held_11 (by decide) ?_
    refine lv_istore_n (lv' := [(3, .int (nI (0))), (2, .int (nI (0))), (0, .ref (h)), (1, .int (nI (a)))]) hx hb dX1_held_12 rfl hl (by decide) rfl (fun ls hl => ?_)
    exact sM_held C hP hB h1 c1 (fun ls => oe_R hx hb hr hk (by rw [aOne, ← ea, if_pos c1]) dX1_held_59) (S 1 0) 0 0 ls (by omega) rfl (lv_sub hl [2, 3, 1, 0] rfl)
  · have c1 := yc1
    refine lv_iconst (v := (mI (0))) hx hb dX1_held_7 (by decide) ?_
    exact oe_R hx hb hr hk (by rw [aOne, if_neg c1]) dX1_held_8
section M1b
variable {p : Program} {l : Launch} {e : Env} {R : Room} {s : State} {m : MethodId} {args : Array Value} {below : List Frame} {meth : Method} {c : Code} {H : Heap} {locs : List Loc} {Q : State → Prop}
variable {ls : Array Slot} {D : va_G} {A : Nat → Prop} {d b : ClassId} {h : Nat} {q : Nat → Nat} {S : Nat → Nat → Nat}
set_option maxHeartbeats 4000000 in
theorem sM_agree (C : Cx p s m args c cX1_agree RX1 4 D d b A) (hP : va_P D clX (wM d b h q S) H) (h11 : ∀ j, S 6 j ≤ 40) (hB : ∀ j, S 7 j < 2 ^ 30) {a1 a2 : Nat} (ha1 : a1 < 3) (ha2 : a2 < 3) (k1 : (∀ j, j < S 6 a1 → j < S 6 a2 → S 7 (40 * a1 + j) = S 7 (40 * a2 + j)) → ∀ ls : Array Slot, W p l e R s m args below meth c H locs 0 0 Q (F0 m 72 ls [.int (nI 1)])) (k0 : ¬ (∀ j, j < S 6 a1 → j < S 6 a2 → S 7 (40 * a1 + j) = S 7 (40 * a2 + j)) → ∀ ls : Array Slot, W p l e R s m args below meth c H locs 0 0 Q (F0 m 64 ls [.int (nI 0)])) : ∀ (n k : Nat) (ls : Array Slot), k + n = 41 → k ≤ 40 → (∀ j, j < k → S 7 (40 * a1 + j) = S 7 (40 * a2 + j)) → lv_has ls 4 [(0, .ref (h)), (1, .int (nI (a1))), (2, .int (nI (a2))), (3, .int (nI (k)))] → W p l e R s m args below meth c H locs 0 0 Q (F0 m 18 ls []) := by
  have hx := C.1.1
  have hb := C.1.2.1
  intro n
  induction n with
  | zero => intro k ls h0 h1; omega
  | succ n ih =>
    intro k ls hn hk40 hj hl
    have b1 := h11 a1
    have b2 := h11 a2
    refine lv_iload_n hx hb dX1_agree_18 rfl (lv_at hl 3 rfl) ?_
    refine lv_aload_n hx hb dX1_agree_19 rfl (lv_at hl 0 rfl) ?_
    refine mg_6 C hP dX1_agree_20 ?_
    refine lv_iload_n hx hb dX1_agree_23 rfl (lv_at hl 1 rfl) ?_
    refine ml_6 (v := S 6 (a1)) C hP (by omega) rfl dX1_agree_24 ?_
    refine oi_ge (tgt := 71) hx hb dX1_agree_25 (by decide) (by omega) (by omega) (fun c1 => ?_) (fun c1 => ?_)
    · refine lv_iconst (v := (nI (1))) hx hb dX1_agree_71 (by decide) ?_
      exact k1 (fun j z1 z2 => hj j (by omega)) ls
    · refine lv_iload_n hx hb dX1_agree_28 rfl (lv_at hl 3 rfl) ?_
      refine lv_aload_n hx hb dX1_agree_29 rfl (lv_at hl 0 rfl) ?_
      refine mg_6 C hP dX1_agree_30 ?_
      refine lv_iload_n hx hb dX1_agree_33 rfl (lv_at hl 2 rfl) ?_
      refine ml_6 (v := S 6 (a2)) C hP (by omega) rfl dX1_agree_34 ?_
      refine oi_ge (tgt := 71) hx hb dX1_agree_35 (by decide) (by omega) (by omega) (fun c2 => ?_) (fun c2 => ?_)
      · refine lv_iconst (v := (nI (1))) hx hb dX1_agree_71 (by decide) ?_
        exact k1 (fun j z1 z2 => hj j (by omega)) ls
      · have b3 := hB (40 * a1 + k)
        have b4 := hB (40 * a2 + k)
        refine lv_aload_n hx hb dX1_agree_38 rfl (lv_at hl 0 rfl) ?_
        refine mg_7 C hP dX1_agree_39 ?_
        refine lv_bipush (v := (nI (40))) hx hb dX1_agree_42 (by decide) ?_
        refine lv_iload_n hx hb dX1_agree_44 rfl (lv_at hl 1 rfl) ?_
        refine oi_mul hx hb dX1_agree_45 ?_
        refine lv_iload_n hx hb dX1_agree_46 rfl (lv_at hl 3 rfl) ?_
        refine oi_add hx hb dX1_agree_47 ?_
        refine ml_7 (v := S 7 ((40 * a1) + k)) C hP (by omega) rfl dX1_agree_48 ?_
        refine lv_aload_n hx hb dX1_agree_49 rfl (lv_at hl 0 rfl) ?_
        refine mg_7 C hP dX1_agree_50 ?_
        refine lv_bipush (v := (nI (40))) hx hb dX1_agree_53 (by decide) ?_
        refine lv_iload_n hx hb dX1_agree_55 rfl (lv_at hl 2 rfl) ?_
        refine oi_mul hx hb dX1_agree_56 ?_
        refine lv_iload_n hx hb dX1_agree_57 rfl (lv_at hl 3 rfl) ?_
        refine oi_add hx hb dX1_agree_58 ?_
        refine ml_7 (v := S 7 ((40 * a2) + k)) C hP (by omega) rfl dX1_agree_59 ?_
        refine oi_eq (tgt := 65) hx hb dX1_agree_60 (by decide) (by omega) (by omega) (fun c3 => ?_) (fun c3 => ?_)
        · refine lv_iinc (v := nI (k + 1)) (lv' := [(3, .int (nI (k + 1))), (0, .ref (h)), (1, .int (nI (a1))), (2, .int (nI (a2)))]) hx hb dX1_agree_65 hl (k := 3) rfl (oi_inc _) (by decide) rfl (fun ls hl => ?_)
          refine lv_goto (tgt := 18) hx hb dX1_agree_68 (by decide) ?_
          exact ih (k + 1) ls (by omega) (by omega) (fun j z => by rcases Nat.lt_succ_iff_lt_or_eq.mp z with y | y; exact hj j y; rw [y]; exact c3) (lv_sub hl [1, 2, 3, 0] rfl)
        · refine lv_iconst (v := (nI (0))) hx hb dX1_agree_63 (by decide) ?_
          exact k0 (fun z => c3 (z k c1 c2)) ls
end M1b
set_option maxHeartbeats 4000000 in
/-- agree(x, y) -/
theorem cM_agree (l : Launch) (D : va_G) (d b : ClassId) (h : Nat) (q : Nat → Nat) (S : Nat → Nat → Nat) (h11 : ∀ j, S 6 j ≤ 40) (hB : ∀ j, S 7 j < 2 ^ 30) (x y : Int32) : cR l yX1_agree cX1_agree 4 (some .int) (rmk 1 20) [.ref (h), .int (x), .int (y)] D d b (wM d b h q S) (fun r => aAgree x y (S 6) (S 7) r) := by
  refine ent_R (by decide) (Nat.le_of_ble_eq_true rfl) ?_
  intro p e s m below meth c ls C hr hk hP hl
  have C : Cx p s m _ c cX1_agree RX1 4 D d b (fun _ => True) := C
  have hx := C.1.1
  have hb := C.1.2.1
  have hl : lv_has ls 4 [(0, .ref (h)), (1, .int (x)), (2, .int (y))] := hl
  refine lv_iload_n hx hb dX1_agree_0 rfl (lv_at hl 1 rfl) ?_
  refine oc_S (As := [.int (x)]) (rest := []) C (cM_bad l x) (cwM_bad C.1.2.2.2.2 ⟨Nat.le_of_ble_eq_true rfl, Nat.le_of_ble_eq_true rfl⟩) rfl hl.1 rfl (Nat.le_of_ble_eq_true rfl) dX1_agree_1 ⟨Nat.zero_le _, Nat.zero_le _⟩ (fun r1 hr1 => ?_)
  subst hr1
  refine ob_ne (tgt := 14) hx hb dX1_agree_4 (by decide) (fun yc1 => ?_) (fun yc1 => ?_)
  · have c1 := yc1
    refine lv_iconst (v := (mI (0))) hx hb dX1_agree_14 (by decide) ?_
    exact oe_R hx hb hr hk ⟨fun z => absurd z (by omega), fun _ => rfl⟩ dX1_agree_15
  · have c1 := Classical.not_not.mp yc1
    clear yc1
    obtain ⟨a1, ea1⟩ : ∃ z, z = xm x := ⟨_, rfl⟩
    have kx := xm_ok c1
    rw [← ea1] at c1 kx
    subst kx
    refine lv_iload_n hx hb dX1_agree_7 rfl (lv_at hl 2 rfl) ?_
    refine oc_S (As := [.int (y)]) (rest := []) C (cM_bad l y) (cwM_bad C.1.2.2.2.2 ⟨Nat.le_of_ble_eq_true rfl, Nat.le_of_ble_eq_true rfl⟩) rfl hl.1 rfl (Nat.le_of_ble_eq_true rfl) dX1_agree_8 ⟨Nat.zero_le _, Nat.zero_le _⟩ (fun r1 hr1 => ?_)
    subst hr1
    refine ob_eq (tgt := 16) hx hb dX1_agree_11 (by decide) (fun yc2 => ?_) (fun yc2 => ?_)
    · have c2 := Classical.not_not.mp yc2
      clear yc2
      obtain ⟨a2, ea2⟩ : ∃ z, z = xm y := ⟨_, rfl⟩
      have ky := xm_ok c2
      rw [← ea2] at c2 ky
      subst ky
      refine lv_iconst (v := (nI (0))) hx hb dX1_agree_16 (by decide) ?_
      refine lv_istore_n (lv' := [(3, .int (nI (0))), (0, .ref (h)), (1, .int (nI (a1))), (2, .int (nI (a2)))]) hx hb dX1_agree_17 rfl hl (by decide) rfl (fun ls hl => ?_)
      refine sM_agree C hP h11 hB c1 c2 (fun z ls => ?_) (fun z ls => ?_) 41 0 ls (by omega) (by omega) (fun j z => by omega) (lv_sub hl [1, 2, 3, 0] rfl)
      · exact oe_R hx hb hr hk ⟨fun _ => Or.inl ⟨by rw [← ea1, ← ea2]; exact z, rfl⟩, fun y => absurd (show _ from ⟨by rw [← ea1]; exact c1, by rw [← ea2]; exact c2⟩) y⟩ dX1_agree_72
      · exact oe_R hx hb hr hk ⟨fun _ => Or.inr ⟨by rw [← ea1, ← ea2]; exact z, rfl⟩, fun y => absurd (show _ from ⟨by rw [← ea1]; exact c1, by rw [← ea2]; exact c2⟩) y⟩ dX1_agree_64
    · have c2 := yc2
      refine lv_iconst (v := (mI (0))) hx hb dX1_agree_14 (by decide) ?_
      exact oe_R hx hb hr hk ⟨fun z => absurd z (by omega), fun _ => rfl⟩ dX1_agree_15
section M1c
variable {p : Program} {l : Launch} {e : Env} {R : Room} {s : State} {m : MethodId} {args : Array Value} {below : List Frame} {meth : Method} {c : Code} {H : Heap} {locs : List Loc} {Q : State → Prop}
variable {ls : Array Slot} {D : va_G} {A : Nat → Prop} {d b : ClassId} {h : Nat} {q : Nat → Nat} {S : Nat → Nat → Nat}
set_option maxHeartbeats 4000000 in
theorem sM_setOut (C : Cx p s m args c cX1_setOut RX1 5 D d b A) (hG : Gd D A s.heap H locs (wM d b h q S)) {a v o : Nat} (ha : a < 3) (ho : o < 3) (h9 : o ≠ a → S 9 (3 * a + o) < 60) (hl : lv_has ls 5 [(0, .ref (h)), (1, .int (nI (a))), (2, .int (mI (v))), (3, .int (nI (o)))]) (kk : ∀ (H1 : Heap) (locs1 : List Loc) (ls1 : Array Slot), Gd D A s.heap H1 locs1 (wM d b h q (soM1 S a v o)) → lv_has ls1 5 [(0, .ref (h)), (1, .int (nI (a))), (2, .int (mI (v))), (3, .int (nI (o + 1)))] → W p l e R s m args below meth c H1 locs1 0 0 Q (F0 m 2 ls1 [])) : W p l e R s m args below meth c H locs 0 0 Q (F0 m 2 ls []) := by
  have hx := C.1.1
  have hb := C.1.2.1
  refine lv_iload_n hx hb dX1_setOut_2 rfl (lv_at hl 3 rfl) ?_
  refine lv_iconst (v := (nI (3))) hx hb dX1_setOut_3 (by decide) ?_
  refine oi_ge (tgt := 79) hx hb dX1_setOut_4 (by decide) (by omega) (by omega) (fun c1 => False.elim (by omega)) (fun c1 => ?_)
  refine lv_iload_n hx hb dX1_setOut_7 rfl (lv_at hl 3 rfl) ?_
  refine lv_iload_n hx hb dX1_setOut_8 rfl (lv_at hl 1 rfl) ?_
  refine oi_eq (tgt := 73) hx hb dX1_setOut_9 (by decide) (by omega) (by omega) (fun c2 => ?_) (fun c2 => ?_)
  · refine lv_iinc (v := nI (o + 1)) (lv' := [(3, .int (nI (o + 1))), (0, .ref (h)), (1, .int (nI (a))), (2, .int (mI (v)))]) hx hb dX1_setOut_73 hl (k := 3) rfl (oi_inc _) (by decide) rfl (fun ls hl => ?_)
    refine lv_goto (tgt := 2) hx hb dX1_setOut_76 (by decide) ?_
    exact kk H locs ls (by rw [soM1, if_pos c2]; exact hG) (lv_sub hl [1, 2, 3, 0] rfl)
  · have b9 := h9 c2
    refine lv_iconst (v := (nI (3))) hx hb dX1_setOut_12 (by decide) ?_
    refine lv_iload_n hx hb dX1_setOut_13 rfl (lv_at hl 1 rfl) ?_
    refine oi_mul hx hb dX1_setOut_14 ?_
    refine lv_iload_n hx hb dX1_setOut_15 rfl (lv_at hl 3 rfl) ?_
    refine oi_add hx hb dX1_setOut_16 ?_
    refine lv_istore (lv' := [(4, .int (nI ((3 * a) + o))), (0, .ref (h)), (1, .int (nI (a))), (2, .int (mI (v))), (3, .int (nI (o)))]) hx hb dX1_setOut_17 hl (by decide) rfl (fun ls hl => ?_)
    refine lv_aload_n hx hb dX1_setOut_19 rfl (lv_at hl 1 rfl) ?_
    refine mg_10 C hG.1 dX1_setOut_20 ?_
    refine lv_bipush (v := (nI (60))) hx hb dX1_setOut_23 (by decide) ?_
    refine lv_iload hx hb dX1_setOut_25 (lv_at hl 0 rfl) ?_
    refine oi_mul hx hb dX1_setOut_27 ?_
    refine lv_aload_n hx hb dX1_setOut_28 rfl (lv_at hl 1 rfl) ?_
    refine mg_9 C hG.1 dX1_setOut_29 ?_
    refine lv_iload hx hb dX1_setOut_32 (lv_at hl 0 rfl) ?_
    refine ml_9 (v := S 9 ((3 * a) + o)) C hG.1 (by omega) rfl dX1_setOut_34 ?_
    refine oi_add hx hb dX1_setOut_35 ?_
    refine lv_aload_n hx hb dX1_setOut_36 rfl (lv_at hl 1 rfl) ?_
    refine mg_0 C hG.1 dX1_setOut_37 ?_
    refine lv_iload_n hx hb dX1_setOut_40 rfl (lv_at hl 2 rfl) ?_
    refine ml_0 (v := S 0 (a)) C hG.1 (by omega) rfl dX1_setOut_41 ?_
    refine ms_10 C hG (by omega) dX1_setOut_42 (fun H locs hG => ?_)
    refine lv_aload_n hx hb dX1_setOut_43 rfl (lv_at hl 1 rfl) ?_
    refine mg_11 C hG.1 dX1_setOut_44 ?_
    refine lv_bipush (v := (nI (60))) hx hb dX1_setOut_47 (by decide) ?_
    refine lv_iload hx hb dX1_setOut_49 (lv_at hl 0 rfl) ?_
    refine oi_mul hx hb dX1_setOut_51 ?_
    refine lv_aload_n hx hb dX1_setOut_52 rfl (lv_at hl 1 rfl) ?_
    refine mg_9 C hG.1 dX1_setOut_53 ?_
    refine lv_iload hx hb dX1_setOut_56 (lv_at hl 0 rfl) ?_
    refine ml_9 (v := S 9 ((3 * a) + o)) C hG.1 (by omega) rfl dX1_setOut_58 ?_
    refine oi_add hx hb dX1_setOut_59 ?_
    refine lv_iload_n hx hb dX1_setOut_60 rfl (lv_at hl 3 rfl) ?_
    refine ms_11 C hG (by omega) dX1_setOut_61 (fun H locs hG => ?_)
    refine lv_aload_n hx hb dX1_setOut_62 rfl (lv_at hl 1 rfl) ?_
    refine mg_9 C hG.1 dX1_setOut_63 ?_
    refine lv_iload hx hb dX1_setOut_66 (lv_at hl 0 rfl) ?_
    refine lv_dup2_11 hx hb dX1_setOut_68 rfl rfl ?_
    refine ml_9 (v := S 9 ((3 * a) + o)) C hG.1 (by omega) rfl dX1_setOut_69 ?_
    refine lv_iconst (v := (nI (1))) hx hb dX1_setOut_70 (by decide) ?_
    refine oi_add hx hb dX1_setOut_71 ?_
    refine ms_9 C hG (by omega) dX1_setOut_72 (fun H locs hG => ?_)
    refine lv_iinc (v := nI (o + 1)) (lv' := [(3, .int (nI (o + 1))), (4, .int (nI ((3 * a) + o))), (0, .ref (h)), (1, .int (nI (a))), (2, .int (mI (v)))]) hx hb dX1_setOut_73 hl (k := 4) rfl (oi_inc _) (by decide) rfl (fun ls hl => ?_)
    refine lv_goto (tgt := 2) hx hb dX1_setOut_76 (by decide) ?_
    exact kk H locs ls (by rw [soM1, if_neg c2]; exact hG) (lv_sub hl [2, 3, 4, 0] rfl)
end M1c
set_option maxHeartbeats 4000000 in
/-- setOut(a, v - 1) -/
theorem cM_setOut (l : Launch) (D : va_G) (d b : ClassId) (h : Nat) (q : Nat → Nat) (S : Nat → Nat → Nat) (sz : Nat) {a v : Nat} (ha : a < 3) (h9 : ∀ o, o < 3 → o ≠ a → S 9 (3 * a + o) < 60) : cV l yX1_setOut cX1_setOut 5 (rmk 0 0) [.ref (h), .int (nI (a)), .int (mI (v))] D d b sz (wM d b h q S) (wM d b h q (soM S a v)) := by
  refine ent_V (by decide) (Nat.le_of_ble_eq_true rfl) ?_
  intro p e s m below meth c ls C hr hk hG hl
  have C : Cx p s m _ c cX1_setOut RX1 5 D d b (va_A (wM d b h q S) sz) := C
  have hx := C.1.1
  have hb := C.1.2.1
  have hl : lv_has ls 5 [(0, .ref (h)), (1, .int (nI (a))), (2, .int (mI (v)))] := hl
  refine lv_iconst (v := (nI (0))) hx hb dX1_setOut_0 (by decide) ?_
  refine lv_istore_n (lv' := [(3, .int (nI (0))), (0, .ref (h)), (1, .int (nI (a))), (2, .int (mI (v)))]) hx hb dX1_setOut_1 rfl hl (by decide) rfl (fun ls hl => ?_)
  refine sM_setOut C hG (o := 0) ha (by decide) (h9 0 (by decide)) (lv_sub hl [1, 2, 3, 0] rfl) (fun H locs ls hG hl => ?_)
  refine sM_setOut C hG (o := 1) ha (by decide) (fun z => by rw [soM1_9 (by omega)]; exact h9 1 (by decide) z) hl (fun H locs ls hG hl => ?_)
  refine sM_setOut C hG (o := 2) ha (by decide) (fun z => by rw [soM1_9 (by omega), soM1_9 (by omega)]; exact h9 2 (by decide) z) hl (fun H locs ls hG hl => ?_)
  have hl : lv_has ls 5 [(0, .ref (h)), (1, .int (nI (a))), (2, .int (mI (v))), (3, .int (nI (3)))] := hl
  refine lv_iload_n hx hb dX1_setOut_2 rfl (lv_at hl 3 rfl) ?_
  refine lv_iconst (v := (nI (3))) hx hb dX1_setOut_3 (by decide) ?_
  refine oi_ge (tgt := 79) hx hb dX1_setOut_4 (by decide) (by omega) (by omega) (fun c3 => ?_) (fun c3 => False.elim (by omega))
  exact oe_V C hG hr hk dX1_setOut_79
section M1d
variable {p : Program} {l : Launch} {e : Env} {R : Room} {s : State} {m : MethodId} {args : Array Value} {below : List Frame} {meth : Method} {c : Code} {H : Heap} {locs : List Loc} {Q : State → Prop}
variable {ls : Array Slot} {D : va_G} {A : Nat → Prop} {d b : ClassId} {h : Nat} {q : Nat → Nat} {S : Nat → Nat → Nat}
set_option maxHeartbeats 4000000 in
theorem sM_full (C : Cx p s m args c cX1_full RX1 3 D d b A) (hP : va_P D clX (wM d b h q S) H) (hB : ∀ k j, S k j < 2 ^ 30) {a o : Nat} (ha : a < 3) (ho : o < 3) (hl : lv_has ls 3 [(0, .ref (h)), (1, .int (nI (a))), (2, .int (nI (o)))]) (kf : fl1 S a o → ∀ ls : Array Slot, W p l e R s m args below meth c H locs 0 0 Q (F0 m 28 ls [.int (nI 1)])) (kk : ¬ fl1 S a o → ∀ ls : Array Slot, lv_has ls 3 [(0, .ref (h)), (1, .int (nI (a))), (2, .int (nI (o + 1)))] → W p l e R s m args below meth c H locs 0 0 Q (F0 m 2 ls [])) : W p l e R s m args below meth c H locs 0 0 Q (F0 m 2 ls []) := by
  have hx := C.1.1
  have hb := C.1.2.1
  have b9 := hB 9 (3 * a + o)
  refine lv_iload_n hx hb dX1_full_2 rfl (lv_at hl 2 rfl) ?_
  refine lv_iconst (v := (nI (3))) hx hb dX1_full_3 (by decide) ?_
  refine oi_ge (tgt := 35) hx hb dX1_full_4 (by decide) (by omega) (by omega) (fun c1 => False.elim (by omega)) (fun c1 => ?_)
  refine lv_iload_n hx hb dX1_full_7 rfl (lv_at hl 2 rfl) ?_
  refine lv_iload_n hx hb dX1_full_8 rfl (lv_at hl 1 rfl) ?_
  refine oi_eq (tgt := 29) hx hb dX1_full_9 (by decide) (by omega) (by omega) (fun c2 => ?_) (fun c2 => ?_)
  · refine lv_iinc (v := nI (o + 1)) (lv' := [(2, .int (nI (o + 1))), (0, .ref (h)), (1, .int (nI (a)))]) hx hb dX1_full_29 hl (k := 2) rfl (oi_inc _) (by decide) rfl (fun ls hl => ?_)
    refine lv_goto (tgt := 2) hx hb dX1_full_32 (by decide) ?_
    exact kk (fun z => z.1 c2) ls (lv_sub hl [1, 2, 0] rfl)
  · refine lv_aload_n hx hb dX1_full_12 rfl (lv_at hl 0 rfl) ?_
    refine mg_9 C hP dX1_full_13 ?_
    refine lv_iconst (v := (nI (3))) hx hb dX1_full_16 (by decide) ?_
    refine lv_iload_n hx hb dX1_full_17 rfl (lv_at hl 1 rfl) ?_
    refine oi_mul hx hb dX1_full_18 ?_
    refine lv_iload_n hx hb dX1_full_19 rfl (lv_at hl 2 rfl) ?_
    refine oi_add hx hb dX1_full_20 ?_
    refine ml_9 (v := S 9 ((3 * a) + o)) C hP (by omega) rfl dX1_full_21 ?_
    refine lv_bipush (v := (nI (20))) hx hb dX1_full_22 (by decide) ?_
    refine oi_lt (tgt := 29) hx hb dX1_full_24 (by decide) (by omega) (by omega) (fun c3 => ?_) (fun c3 => ?_)
    · refine lv_iinc (v := nI (o + 1)) (lv' := [(2, .int (nI (o + 1))), (0, .ref (h)), (1, .int (nI (a)))]) hx hb dX1_full_29 hl (k := 2) rfl (oi_inc _) (by decide) rfl (fun ls hl => ?_)
      refine lv_goto (tgt := 2) hx hb dX1_full_32 (by decide) ?_
      exact kk (fun z => by have := z.2; omega) ls (lv_sub hl [1, 2, 0] rfl)
    · refine lv_iconst (v := (nI (1))) hx hb dX1_full_27 (by decide) ?_
      exact kf ⟨c2, c3⟩ ls
end M1d
set_option maxHeartbeats 4000000 in
/-- full(a) -/
theorem cM_full (l : Launch) (D : va_G) (d b : ClassId) (h : Nat) (q : Nat → Nat) (S : Nat → Nat → Nat) (hB : ∀ k j, S k j < 2 ^ 30) {a : Nat} (ha : a < 3) : cR l yX1_full cX1_full 3 (some .boolean) (rmk 0 0) [.ref (h), .int (nI (a))] D d b (wM d b h q S) (fun r => r = bI (fullM S a)) := by
  refine ent_R (by decide) (Nat.le_of_ble_eq_true rfl) ?_
  intro p e s m below meth c ls C hr hk hP hl
  have C : Cx p s m _ c cX1_full RX1 3 D d b (fun _ => True) := C
  have hx := C.1.1
  have hb := C.1.2.1
  have hl : lv_has ls 3 [(0, .ref (h)), (1, .int (nI (a)))] := hl
  refine lv_iconst (v := (nI (0))) hx hb dX1_full_0 (by decide) ?_
  refine lv_istore_n (lv' := [(2, .int (nI (0))), (0, .ref (h)), (1, .int (nI (a)))]) hx hb dX1_full_1 rfl hl (by decide) rfl (fun ls hl => ?_)
  refine sM_full C hP hB (o := 0) ha (by decide) (lv_sub hl [1, 2, 0] rfl) (fun z ls => oe_Z hx hb hr hk rfl (by rw [bI, if_pos (Or.inl z)]; rfl) dX1_full_28) (fun t0 ls hl => ?_)
  refine sM_full C hP hB (o := 1) ha (by decide) hl (fun z ls => oe_Z hx hb hr hk rfl (by rw [bI, if_pos (Or.inr (Or.inl z))]; rfl) dX1_full_28) (fun t1 ls hl => ?_)
  refine sM_full C hP hB (o := 2) ha (by decide) hl (fun z ls => oe_Z hx hb hr hk rfl (by rw [bI, if_pos (Or.inr (Or.inr z))]; rfl) dX1_full_28) (fun t2 ls hl => ?_)
  have hl : lv_has ls 3 [(0, .ref (h)), (1, .int (nI (a))), (2, .int (nI (3)))] := hl
  refine lv_iload_n hx hb dX1_full_2 rfl (lv_at hl 2 rfl) ?_
  refine lv_iconst (v := (nI (3))) hx hb dX1_full_3 (by decide) ?_
  refine oi_ge (tgt := 35) hx hb dX1_full_4 (by decide) (by omega) (by omega) (fun c3 => ?_) (fun c3 => False.elim (by omega))
  refine lv_iconst (v := (nI (0))) hx hb dX1_full_35 (by decide) ?_
  exact oe_Z hx hb hr hk rfl ((by rw [bI, if_neg (fun z => by rcases z with z | z | z; exact t0 z; exact t1 z; exact t2 z)]; rfl)) dX1_full_36
abbrev tmX (S : Nat → Nat → Nat) (x : Int32) : Prop := xm x < 3 ∧ ¬ fullM S (xm x)
def tmS (S : Nat → Nat → Nat) (x : Int32) : Nat → Nat → Nat := if tmX S x then tickM S (xm x) else S
def tmR (S : Nat → Nat → Nat) (x : Int32) : Int32 := if tmX S x then nI (S 0 (xm x) + 1) else mI 0
theorem full_lt {S : Nat → Nat → Nat} {a o : Nat} (h : ¬ fullM S a) (ho : o < 3) (hoa : o ≠ a) : S 9 (3 * a + o) < 60 := by
  rcases Nat.lt_or_ge (S 9 (3 * a + o)) 20 with z | z
  · omega
  · exfalso
    apply h
    rcases (show o = 0 ∨ o = 1 ∨ o = 2 by omega) with e | e | e
    · subst e; exact Or.inl ⟨hoa, z⟩
    · subst e; exact Or.inr (Or.inl ⟨hoa, z⟩)
    · subst e; exact Or.inr (Or.inr ⟨hoa, z⟩)
set_option maxHeartbeats 4000000 in
/-- tick(x) -/
theorem cM_tick (l : Launch) (D : va_G) (d b : ClassId) (h : Nat) (q : Nat → Nat) (S : Nat → Nat → Nat) (sz : Nat) (hB : ∀ k j, S k j < 2 ^ 30) (x : Int32) : cI l yX1_tick cX1_tick 2 (some .int) (rmk 1 25) [.ref (h), .int (x)] D d b sz (wM d b h q S) (wM d b h q (tmS S x)) (tmR S x) := by
  refine ent_I (by decide) (Nat.le_of_ble_eq_true rfl) ?_
  intro p e s m below meth c ls C hr hk hG hl
  have C : Cx p s m _ c cX1_tick RX1 2 D d b (va_A (wM d b h q S) sz) := C
  have hx := C.1.1
  have hb := C.1.2.1
  have hl : lv_has ls 2 [(0, .ref (h)), (1, .int (x))] := hl
  refine lv_iload_n hx hb dX1_tick_0 rfl (lv_at hl 1 rfl) ?_
  refine oc_S (As := [.int (x)]) (rest := []) C (cM_bad l x) (cwM_bad C.1.2.2.2.2 ⟨Nat.le_of_ble_eq_true rfl, Nat.le_of_ble_eq_true rfl⟩) rfl hl.1 rfl (Nat.le_of_ble_eq_true rfl) dX1_tick_1 ⟨Nat.zero_le _, Nat.zero_le _⟩ (fun r1 hr1 => ?_)
  subst hr1
  refine ob_ne (tgt := 15) hx hb dX1_tick_4 (by decide) (fun yc1 => ?_) (fun yc1 => ?_)
  · have c1 := yc1
    refine lv_iconst (v := (mI (0))) hx hb dX1_tick_15 (by decide) ?_
    exact oe_I C (by rw [tmS, if_neg (fun z => c1 z.1)]; exact hG) hr hk (by rw [tmR, if_neg (fun z => c1 z.1)]) dX1_tick_16
  · have c1 := Classical.not_not.mp yc1
    clear yc1
    obtain ⟨a, ea⟩ : ∃ z, z = xm x := ⟨_, rfl⟩
    have kx := xm_ok c1
    rw [← ea] at c1 kx
    subst kx
    refine lv_aload_n hx hb dX1_tick_7 rfl (lv_at hl 0 rfl) ?_
    refine lv_iload_n hx hb dX1_tick_8 rfl (lv_at hl 1 rfl) ?_
    refine oc_R (As := [.int (nI (a))]) (rest := []) C hG.1 (cM_full l D d b h q S hB c1) (cwM_full C.1.2.2.2.2 ⟨Nat.le_of_ble_eq_true rfl, Nat.le_of_ble_eq_true rfl⟩) (rcM C hG.1) rfl hl.1 rfl (Nat.le_of_ble_eq_true rfl) dX1_tick_9 ⟨Nat.zero_le _, Nat.zero_le _⟩ (fun r1 hr1 => ?_)
    subst hr1
    refine ob_eq (tgt := 17) hx hb dX1_tick_12 (by decide) (fun c2 => ?_) (fun c2 => ?_)
    · refine lv_aload_n hx hb dX1_tick_17 rfl (lv_at hl 0 rfl) ?_
      refine mg_0 C hG.1 dX1_tick_18 ?_
      refine lv_iload_n hx hb dX1_tick_21 rfl (lv_at hl 1 rfl) ?_
      refine lv_dup2_11 hx hb dX1_tick_22 rfl rfl ?_
      refine ml_0 (v := S 0 (a)) C hG.1 (by omega) rfl dX1_tick_23 ?_
      refine lv_iconst (v := (nI (1))) hx hb dX1_tick_24 (by decide) ?_
      refine oi_add hx hb dX1_tick_25 ?_
      refine ms_0 C hG (by omega) dX1_tick_26 (fun H locs hG => ?_)
      refine lv_aload_n hx hb dX1_tick_27 rfl (lv_at hl 0 rfl) ?_
      refine lv_iload_n hx hb dX1_tick_28 rfl (lv_at hl 1 rfl) ?_
      refine lv_iconst (v := (mI (0))) hx hb dX1_tick_29 (by decide) ?_
      refine oc_V (As := [.int (nI (a)), .int (mI (0))]) (rest := []) C hG (cM_setOut l D d b h q (sU S 0 a (S 0 a + 1)) _ c1 (v := 0) (fun o ho hoa => full_lt c2 ho hoa)) (cwM_setOut C.1.2.2.2.2 ⟨Nat.le_of_ble_eq_true rfl, Nat.le_of_ble_eq_true rfl⟩) (rcM C hG.1) rfl hl.1 rfl (Nat.le_of_ble_eq_true rfl) dX1_tick_30 ⟨Nat.zero_le _, Nat.zero_le _⟩ (fun H locs hG => ?_)
      refine lv_aload_n hx hb dX1_tick_33 rfl (lv_at hl 0 rfl) ?_
      refine mg_0 C hG.1 dX1_tick_34 ?_
      refine lv_iload_n hx hb dX1_tick_37 rfl (lv_at hl 1 rfl) ?_
      refine ml_0 (v := S 0 a + 1) C hG.1 (by omega) (by rw [soM_f (by decide) (by decide) (by decide)]; simp [sU, va_up]) dX1_tick_38 ?_
      have hc : tmX S (nI a) := ⟨by rw [← ea]; exact c1, by rw [← ea]; exact c2⟩
      exact oe_I C (by rw [tmS, if_pos hc, ← ea]; exact hG) hr hk (by rw [tmR, if_pos hc, ← ea]) dX1_tick_39
    · refine lv_iconst (v := (mI (0))) hx hb dX1_tick_15 (by decide) ?_
      exact oe_I C (by rw [tmS, if_neg (fun z => z.2 (by rw [← ea]; exact c2))]; exact hG) hr hk (by rw [tmR, if_neg (fun z => z.2 (by rw [← ea]; exact c2))]) dX1_tick_16
abbrev wmO (S : Nat → Nat → Nat) (x : Int32) : Prop := xm x < 3 ∧ S 1 0 ≠ 40
def wmS (S : Nat → Nat → Nat) (x : Int32) : Nat → Nat → Nat := if wmO S x then writeM S (xm x) else S
def wmR (S : Nat → Nat → Nat) (x : Int32) : Int32 := if wmO S x then nI (S 1 0) else mI 0
set_option maxHeartbeats 4000000 in
/-- write(x) -/
theorem cM_write (l : Launch) (D : va_G) (d b : ClassId) (h : Nat) (q : Nat → Nat) (S : Nat → Nat → Nat) (sz : Nat) (hB : ∀ k j, S k j < 2 ^ 30) (h1 : S 1 0 ≤ 40) (h9 : S 1 0 < 40 → ∀ j, S 9 j < 60) (x : Int32) : cI l yX1_write cX1_write 2 (some .int) (rmk 1 25) [.ref (h), .int (x)] D d b sz (wM d b h q S) (wM d b h q (wmS S x)) (wmR S x) := by
  refine ent_I (by decide) (Nat.le_of_ble_eq_true rfl) ?_
  intro p e s m below meth c ls C hr hk hG hl
  have C : Cx p s m _ c cX1_write RX1 2 D d b (va_A (wM d b h q S) sz) := C
  have hx := C.1.1
  have hb := C.1.2.1
  have hl : lv_has ls 2 [(0, .ref (h)), (1, .int (x))] := hl
  refine lv_iload_n hx hb dX1_write_0 rfl (lv_at hl 1 rfl) ?_
  refine oc_S (As := [.int (x)]) (rest := []) C (cM_bad l x) (cwM_bad C.1.2.2.2.2 ⟨Nat.le_of_ble_eq_true rfl, Nat.le_of_ble_eq_true rfl⟩) rfl hl.1 rfl (Nat.le_of_ble_eq_true rfl) dX1_write_1 ⟨Nat.zero_le _, Nat.zero_le _⟩ (fun r1 hr1 => ?_)
  subst hr1
  refine ob_ne (tgt := 16) hx hb dX1_write_4 (by decide) (fun yc1 => ?_) (fun yc1 => ?_)
  · have c1 := yc1
    refine lv_iconst (v := (mI (0))) hx hb dX1_write_16 (by decide) ?_
    exact oe_I C (by rw [wmS, if_neg (fun z => c1 z.1)]; exact hG) hr hk (by rw [wmR, if_neg (fun z => c1 z.1)]) dX1_write_17
  · have c1 := Classical.not_not.mp yc1
    clear yc1
    obtain ⟨a, ea⟩ : ∃ z, z = xm x := ⟨_, rfl⟩
    have kx := xm_ok c1
    rw [← ea] at c1 kx
    subst kx
    refine lv_aload_n hx hb dX1_write_7 rfl (lv_at hl 0 rfl) ?_
    refine mg_1 C hG.1 dX1_write_8 ?_
    refine lv_bipush (v := (nI (40))) hx hb dX1_write_11 (by decide) ?_
    refine oi_ne (tgt := 18) hx hb dX1_write_13 (by decide) (by omega) (by omega) (fun c2 => ?_) (fun c2 => ?_)
    · refine lv_aload_n hx hb dX1_write_18 rfl (lv_at hl 0 rfl) ?_
      refine mg_0 C hG.1 dX1_write_19 ?_
      refine lv_iload_n hx hb dX1_write_22 rfl (lv_at hl 1 rfl) ?_
      refine lv_dup2_11 hx hb dX1_write_23 rfl rfl ?_
      refine ml_0 (v := S 0 (a)) C hG.1 (by omega) rfl dX1_write_24 ?_
      refine lv_iconst (v := (nI (1))) hx hb dX1_write_25 (by decide) ?_
      refine oi_add hx hb dX1_write_26 ?_
      refine ms_0 C hG (by omega) dX1_write_27 (fun H locs hG => ?_)
      refine lv_aload_n hx hb dX1_write_28 rfl (lv_at hl 0 rfl) ?_
      refine mg_2 C hG.1 dX1_write_29 ?_
      refine lv_aload_n hx hb dX1_write_32 rfl (lv_at hl 0 rfl) ?_
      refine mg_1 C hG.1 dX1_write_33 ?_
      refine oi_top (y := nI (S 1 (0))) (congrArg nI rfl) ?_
      refine lv_iload_n hx hb dX1_write_36 rfl (lv_at hl 1 rfl) ?_
      refine ms_2 C hG (by omega) dX1_write_37 (fun H locs hG => ?_)
      refine lv_aload_n hx hb dX1_write_38 rfl (lv_at hl 0 rfl) ?_
      refine mg_3 C hG.1 dX1_write_39 ?_
      refine lv_aload_n hx hb dX1_write_42 rfl (lv_at hl 0 rfl) ?_
      refine mg_1 C hG.1 dX1_write_43 ?_
      refine oi_top (y := nI (S 1 (0))) (congrArg nI rfl) ?_
      refine lv_aload_n hx hb dX1_write_46 rfl (lv_at hl 0 rfl) ?_
      refine mg_0 C hG.1 dX1_write_47 ?_
      refine lv_iload_n hx hb dX1_write_50 rfl (lv_at hl 1 rfl) ?_
      refine ml_0 (v := (S 0 (a)) + 1) C hG.1 (by omega) (by simp [sU, va_up]) dX1_write_51 ?_
      refine ms_3 C hG (by omega) dX1_write_52 (fun H locs hG => ?_)
      refine lv_aload_n hx hb dX1_write_53 rfl (lv_at hl 0 rfl) ?_
      refine mg_4 C hG.1 dX1_write_54 ?_
      refine lv_bipush (v := (nI (40))) hx hb dX1_write_57 (by decide) ?_
      refine lv_iload_n hx hb dX1_write_59 rfl (lv_at hl 1 rfl) ?_
      refine oi_mul hx hb dX1_write_60 ?_
      refine lv_aload_n hx hb dX1_write_61 rfl (lv_at hl 0 rfl) ?_
      refine mg_1 C hG.1 dX1_write_62 ?_
      refine oi_top (y := nI (S 1 (0))) (congrArg nI rfl) ?_
      refine oi_add hx hb dX1_write_65 ?_
      refine lv_iconst (v := (nI (1))) hx hb dX1_write_66 (by decide) ?_
      refine ms_4 C hG (by omega) dX1_write_67 (fun H locs hG => ?_)
      refine lv_aload_n hx hb dX1_write_68 rfl (lv_at hl 0 rfl) ?_
      refine lv_iload_n hx hb dX1_write_69 rfl (lv_at hl 1 rfl) ?_
      refine lv_aload_n hx hb dX1_write_70 rfl (lv_at hl 0 rfl) ?_
      refine mg_1 C hG.1 dX1_write_71 ?_
      refine oi_top (y := nI (S 1 (0))) (congrArg nI rfl) ?_
      refine oc_V (As := [.int (nI (a)), .int (nI (S 1 (0)))]) (rest := []) C hG (cM_setOut l D d b h q (wrM S a) _ c1 (v := S 1 0 + 1) (fun o _ _ => h9 (by omega) _)) (cwM_setOut C.1.2.2.2.2 ⟨Nat.le_of_ble_eq_true rfl, Nat.le_of_ble_eq_true rfl⟩) (rcM C hG.1) rfl hl.1 rfl (Nat.le_of_ble_eq_true rfl) dX1_write_74 ⟨Nat.zero_le _, Nat.zero_le _⟩ (fun H locs hG => ?_)
      have e1 : soM (wrM S a) a (S 1 0 + 1) 1 = S 1 := soM_f (by decide) (by decide) (by decide)
      refine lv_aload_n hx hb dX1_write_77 rfl (lv_at hl 0 rfl) ?_
      refine lv_dup hx hb dX1_write_78 rfl ?_
      refine mg_1 C hG.1 dX1_write_79 ?_
      refine oi_top (y := nI (S 1 0)) (congrArg nI (by rw [e1])) ?_
      refine lv_iconst (v := (nI (1))) hx hb dX1_write_82 (by decide) ?_
      refine oi_add hx hb dX1_write_83 ?_
      refine mp_1 C hG dX1_write_84 (fun H locs hG => ?_)
      refine lv_aload_n hx hb dX1_write_87 rfl (lv_at hl 0 rfl) ?_
      refine mg_1 C hG.1 dX1_write_88 ?_
      refine oi_top (y := nI ((S 1 0) + 1)) (congrArg nI (by simp [sU, va_up])) ?_
      refine lv_iconst (v := (nI (1))) hx hb dX1_write_91 (by decide) ?_
      refine oi_sub hx hb (by omega) dX1_write_92 ?_
      refine oi_top (y := nI ((S 1 0))) (congrArg nI (Nat.add_sub_cancel _ _)) ?_
      have hc : wmO S (nI a) := ⟨by rw [← ea]; exact c1, c2⟩
      exact oe_I C (by rw [wmS, if_pos hc, ← ea]; exact hG) hr hk (by rw [wmR, if_pos hc]) dX1_write_93
    · refine lv_iconst (v := (mI (0))) hx hb dX1_write_16 (by decide) ?_
      exact oe_I C (by rw [wmS, if_neg (fun z => z.2 c2)]; exact hG) hr hk (by rw [wmR, if_neg (fun z => z.2 c2)]) dX1_write_17
end
section
set_option maxRecDepth 100000
/-! OrderedRoomModel: earliest, ready, readAll, take -/
section M2a
variable {p : Program} {l : Launch} {e : Env} {R : Room} {s : State} {m : MethodId} {args : Array Value} {below : List Frame} {meth : Method} {c : Code} {H : Heap} {locs : List Loc} {Q : State → Prop}
variable {ls : Array Slot} {D : va_G} {A : Nat → Prop} {d b : ClassId} {h : Nat} {q : Nat → Nat} {S : Nat → Nat → Nat}
set_option maxHeartbeats 4000000 in
theorem sM_earliest (C : Cx p s m args c cX1_earliest RX1 5 D d b A) (hP : va_P D clX (wM d b h q S) H) (hR : 0 + 1 ≤ R.frames ∧ 8 + (5 + 11) + 0 ≤ R.locals) (hB : ∀ k j, S k j < 2 ^ 30) (h1 : S 1 0 ≤ 40) {a : Nat} (ha : a < 3) (kk : ∀ ls : Array Slot, W p l e R s m args below meth c H locs 0 0 Q (F0 m 96 ls [.int (mI (eaZ S a))])) : ∀ (g i B : Nat) (ls : Array Slot), i + g = S 1 0 → B = eaF (S 4) (S 5) (S 2) (S 3) a i → lv_has ls 5 [(0, .ref (h)), (1, .int (nI (a))), (2, .int (mI (B))), (3, .int (nI (i)))] → W p l e R s m args below meth c H locs 0 0 Q (F0 m 4 ls []) := by
  have hx := C.1.1
  have hb := C.1.2.1
  intro g
  induction g with
  | zero =>
    intro i B ls hi hn hl
    refine lv_iload_n hx hb dX1_earliest_4 rfl (lv_at hl 3 rfl) ?_
    refine lv_aload_n hx hb dX1_earliest_5 rfl (lv_at hl 0 rfl) ?_
    refine mg_1 C hP dX1_earliest_6 ?_
    refine oi_ge (tgt := 95) hx hb dX1_earliest_9 (by decide) (by omega) (by omega) (fun c1 => ?_) (fun c1 => False.elim (by omega))
    refine lv_iload_n hx hb dX1_earliest_95 rfl (lv_at hl 2 rfl) ?_
    have ei : i = S 1 0 := by omega
    subst hn
    rw [ei]
    exact kk ls
  | succ g ih =>
    intro i B ls hi hn hl
    have hle := eaF_le (S 4) (S 5) (S 2) (S 3) a i
    have b4 := hB 4 (40 * a + i)
    have b5 := hB 5 (40 * a + i)
    refine lv_iload_n hx hb dX1_earliest_4 rfl (lv_at hl 3 rfl) ?_
    refine lv_aload_n hx hb dX1_earliest_5 rfl (lv_at hl 0 rfl) ?_
    refine mg_1 C hP dX1_earliest_6 ?_
    refine oi_ge (tgt := 95) hx hb dX1_earliest_9 (by decide) (by omega) (by omega) (fun c1 => False.elim (by omega)) (fun c1 => ?_)
    refine lv_aload_n hx hb dX1_earliest_12 rfl (lv_at hl 0 rfl) ?_
    refine mg_4 C hP dX1_earliest_13 ?_
    refine lv_bipush (v := (nI (40))) hx hb dX1_earliest_16 (by decide) ?_
    refine lv_iload_n hx hb dX1_earliest_18 rfl (lv_at hl 1 rfl) ?_
    refine oi_mul hx hb dX1_earliest_19 ?_
    refine lv_iload_n hx hb dX1_earliest_20 rfl (lv_at hl 3 rfl) ?_
    refine oi_add hx hb dX1_earliest_21 ?_
    refine ml_4 (v := S 4 ((40 * a) + i)) C hP (by omega) rfl dX1_earliest_22 ?_
    refine oz_eq (tgt := 44) hx hb dX1_earliest_23 (by decide) (by omega) (fun c2 => ?_) (fun c2 => ?_)
    · refine lv_iconst (v := (nI (0))) hx hb dX1_earliest_44 (by decide) ?_
      refine lv_istore (lv' := [(4, .int (nI (0))), (0, .ref (h)), (1, .int (nI (a))), (2, .int (mI (B))), (3, .int (nI (i)))]) hx hb dX1_earliest_45 hl (by decide) rfl (fun ls hl => ?_)
      refine lv_iload hx hb dX1_earliest_47 (lv_at hl 0 rfl) ?_
      refine oz_eq (tgt := 89) hx hb dX1_earliest_49 (by decide) (by omega) (fun c9 => ?_) (fun c9 => False.elim (by omega))
      refine lv_iinc (v := nI (i + 1)) (lv' := [(3, .int (nI (i + 1))), (4, .int (nI (0))), (0, .ref (h)), (1, .int (nI (a))), (2, .int (mI (B)))]) hx hb dX1_earliest_89 hl (k := 4) rfl (oi_inc _) (by decide) rfl (fun ls hl => ?_)
      refine lv_goto (tgt := 4) hx hb dX1_earliest_92 (by decide) ?_
      exact ih (i + 1) B ls (by omega) (by rw [eaF, if_neg (fun z => z.1.1 c2), hn]) (lv_sub hl [2, 3, 4, 0] rfl)
    · refine lv_aload_n hx hb dX1_earliest_26 rfl (lv_at hl 0 rfl) ?_
      refine mg_5 C hP dX1_earliest_27 ?_
      refine lv_bipush (v := (nI (40))) hx hb dX1_earliest_30 (by decide) ?_
      refine lv_iload_n hx hb dX1_earliest_32 rfl (lv_at hl 1 rfl) ?_
      refine oi_mul hx hb dX1_earliest_33 ?_
      refine lv_iload_n hx hb dX1_earliest_34 rfl (lv_at hl 3 rfl) ?_
      refine oi_add hx hb dX1_earliest_35 ?_
      refine ml_5 (v := S 5 ((40 * a) + i)) C hP (by omega) rfl dX1_earliest_36 ?_
      refine oz_ne (tgt := 44) hx hb dX1_earliest_37 (by decide) (by omega) (fun c3 => ?_) (fun c3 => ?_)
      · refine lv_iconst (v := (nI (0))) hx hb dX1_earliest_44 (by decide) ?_
        refine lv_istore (lv' := [(4, .int (nI (0))), (0, .ref (h)), (1, .int (nI (a))), (2, .int (mI (B))), (3, .int (nI (i)))]) hx hb dX1_earliest_45 hl (by decide) rfl (fun ls hl => ?_)
        refine lv_iload hx hb dX1_earliest_47 (lv_at hl 0 rfl) ?_
        refine oz_eq (tgt := 89) hx hb dX1_earliest_49 (by decide) (by omega) (fun c9 => ?_) (fun c9 => False.elim (by omega))
        refine lv_iinc (v := nI (i + 1)) (lv' := [(3, .int (nI (i + 1))), (4, .int (nI (0))), (0, .ref (h)), (1, .int (nI (a))), (2, .int (mI (B)))]) hx hb dX1_earliest_89 hl (k := 4) rfl (oi_inc _) (by decide) rfl (fun ls hl => ?_)
        refine lv_goto (tgt := 4) hx hb dX1_earliest_92 (by decide) ?_
        exact ih (i + 1) B ls (by omega) (by rw [eaF, if_neg (fun z => c3 z.1.2), hn]) (lv_sub hl [2, 3, 4, 0] rfl)
      · refine lv_iconst (v := (nI (1))) hx hb dX1_earliest_40 (by decide) ?_
        refine lv_goto (tgt := 45) hx hb dX1_earliest_41 (by decide) ?_
        refine lv_istore (lv' := [(4, .int (nI (1))), (0, .ref (h)), (1, .int (nI (a))), (2, .int (mI (B))), (3, .int (nI (i)))]) hx hb dX1_earliest_45 hl (by decide) rfl (fun ls hl => ?_)
        refine lv_iload hx hb dX1_earliest_47 (lv_at hl 0 rfl) ?_
        refine oz_eq (tgt := 89) hx hb dX1_earliest_49 (by decide) (by omega) (fun c8 => False.elim (by omega)) (fun c8 => ?_)
        refine lv_iload_n hx hb dX1_earliest_52 rfl (lv_at hl 3 rfl) ?_
        refine om_lt (tgt := 87) hx hb dX1_earliest_53 (by decide) (by omega) (fun c4 => ?_) (fun c4 => ?_)
        · refine lv_iload_n hx hb dX1_earliest_87 rfl (lv_at hl 4 rfl) ?_
          refine lv_istore_n (lv' := [(2, .int (nI (i))), (4, .int (nI (1))), (0, .ref (h)), (1, .int (nI (a))), (3, .int (nI (i)))]) hx hb dX1_earliest_88 rfl hl (by decide) rfl (fun ls hl => ?_)
          refine lv_iinc (v := nI (i + 1)) (lv' := [(3, .int (nI (i + 1))), (2, .int (nI (i))), (4, .int (nI (1))), (0, .ref (h)), (1, .int (nI (a)))]) hx hb dX1_earliest_89 hl (k := 4) rfl (oi_inc _) (by decide) rfl (fun ls hl => ?_)
          refine lv_goto (tgt := 4) hx hb dX1_earliest_92 (by decide) ?_
          exact ih (i + 1) (i + 1) ls (by omega) (by rw [eaF, if_pos (⟨⟨c2, c3⟩, Or.inl (by rw [← hn]; exact c4)⟩)]) (lv_sub hl [3, 4, 1, 0] rfl)
        · obtain ⟨B1, eB⟩ : ∃ z, B = z + 1 := ⟨B - 1, by omega⟩
          subst eB
          have hl : lv_has ls 5 [(4, .int (nI (1))), (0, .ref (h)), (1, .int (nI (a))), (2, .int (nI (B1))), (3, .int (nI (i)))] := hl
          refine lv_aload_n hx hb dX1_earliest_56 rfl (lv_at hl 1 rfl) ?_
          refine lv_aload_n hx hb dX1_earliest_57 rfl (lv_at hl 1 rfl) ?_
          refine mg_3 C hP dX1_earliest_58 ?_
          refine lv_iload_n hx hb dX1_earliest_61 rfl (lv_at hl 4 rfl) ?_
          refine ml_3 (v := S 3 (i)) C hP (by omega) rfl dX1_earliest_62 ?_
          refine lv_aload_n hx hb dX1_earliest_63 rfl (lv_at hl 1 rfl) ?_
          refine mg_2 C hP dX1_earliest_64 ?_
          refine lv_iload_n hx hb dX1_earliest_67 rfl (lv_at hl 4 rfl) ?_
          refine ml_2 (v := S 2 (i)) C hP (by omega) rfl dX1_earliest_68 ?_
          refine lv_aload_n hx hb dX1_earliest_69 rfl (lv_at hl 1 rfl) ?_
          refine mg_3 C hP dX1_earliest_70 ?_
          refine lv_iload_n hx hb dX1_earliest_73 rfl (lv_at hl 3 rfl) ?_
          refine ml_3 (v := S 3 (B1)) C hP (by omega) rfl dX1_earliest_74 ?_
          refine lv_aload_n hx hb dX1_earliest_75 rfl (lv_at hl 1 rfl) ?_
          refine mg_2 C hP dX1_earliest_76 ?_
          refine lv_iload_n hx hb dX1_earliest_79 rfl (lv_at hl 3 rfl) ?_
          refine ml_2 (v := S 2 (B1)) C hP (by omega) rfl dX1_earliest_80 ?_
          refine oc_R (As := [.int (nI (S 3 (i))), .int (nI (S 2 (i))), .int (nI (S 3 (B1))), .int (nI (S 2 (B1)))]) (rest := []) C hP (cM_earlier l D d b h q S (hB 3 i) (hB 2 i) (hB 3 B1) (hB 2 B1)) (cwM_earlier C.1.2.2.2.2 hR) (rcM C hP) rfl hl.1 rfl (Nat.le_of_ble_eq_true rfl) dX1_earliest_81 ⟨Nat.zero_le _, Nat.zero_le _⟩ (fun r1 hr1 => ?_)
          subst hr1
          refine ob_eq (tgt := 89) hx hb dX1_earliest_84 (by decide) (fun c5 => ?_) (fun c5 => ?_)
          · refine lv_iinc (v := nI (i + 1)) (lv' := [(3, .int (nI (i + 1))), (4, .int (nI (1))), (0, .ref (h)), (1, .int (nI (a))), (2, .int (nI (B1)))]) hx hb dX1_earliest_89 hl (k := 4) rfl (oi_inc _) (by decide) rfl (fun ls hl => ?_)
            refine lv_goto (tgt := 4) hx hb dX1_earliest_92 (by decide) ?_
            exact ih (i + 1) (B1 + 1) ls (by omega) (by rw [eaF, if_neg (fun z => by rw [← hn] at z; rcases z.2 with y | y; omega; exact c5 y), hn]) (lv_sub hl [2, 3, 4, 0] rfl)
          · refine lv_iload_n hx hb dX1_earliest_87 rfl (lv_at hl 4 rfl) ?_
            refine lv_istore_n (lv' := [(2, .int (nI (i))), (4, .int (nI (1))), (0, .ref (h)), (1, .int (nI (a))), (3, .int (nI (i)))]) hx hb dX1_earliest_88 rfl hl (by decide) rfl (fun ls hl => ?_)
            refine lv_iinc (v := nI (i + 1)) (lv' := [(3, .int (nI (i + 1))), (2, .int (nI (i))), (4, .int (nI (1))), (0, .ref (h)), (1, .int (nI (a)))]) hx hb dX1_earliest_89 hl (k := 4) rfl (oi_inc _) (by decide) rfl (fun ls hl => ?_)
            refine lv_goto (tgt := 4) hx hb dX1_earliest_92 (by decide) ?_
            exact ih (i + 1) (i + 1) ls (by omega) (by rw [eaF, if_pos (⟨⟨c2, c3⟩, Or.inr (by rw [← hn]; exact c5)⟩)]) (lv_sub hl [3, 4, 1, 0] rfl)
end M2a
theorem cwM_earliest {R : Room} {s : State} {args : Array Value} (ht : ∀ w ∈ lw_all, w.before args s = true) (hR : 1 + 1 ≤ R.frames ∧ 8 + (5 + 11) + 24 ≤ R.locals) : CallW R s args RX1 RX1 63 yX1_earliest cX1_earliest 5 (some .int) (ws_ yX1_earliest cX1_earliest 5 (some .int)) (rmk 1 24) 0 0 1 := cwV 1 ht (lw_V q198 q200 qs9 q14 q201) rfl rfl rfl (by decide +kernel) hR
set_option maxHeartbeats 4000000 in
/-- earliest(a) -/
theorem cM_earliest (l : Launch) (D : va_G) (d b : ClassId) (h : Nat) (q : Nat → Nat) (S : Nat → Nat → Nat) (hB : ∀ k j, S k j < 2 ^ 30) (h1 : S 1 0 ≤ 40) {a : Nat} (ha : a < 3) : cR l yX1_earliest cX1_earliest 5 (some .int) (rmk 1 24) [.ref (h), .int (nI (a))] D d b (wM d b h q S) (fun r => r = mI (eaZ S a)) := by
  refine ent_R (by decide) (Nat.le_of_ble_eq_true rfl) ?_
  intro p e s m below meth c ls C hr hk hP hl
  have C : Cx p s m _ c cX1_earliest RX1 5 D d b (fun _ => True) := C
  have hx := C.1.1
  have hb := C.1.2.1
  have hl : lv_has ls 5 [(0, .ref (h)), (1, .int (nI (a)))] := hl
  refine lv_iconst (v := (mI (0))) hx hb dX1_earliest_0 (by decide) ?_
  refine lv_istore_n (lv' := [(2, .int (mI (0))), (0, .ref (h)), (1, .int (nI (a)))]) hx hb dX1_earliest_1 rfl hl (by decide) rfl (fun ls hl => ?_)
  refine lv_iconst (v := (nI (0))) hx hb dX1_earliest_2 (by decide) ?_
  refine lv_istore_n (lv' := [(3, .int (nI (0))), (2, .int (mI (0))), (0, .ref (h)), (1, .int (nI (a)))]) hx hb dX1_earliest_3 rfl hl (by decide) rfl (fun ls hl => ?_)
  refine sM_earliest C hP ⟨Nat.le_of_ble_eq_true rfl, Nat.le_of_ble_eq_true rfl⟩ hB h1 ha (fun ls => ?_) (S 1 0) 0 0 ls (by omega) rfl (lv_sub hl [2, 3, 1, 0] rfl)
  exact oe_R hx hb hr hk rfl dX1_earliest_96
section M2b
variable {p : Program} {l : Launch} {e : Env} {R : Room} {s : State} {m : MethodId} {args : Array Value} {below : List Frame} {meth : Method} {c : Code} {H : Heap} {locs : List Loc} {Q : State → Prop}
variable {ls : Array Slot} {D : va_G} {A : Nat → Prop} {d b : ClassId} {h : Nat} {q : Nat → Nat} {S : Nat → Nat → Nat}
set_option maxHeartbeats 4000000 in
theorem sM_ready (C : Cx p s m args c cX1_ready RX1 5 D d b A) (hP : va_P D clX (wM d b h q S) H) (hR : 0 + 1 ≤ R.frames ∧ 8 + (5 + 11) + 0 ≤ R.locals) (hB : ∀ k j, S k j < 2 ^ 30) {a m1 o : Nat} (ha : a < 3) (h1 : m1 < 40) (ho : o < 3) (hl : lv_has ls 5 [(0, .ref (h)), (1, .int (nI (a))), (2, .int (nI (m1))), (3, .int (nI (o)))]) (kf : ¬ rd1 (S 2) (S 3) (fun s => S 8 (3 * s + a)) a m1 o → ∀ ls : Array Slot, W p l e R s m args below meth c H locs 0 0 Q (F0 m 65 ls [.int (nI 0)])) (kk : rd1 (S 2) (S 3) (fun s => S 8 (3 * s + a)) a m1 o → ∀ ls : Array Slot, lv_has ls 5 [(0, .ref (h)), (1, .int (nI (a))), (2, .int (nI (m1))), (3, .int (nI (o + 1)))] → W p l e R s m args below meth c H locs 0 0 Q (F0 m 2 ls [])) : W p l e R s m args below meth c H locs 0 0 Q (F0 m 2 ls []) := by
  have hx := C.1.1
  have hb := C.1.2.1
  have b2 := hB 2 m1
  have b3 := hB 3 m1
  have b8 := hB 8 (3 * o + a)
  refine lv_iload_n hx hb dX1_ready_2 rfl (lv_at hl 3 rfl) ?_
  refine lv_iconst (v := (nI (3))) hx hb dX1_ready_3 (by decide) ?_
  refine oi_ge (tgt := 72) hx hb dX1_ready_4 (by decide) (by omega) (by omega) (fun c1 => False.elim (by omega)) (fun c1 => ?_)
  refine lv_iload_n hx hb dX1_ready_7 rfl (lv_at hl 3 rfl) ?_
  refine lv_iload_n hx hb dX1_ready_8 rfl (lv_at hl 1 rfl) ?_
  refine oi_eq (tgt := 26) hx hb dX1_ready_9 (by decide) (by omega) (by omega) (fun c2 => ?_) (fun c2 => ?_)
  · refine lv_iconst (v := (nI (0))) hx hb dX1_ready_26 (by decide) ?_
    refine lv_istore (lv' := [(4, .int (nI (0))), (0, .ref (h)), (1, .int (nI (a))), (2, .int (nI (m1))), (3, .int (nI (o)))]) hx hb dX1_ready_27 hl (by decide) rfl (fun ls hl => ?_)
    refine lv_iload hx hb dX1_ready_29 (lv_at hl 0 rfl) ?_
    refine oz_eq (tgt := 66) hx hb dX1_ready_31 (by decide) (by omega) (fun c9 => ?_) (fun c9 => False.elim (by omega))
    refine lv_iinc (v := nI (o + 1)) (lv' := [(3, .int (nI (o + 1))), (4, .int (nI (0))), (0, .ref (h)), (1, .int (nI (a))), (2, .int (nI (m1)))]) hx hb dX1_ready_66 hl (k := 4) rfl (oi_inc _) (by decide) rfl (fun ls hl => ?_)
    refine lv_goto (tgt := 2) hx hb dX1_ready_69 (by decide) ?_
    exact kk (Or.inl c2) ls (lv_sub hl [2, 3, 4, 0] rfl)
  · refine lv_iload_n hx hb dX1_ready_12 rfl (lv_at hl 3 rfl) ?_
    refine lv_aload_n hx hb dX1_ready_13 rfl (lv_at hl 0 rfl) ?_
    refine mg_2 C hP dX1_ready_14 ?_
    refine lv_iload_n hx hb dX1_ready_17 rfl (lv_at hl 2 rfl) ?_
    refine ml_2 (v := S 2 (m1)) C hP (by omega) rfl dX1_ready_18 ?_
    refine oi_eq (tgt := 26) hx hb dX1_ready_19 (by decide) (by omega) (by omega) (fun c3 => ?_) (fun c3 => ?_)
    · refine lv_iconst (v := (nI (0))) hx hb dX1_ready_26 (by decide) ?_
      refine lv_istore (lv' := [(4, .int (nI (0))), (0, .ref (h)), (1, .int (nI (a))), (2, .int (nI (m1))), (3, .int (nI (o)))]) hx hb dX1_ready_27 hl (by decide) rfl (fun ls hl => ?_)
      refine lv_iload hx hb dX1_ready_29 (lv_at hl 0 rfl) ?_
      refine oz_eq (tgt := 66) hx hb dX1_ready_31 (by decide) (by omega) (fun c9 => ?_) (fun c9 => False.elim (by omega))
      refine lv_iinc (v := nI (o + 1)) (lv' := [(3, .int (nI (o + 1))), (4, .int (nI (0))), (0, .ref (h)), (1, .int (nI (a))), (2, .int (nI (m1)))]) hx hb dX1_ready_66 hl (k := 4) rfl (oi_inc _) (by decide) rfl (fun ls hl => ?_)
      refine lv_goto (tgt := 2) hx hb dX1_ready_69 (by decide) ?_
      exact kk (Or.inr (Or.inl c3)) ls (lv_sub hl [2, 3, 4, 0] rfl)
    · refine lv_iconst (v := (nI (1))) hx hb dX1_ready_22 (by decide) ?_
      refine lv_goto (tgt := 27) hx hb dX1_ready_23 (by decide) ?_
      refine lv_istore (lv' := [(4, .int (nI (1))), (0, .ref (h)), (1, .int (nI (a))), (2, .int (nI (m1))), (3, .int (nI (o)))]) hx hb dX1_ready_27 hl (by decide) rfl (fun ls hl => ?_)
      refine lv_iload hx hb dX1_ready_29 (lv_at hl 0 rfl) ?_
      refine oz_eq (tgt := 66) hx hb dX1_ready_31 (by decide) (by omega) (fun c8 => False.elim (by omega)) (fun c8 => ?_)
      refine lv_aload_n hx hb dX1_ready_34 rfl (lv_at hl 1 rfl) ?_
      refine lv_aload_n hx hb dX1_ready_35 rfl (lv_at hl 1 rfl) ?_
      refine mg_8 C hP dX1_ready_36 ?_
      refine lv_iconst (v := (nI (3))) hx hb dX1_ready_39 (by decide) ?_
      refine lv_iload_n hx hb dX1_ready_40 rfl (lv_at hl 4 rfl) ?_
      refine oi_mul hx hb dX1_ready_41 ?_
      refine lv_iload_n hx hb dX1_ready_42 rfl (lv_at hl 2 rfl) ?_
      refine oi_add hx hb dX1_ready_43 ?_
      refine ml_8 (v := S 8 ((3 * o) + a)) C hP (by omega) rfl dX1_ready_44 ?_
      refine lv_iload_n hx hb dX1_ready_45 rfl (lv_at hl 4 rfl) ?_
      refine lv_aload_n hx hb dX1_ready_46 rfl (lv_at hl 1 rfl) ?_
      refine mg_3 C hP dX1_ready_47 ?_
      refine lv_iload_n hx hb dX1_ready_50 rfl (lv_at hl 3 rfl) ?_
      refine ml_3 (v := S 3 (m1)) C hP (by omega) rfl dX1_ready_51 ?_
      refine lv_aload_n hx hb dX1_ready_52 rfl (lv_at hl 1 rfl) ?_
      refine mg_2 C hP dX1_ready_53 ?_
      refine lv_iload_n hx hb dX1_ready_56 rfl (lv_at hl 3 rfl) ?_
      refine ml_2 (v := S 2 (m1)) C hP (by omega) rfl dX1_ready_57 ?_
      refine oc_R (As := [.int (nI (S 8 ((3 * o) + a))), .int (nI (o)), .int (nI (S 3 (m1))), .int (nI (S 2 (m1)))]) (rest := []) C hP (cM_earlier l D d b h q S b8 (by omega) b3 b2) (cwM_earlier C.1.2.2.2.2 hR) (rcM C hP) rfl hl.1 rfl (Nat.le_of_ble_eq_true rfl) dX1_ready_58 ⟨Nat.zero_le _, Nat.zero_le _⟩ (fun r1 hr1 => ?_)
      subst hr1
      refine ob_eq (tgt := 66) hx hb dX1_ready_61 (by decide) (fun c4 => ?_) (fun c4 => ?_)
      · refine lv_iinc (v := nI (o + 1)) (lv' := [(3, .int (nI (o + 1))), (4, .int (nI (1))), (0, .ref (h)), (1, .int (nI (a))), (2, .int (nI (m1)))]) hx hb dX1_ready_66 hl (k := 4) rfl (oi_inc _) (by decide) rfl (fun ls hl => ?_)
        refine lv_goto (tgt := 2) hx hb dX1_ready_69 (by decide) ?_
        exact kk (by show o = a ∨ o = S 2 m1 ∨ S 3 m1 < S 8 (3 * o + a) ∨ (S 8 (3 * o + a) = S 3 m1 ∧ S 2 m1 ≤ o); omega) ls (lv_sub hl [2, 3, 4, 0] rfl)
      · refine lv_iconst (v := (nI (0))) hx hb dX1_ready_64 (by decide) ?_
        exact kf (fun z => by rcases z with z | z | z | ⟨z, z2⟩ <;> (try dsimp only at z) <;> omega) ls
end M2b
theorem cwM_ready {R : Room} {s : State} {args : Array Value} (ht : ∀ w ∈ lw_all, w.before args s = true) (hR : 1 + 1 ≤ R.frames ∧ 8 + (5 + 11) + 24 ≤ R.locals) : CallW R s args RX1 RX1 67 yX1_ready cX1_ready 5 (some .boolean) (ws_ yX1_ready cX1_ready 5 (some .boolean)) (rmk 1 24) 0 0 2 := cwV 2 ht (lw_V q206 q208 qs11 q14 q209) rfl rfl rfl (by decide +kernel) hR
set_option maxHeartbeats 4000000 in
/-- ready(a, m1) -/
theorem cM_ready (l : Launch) (D : va_G) (d b : ClassId) (h : Nat) (q : Nat → Nat) (S : Nat → Nat → Nat) (hB : ∀ k j, S k j < 2 ^ 30) {a m1 : Nat} (ha : a < 3) (h1 : m1 < 40) : cR l yX1_ready cX1_ready 5 (some .boolean) (rmk 1 24) [.ref (h), .int (nI (a)), .int (nI (m1))] D d b (wM d b h q S) (fun r => r = bI (sfM S a m1)) := by
  refine ent_R (by decide) (Nat.le_of_ble_eq_true rfl) ?_
  intro p e s m below meth c ls C hr hk hP hl
  have C : Cx p s m _ c cX1_ready RX1 5 D d b (fun _ => True) := C
  have hx := C.1.1
  have hb := C.1.2.1
  have hl : lv_has ls 5 [(0, .ref (h)), (1, .int (nI (a))), (2, .int (nI (m1)))] := hl
  refine lv_iconst (v := (nI (0))) hx hb dX1_ready_0 (by decide) ?_
  refine lv_istore_n (lv' := [(3, .int (nI (0))), (0, .ref (h)), (1, .int (nI (a))), (2, .int (nI (m1)))]) hx hb dX1_ready_1 rfl hl (by decide) rfl (fun ls hl => ?_)
  refine sM_ready C hP ⟨Nat.le_of_ble_eq_true rfl, Nat.le_of_ble_eq_true rfl⟩ hB (o := 0) ha h1 (by decide) (lv_sub hl [1, 2, 3, 0] rfl) (fun z0 ls => oe_Z hx hb hr hk rfl (by rw [bI, if_neg (fun z => z0 z.1)]; rfl) dX1_ready_65) (fun t0 ls hl => ?_)
  refine sM_ready C hP ⟨Nat.le_of_ble_eq_true rfl, Nat.le_of_ble_eq_true rfl⟩ hB (o := 1) ha h1 (by decide) hl (fun z0 ls => oe_Z hx hb hr hk rfl (by rw [bI, if_neg (fun z => z0 z.2.1)]; rfl) dX1_ready_65) (fun t1 ls hl => ?_)
  refine sM_ready C hP ⟨Nat.le_of_ble_eq_true rfl, Nat.le_of_ble_eq_true rfl⟩ hB (o := 2) ha h1 (by decide) hl (fun z0 ls => oe_Z hx hb hr hk rfl (by rw [bI, if_neg (fun z => z0 z.2.2)]; rfl) dX1_ready_65) (fun t2 ls hl => ?_)
  have hl : lv_has ls 5 [(0, .ref (h)), (1, .int (nI (a))), (2, .int (nI (m1))), (3, .int (nI (3)))] := hl
  refine lv_iload_n hx hb dX1_ready_2 rfl (lv_at hl 3 rfl) ?_
  refine lv_iconst (v := (nI (3))) hx hb dX1_ready_3 (by decide) ?_
  refine oi_ge (tgt := 72) hx hb dX1_ready_4 (by decide) (by omega) (by omega) (fun c3 => ?_) (fun c3 => False.elim (by omega))
  refine lv_iconst (v := (nI (1))) hx hb dX1_ready_72 (by decide) ?_
  exact oe_Z hx hb hr hk rfl ((by rw [bI, if_pos ⟨t0, t1, t2⟩]; rfl)) dX1_ready_73
section M2c
variable {p : Program} {l : Launch} {e : Env} {R : Room} {s : State} {m : MethodId} {args : Array Value} {below : List Frame} {meth : Method} {c : Code} {H : Heap} {locs : List Loc} {Q : State → Prop}
variable {ls : Array Slot} {D : va_G} {A : Nat → Prop} {d b : ClassId} {h : Nat} {q : Nat → Nat} {S : Nat → Nat → Nat}
set_option maxHeartbeats 4000000 in
theorem sM_readAll (C : Cx p s m args c cX1_readAll RX1 4 D d b A) (hR : 1 + 1 ≤ R.frames ∧ 8 + (5 + 11) + 24 ≤ R.locals) {a : Nat} (ha : a < 3) : ∀ (f : Nat) (S : Nat → Nat → Nat) (n : Nat) (H : Heap) (locs : List Loc) (ls : Array Slot), Gd D A s.heap H locs (wM d b h q S) → lv_has ls 4 [(0, .ref (h)), (1, .int (nI (a))), (2, .int (nI (n))), (3, .int (mI (eaZ S a)))] → (∀ k j, S k j < 2 ^ 30) → S 1 0 ≤ 40 → hF (S 4) (S 5) a (S 1 0) ≤ f → S 6 a + hF (S 4) (S 5) a (S 1 0) ≤ 40 → (∀ (H1 : Heap) (locs1 : List Loc) (ls1 : Array Slot), Gd D A s.heap H1 locs1 (wM d b h q (raL a f S n).1) → W p l e R s m args below meth c H1 locs1 0 0 Q (F0 m 73 ls1 [.int (nI (raL a f S n).2)])) → W p l e R s m args below meth c H locs 0 0 Q (F0 m 8 ls []) := by
  have hx := C.1.1
  have hb := C.1.2.1
  intro f
  induction f with
  | zero =>
    intro S n H locs ls hG hl hB h1 hf h6 kk
    have hle : eaZ S a ≤ S 1 0 := eaF_le _ _ _ _ _ _
    refine lv_iload_n hx hb dX1_readAll_8 rfl (lv_at hl 3 rfl) ?_
    refine om_lt (tgt := 72) hx hb dX1_readAll_9 (by decide) (by omega) (fun c1 => ?_) (fun c1 => False.elim (by have := eaF_hF (show 0 < eaF (S 4) (S 5) (S 2) (S 3) a (S 1 0) from c1); omega))
    refine lv_iload_n hx hb dX1_readAll_72 rfl (lv_at hl 2 rfl) ?_
    exact kk H locs ls hG
  | succ f ih =>
    intro S n H locs ls hG hl hB h1 hf h6 kk
    have hle : eaZ S a ≤ S 1 0 := eaF_le _ _ _ _ _ _
    refine lv_iload_n hx hb dX1_readAll_8 rfl (lv_at hl 3 rfl) ?_
    refine om_lt (tgt := 72) hx hb dX1_readAll_9 (by decide) (by omega) (fun c1 => ?_) (fun c1 => ?_)
    · refine lv_iload_n hx hb dX1_readAll_72 rfl (lv_at hl 2 rfl) ?_
      have hn : raL a (f + 1) S n = (S, n) := by rw [raL, if_neg (fun z => by omega)]
      rw [hn] at kk
      exact kk H locs ls hG
    · have hpos := eaF_hF (show 0 < eaF (S 4) (S 5) (S 2) (S 3) a (S 1 0) from c1)
      have hop := eaF_open (S 4) (S 5) (S 2) (S 3) a (S 1 0) c1
      obtain ⟨B1, eB⟩ : ∃ z, eaZ S a = z + 1 := ⟨eaZ S a - 1, by omega⟩
      have eB1 : eaZ S a - 1 = B1 := by omega
      have hop : opn (S 4) (S 5) a B1 := by rw [← eB1]; exact hop
      rw [eB] at hl
      have hl : lv_has ls 4 [(0, .ref (h)), (1, .int (nI (a))), (2, .int (nI (n))), (3, .int (nI (B1)))] := hl
      refine lv_aload_n hx hb dX1_readAll_12 rfl (lv_at hl 0 rfl) ?_
      refine lv_iload_n hx hb dX1_readAll_13 rfl (lv_at hl 1 rfl) ?_
      refine lv_iload_n hx hb dX1_readAll_14 rfl (lv_at hl 3 rfl) ?_
      refine oc_R (As := [.int (nI (a)), .int (nI (B1))]) (rest := []) C hG.1 (cM_ready l D d b h q S hB ha (m1 := B1) (by omega)) (cwM_ready C.1.2.2.2.2 ⟨by omega, by omega⟩) (rcM C hG.1) rfl hl.1 rfl (Nat.le_of_ble_eq_true rfl) dX1_readAll_15 ⟨Nat.zero_le _, Nat.zero_le _⟩ (fun r1 hr1 => ?_)
      subst hr1
      refine ob_eq (tgt := 72) hx hb dX1_readAll_18 (by decide) (fun c2 => ?_) (fun c2 => ?_)
      · refine lv_iload_n hx hb dX1_readAll_72 rfl (lv_at hl 2 rfl) ?_
        have hn : raL a (f + 1) S n = (S, n) := by rw [raL, if_neg (fun z => c2 (by rw [← eB1]; exact z.2))]
        rw [hn] at kk
        exact kk H locs ls hG
      · have b6 := hB 6 a
        refine lv_aload_n hx hb dX1_readAll_21 rfl (lv_at hl 0 rfl) ?_
        refine mg_5 C hG.1 dX1_readAll_22 ?_
        refine lv_bipush (v := (nI (40))) hx hb dX1_readAll_25 (by decide) ?_
        refine lv_iload_n hx hb dX1_readAll_27 rfl (lv_at hl 1 rfl) ?_
        refine oi_mul hx hb dX1_readAll_28 ?_
        refine lv_iload_n hx hb dX1_readAll_29 rfl (lv_at hl 3 rfl) ?_
        refine oi_add hx hb dX1_readAll_30 ?_
        refine lv_iconst (v := (nI (1))) hx hb dX1_readAll_31 (by decide) ?_
        refine ms_5 C hG (by omega) dX1_readAll_32 (fun H locs hG => ?_)
        refine lv_aload_n hx hb dX1_readAll_33 rfl (lv_at hl 0 rfl) ?_
        refine mg_7 C hG.1 dX1_readAll_34 ?_
        refine lv_bipush (v := (nI (40))) hx hb dX1_readAll_37 (by decide) ?_
        refine lv_iload_n hx hb dX1_readAll_39 rfl (lv_at hl 1 rfl) ?_
        refine oi_mul hx hb dX1_readAll_40 ?_
        refine lv_aload_n hx hb dX1_readAll_41 rfl (lv_at hl 0 rfl) ?_
        refine mg_6 C hG.1 dX1_readAll_42 ?_
        refine lv_iload_n hx hb dX1_readAll_45 rfl (lv_at hl 1 rfl) ?_
        refine ml_6 (v := S 6 (a)) C hG.1 (by omega) rfl dX1_readAll_46 ?_
        refine oi_add hx hb dX1_readAll_47 ?_
        refine lv_iload_n hx hb dX1_readAll_48 rfl (lv_at hl 3 rfl) ?_
        refine ms_7 C hG (by omega) dX1_readAll_49 (fun H locs hG => ?_)
        refine lv_aload_n hx hb dX1_readAll_50 rfl (lv_at hl 0 rfl) ?_
        refine mg_6 C hG.1 dX1_readAll_51 ?_
        refine lv_iload_n hx hb dX1_readAll_54 rfl (lv_at hl 1 rfl) ?_
        refine lv_dup2_11 hx hb dX1_readAll_55 rfl rfl ?_
        refine ml_6 (v := S 6 (a)) C hG.1 (by omega) rfl dX1_readAll_56 ?_
        refine lv_iconst (v := (nI (1))) hx hb dX1_readAll_57 (by decide) ?_
        refine oi_add hx hb dX1_readAll_58 ?_
        refine ms_6 C hG (by omega) dX1_readAll_59 (fun H locs hG => ?_)
        refine lv_iinc (v := nI (n + 1)) (lv' := [(2, .int (nI (n + 1))), (0, .ref (h)), (1, .int (nI (a))), (3, .int (nI (B1)))]) hx hb dX1_readAll_60 hl (k := 2) rfl (oi_inc _) (by decide) rfl (fun ls hl => ?_)
        refine lv_aload_n hx hb dX1_readAll_63 rfl (lv_at hl 1 rfl) ?_
        refine lv_iload_n hx hb dX1_readAll_64 rfl (lv_at hl 2 rfl) ?_
        have g1 : ∀ k j, rdM S a B1 k j < 2 ^ 30 := sU_bd (sU_bd (sU_bd hB (by decide)) (by omega)) (by omega)
        have hG : Gd D A s.heap H locs (wM d b h q (rdM S a B1)) := hG
        refine oc_R (As := [.int (nI (a))]) (rest := []) C hG.1 (cM_earliest l D d b h q (rdM S a B1) g1 h1 ha) (cwM_earliest C.1.2.2.2.2 hR) (rcM C hG.1) rfl hl.1 rfl (Nat.le_of_ble_eq_true rfl) dX1_readAll_65 ⟨Nat.zero_le _, Nat.zero_le _⟩ (fun r1 hr1 => ?_)
        subst hr1
        refine lv_istore_n (lv' := [(3, .int (mI (eaZ (rdM S a B1) a))), (2, .int (nI (n + 1))), (0, .ref (h)), (1, .int (nI (a)))]) hx hb dX1_readAll_68 rfl hl (by decide) rfl (fun ls hl => ?_)
        refine lv_goto (tgt := 8) hx hb dX1_readAll_69 (by decide) ?_
        have hn : raL a (f + 1) S n = raL a f (rdM S a B1) (n + 1) := by rw [raL, eB1, if_pos ⟨c1, c2⟩]
        rw [hn] at kk
        have hd := hF_done hop (show B1 < S 1 0 by omega)
        exact ih (rdM S a B1) (n + 1) H locs ls hG (lv_sub hl [2, 3, 1, 0] rfl) g1 h1 (by show hF (S 4) (va_up (S 5) (40 * a + B1) 1) a (S 1 0) ≤ f; omega) (by show va_up (S 6) a (S 6 a + 1) a + hF (S 4) (va_up (S 5) (40 * a + B1) 1) a (S 1 0) ≤ 40; rw [va_same]; omega) kk
end M2c
theorem cwM_readAll {R : Room} {s : State} {args : Array Value} (ht : ∀ w ∈ lw_all, w.before args s = true) (hR : 2 + 1 ≤ R.frames ∧ 8 + (4 + 11) + 48 ≤ R.locals) : CallW R s args RX1 RX1 71 yX1_readAll cX1_readAll 4 (some .int) (ws_ yX1_readAll cX1_readAll 4 (some .int)) (rmk 2 48) 0 0 1 := cwV 1 ht (lw_V q194 q196 qs8 q14 q197) rfl rfl rfl (by decide +kernel) hR
set_option maxHeartbeats 4000000 in
/-- readAll(a) -/
theorem cM_readAll (l : Launch) (D : va_G) (d b : ClassId) (h : Nat) (q : Nat → Nat) (S : Nat → Nat → Nat) (sz : Nat) (hB : ∀ k j, S k j < 2 ^ 30) (h1 : S 1 0 ≤ 40) {a : Nat} (ha : a < 3) (h6 : S 6 a + hF (S 4) (S 5) a (S 1 0) ≤ 40) : cI l yX1_readAll cX1_readAll 4 (some .int) (rmk 2 48) [.ref (h), .int (nI (a))] D d b sz (wM d b h q S) (wM d b h q (raL a 40 S 0).1) (nI (raL a 40 S 0).2) := by
  refine ent_I (by decide) (Nat.le_of_ble_eq_true rfl) ?_
  intro p e s m below meth c ls C hr hk hG hl
  have C : Cx p s m _ c cX1_readAll RX1 4 D d b (va_A (wM d b h q S) sz) := C
  have hx := C.1.1
  have hb := C.1.2.1
  have hl : lv_has ls 4 [(0, .ref (h)), (1, .int (nI (a)))] := hl
  refine lv_iconst (v := (nI (0))) hx hb dX1_readAll_0 (by decide) ?_
  refine lv_istore_n (lv' := [(2, .int (nI (0))), (0, .ref (h)), (1, .int (nI (a)))]) hx hb dX1_readAll_1 rfl hl (by decide) rfl (fun ls hl => ?_)
  refine lv_aload_n hx hb dX1_readAll_2 rfl (lv_at hl 1 rfl) ?_
  refine lv_iload_n hx hb dX1_readAll_3 rfl (lv_at hl 2 rfl) ?_
  refine oc_R (As := [.int (nI (a))]) (rest := []) C hG.1 (cM_earliest l D d b h q S hB h1 ha) (cwM_earliest C.1.2.2.2.2 ⟨Nat.le_of_ble_eq_true rfl, Nat.le_of_ble_eq_true rfl⟩) (rcM C hG.1) rfl hl.1 rfl (Nat.le_of_ble_eq_true rfl) dX1_readAll_4 ⟨Nat.zero_le _, Nat.zero_le _⟩ (fun r1 hr1 => ?_)
  subst hr1
  refine lv_istore_n (lv' := [(3, .int (mI (eaZ S a))), (2, .int (nI (0))), (0, .ref (h)), (1, .int (nI (a)))]) hx hb dX1_readAll_7 rfl hl (by decide) rfl (fun ls hl => ?_)
  exact sM_readAll C ⟨Nat.le_of_ble_eq_true rfl, Nat.le_of_ble_eq_true rfl⟩ ha 40 S 0 _ _ ls hG (lv_sub hl [2, 3, 1, 0] rfl) hB h1 (by omega) h6 (fun H1 locs1 ls1 hG1 => oe_I C hG1 hr hk rfl dX1_readAll_73)
abbrev tmO (S : Nat → Nat → Nat) (x y : Int32) : Prop := xm x < 3 ∧ xm y < 3 ∧ xm x ≠ xm y ∧ S 9 (3 * xm x + xm y) ≠ 0
def tamS (S : Nat → Nat → Nat) (x y : Int32) : Nat → Nat → Nat := if tmO S x y then (takeM S (xm x) (xm y)).1 else S
def tamR (S : Nat → Nat → Nat) (x y : Int32) : Int32 := if tmO S x y then nI (takeM S (xm x) (xm y)).2 else mI 0
section M2d
variable {p : Program} {l : Launch} {e : Env} {R : Room} {s : State} {m : MethodId} {args : Array Value} {below : List Frame} {meth : Method} {c : Code} {H : Heap} {locs : List Loc} {Q : State → Prop}
variable {ls : Array Slot} {D : va_G} {A : Nat → Prop} {d b : ClassId} {h : Nat} {q : Nat → Nat} {S : Nat → Nat → Nat}
set_option maxHeartbeats 4000000 in
theorem sM_shift (C : Cx p s m args c cX1_take RX1 7 D d b A) {f t y u v n : Nat} (hy : y < 9) (hn : n < 60) (h9 : S 9 y = n) (kk : ∀ (H1 : Heap) (locs1 : List Loc) (ls1 : Array Slot), Gd D A s.heap H1 locs1 (wM d b h q (shL y S n)) → lv_has ls1 7 [(0, .ref (h)), (1, .int (nI (f))), (2, .int (nI (t))), (3, .int (nI (y))), (4, .int (nI (u))), (5, .int (mI (v)))] → W p l e R s m args below meth c H1 locs1 0 0 Q (F0 m 144 ls1 [])) : ∀ (g i : Nat) (H : Heap) (locs : List Loc) (ls : Array Slot), Gd D A s.heap H locs (wM d b h q (shL y S i)) → lv_has ls 7 [(0, .ref (h)), (1, .int (nI (f))), (2, .int (nI (t))), (3, .int (nI (y))), (4, .int (nI (u))), (5, .int (mI (v))), (6, .int (nI (i)))] → i + g = n → W p l e R s m args below meth c H locs 0 0 Q (F0 m 75 ls []) := by
  have hx := C.1.1
  have hb := C.1.2.1
  intro g
  induction g with
  | zero =>
    intro i H locs ls hG hl hi
    refine lv_iload hx hb dX1_take_75 (lv_at hl 6 rfl) ?_
    refine lv_aload_n hx hb dX1_take_77 rfl (lv_at hl 0 rfl) ?_
    refine mg_9 C hG.1 dX1_take_78 ?_
    refine lv_iload_n hx hb dX1_take_81 rfl (lv_at hl 3 rfl) ?_
    refine ml_9 (v := n) C hG.1 (by omega) (by rw [shL_f (by decide) (by decide)]; exact h9) dX1_take_82 ?_
    refine oi_ge (tgt := 144) hx hb dX1_take_83 (by decide) (by omega) (by omega) (fun c1 => ?_) (fun c1 => False.elim (by omega))
    have ei : i = n := by omega
    subst ei
    exact kk H locs ls hG (lv_sub hl [0, 1, 2, 3, 4, 5] rfl)
  | succ g ih =>
    intro i H locs ls hG hl hi
    refine lv_iload hx hb dX1_take_75 (lv_at hl 6 rfl) ?_
    refine lv_aload_n hx hb dX1_take_77 rfl (lv_at hl 0 rfl) ?_
    refine mg_9 C hG.1 dX1_take_78 ?_
    refine lv_iload_n hx hb dX1_take_81 rfl (lv_at hl 3 rfl) ?_
    refine ml_9 (v := n) C hG.1 (by omega) (by rw [shL_f (by decide) (by decide)]; exact h9) dX1_take_82 ?_
    refine oi_ge (tgt := 144) hx hb dX1_take_83 (by decide) (by omega) (by omega) (fun c1 => False.elim (by omega)) (fun c1 => ?_)
    refine lv_aload_n hx hb dX1_take_86 rfl (lv_at hl 0 rfl) ?_
    refine mg_10 C hG.1 dX1_take_87 ?_
    refine lv_bipush (v := (nI (60))) hx hb dX1_take_90 (by decide) ?_
    refine lv_iload_n hx hb dX1_take_92 rfl (lv_at hl 3 rfl) ?_
    refine oi_mul hx hb dX1_take_93 ?_
    refine lv_iload hx hb dX1_take_94 (lv_at hl 6 rfl) ?_
    refine oi_add hx hb dX1_take_96 ?_
    refine lv_aload_n hx hb dX1_take_97 rfl (lv_at hl 0 rfl) ?_
    refine mg_10 C hG.1 dX1_take_98 ?_
    refine lv_bipush (v := (nI (60))) hx hb dX1_take_101 (by decide) ?_
    refine lv_iload_n hx hb dX1_take_103 rfl (lv_at hl 3 rfl) ?_
    refine oi_mul hx hb dX1_take_104 ?_
    refine lv_iload hx hb dX1_take_105 (lv_at hl 6 rfl) ?_
    refine oi_add hx hb dX1_take_107 ?_
    refine lv_iconst (v := (nI (1))) hx hb dX1_take_108 (by decide) ?_
    refine oi_add hx hb dX1_take_109 ?_
    refine ml_10 (v := (shL y S i) 10 (((60 * y) + i) + 1)) C hG.1 (by omega) rfl dX1_take_110 ?_
    refine ms_10 C hG (by omega) dX1_take_111 (fun H locs hG => ?_)
    refine lv_aload_n hx hb dX1_take_112 rfl (lv_at hl 0 rfl) ?_
    refine mg_11 C hG.1 dX1_take_113 ?_
    refine lv_bipush (v := (nI (60))) hx hb dX1_take_116 (by decide) ?_
    refine lv_iload_n hx hb dX1_take_118 rfl (lv_at hl 3 rfl) ?_
    refine oi_mul hx hb dX1_take_119 ?_
    refine lv_iload hx hb dX1_take_120 (lv_at hl 6 rfl) ?_
    refine oi_add hx hb dX1_take_122 ?_
    refine lv_aload_n hx hb dX1_take_123 rfl (lv_at hl 0 rfl) ?_
    refine mg_11 C hG.1 dX1_take_124 ?_
    refine lv_bipush (v := (nI (60))) hx hb dX1_take_127 (by decide) ?_
    refine lv_iload_n hx hb dX1_take_129 rfl (lv_at hl 3 rfl) ?_
    refine oi_mul hx hb dX1_take_130 ?_
    refine lv_iload hx hb dX1_take_131 (lv_at hl 6 rfl) ?_
    refine oi_add hx hb dX1_take_133 ?_
    refine lv_iconst (v := (nI (1))) hx hb dX1_take_134 (by decide) ?_
    refine oi_add hx hb dX1_take_135 ?_
    refine ml_11 (v := (shL y S i) 11 (((60 * y) + i) + 1)) C hG.1 (by omega) rfl dX1_take_136 ?_
    refine ms_11 C hG (by omega) dX1_take_137 (fun H locs hG => ?_)
    refine lv_iinc (v := nI (i + 1)) (lv' := [(6, .int (nI (i + 1))), (0, .ref (h)), (1, .int (nI (f))), (2, .int (nI (t))), (3, .int (nI (y))), (4, .int (nI (u))), (5, .int (mI (v)))]) hx hb dX1_take_138 hl (k := 6) rfl (oi_inc _) (by decide) rfl (fun ls hl => ?_)
    refine lv_goto (tgt := 75) hx hb dX1_take_141 (by decide) ?_
    exact ih (i + 1) H locs ls hG (lv_sub hl [1, 2, 3, 4, 5, 6, 0] rfl) (by omega)
set_option maxHeartbeats 4000000 in
theorem sM_take171 (C : Cx p s m args c cX1_take RX1 7 D d b A) (hG : Gd D A s.heap H locs (wM d b h q S)) (hR : 2 + 1 ≤ R.frames ∧ 8 + (4 + 11) + 48 ≤ R.locals) (hB : ∀ k j, S k j < 2 ^ 28) (h1 : S 1 0 ≤ 40) {f t y u v M : Nat} (ht : t < 3) (hy : y < 9) (hu : u < 2 ^ 28) (hM : M < 2 ^ 27) (hv : v ≤ 40) (h6 : S 6 t + hF ((if 0 < v then sU (sU (sU S 0 t (M + 1)) 8 y u) 4 (40 * t + (v - 1)) 1 else sU (sU S 0 t (M + 1)) 8 y u) 4) ((if 0 < v then sU (sU (sU S 0 t (M + 1)) 8 y u) 4 (40 * t + (v - 1)) 1 else sU (sU S 0 t (M + 1)) 8 y u) 5) t (S 1 0) ≤ 40) (hl : lv_has ls 7 [(0, .ref (h)), (1, .int (nI (f))), (2, .int (nI (t))), (3, .int (nI (y))), (4, .int (nI (u))), (5, .int (mI (v)))]) (kk : ∀ (H1 : Heap) (locs1 : List Loc) (ls1 : Array Slot), Gd D A s.heap H1 locs1 (wM d b h q (raL t 40 (if 0 < v then sU (sU (sU S 0 t (M + 1)) 8 y u) 4 (40 * t + (v - 1)) 1 else sU (sU S 0 t (M + 1)) 8 y u) 0).1) → W p l e R s m args below meth c H1 locs1 0 0 Q (F0 m 205 ls1 [.int (nI (raL t 40 (if 0 < v then sU (sU (sU S 0 t (M + 1)) 8 y u) 4 (40 * t + (v - 1)) 1 else sU (sU S 0 t (M + 1)) 8 y u) 0).2)])) : W p l e R s m args below meth c H locs 0 0 Q (F0 m 171 ls [.int (nI (M)), .int (nI (t)), .ref (q 0)]) := by
  have hx := C.1.1
  have hb := C.1.2.1
  have g4 : ∀ k j, (sU (sU S 0 t (M + 1)) 8 y u) k j < 2 ^ 28 := sU_bd (sU_bd hB (by omega)) hu
  refine lv_iconst (v := (nI (1))) hx hb dX1_take_171 (by decide) ?_
  refine oi_add hx hb dX1_take_172 ?_
  refine ms_0 C hG (by omega) dX1_take_173 (fun H locs hG => ?_)
  refine lv_aload_n hx hb dX1_take_174 rfl (lv_at hl 0 rfl) ?_
  refine mg_8 C hG.1 dX1_take_175 ?_
  refine lv_iload_n hx hb dX1_take_178 rfl (lv_at hl 3 rfl) ?_
  refine lv_iload hx hb dX1_take_179 (lv_at hl 4 rfl) ?_
  refine ms_8 C hG (by omega) dX1_take_181 (fun H locs hG => ?_)
  refine lv_iload hx hb dX1_take_182 (lv_at hl 5 rfl) ?_
  refine om_lt (tgt := 200) hx hb dX1_take_184 (by decide) (by omega) (fun c1 => ?_) (fun c1 => ?_)
  · refine lv_aload_n hx hb dX1_take_200 rfl (lv_at hl 0 rfl) ?_
    refine lv_iload_n hx hb dX1_take_201 rfl (lv_at hl 2 rfl) ?_
    rw [if_neg (by omega)] at kk h6
    refine oc_I (As := [.int (nI (t))]) (rest := []) C hG (cM_readAll l D d b h q (sU (sU S 0 t (M + 1)) 8 y u) _ (fun k j => Nat.lt_of_lt_of_le (g4 k j) (by decide)) h1 ht h6) (cwM_readAll C.1.2.2.2.2 hR) (rcM C hG.1) rfl hl.1 rfl (Nat.le_of_ble_eq_true rfl) dX1_take_202 ⟨Nat.zero_le _, Nat.zero_le _⟩ (fun H locs hG => ?_)
    exact kk H locs ls hG
  · rw [if_pos c1] at kk h6
    obtain ⟨v1, ev⟩ : ∃ z, v = z + 1 := ⟨v - 1, by omega⟩
    subst ev
    have hl : lv_has ls 7 [(0, .ref (h)), (1, .int (nI (f))), (2, .int (nI (t))), (3, .int (nI (y))), (4, .int (nI (u))), (5, .int (nI (v1)))] := hl
    refine lv_aload_n hx hb dX1_take_187 rfl (lv_at hl 0 rfl) ?_
    refine mg_4 C hG.1 dX1_take_188 ?_
    refine lv_bipush (v := (nI (40))) hx hb dX1_take_191 (by decide) ?_
    refine lv_iload_n hx hb dX1_take_193 rfl (lv_at hl 2 rfl) ?_
    refine oi_mul hx hb dX1_take_194 ?_
    refine lv_iload hx hb dX1_take_195 (lv_at hl 5 rfl) ?_
    refine oi_add hx hb dX1_take_197 ?_
    refine lv_iconst (v := (nI (1))) hx hb dX1_take_198 (by decide) ?_
    refine ms_4 C hG (by omega) dX1_take_199 (fun H locs hG => ?_)
    refine lv_aload_n hx hb dX1_take_200 rfl (lv_at hl 0 rfl) ?_
    refine lv_iload_n hx hb dX1_take_201 rfl (lv_at hl 2 rfl) ?_
    refine oc_I (As := [.int (nI (t))]) (rest := []) C hG (cM_readAll l D d b h q (sU (sU (sU S 0 t (M + 1)) 8 y u) 4 (40 * t + v1) 1) _ (sU_bd (fun k j => Nat.lt_of_lt_of_le (g4 k j) (by decide)) (by decide)) h1 ht h6) (cwM_readAll C.1.2.2.2.2 hR) (rcM C hG.1) rfl hl.1 rfl (Nat.le_of_ble_eq_true rfl) dX1_take_202 ⟨Nat.zero_le _, Nat.zero_le _⟩ (fun H locs hG => ?_)
    exact kk H locs ls hG
end M2d
set_option maxHeartbeats 4000000 in
/-- take(x, y) -/
theorem cM_take (l : Launch) (D : va_G) (d b : ClassId) (h : Nat) (q : Nat → Nat) (S : Nat → Nat → Nat) (sz : Nat) (hB : ∀ k j, S k j < 2 ^ 26) (h1 : S 1 0 ≤ 40) (h9 : ∀ j, S 9 j ≤ 60) (h11 : ∀ j, S 11 j ≤ 40) (x y : Int32) (h6 : xm x < 3 → xm y < 3 → S 9 (3 * xm x + xm y) ≠ 0 → S 6 (xm y) + hF (tm5 S (xm x) (xm y) 4) (tm5 S (xm x) (xm y) 5) (xm y) (S 1 0) ≤ 40) : cI l yX1_take cX1_take 7 (some .int) (rmk 3 71) [.ref (h), .int (x), .int (y)] D d b sz (wM d b h q S) (wM d b h q (tamS S x y)) (tamR S x y) := by
  refine ent_I (by decide) (Nat.le_of_ble_eq_true rfl) ?_
  intro p e s m below meth c ls C hr hk hG hl
  have C : Cx p s m _ c cX1_take RX1 7 D d b (va_A (wM d b h q S) sz) := C
  have hx := C.1.1
  have hb := C.1.2.1
  have hl : lv_has ls 7 [(0, .ref (h)), (1, .int (x)), (2, .int (y))] := hl
  refine lv_iload_n hx hb dX1_take_0 rfl (lv_at hl 1 rfl) ?_
  refine oc_S (As := [.int (x)]) (rest := []) C (cM_bad l x) (cwM_bad C.1.2.2.2.2 ⟨Nat.le_of_ble_eq_true rfl, Nat.le_of_ble_eq_true rfl⟩) rfl hl.1 rfl (Nat.le_of_ble_eq_true rfl) dX1_take_1 ⟨Nat.zero_le _, Nat.zero_le _⟩ (fun r1 hr1 => ?_)
  subst hr1
  refine ob_ne (tgt := 32) hx hb dX1_take_4 (by decide) (fun yc1 => ?_) (fun yc1 => ?_)
  · have c1 := yc1
    refine lv_iconst (v := (mI (0))) hx hb dX1_take_32 (by decide) ?_
    exact oe_I C (by rw [tamS, if_neg (fun z => c1 z.1)]; exact hG) hr hk (by rw [tamR, if_neg (fun z => c1 z.1)]) dX1_take_33
  · have c1 := Classical.not_not.mp yc1
    clear yc1
    obtain ⟨f, ef⟩ : ∃ z, z = xm x := ⟨_, rfl⟩
    have kx := xm_ok c1
    rw [← ef] at c1 kx
    subst kx
    refine lv_iload_n hx hb dX1_take_7 rfl (lv_at hl 2 rfl) ?_
    refine oc_S (As := [.int (y)]) (rest := []) C (cM_bad l y) (cwM_bad C.1.2.2.2.2 ⟨Nat.le_of_ble_eq_true rfl, Nat.le_of_ble_eq_true rfl⟩) rfl hl.1 rfl (Nat.le_of_ble_eq_true rfl) dX1_take_8 ⟨Nat.zero_le _, Nat.zero_le _⟩ (fun r1 hr1 => ?_)
    subst hr1
    refine ob_ne (tgt := 32) hx hb dX1_take_11 (by decide) (fun yc2 => ?_) (fun yc2 => ?_)
    · have c2 := yc2
      refine lv_iconst (v := (mI (0))) hx hb dX1_take_32 (by decide) ?_
      exact oe_I C (by rw [tamS, if_neg (fun z => c2 z.2.1)]; exact hG) hr hk (by rw [tamR, if_neg (fun z => c2 z.2.1)]) dX1_take_33
    · have c2 := Classical.not_not.mp yc2
      clear yc2
      obtain ⟨t, et⟩ : ∃ z, z = xm y := ⟨_, rfl⟩
      have ky := xm_ok c2
      rw [← et] at c2 ky
      subst ky
      have b9 := h9 (3 * f + t)
      have d9 := hB 9 (3 * f + t)
      refine lv_iload_n hx hb dX1_take_14 rfl (lv_at hl 1 rfl) ?_
      refine lv_iload_n hx hb dX1_take_15 rfl (lv_at hl 2 rfl) ?_
      refine oi_eq (tgt := 32) hx hb dX1_take_16 (by decide) (by omega) (by omega) (fun c3 => ?_) (fun c3 => ?_)
      · refine lv_iconst (v := (mI (0))) hx hb dX1_take_32 (by decide) ?_
        exact oe_I C (by rw [tamS, if_neg (fun z => z.2.2.1 (by rw [← ef, ← et]; exact c3))]; exact hG) hr hk (by rw [tamR, if_neg (fun z => z.2.2.1 (by rw [← ef, ← et]; exact c3))]) dX1_take_33
      · refine lv_aload_n hx hb dX1_take_19 rfl (lv_at hl 0 rfl) ?_
        refine mg_9 C hG.1 dX1_take_20 ?_
        refine lv_iconst (v := (nI (3))) hx hb dX1_take_23 (by decide) ?_
        refine lv_iload_n hx hb dX1_take_24 rfl (lv_at hl 1 rfl) ?_
        refine oi_mul hx hb dX1_take_25 ?_
        refine lv_iload_n hx hb dX1_take_26 rfl (lv_at hl 2 rfl) ?_
        refine oi_add hx hb dX1_take_27 ?_
        refine ml_9 (v := S 9 ((3 * f) + t)) C hG.1 (by omega) rfl dX1_take_28 ?_
        refine oz_ne (tgt := 34) hx hb dX1_take_29 (by decide) (by omega) (fun c4 => ?_) (fun c4 => ?_)
        · have bc := hB 10 (60 * (3 * f + t))
          have b7 := hB 0 t
          have h6c := h6 (by rw [← ef]; exact c1) (by rw [← et]; exact c2)
          rw [← ef, ← et] at h6c
          have hc : tmO S (nI f) (nI t) := by unfold tmO; rw [← ef, ← et]; exact ⟨c1, c2, c3, c4⟩
          have eS : tamS S (nI f) (nI t) = (raL t 40 (tm5 S f t) 0).1 := by rw [tamS, if_pos hc, ← ef, ← et]; rfl
          have eR : tamR S (nI f) (nI t) = nI (raL t 40 (tm5 S f t) 0).2 := by rw [tamR, if_pos hc, ← ef, ← et]; rfl
          refine lv_iconst (v := (nI (3))) hx hb dX1_take_34 (by decide) ?_
          refine lv_iload_n hx hb dX1_take_35 rfl (lv_at hl 1 rfl) ?_
          refine oi_mul hx hb dX1_take_36 ?_
          refine lv_iload_n hx hb dX1_take_37 rfl (lv_at hl 2 rfl) ?_
          refine oi_add hx hb dX1_take_38 ?_
          refine lv_istore_n (lv' := [(3, .int (nI ((3 * f) + t))), (0, .ref (h)), (1, .int (nI (f))), (2, .int (nI (t)))]) hx hb dX1_take_39 rfl hl (by decide) rfl (fun ls hl => ?_)
          refine lv_aload_n hx hb dX1_take_40 rfl (lv_at hl 1 rfl) ?_
          refine mg_10 C hG.1 dX1_take_41 ?_
          refine lv_bipush (v := (nI (60))) hx hb dX1_take_44 (by decide) ?_
          refine lv_iload_n hx hb dX1_take_46 rfl (lv_at hl 0 rfl) ?_
          refine oi_mul hx hb dX1_take_47 ?_
          refine ml_10 (v := S 10 (60 * ((3 * f) + t))) C hG.1 (by omega) rfl dX1_take_48 ?_
          refine lv_istore (lv' := [(4, .int (nI (S 10 (60 * ((3 * f) + t))))), (3, .int (nI ((3 * f) + t))), (0, .ref (h)), (1, .int (nI (f))), (2, .int (nI (t)))]) hx hb dX1_take_49 hl (by decide) rfl (fun ls hl => ?_)
          refine lv_aload_n hx hb dX1_take_51 rfl (lv_at hl 2 rfl) ?_
          refine mg_11 C hG.1 dX1_take_52 ?_
          refine lv_bipush (v := (nI (60))) hx hb dX1_take_55 (by decide) ?_
          refine lv_iload_n hx hb dX1_take_57 rfl (lv_at hl 1 rfl) ?_
          refine oi_mul hx hb dX1_take_58 ?_
          refine ml_11 (v := S 11 (60 * ((3 * f) + t))) C hG.1 (by omega) rfl dX1_take_59 ?_
          refine lv_istore (lv' := [(5, .int (mI (S 11 (60 * ((3 * f) + t))))), (4, .int (nI (S 10 (60 * ((3 * f) + t))))), (3, .int (nI ((3 * f) + t))), (0, .ref (h)), (1, .int (nI (f))), (2, .int (nI (t)))]) hx hb dX1_take_60 hl (by decide) rfl (fun ls hl => ?_)
          refine lv_aload_n hx hb dX1_take_62 rfl (lv_at hl 3 rfl) ?_
          refine mg_9 C hG.1 dX1_take_63 ?_
          refine lv_iload_n hx hb dX1_take_66 rfl (lv_at hl 2 rfl) ?_
          refine lv_dup2_11 hx hb dX1_take_67 rfl rfl ?_
          refine ml_9 (v := S 9 ((3 * f) + t)) C hG.1 (by omega) rfl dX1_take_68 ?_
          refine lv_iconst (v := (nI (1))) hx hb dX1_take_69 (by decide) ?_
          refine oi_sub hx hb (by omega) dX1_take_70 ?_
          refine ms_9 C hG (by omega) dX1_take_71 (fun H locs hG => ?_)
          refine lv_iconst (v := (nI (0))) hx hb dX1_take_72 (by decide) ?_
          refine lv_istore (lv' := [(6, .int (nI (0))), (5, .int (mI (S 11 (60 * ((3 * f) + t))))), (4, .int (nI (S 10 (60 * ((3 * f) + t))))), (3, .int (nI ((3 * f) + t))), (0, .ref (h)), (1, .int (nI (f))), (2, .int (nI (t)))]) hx hb dX1_take_73 hl (by decide) rfl (fun ls hl => ?_)
          refine sM_shift (S := sU S 9 (3 * f + t) (S 9 (3 * f + t) - 1)) C (y := 3 * f + t) (n := S 9 (3 * f + t) - 1) (by omega) (by omega) (by rw [sU_same, va_same]) (fun H locs ls hG hl => ?_) (S 9 (3 * f + t) - 1) 0 H locs ls hG (lv_sub hl [4, 5, 6, 3, 2, 1, 0] rfl) (by omega)
          have g2 : ∀ k j, shL (3 * f + t) (sU S 9 (3 * f + t) (S 9 (3 * f + t) - 1)) (S 9 (3 * f + t) - 1) k j < 2 ^ 26 := shL_bd (sU_bd hB (by omega)) _
          have e0 : shL (3 * f + t) (sU S 9 (3 * f + t) (S 9 (3 * f + t) - 1)) (S 9 (3 * f + t) - 1) 0 = S 0 := shL_f (by decide) (by decide) _
          have e1 : shL (3 * f + t) (sU S 9 (3 * f + t) (S 9 (3 * f + t) - 1)) (S 9 (3 * f + t) - 1) 1 = S 1 := shL_f (by decide) (by decide) _
          have e4 : shL (3 * f + t) (sU S 9 (3 * f + t) (S 9 (3 * f + t) - 1)) (S 9 (3 * f + t) - 1) 4 = S 4 := shL_f (by decide) (by decide) _
          have e5 : shL (3 * f + t) (sU S 9 (3 * f + t) (S 9 (3 * f + t) - 1)) (S 9 (3 * f + t) - 1) 5 = S 5 := shL_f (by decide) (by decide) _
          have e6 : shL (3 * f + t) (sU S 9 (3 * f + t) (S 9 (3 * f + t) - 1)) (S 9 (3 * f + t) - 1) 6 = S 6 := shL_f (by decide) (by decide) _
          refine lv_aload_n hx hb dX1_take_144 rfl (lv_at hl 0 rfl) ?_
          refine mg_0 C hG.1 dX1_take_145 ?_
          refine lv_iload_n hx hb dX1_take_148 rfl (lv_at hl 2 rfl) ?_
          refine lv_aload_n hx hb dX1_take_149 rfl (lv_at hl 0 rfl) ?_
          refine mg_0 C hG.1 dX1_take_150 ?_
          refine lv_iload_n hx hb dX1_take_153 rfl (lv_at hl 2 rfl) ?_
          refine ml_0 (v := S 0 t) C hG.1 (by omega) (by rw [e0]) dX1_take_154 ?_
          refine lv_iload hx hb dX1_take_155 (lv_at hl 4 rfl) ?_
          refine oi_ge (tgt := 165) hx hb dX1_take_157 (by decide) (by omega) (by omega) (fun c5 => ?_) (fun c5 => ?_)
          · refine lv_aload_n hx hb dX1_take_165 rfl (lv_at hl 0 rfl) ?_
            refine mg_0 C hG.1 dX1_take_166 ?_
            refine lv_iload_n hx hb dX1_take_169 rfl (lv_at hl 2 rfl) ?_
            refine ml_0 (v := S 0 t) C hG.1 (by omega) (by rw [e0]) dX1_take_170 ?_
            have em : mx (S 0 t) (S 10 (60 * (3 * f + t))) = _ := if_neg (by omega)
            have e5 : tm5 S f t = tm5 S f t := rfl
            conv at e5 => lhs; rw [tm5, tm4, em]
            rw [← e5] at h6c
            refine sM_take171 C hG ⟨Nat.le_of_ble_eq_true rfl, Nat.le_of_ble_eq_true rfl⟩ (fun k j => Nat.lt_of_lt_of_le (g2 k j) (by decide)) (by rw [e1]; exact h1) c2 (by omega) (by omega) (by omega) (h11 _) (by rw [e6, e1]; exact h6c c4) (lv_sub hl [0, 1, 2, 3, 4, 5] rfl) (fun H1 locs1 ls1 hG1 => ?_)
            refine oe_I C (by rw [eS, ← e5]; exact hG1) hr hk (by rw [eR, ← e5]) dX1_take_205
          · refine lv_iload hx hb dX1_take_160 (lv_at hl 4 rfl) ?_
            refine lv_goto (tgt := 171) hx hb dX1_take_162 (by decide) ?_
            have em : mx (S 0 t) (S 10 (60 * (3 * f + t))) = _ := if_pos c5
            have e5 : tm5 S f t = tm5 S f t := rfl
            conv at e5 => lhs; rw [tm5, tm4, em]
            rw [← e5] at h6c
            refine sM_take171 C hG ⟨Nat.le_of_ble_eq_true rfl, Nat.le_of_ble_eq_true rfl⟩ (fun k j => Nat.lt_of_lt_of_le (g2 k j) (by decide)) (by rw [e1]; exact h1) c2 (by omega) (by omega) (by omega) (h11 _) (by rw [e6, e1]; exact h6c c4) (lv_sub hl [0, 1, 2, 3, 4, 5] rfl) (fun H1 locs1 ls1 hG1 => ?_)
            refine oe_I C (by rw [eS, ← e5]; exact hG1) hr hk (by rw [eR, ← e5]) dX1_take_205
        · refine lv_iconst (v := (mI (0))) hx hb dX1_take_32 (by decide) ?_
          exact oe_I C (by rw [tamS, if_neg (fun z => z.2.2.2 (by rw [← ef, ← et]; exact c4))]; exact hG) hr hk (by rw [tamR, if_neg (fun z => z.2.2.2 (by rw [← ef, ← et]; exact c4))]) dX1_take_33
end
section
set_option maxRecDepth 100000
/-! the two constructors -/
def zX : Nat → Nat → Nat := fun k _ => if k = 4 then 1 else 0
def zM : Nat → Nat → Nat := fun k _ => if k = 11 then 1 else 0
abbrev oX : List Value := [.int (nI 0), .null, .null, .null, .null, .null, .null, .null, .null, .null, .null, .null, .null]
abbrev oM : List Value := [.null, .int (nI 0), .null, .null, .null, .null, .null, .null, .null, .null, .null, .null]
section IN
variable {p : Program} {l : Launch} {e : Env} {R : Room} {s : State} {m : MethodId} {args : Array Value} {below : List Frame} {meth : Method} {c : Code} {H : Heap} {locs : List Loc} {cells slots : Nat} {Q : State → Prop}
variable {cc : ByteArray} {pc : Nat} {ls : Array Slot} {rest : List Value} {D : va_G} {A : Nat → Prop} {d b : ClassId} {own : String} {nL : Nat} {h : Nat}
theorem on_i {w : va_W} {N : Nat} {f : Nat → Int32} (C : Cx p s m args c cc own nL D d b A) (hG : Gd D A s.heap H locs w) (hf : ∀ j, f j = 0) (hN : N < 2 ^ 20) (hc : cells + 1 ≤ R.cells) (hs : slots + N ≤ R.slots) (hdg : decode cc pc = .ok (.newarray .int, 2))
    (kk : ∀ (a : Nat) (H1 : Heap), Gd D A s.heap H1 locs (w ++ [(a, .inl (d, N, .inl f))]) → W p l e R s m args below meth c H1 locs (cells + 1) (slots + N) Q (F0 m (pc + 2) ls (.ref a :: rest))) : W p l e R s m args below meth c H locs cells slots Q (F0 m pc ls (.int (nI N) :: rest)) := by
  refine va_newa (atype := .int) (ty := .int) (N' := N) (a0 := (N, .inl f)) C.1.1 C.1.2.1 (C.1.2.2.2.2 _ q63) rfl C.2.1 hG.1 hG.2.1 hG.2.2 C.2.2 (fun cA => by rw [vp_cell_i, show (fun j => Value.int (f j)) = (fun _ => Value.int 0) from funext fun j => by rw [hf]]; rfl) (nI_pos (by omega)) (nI_clamp (by omega)) (by simp only [componentBytes]; omega) hc hs hdg (fun a cA H1 hK hP hD hS => ?_)
  have e1 : va_RA s cA .int := (hK.2 2 (cA, .int) rfl).2
  have e2 : va_RA s d .int := (C.2.1.2 0 (d, .int) rfl).2
  have e3 : cA = d := Option.some.inj (e1.symm.trans e2)
  subst e3
  exact kk a H1 ⟨hP, hD, hS⟩
theorem on_z {w : va_W} {N : Nat} {f : Nat → Int32} (C : Cx p s m args c cc own nL D d b A) (hG : Gd D A s.heap H locs w) (hf : ∀ j, f j = 0) (hN : N < 2 ^ 20) (hc : cells + 1 ≤ R.cells) (hs : slots + N ≤ R.slots) (hdg : decode cc pc = .ok (.newarray .boolean, 2))
    (kk : ∀ (a : Nat) (H1 : Heap), Gd D A s.heap H1 locs (w ++ [(a, .inl (b, N, .inl f))]) → W p l e R s m args below meth c H1 locs (cells + 1) (slots + N) Q (F0 m (pc + 2) ls (.ref a :: rest))) : W p l e R s m args below meth c H locs cells slots Q (F0 m pc ls (.int (nI N) :: rest)) := by
  refine va_newa (atype := .boolean) (ty := .boolean) (N' := N) (a0 := (N, .inl f)) C.1.1 C.1.2.1 (C.1.2.2.2.2 _ q170) rfl C.2.1 hG.1 hG.2.1 hG.2.2 C.2.2 (fun cA => by rw [vp_cell_i, show (fun j => Value.int (f j)) = (fun _ => Value.int 0) from funext fun j => by rw [hf]]; rfl) (nI_pos (by omega)) (nI_clamp (by omega)) (by simp only [componentBytes]; omega) hc hs hdg (fun a cA H1 hK hP hD hS => ?_)
  have e1 : va_RA s cA .boolean := (hK.2 2 (cA, .boolean) rfl).2
  have e2 : va_RA s b .boolean := (C.2.1.2 1 (b, .boolean) rfl).2
  have e3 : cA = b := Option.some.inj (e1.symm.trans e2)
  subst e3
  exact kk a H1 ⟨hP, hD, hS⟩
theorem xf_1 {w : va_W} {fs : List Value} {a : Nat} (C : Cx p s m args c cc RX0 nL D d b A) (hin : meth.name = "<init>") (hG : Gd D A s.heap H locs ((h, .inr (0, fs)) :: w)) (hl : 1 < fs.length) (hdg : decode cc pc = .ok (.putfield 7, 3)) (kk : ∀ (H1 : Heap) (locs1 : List Loc), Gd D A s.heap H1 locs1 ((h, .inr (0, fs.set 1 (.ref a))) :: w) → W p l e R s m args below meth c H1 locs1 cells slots Q (F0 m (pc + 3) ls rest)) : W p l e R s m args below meth c H locs cells slots Q (F0 m pc ls (.ref a :: .ref h :: rest)) :=
  va_putF (D := D) (ci := 0) (v := .ref a) (ty := (.array .int)) (C := RX0) (T := TX0) (N := 13) C.1.1 C.1.2.1 C.1.2.2.2.2 in_X0 tyX0 tyX0_ok nmX0 C.1.2.2.2.1 C.2.1 hG.1 hG.2.1 hG.2.2 0 rfl rfl 1 (by decide) (C.1.2.2.2.2 _ q24) (fun _ h9 => h9) rfl hin rfl (by decide +kernel) rfl rfl hl hdg (fun H1 locs1 hP hD hS => kk H1 locs1 ⟨hP, hD, hS⟩)
theorem xf_2 {w : va_W} {fs : List Value} {a : Nat} (C : Cx p s m args c cc RX0 nL D d b A) (hin : meth.name = "<init>") (hG : Gd D A s.heap H locs ((h, .inr (0, fs)) :: w)) (hl : 2 < fs.length) (hdg : decode cc pc = .ok (.putfield 13, 3)) (kk : ∀ (H1 : Heap) (locs1 : List Loc), Gd D A s.heap H1 locs1 ((h, .inr (0, fs.set 2 (.ref a))) :: w) → W p l e R s m args below meth c H1 locs1 cells slots Q (F0 m (pc + 3) ls rest)) : W p l e R s m args below meth c H locs cells slots Q (F0 m pc ls (.ref a :: .ref h :: rest)) :=
  va_putF (D := D) (ci := 0) (v := .ref a) (ty := (.array .int)) (C := RX0) (T := TX0) (N := 13) C.1.1 C.1.2.1 C.1.2.2.2.2 in_X0 tyX0 tyX0_ok nmX0 C.1.2.2.2.1 C.2.1 hG.1 hG.2.1 hG.2.2 0 rfl rfl 2 (by decide) (C.1.2.2.2.2 _ q25) (fun _ h9 => h9) rfl hin rfl (by decide +kernel) rfl rfl hl hdg (fun H1 locs1 hP hD hS => kk H1 locs1 ⟨hP, hD, hS⟩)
theorem xf_3 {w : va_W} {fs : List Value} {a : Nat} (C : Cx p s m args c cc RX0 nL D d b A) (hin : meth.name = "<init>") (hG : Gd D A s.heap H locs ((h, .inr (0, fs)) :: w)) (hl : 3 < fs.length) (hdg : decode cc pc = .ok (.putfield 16, 3)) (kk : ∀ (H1 : Heap) (locs1 : List Loc), Gd D A s.heap H1 locs1 ((h, .inr (0, fs.set 3 (.ref a))) :: w) → W p l e R s m args below meth c H1 locs1 cells slots Q (F0 m (pc + 3) ls rest)) : W p l e R s m args below meth c H locs cells slots Q (F0 m pc ls (.ref a :: .ref h :: rest)) :=
  va_putF (D := D) (ci := 0) (v := .ref a) (ty := (.array .int)) (C := RX0) (T := TX0) (N := 13) C.1.1 C.1.2.1 C.1.2.2.2.2 in_X0 tyX0 tyX0_ok nmX0 C.1.2.2.2.1 C.2.1 hG.1 hG.2.1 hG.2.2 0 rfl rfl 3 (by decide) (C.1.2.2.2.2 _ q26) (fun _ h9 => h9) rfl hin rfl (by decide +kernel) rfl rfl hl hdg (fun H1 locs1 hP hD hS => kk H1 locs1 ⟨hP, hD, hS⟩)
theorem xf_4 {w : va_W} {fs : List Value} {a : Nat} (C : Cx p s m args c cc RX0 nL D d b A) (hin : meth.name = "<init>") (hG : Gd D A s.heap H locs ((h, .inr (0, fs)) :: w)) (hl : 4 < fs.length) (hdg : decode cc pc = .ok (.putfield 19, 3)) (kk : ∀ (H1 : Heap) (locs1 : List Loc), Gd D A s.heap H1 locs1 ((h, .inr (0, fs.set 4 (.ref a))) :: w) → W p l e R s m args below meth c H1 locs1 cells slots Q (F0 m (pc + 3) ls rest)) : W p l e R s m args below meth c H locs cells slots Q (F0 m pc ls (.ref a :: .ref h :: rest)) :=
  va_putF (D := D) (ci := 0) (v := .ref a) (ty := (.array .int)) (C := RX0) (T := TX0) (N := 13) C.1.1 C.1.2.1 C.1.2.2.2.2 in_X0 tyX0 tyX0_ok nmX0 C.1.2.2.2.1 C.2.1 hG.1 hG.2.1 hG.2.2 0 rfl rfl 4 (by decide) (C.1.2.2.2.2 _ q27) (fun _ h9 => h9) rfl hin rfl (by decide +kernel) rfl rfl hl hdg (fun H1 locs1 hP hD hS => kk H1 locs1 ⟨hP, hD, hS⟩)
theorem xf_5 {w : va_W} {fs : List Value} {a : Nat} (C : Cx p s m args c cc RX0 nL D d b A) (hin : meth.name = "<init>") (hG : Gd D A s.heap H locs ((h, .inr (0, fs)) :: w)) (hl : 5 < fs.length) (hdg : decode cc pc = .ok (.putfield 22, 3)) (kk : ∀ (H1 : Heap) (locs1 : List Loc), Gd D A s.heap H1 locs1 ((h, .inr (0, fs.set 5 (.ref a))) :: w) → W p l e R s m args below meth c H1 locs1 cells slots Q (F0 m (pc + 3) ls rest)) : W p l e R s m args below meth c H locs cells slots Q (F0 m pc ls (.ref a :: .ref h :: rest)) :=
  va_putF (D := D) (ci := 0) (v := .ref a) (ty := (.array .int)) (C := RX0) (T := TX0) (N := 13) C.1.1 C.1.2.1 C.1.2.2.2.2 in_X0 tyX0 tyX0_ok nmX0 C.1.2.2.2.1 C.2.1 hG.1 hG.2.1 hG.2.2 0 rfl rfl 5 (by decide) (C.1.2.2.2.2 _ q28) (fun _ h9 => h9) rfl hin rfl (by decide +kernel) rfl rfl hl hdg (fun H1 locs1 hP hD hS => kk H1 locs1 ⟨hP, hD, hS⟩)
theorem xf_6 {w : va_W} {fs : List Value} {a : Nat} (C : Cx p s m args c cc RX0 nL D d b A) (hin : meth.name = "<init>") (hG : Gd D A s.heap H locs ((h, .inr (0, fs)) :: w)) (hl : 6 < fs.length) (hdg : decode cc pc = .ok (.putfield 25, 3)) (kk : ∀ (H1 : Heap) (locs1 : List Loc), Gd D A s.heap H1 locs1 ((h, .inr (0, fs.set 6 (.ref a))) :: w) → W p l e R s m args below meth c H1 locs1 cells slots Q (F0 m (pc + 3) ls rest)) : W p l e R s m args below meth c H locs cells slots Q (F0 m pc ls (.ref a :: .ref h :: rest)) :=
  va_putF (D := D) (ci := 0) (v := .ref a) (ty := (.array .int)) (C := RX0) (T := TX0) (N := 13) C.1.1 C.1.2.1 C.1.2.2.2.2 in_X0 tyX0 tyX0_ok nmX0 C.1.2.2.2.1 C.2.1 hG.1 hG.2.1 hG.2.2 0 rfl rfl 6 (by decide) (C.1.2.2.2.2 _ q29) (fun _ h9 => h9) rfl hin rfl (by decide +kernel) rfl rfl hl hdg (fun H1 locs1 hP hD hS => kk H1 locs1 ⟨hP, hD, hS⟩)
theorem xf_7 {w : va_W} {fs : List Value} {a : Nat} (C : Cx p s m args c cc RX0 nL D d b A) (hin : meth.name = "<init>") (hG : Gd D A s.heap H locs ((h, .inr (0, fs)) :: w)) (hl : 7 < fs.length) (hdg : decode cc pc = .ok (.putfield 28, 3)) (kk : ∀ (H1 : Heap) (locs1 : List Loc), Gd D A s.heap H1 locs1 ((h, .inr (0, fs.set 7 (.ref a))) :: w) → W p l e R s m args below meth c H1 locs1 cells slots Q (F0 m (pc + 3) ls rest)) : W p l e R s m args below meth c H locs cells slots Q (F0 m pc ls (.ref a :: .ref h :: rest)) :=
  va_putF (D := D) (ci := 0) (v := .ref a) (ty := (.array .int)) (C := RX0) (T := TX0) (N := 13) C.1.1 C.1.2.1 C.1.2.2.2.2 in_X0 tyX0 tyX0_ok nmX0 C.1.2.2.2.1 C.2.1 hG.1 hG.2.1 hG.2.2 0 rfl rfl 7 (by decide) (C.1.2.2.2.2 _ q30) (fun _ h9 => h9) rfl hin rfl (by decide +kernel) rfl rfl hl hdg (fun H1 locs1 hP hD hS => kk H1 locs1 ⟨hP, hD, hS⟩)
theorem xf_8 {w : va_W} {fs : List Value} {a : Nat} (C : Cx p s m args c cc RX0 nL D d b A) (hin : meth.name = "<init>") (hG : Gd D A s.heap H locs ((h, .inr (0, fs)) :: w)) (hl : 8 < fs.length) (hdg : decode cc pc = .ok (.putfield 31, 3)) (kk : ∀ (H1 : Heap) (locs1 : List Loc), Gd D A s.heap H1 locs1 ((h, .inr (0, fs.set 8 (.ref a))) :: w) → W p l e R s m args below meth c H1 locs1 cells slots Q (F0 m (pc + 3) ls rest)) : W p l e R s m args below meth c H locs cells slots Q (F0 m pc ls (.ref a :: .ref h :: rest)) :=
  va_putF (D := D) (ci := 0) (v := .ref a) (ty := (.array .int)) (C := RX0) (T := TX0) (N := 13) C.1.1 C.1.2.1 C.1.2.2.2.2 in_X0 tyX0 tyX0_ok nmX0 C.1.2.2.2.1 C.2.1 hG.1 hG.2.1 hG.2.2 0 rfl rfl 8 (by decide) (C.1.2.2.2.2 _ q31) (fun _ h9 => h9) rfl hin rfl (by decide +kernel) rfl rfl hl hdg (fun H1 locs1 hP hD hS => kk H1 locs1 ⟨hP, hD, hS⟩)
theorem xf_9 {w : va_W} {fs : List Value} {a : Nat} (C : Cx p s m args c cc RX0 nL D d b A) (hin : meth.name = "<init>") (hG : Gd D A s.heap H locs ((h, .inr (0, fs)) :: w)) (hl : 9 < fs.length) (hdg : decode cc pc = .ok (.putfield 34, 3)) (kk : ∀ (H1 : Heap) (locs1 : List Loc), Gd D A s.heap H1 locs1 ((h, .inr (0, fs.set 9 (.ref a))) :: w) → W p l e R s m args below meth c H1 locs1 cells slots Q (F0 m (pc + 3) ls rest)) : W p l e R s m args below meth c H locs cells slots Q (F0 m pc ls (.ref a :: .ref h :: rest)) :=
  va_putF (D := D) (ci := 0) (v := .ref a) (ty := (.array .int)) (C := RX0) (T := TX0) (N := 13) C.1.1 C.1.2.1 C.1.2.2.2.2 in_X0 tyX0 tyX0_ok nmX0 C.1.2.2.2.1 C.2.1 hG.1 hG.2.1 hG.2.2 0 rfl rfl 9 (by decide) (C.1.2.2.2.2 _ q32) (fun _ h9 => h9) rfl hin rfl (by decide +kernel) rfl rfl hl hdg (fun H1 locs1 hP hD hS => kk H1 locs1 ⟨hP, hD, hS⟩)
theorem xf_10 {w : va_W} {fs : List Value} {a : Nat} (C : Cx p s m args c cc RX0 nL D d b A) (hin : meth.name = "<init>") (hG : Gd D A s.heap H locs ((h, .inr (0, fs)) :: w)) (hl : 10 < fs.length) (hdg : decode cc pc = .ok (.putfield 37, 3)) (kk : ∀ (H1 : Heap) (locs1 : List Loc), Gd D A s.heap H1 locs1 ((h, .inr (0, fs.set 10 (.ref a))) :: w) → W p l e R s m args below meth c H1 locs1 cells slots Q (F0 m (pc + 3) ls rest)) : W p l e R s m args below meth c H locs cells slots Q (F0 m pc ls (.ref a :: .ref h :: rest)) :=
  va_putF (D := D) (ci := 0) (v := .ref a) (ty := (.array .int)) (C := RX0) (T := TX0) (N := 13) C.1.1 C.1.2.1 C.1.2.2.2.2 in_X0 tyX0 tyX0_ok nmX0 C.1.2.2.2.1 C.2.1 hG.1 hG.2.1 hG.2.2 0 rfl rfl 10 (by decide) (C.1.2.2.2.2 _ q33) (fun _ h9 => h9) rfl hin rfl (by decide +kernel) rfl rfl hl hdg (fun H1 locs1 hP hD hS => kk H1 locs1 ⟨hP, hD, hS⟩)
theorem xf_11 {w : va_W} {fs : List Value} {a : Nat} (C : Cx p s m args c cc RX0 nL D d b A) (hin : meth.name = "<init>") (hG : Gd D A s.heap H locs ((h, .inr (0, fs)) :: w)) (hl : 11 < fs.length) (hdg : decode cc pc = .ok (.putfield 40, 3)) (kk : ∀ (H1 : Heap) (locs1 : List Loc), Gd D A s.heap H1 locs1 ((h, .inr (0, fs.set 11 (.ref a))) :: w) → W p l e R s m args below meth c H1 locs1 cells slots Q (F0 m (pc + 3) ls rest)) : W p l e R s m args below meth c H locs cells slots Q (F0 m pc ls (.ref a :: .ref h :: rest)) :=
  va_putF (D := D) (ci := 0) (v := .ref a) (ty := (.array .int)) (C := RX0) (T := TX0) (N := 13) C.1.1 C.1.2.1 C.1.2.2.2.2 in_X0 tyX0 tyX0_ok nmX0 C.1.2.2.2.1 C.2.1 hG.1 hG.2.1 hG.2.2 0 rfl rfl 11 (by decide) (C.1.2.2.2.2 _ q34) (fun _ h9 => h9) rfl hin rfl (by decide +kernel) rfl rfl hl hdg (fun H1 locs1 hP hD hS => kk H1 locs1 ⟨hP, hD, hS⟩)
theorem xf_12 {w : va_W} {fs : List Value} {a : Nat} (C : Cx p s m args c cc RX0 nL D d b A) (hin : meth.name = "<init>") (hG : Gd D A s.heap H locs ((h, .inr (0, fs)) :: w)) (hl : 12 < fs.length) (hdg : decode cc pc = .ok (.putfield 43, 3)) (kk : ∀ (H1 : Heap) (locs1 : List Loc), Gd D A s.heap H1 locs1 ((h, .inr (0, fs.set 12 (.ref a))) :: w) → W p l e R s m args below meth c H1 locs1 cells slots Q (F0 m (pc + 3) ls rest)) : W p l e R s m args below meth c H locs cells slots Q (F0 m pc ls (.ref a :: .ref h :: rest)) :=
  va_putF (D := D) (ci := 0) (v := .ref a) (ty := (.array .int)) (C := RX0) (T := TX0) (N := 13) C.1.1 C.1.2.1 C.1.2.2.2.2 in_X0 tyX0 tyX0_ok nmX0 C.1.2.2.2.1 C.2.1 hG.1 hG.2.1 hG.2.2 0 rfl rfl 12 (by decide) (C.1.2.2.2.2 _ q35) (fun _ h9 => h9) rfl hin rfl (by decide +kernel) rfl rfl hl hdg (fun H1 locs1 hP hD hS => kk H1 locs1 ⟨hP, hD, hS⟩)
theorem mf_0 {w : va_W} {fs : List Value} {a : Nat} (C : Cx p s m args c cc RX1 nL D d b A) (hin : meth.name = "<init>") (hG : Gd D A s.heap H locs ((h, .inr (1, fs)) :: w)) (hl : 0 < fs.length) (hdg : decode cc pc = .ok (.putfield 7, 3)) (kk : ∀ (H1 : Heap) (locs1 : List Loc), Gd D A s.heap H1 locs1 ((h, .inr (1, fs.set 0 (.ref a))) :: w) → W p l e R s m args below meth c H1 locs1 cells slots Q (F0 m (pc + 3) ls rest)) : W p l e R s m args below meth c H locs cells slots Q (F0 m pc ls (.ref a :: .ref h :: rest)) :=
  va_putF (D := D) (ci := 1) (v := .ref a) (ty := (.array .int)) (C := RX1) (T := TX1) (N := 12) C.1.1 C.1.2.1 C.1.2.2.2.2 in_X1 tyX1 tyX1_ok nmX1 C.1.2.2.2.1 C.2.1 hG.1 hG.2.1 hG.2.2 0 rfl rfl 0 (by decide) (C.1.2.2.2.2 _ q133) (fun _ h9 => h9) rfl hin rfl (by decide +kernel) rfl rfl hl hdg (fun H1 locs1 hP hD hS => kk H1 locs1 ⟨hP, hD, hS⟩)
theorem mf_2 {w : va_W} {fs : List Value} {a : Nat} (C : Cx p s m args c cc RX1 nL D d b A) (hin : meth.name = "<init>") (hG : Gd D A s.heap H locs ((h, .inr (1, fs)) :: w)) (hl : 2 < fs.length) (hdg : decode cc pc = .ok (.putfield 13, 3)) (kk : ∀ (H1 : Heap) (locs1 : List Loc), Gd D A s.heap H1 locs1 ((h, .inr (1, fs.set 2 (.ref a))) :: w) → W p l e R s m args below meth c H1 locs1 cells slots Q (F0 m (pc + 3) ls rest)) : W p l e R s m args below meth c H locs cells slots Q (F0 m pc ls (.ref a :: .ref h :: rest)) :=
  va_putF (D := D) (ci := 1) (v := .ref a) (ty := (.array .int)) (C := RX1) (T := TX1) (N := 12) C.1.1 C.1.2.1 C.1.2.2.2.2 in_X1 tyX1 tyX1_ok nmX1 C.1.2.2.2.1 C.2.1 hG.1 hG.2.1 hG.2.2 0 rfl rfl 2 (by decide) (C.1.2.2.2.2 _ q135) (fun _ h9 => h9) rfl hin rfl (by decide +kernel) rfl rfl hl hdg (fun H1 locs1 hP hD hS => kk H1 locs1 ⟨hP, hD, hS⟩)
theorem mf_3 {w : va_W} {fs : List Value} {a : Nat} (C : Cx p s m args c cc RX1 nL D d b A) (hin : meth.name = "<init>") (hG : Gd D A s.heap H locs ((h, .inr (1, fs)) :: w)) (hl : 3 < fs.length) (hdg : decode cc pc = .ok (.putfield 16, 3)) (kk : ∀ (H1 : Heap) (locs1 : List Loc), Gd D A s.heap H1 locs1 ((h, .inr (1, fs.set 3 (.ref a))) :: w) → W p l e R s m args below meth c H1 locs1 cells slots Q (F0 m (pc + 3) ls rest)) : W p l e R s m args below meth c H locs cells slots Q (F0 m pc ls (.ref a :: .ref h :: rest)) :=
  va_putF (D := D) (ci := 1) (v := .ref a) (ty := (.array .int)) (C := RX1) (T := TX1) (N := 12) C.1.1 C.1.2.1 C.1.2.2.2.2 in_X1 tyX1 tyX1_ok nmX1 C.1.2.2.2.1 C.2.1 hG.1 hG.2.1 hG.2.2 0 rfl rfl 3 (by decide) (C.1.2.2.2.2 _ q136) (fun _ h9 => h9) rfl hin rfl (by decide +kernel) rfl rfl hl hdg (fun H1 locs1 hP hD hS => kk H1 locs1 ⟨hP, hD, hS⟩)
theorem mf_4 {w : va_W} {fs : List Value} {a : Nat} (C : Cx p s m args c cc RX1 nL D d b A) (hin : meth.name = "<init>") (hG : Gd D A s.heap H locs ((h, .inr (1, fs)) :: w)) (hl : 4 < fs.length) (hdg : decode cc pc = .ok (.putfield 19, 3)) (kk : ∀ (H1 : Heap) (locs1 : List Loc), Gd D A s.heap H1 locs1 ((h, .inr (1, fs.set 4 (.ref a))) :: w) → W p l e R s m args below meth c H1 locs1 cells slots Q (F0 m (pc + 3) ls rest)) : W p l e R s m args below meth c H locs cells slots Q (F0 m pc ls (.ref a :: .ref h :: rest)) :=
  va_putF (D := D) (ci := 1) (v := .ref a) (ty := (.array .boolean)) (C := RX1) (T := TX1) (N := 12) C.1.1 C.1.2.1 C.1.2.2.2.2 in_X1 tyX1 tyX1_ok nmX1 C.1.2.2.2.1 C.2.1 hG.1 hG.2.1 hG.2.2 0 rfl rfl 4 (by decide) (C.1.2.2.2.2 _ q137) (fun _ h9 => h9) rfl hin rfl (by decide +kernel) rfl rfl hl hdg (fun H1 locs1 hP hD hS => kk H1 locs1 ⟨hP, hD, hS⟩)
theorem mf_5 {w : va_W} {fs : List Value} {a : Nat} (C : Cx p s m args c cc RX1 nL D d b A) (hin : meth.name = "<init>") (hG : Gd D A s.heap H locs ((h, .inr (1, fs)) :: w)) (hl : 5 < fs.length) (hdg : decode cc pc = .ok (.putfield 23, 3)) (kk : ∀ (H1 : Heap) (locs1 : List Loc), Gd D A s.heap H1 locs1 ((h, .inr (1, fs.set 5 (.ref a))) :: w) → W p l e R s m args below meth c H1 locs1 cells slots Q (F0 m (pc + 3) ls rest)) : W p l e R s m args below meth c H locs cells slots Q (F0 m pc ls (.ref a :: .ref h :: rest)) :=
  va_putF (D := D) (ci := 1) (v := .ref a) (ty := (.array .boolean)) (C := RX1) (T := TX1) (N := 12) C.1.1 C.1.2.1 C.1.2.2.2.2 in_X1 tyX1 tyX1_ok nmX1 C.1.2.2.2.1 C.2.1 hG.1 hG.2.1 hG.2.2 0 rfl rfl 5 (by decide) (C.1.2.2.2.2 _ q138) (fun _ h9 => h9) rfl hin rfl (by decide +kernel) rfl rfl hl hdg (fun H1 locs1 hP hD hS => kk H1 locs1 ⟨hP, hD, hS⟩)
theorem mf_6 {w : va_W} {fs : List Value} {a : Nat} (C : Cx p s m args c cc RX1 nL D d b A) (hin : meth.name = "<init>") (hG : Gd D A s.heap H locs ((h, .inr (1, fs)) :: w)) (hl : 6 < fs.length) (hdg : decode cc pc = .ok (.putfield 26, 3)) (kk : ∀ (H1 : Heap) (locs1 : List Loc), Gd D A s.heap H1 locs1 ((h, .inr (1, fs.set 6 (.ref a))) :: w) → W p l e R s m args below meth c H1 locs1 cells slots Q (F0 m (pc + 3) ls rest)) : W p l e R s m args below meth c H locs cells slots Q (F0 m pc ls (.ref a :: .ref h :: rest)) :=
  va_putF (D := D) (ci := 1) (v := .ref a) (ty := (.array .int)) (C := RX1) (T := TX1) (N := 12) C.1.1 C.1.2.1 C.1.2.2.2.2 in_X1 tyX1 tyX1_ok nmX1 C.1.2.2.2.1 C.2.1 hG.1 hG.2.1 hG.2.2 0 rfl rfl 6 (by decide) (C.1.2.2.2.2 _ q139) (fun _ h9 => h9) rfl hin rfl (by decide +kernel) rfl rfl hl hdg (fun H1 locs1 hP hD hS => kk H1 locs1 ⟨hP, hD, hS⟩)
theorem mf_7 {w : va_W} {fs : List Value} {a : Nat} (C : Cx p s m args c cc RX1 nL D d b A) (hin : meth.name = "<init>") (hG : Gd D A s.heap H locs ((h, .inr (1, fs)) :: w)) (hl : 7 < fs.length) (hdg : decode cc pc = .ok (.putfield 29, 3)) (kk : ∀ (H1 : Heap) (locs1 : List Loc), Gd D A s.heap H1 locs1 ((h, .inr (1, fs.set 7 (.ref a))) :: w) → W p l e R s m args below meth c H1 locs1 cells slots Q (F0 m (pc + 3) ls rest)) : W p l e R s m args below meth c H locs cells slots Q (F0 m pc ls (.ref a :: .ref h :: rest)) :=
  va_putF (D := D) (ci := 1) (v := .ref a) (ty := (.array .int)) (C := RX1) (T := TX1) (N := 12) C.1.1 C.1.2.1 C.1.2.2.2.2 in_X1 tyX1 tyX1_ok nmX1 C.1.2.2.2.1 C.2.1 hG.1 hG.2.1 hG.2.2 0 rfl rfl 7 (by decide) (C.1.2.2.2.2 _ q140) (fun _ h9 => h9) rfl hin rfl (by decide +kernel) rfl rfl hl hdg (fun H1 locs1 hP hD hS => kk H1 locs1 ⟨hP, hD, hS⟩)
theorem mf_8 {w : va_W} {fs : List Value} {a : Nat} (C : Cx p s m args c cc RX1 nL D d b A) (hin : meth.name = "<init>") (hG : Gd D A s.heap H locs ((h, .inr (1, fs)) :: w)) (hl : 8 < fs.length) (hdg : decode cc pc = .ok (.putfield 32, 3)) (kk : ∀ (H1 : Heap) (locs1 : List Loc), Gd D A s.heap H1 locs1 ((h, .inr (1, fs.set 8 (.ref a))) :: w) → W p l e R s m args below meth c H1 locs1 cells slots Q (F0 m (pc + 3) ls rest)) : W p l e R s m args below meth c H locs cells slots Q (F0 m pc ls (.ref a :: .ref h :: rest)) :=
  va_putF (D := D) (ci := 1) (v := .ref a) (ty := (.array .int)) (C := RX1) (T := TX1) (N := 12) C.1.1 C.1.2.1 C.1.2.2.2.2 in_X1 tyX1 tyX1_ok nmX1 C.1.2.2.2.1 C.2.1 hG.1 hG.2.1 hG.2.2 0 rfl rfl 8 (by decide) (C.1.2.2.2.2 _ q141) (fun _ h9 => h9) rfl hin rfl (by decide +kernel) rfl rfl hl hdg (fun H1 locs1 hP hD hS => kk H1 locs1 ⟨hP, hD, hS⟩)
theorem mf_9 {w : va_W} {fs : List Value} {a : Nat} (C : Cx p s m args c cc RX1 nL D d b A) (hin : meth.name = "<init>") (hG : Gd D A s.heap H locs ((h, .inr (1, fs)) :: w)) (hl : 9 < fs.length) (hdg : decode cc pc = .ok (.putfield 35, 3)) (kk : ∀ (H1 : Heap) (locs1 : List Loc), Gd D A s.heap H1 locs1 ((h, .inr (1, fs.set 9 (.ref a))) :: w) → W p l e R s m args below meth c H1 locs1 cells slots Q (F0 m (pc + 3) ls rest)) : W p l e R s m args below meth c H locs cells slots Q (F0 m pc ls (.ref a :: .ref h :: rest)) :=
  va_putF (D := D) (ci := 1) (v := .ref a) (ty := (.array .int)) (C := RX1) (T := TX1) (N := 12) C.1.1 C.1.2.1 C.1.2.2.2.2 in_X1 tyX1 tyX1_ok nmX1 C.1.2.2.2.1 C.2.1 hG.1 hG.2.1 hG.2.2 0 rfl rfl 9 (by decide) (C.1.2.2.2.2 _ q142) (fun _ h9 => h9) rfl hin rfl (by decide +kernel) rfl rfl hl hdg (fun H1 locs1 hP hD hS => kk H1 locs1 ⟨hP, hD, hS⟩)
theorem mf_10 {w : va_W} {fs : List Value} {a : Nat} (C : Cx p s m args c cc RX1 nL D d b A) (hin : meth.name = "<init>") (hG : Gd D A s.heap H locs ((h, .inr (1, fs)) :: w)) (hl : 10 < fs.length) (hdg : decode cc pc = .ok (.putfield 38, 3)) (kk : ∀ (H1 : Heap) (locs1 : List Loc), Gd D A s.heap H1 locs1 ((h, .inr (1, fs.set 10 (.ref a))) :: w) → W p l e R s m args below meth c H1 locs1 cells slots Q (F0 m (pc + 3) ls rest)) : W p l e R s m args below meth c H locs cells slots Q (F0 m pc ls (.ref a :: .ref h :: rest)) :=
  va_putF (D := D) (ci := 1) (v := .ref a) (ty := (.array .int)) (C := RX1) (T := TX1) (N := 12) C.1.1 C.1.2.1 C.1.2.2.2.2 in_X1 tyX1 tyX1_ok nmX1 C.1.2.2.2.1 C.2.1 hG.1 hG.2.1 hG.2.2 0 rfl rfl 10 (by decide) (C.1.2.2.2.2 _ q143) (fun _ h9 => h9) rfl hin rfl (by decide +kernel) rfl rfl hl hdg (fun H1 locs1 hP hD hS => kk H1 locs1 ⟨hP, hD, hS⟩)
theorem mf_11 {w : va_W} {fs : List Value} {a : Nat} (C : Cx p s m args c cc RX1 nL D d b A) (hin : meth.name = "<init>") (hG : Gd D A s.heap H locs ((h, .inr (1, fs)) :: w)) (hl : 11 < fs.length) (hdg : decode cc pc = .ok (.putfield 41, 3)) (kk : ∀ (H1 : Heap) (locs1 : List Loc), Gd D A s.heap H1 locs1 ((h, .inr (1, fs.set 11 (.ref a))) :: w) → W p l e R s m args below meth c H1 locs1 cells slots Q (F0 m (pc + 3) ls rest)) : W p l e R s m args below meth c H locs cells slots Q (F0 m pc ls (.ref a :: .ref h :: rest)) :=
  va_putF (D := D) (ci := 1) (v := .ref a) (ty := (.array .int)) (C := RX1) (T := TX1) (N := 12) C.1.1 C.1.2.1 C.1.2.2.2.2 in_X1 tyX1 tyX1_ok nmX1 C.1.2.2.2.1 C.2.1 hG.1 hG.2.1 hG.2.2 0 rfl rfl 11 (by decide) (C.1.2.2.2.2 _ q144) (fun _ h9 => h9) rfl hin rfl (by decide +kernel) rfl rfl hl hdg (fun H1 locs1 hP hD hS => kk H1 locs1 ⟨hP, hD, hS⟩)
end IN
set_option maxHeartbeats 4000000 in
theorem cX_init (l : Launch) (D : va_G) (d b : ClassId) (h sz : Nat) : Met l yX0_init (ws_ yX0_init cX0_init 1 none) ({ frames := 1, cells := 12, slots := 1508, locals := 12 }) (va_Pc [.ref h] (Pw D d b sz [(h, .inr (0, oX))])) (va_Qv (fun _ : Nat → Nat => True) (fun q t => Bw D d b (va_A [(h, .inr (0, oX))] sz) (wX d h q zX) t) (va_A [(h, .inr (0, oX))] sz)) 12 1508 (va_A [(h, .inr (0, oX))] sz) := by
  refine Met.ofW (cc := cX0_init) (maxL := 1) (ret := none) (by decide) rfl ?_
  intro p e s m args below meth c s₁ B hml hv
  obtain ⟨rfl, hsz, hP, hK, hD0⟩ := hv
  have hts := atoms_spec (ws := ws_ yX0_init cX0_init 1 none) B.pre
  have hts : ∀ w ∈ lw_all, w.before _ s = true := fun w h => hts w (List.mem_cons_of_mem _ h)
  have hown : s.vm.findClass RX0 = some m.cls := findClass_of_methodNamed B.named
  have hin : meth.name = "<init>" := (name_of_methodNamed B.named B.method).1
  have hr := B.returns
  have hk := B.notSynchronized
  have C : Cx p s m _ c cX0_init RX0 1 D d b (va_A [(h, .inr (0, oX))] sz) := ⟨⟨B.exec, B.bytes, hml, hown, hts⟩, hK, fun q hq => Or.inr (hsz ▸ hq)⟩
  have hx := C.1.1
  have hb := C.1.2.1
  have hG : Gd D (va_A [(h, .inr (0, oX))] sz) s.heap s.heap [] [(h, .inr (0, oX))] := ⟨hP, hD0.self (sz := sz), va_S.rf⟩
  have hl := lv_entry ([.ref h]) (n := 1) (Nat.le_of_ble_eq_true rfl)
  rw [lg_entry_eq]
  generalize (lg_sl ([.ref h]) ++ List.replicate (1 - (lg_sl ([.ref h])).length) Slot.unset).toArray = ls at hl ⊢
  have hl : lv_has ls 1 [(0, .ref h)] := hl
  refine lv_aload_n hx hb dX0_init_0 rfl (lv_at hl 0 rfl) ?_
  refine W.objInit hx hb hown (hts _ q20) (hts _ q21) (hts _ q22) rfl (by rw [hml]; exact hl.1) rfl dX0_init_1 (Nat.le_of_ble_eq_true rfl) (Nat.le_of_ble_eq_true rfl) ?_
  refine W.eq (g2 := F0 m 4 ls []) rfl ?_
  refine lv_aload_n hx hb dX0_init_4 rfl (lv_at hl 0 rfl) ?_
  refine lv_bipush (v := nI 40) hx hb dX0_init_5 (by decide) ?_
  refine on_i (N := 40) (f := vN (zX 1)) C hG (fun _ => rfl) (by decide) (Nat.le_of_ble_eq_true rfl) (Nat.le_of_ble_eq_true rfl) dX0_init_7 (fun a1 H hG => ?_)
  refine W.widen (k := 1) (n := 40) (Nat.le_of_ble_eq_true rfl) (Nat.le_of_ble_eq_true rfl) ?_
  have hG : Gd D (va_A [(h, .inr (0, oX))] sz) s.heap H _ ((h, .inr (0, [.int (nI 0), .null, .null, .null, .null, .null, .null, .null, .null, .null, .null, .null, .null])) :: [(a1, .inl (d, 40, .inl (vN (zX 1))))]) := hG
  refine xf_1 C hin hG (Nat.le_of_ble_eq_true rfl) dX0_init_9 (fun H locs hG => ?_)
  refine lv_aload_n hx hb dX0_init_12 rfl (lv_at hl 0 rfl) ?_
  refine lv_bipush (v := nI 40) hx hb dX0_init_13 (by decide) ?_
  refine on_i (N := 40) (f := vN (zX 2)) C hG (fun _ => rfl) (by decide) (Nat.le_of_ble_eq_true rfl) (Nat.le_of_ble_eq_true rfl) dX0_init_15 (fun a2 H hG => ?_)
  refine W.widen (k := 2) (n := 80) (Nat.le_of_ble_eq_true rfl) (Nat.le_of_ble_eq_true rfl) ?_
  have hG : Gd D (va_A [(h, .inr (0, oX))] sz) s.heap H _ ((h, .inr (0, [.int (nI 0), .ref a1, .null, .null, .null, .null, .null, .null, .null, .null, .null, .null, .null])) :: [(a1, .inl (d, 40, .inl (vN (zX 1)))), (a2, .inl (d, 40, .inl (vN (zX 2))))]) := hG
  refine xf_2 C hin hG (Nat.le_of_ble_eq_true rfl) dX0_init_17 (fun H locs hG => ?_)
  refine lv_aload_n hx hb dX0_init_20 rfl (lv_at hl 0 rfl) ?_
  refine lv_sipush (v := nI 576) hx hb dX0_init_21 (by decide) ?_
  refine on_i (N := 576) (f := vN (zX 3)) C hG (fun _ => rfl) (by decide) (Nat.le_of_ble_eq_true rfl) (Nat.le_of_ble_eq_true rfl) dX0_init_24 (fun a3 H hG => ?_)
  refine W.widen (k := 3) (n := 656) (Nat.le_of_ble_eq_true rfl) (Nat.le_of_ble_eq_true rfl) ?_
  have hG : Gd D (va_A [(h, .inr (0, oX))] sz) s.heap H _ ((h, .inr (0, [.int (nI 0), .ref a1, .ref a2, .null, .null, .null, .null, .null, .null, .null, .null, .null, .null])) :: [(a1, .inl (d, 40, .inl (vN (zX 1)))), (a2, .inl (d, 40, .inl (vN (zX 2)))), (a3, .inl (d, 576, .inl (vN (zX 3))))]) := hG
  refine xf_3 C hin hG (Nat.le_of_ble_eq_true rfl) dX0_init_26 (fun H locs hG => ?_)
  refine lv_aload_n hx hb dX0_init_29 rfl (lv_at hl 0 rfl) ?_
  refine lv_sipush (v := nI 576) hx hb dX0_init_30 (by decide) ?_
  refine on_i (N := 576) (f := vM (zX 4)) C hG (fun _ => rfl) (by decide) (Nat.le_of_ble_eq_true rfl) (Nat.le_of_ble_eq_true rfl) dX0_init_33 (fun a4 H hG => ?_)
  refine W.widen (k := 4) (n := 1232) (Nat.le_of_ble_eq_true rfl) (Nat.le_of_ble_eq_true rfl) ?_
  have hG : Gd D (va_A [(h, .inr (0, oX))] sz) s.heap H _ ((h, .inr (0, [.int (nI 0), .ref a1, .ref a2, .ref a3, .null, .null, .null, .null, .null, .null, .null, .null, .null])) :: [(a1, .inl (d, 40, .inl (vN (zX 1)))), (a2, .inl (d, 40, .inl (vN (zX 2)))), (a3, .inl (d, 576, .inl (vN (zX 3)))), (a4, .inl (d, 576, .inl (vM (zX 4))))]) := hG
  refine xf_4 C hin hG (Nat.le_of_ble_eq_true rfl) dX0_init_35 (fun H locs hG => ?_)
  refine lv_aload_n hx hb dX0_init_38 rfl (lv_at hl 0 rfl) ?_
  refine lv_bipush (v := nI 9) hx hb dX0_init_39 (by decide) ?_
  refine on_i (N := 9) (f := vN (zX 5)) C hG (fun _ => rfl) (by decide) (Nat.le_of_ble_eq_true rfl) (Nat.le_of_ble_eq_true rfl) dX0_init_41 (fun a5 H hG => ?_)
  refine W.widen (k := 5) (n := 1241) (Nat.le_of_ble_eq_true rfl) (Nat.le_of_ble_eq_true rfl) ?_
  have hG : Gd D (va_A [(h, .inr (0, oX))] sz) s.heap H _ ((h, .inr (0, [.int (nI 0), .ref a1, .ref a2, .ref a3, .ref a4, .null, .null, .null, .null, .null, .null, .null, .null])) :: [(a1, .inl (d, 40, .inl (vN (zX 1)))), (a2, .inl (d, 40, .inl (vN (zX 2)))), (a3, .inl (d, 576, .inl (vN (zX 3)))), (a4, .inl (d, 576, .inl (vM (zX 4)))), (a5, .inl (d, 9, .inl (vN (zX 5))))]) := hG
  refine xf_5 C hin hG (Nat.le_of_ble_eq_true rfl) dX0_init_43 (fun H locs hG => ?_)
  refine lv_aload_n hx hb dX0_init_46 rfl (lv_at hl 0 rfl) ?_
  refine lv_bipush (v := nI 9) hx hb dX0_init_47 (by decide) ?_
  refine on_i (N := 9) (f := vN (zX 6)) C hG (fun _ => rfl) (by decide) (Nat.le_of_ble_eq_true rfl) (Nat.le_of_ble_eq_true rfl) dX0_init_49 (fun a6 H hG => ?_)
  refine W.widen (k := 6) (n := 1250) (Nat.le_of_ble_eq_true rfl) (Nat.le_of_ble_eq_true rfl) ?_
  have hG : Gd D (va_A [(h, .inr (0, oX))] sz) s.heap H _ ((h, .inr (0, [.int (nI 0), .ref a1, .ref a2, .ref a3, .ref a4, .ref a5, .null, .null, .null, .null, .null, .null, .null])) :: [(a1, .inl (d, 40, .inl (vN (zX 1)))), (a2, .inl (d, 40, .inl (vN (zX 2)))), (a3, .inl (d, 576, .inl (vN (zX 3)))), (a4, .inl (d, 576, .inl (vM (zX 4)))), (a5, .inl (d, 9, .inl (vN (zX 5)))), (a6, .inl (d, 9, .inl (vN (zX 6))))]) := hG
  refine xf_6 C hin hG (Nat.le_of_ble_eq_true rfl) dX0_init_51 (fun H locs hG => ?_)
  refine lv_aload_n hx hb dX0_init_54 rfl (lv_at hl 0 rfl) ?_
  refine lv_iconst (v := nI 3) hx hb dX0_init_55 (by decide) ?_
  refine on_i (N := 3) (f := vN (zX 7)) C hG (fun _ => rfl) (by decide) (Nat.le_of_ble_eq_true rfl) (Nat.le_of_ble_eq_true rfl) dX0_init_56 (fun a7 H hG => ?_)
  refine W.widen (k := 7) (n := 1253) (Nat.le_of_ble_eq_true rfl) (Nat.le_of_ble_eq_true rfl) ?_
  have hG : Gd D (va_A [(h, .inr (0, oX))] sz) s.heap H _ ((h, .inr (0, [.int (nI 0), .ref a1, .ref a2, .ref a3, .ref a4, .ref a5, .ref a6, .null, .null, .null, .null, .null, .null])) :: [(a1, .inl (d, 40, .inl (vN (zX 1)))), (a2, .inl (d, 40, .inl (vN (zX 2)))), (a3, .inl (d, 576, .inl (vN (zX 3)))), (a4, .inl (d, 576, .inl (vM (zX 4)))), (a5, .inl (d, 9, .inl (vN (zX 5)))), (a6, .inl (d, 9, .inl (vN (zX 6)))), (a7, .inl (d, 3, .inl (vN (zX 7))))]) := hG
  refine xf_7 C hin hG (Nat.le_of_ble_eq_true rfl) dX0_init_58 (fun H locs hG => ?_)
  refine lv_aload_n hx hb dX0_init_61 rfl (lv_at hl 0 rfl) ?_
  refine lv_bipush (v := nI 9) hx hb dX0_init_62 (by decide) ?_
  refine on_i (N := 9) (f := vN (zX 8)) C hG (fun _ => rfl) (by decide) (Nat.le_of_ble_eq_true rfl) (Nat.le_of_ble_eq_true rfl) dX0_init_64 (fun a8 H hG => ?_)
  refine W.widen (k := 8) (n := 1262) (Nat.le_of_ble_eq_true rfl) (Nat.le_of_ble_eq_true rfl) ?_
  have hG : Gd D (va_A [(h, .inr (0, oX))] sz) s.heap H _ ((h, .inr (0, [.int (nI 0), .ref a1, .ref a2, .ref a3, .ref a4, .ref a5, .ref a6, .ref a7, .null, .null, .null, .null, .null])) :: [(a1, .inl (d, 40, .inl (vN (zX 1)))), (a2, .inl (d, 40, .inl (vN (zX 2)))), (a3, .inl (d, 576, .inl (vN (zX 3)))), (a4, .inl (d, 576, .inl (vM (zX 4)))), (a5, .inl (d, 9, .inl (vN (zX 5)))), (a6, .inl (d, 9, .inl (vN (zX 6)))), (a7, .inl (d, 3, .inl (vN (zX 7)))), (a8, .inl (d, 9, .inl (vN (zX 8))))]) := hG
  refine xf_8 C hin hG (Nat.le_of_ble_eq_true rfl) dX0_init_66 (fun H locs hG => ?_)
  refine lv_aload_n hx hb dX0_init_69 rfl (lv_at hl 0 rfl) ?_
  refine lv_iconst (v := nI 3) hx hb dX0_init_70 (by decide) ?_
  refine on_i (N := 3) (f := vN (zX 9)) C hG (fun _ => rfl) (by decide) (Nat.le_of_ble_eq_true rfl) (Nat.le_of_ble_eq_true rfl) dX0_init_71 (fun a9 H hG => ?_)
  refine W.widen (k := 9) (n := 1265) (Nat.le_of_ble_eq_true rfl) (Nat.le_of_ble_eq_true rfl) ?_
  have hG : Gd D (va_A [(h, .inr (0, oX))] sz) s.heap H _ ((h, .inr (0, [.int (nI 0), .ref a1, .ref a2, .ref a3, .ref a4, .ref a5, .ref a6, .ref a7, .ref a8, .null, .null, .null, .null])) :: [(a1, .inl (d, 40, .inl (vN (zX 1)))), (a2, .inl (d, 40, .inl (vN (zX 2)))), (a3, .inl (d, 576, .inl (vN (zX 3)))), (a4, .inl (d, 576, .inl (vM (zX 4)))), (a5, .inl (d, 9, .inl (vN (zX 5)))), (a6, .inl (d, 9, .inl (vN (zX 6)))), (a7, .inl (d, 3, .inl (vN (zX 7)))), (a8, .inl (d, 9, .inl (vN (zX 8)))), (a9, .inl (d, 3, .inl (vN (zX 9))))]) := hG
  refine xf_9 C hin hG (Nat.le_of_ble_eq_true rfl) dX0_init_73 (fun H locs hG => ?_)
  refine lv_aload_n hx hb dX0_init_76 rfl (lv_at hl 0 rfl) ?_
  refine lv_bipush (v := nI 120) hx hb dX0_init_77 (by decide) ?_
  refine on_i (N := 120) (f := vN (zX 10)) C hG (fun _ => rfl) (by decide) (Nat.le_of_ble_eq_true rfl) (Nat.le_of_ble_eq_true rfl) dX0_init_79 (fun a10 H hG => ?_)
  refine W.widen (k := 10) (n := 1385) (Nat.le_of_ble_eq_true rfl) (Nat.le_of_ble_eq_true rfl) ?_
  have hG : Gd D (va_A [(h, .inr (0, oX))] sz) s.heap H _ ((h, .inr (0, [.int (nI 0), .ref a1, .ref a2, .ref a3, .ref a4, .ref a5, .ref a6, .ref a7, .ref a8, .ref a9, .null, .null, .null])) :: [(a1, .inl (d, 40, .inl (vN (zX 1)))), (a2, .inl (d, 40, .inl (vN (zX 2)))), (a3, .inl (d, 576, .inl (vN (zX 3)))), (a4, .inl (d, 576, .inl (vM (zX 4)))), (a5, .inl (d, 9, .inl (vN (zX 5)))), (a6, .inl (d, 9, .inl (vN (zX 6)))), (a7, .inl (d, 3, .inl (vN (zX 7)))), (a8, .inl (d, 9, .inl (vN (zX 8)))), (a9, .inl (d, 3, .inl (vN (zX 9)))), (a10, .inl (d, 120, .inl (vN (zX 10))))]) := hG
  refine xf_10 C hin hG (Nat.le_of_ble_eq_true rfl) dX0_init_81 (fun H locs hG => ?_)
  refine lv_aload_n hx hb dX0_init_84 rfl (lv_at hl 0 rfl) ?_
  refine lv_iconst (v := nI 3) hx hb dX0_init_85 (by decide) ?_
  refine on_i (N := 3) (f := vN (zX 11)) C hG (fun _ => rfl) (by decide) (Nat.le_of_ble_eq_true rfl) (Nat.le_of_ble_eq_true rfl) dX0_init_86 (fun a11 H hG => ?_)
  refine W.widen (k := 11) (n := 1388) (Nat.le_of_ble_eq_true rfl) (Nat.le_of_ble_eq_true rfl) ?_
  have hG : Gd D (va_A [(h, .inr (0, oX))] sz) s.heap H _ ((h, .inr (0, [.int (nI 0), .ref a1, .ref a2, .ref a3, .ref a4, .ref a5, .ref a6, .ref a7, .ref a8, .ref a9, .ref a10, .null, .null])) :: [(a1, .inl (d, 40, .inl (vN (zX 1)))), (a2, .inl (d, 40, .inl (vN (zX 2)))), (a3, .inl (d, 576, .inl (vN (zX 3)))), (a4, .inl (d, 576, .inl (vM (zX 4)))), (a5, .inl (d, 9, .inl (vN (zX 5)))), (a6, .inl (d, 9, .inl (vN (zX 6)))), (a7, .inl (d, 3, .inl (vN (zX 7)))), (a8, .inl (d, 9, .inl (vN (zX 8)))), (a9, .inl (d, 3, .inl (vN (zX 9)))), (a10, .inl (d, 120, .inl (vN (zX 10)))), (a11, .inl (d, 3, .inl (vN (zX 11))))]) := hG
  refine xf_11 C hin hG (Nat.le_of_ble_eq_true rfl) dX0_init_88 (fun H locs hG => ?_)
  refine lv_aload_n hx hb dX0_init_91 rfl (lv_at hl 0 rfl) ?_
  refine lv_bipush (v := nI 120) hx hb dX0_init_92 (by decide) ?_
  refine on_i (N := 120) (f := vN (zX 12)) C hG (fun _ => rfl) (by decide) (Nat.le_of_ble_eq_true rfl) (Nat.le_of_ble_eq_true rfl) dX0_init_94 (fun a12 H hG => ?_)
  refine W.widen (k := 12) (n := 1508) (Nat.le_of_ble_eq_true rfl) (Nat.le_of_ble_eq_true rfl) ?_
  have hG : Gd D (va_A [(h, .inr (0, oX))] sz) s.heap H _ ((h, .inr (0, [.int (nI 0), .ref a1, .ref a2, .ref a3, .ref a4, .ref a5, .ref a6, .ref a7, .ref a8, .ref a9, .ref a10, .ref a11, .null])) :: [(a1, .inl (d, 40, .inl (vN (zX 1)))), (a2, .inl (d, 40, .inl (vN (zX 2)))), (a3, .inl (d, 576, .inl (vN (zX 3)))), (a4, .inl (d, 576, .inl (vM (zX 4)))), (a5, .inl (d, 9, .inl (vN (zX 5)))), (a6, .inl (d, 9, .inl (vN (zX 6)))), (a7, .inl (d, 3, .inl (vN (zX 7)))), (a8, .inl (d, 9, .inl (vN (zX 8)))), (a9, .inl (d, 3, .inl (vN (zX 9)))), (a10, .inl (d, 120, .inl (vN (zX 10)))), (a11, .inl (d, 3, .inl (vN (zX 11)))), (a12, .inl (d, 120, .inl (vN (zX 12))))]) := hG
  refine xf_12 C hin hG (Nat.le_of_ble_eq_true rfl) dX0_init_96 (fun H locs hG => ?_)
  have hG : Gd D (va_A [(h, .inr (0, oX))] sz) s.heap H locs (wX d h (fun k => match k with | 1 => a1 | 2 => a2 | 3 => a3 | 4 => a4 | 5 => a5 | 6 => a6 | 7 => a7 | 8 => a8 | 9 => a9 | 10 => a10 | 11 => a11 | _ => a12) zX) := hG
  exact W.vret hx hb hr (fun t ht hW => ⟨⟨(fun k => match k with | 1 => a1 | 2 => a2 | 3 => a3 | 4 => a4 | 5 => a5 | 6 => a6 | 7 => a7 | 8 => a8 | 9 => a9 | 10 => a10 | 11 => a11 | _ => a12), rfl, trivial, by rw [ht]; exact hG.1, va_K.moved hW.alike C.2.1, hG.2.1⟩, hG.2.2.F ht⟩) hG.2.2.2.2 dX0_init_99 hk
set_option maxHeartbeats 4000000 in
theorem cM_init (l : Launch) (D : va_G) (d b : ClassId) (h sz : Nat) : Met l yX1_init (ws_ yX1_init cX1_init 1 none) ({ frames := 1, cells := 11, slots := 1544, locals := 12 }) (va_Pc [.ref h] (Pw D d b sz [(h, .inr (1, oM))])) (va_Qv (fun _ : Nat → Nat => True) (fun q t => Bw D d b (va_A [(h, .inr (1, oM))] sz) (wM d b h q zM) t) (va_A [(h, .inr (1, oM))] sz)) 11 1544 (va_A [(h, .inr (1, oM))] sz) := by
  refine Met.ofW (cc := cX1_init) (maxL := 1) (ret := none) (by decide) rfl ?_
  intro p e s m args below meth c s₁ B hml hv
  obtain ⟨rfl, hsz, hP, hK, hD0⟩ := hv
  have hts := atoms_spec (ws := ws_ yX1_init cX1_init 1 none) B.pre
  have hts : ∀ w ∈ lw_all, w.before _ s = true := fun w h => hts w (List.mem_cons_of_mem _ h)
  have hown : s.vm.findClass RX1 = some m.cls := findClass_of_methodNamed B.named
  have hin : meth.name = "<init>" := (name_of_methodNamed B.named B.method).1
  have hr := B.returns
  have hk := B.notSynchronized
  have C : Cx p s m _ c cX1_init RX1 1 D d b (va_A [(h, .inr (1, oM))] sz) := ⟨⟨B.exec, B.bytes, hml, hown, hts⟩, hK, fun q hq => Or.inr (hsz ▸ hq)⟩
  have hx := C.1.1
  have hb := C.1.2.1
  have hG : Gd D (va_A [(h, .inr (1, oM))] sz) s.heap s.heap [] [(h, .inr (1, oM))] := ⟨hP, hD0.self (sz := sz), va_S.rf⟩
  have hl := lv_entry ([.ref h]) (n := 1) (Nat.le_of_ble_eq_true rfl)
  rw [lg_entry_eq]
  generalize (lg_sl ([.ref h]) ++ List.replicate (1 - (lg_sl ([.ref h])).length) Slot.unset).toArray = ls at hl ⊢
  have hl : lv_has ls 1 [(0, .ref h)] := hl
  refine lv_aload_n hx hb dX1_init_0 rfl (lv_at hl 0 rfl) ?_
  refine W.objInit hx hb hown (hts _ q132) (hts _ q21) (hts _ q22) rfl (by rw [hml]; exact hl.1) rfl dX1_init_1 (Nat.le_of_ble_eq_true rfl) (Nat.le_of_ble_eq_true rfl) ?_
  refine W.eq (g2 := F0 m 4 ls []) rfl ?_
  refine lv_aload_n hx hb dX1_init_4 rfl (lv_at hl 0 rfl) ?_
  refine lv_iconst (v := nI 3) hx hb dX1_init_5 (by decide) ?_
  refine on_i (N := 3) (f := vN (zM 0)) C hG (fun _ => rfl) (by decide) (Nat.le_of_ble_eq_true rfl) (Nat.le_of_ble_eq_true rfl) dX1_init_6 (fun a0 H hG => ?_)
  refine W.widen (k := 1) (n := 3) (Nat.le_of_ble_eq_true rfl) (Nat.le_of_ble_eq_true rfl) ?_
  have hG : Gd D (va_A [(h, .inr (1, oM))] sz) s.heap H _ ((h, .inr (1, [.null, .int (nI 0), .null, .null, .null, .null, .null, .null, .null, .null, .null, .null])) :: [(a0, .inl (d, 3, .inl (vN (zM 0))))]) := hG
  refine mf_0 C hin hG (Nat.le_of_ble_eq_true rfl) dX1_init_8 (fun H locs hG => ?_)
  refine lv_aload_n hx hb dX1_init_11 rfl (lv_at hl 0 rfl) ?_
  refine lv_bipush (v := nI 40) hx hb dX1_init_12 (by decide) ?_
  refine on_i (N := 40) (f := vN (zM 2)) C hG (fun _ => rfl) (by decide) (Nat.le_of_ble_eq_true rfl) (Nat.le_of_ble_eq_true rfl) dX1_init_14 (fun a2 H hG => ?_)
  refine W.widen (k := 2) (n := 43) (Nat.le_of_ble_eq_true rfl) (Nat.le_of_ble_eq_true rfl) ?_
  have hG : Gd D (va_A [(h, .inr (1, oM))] sz) s.heap H _ ((h, .inr (1, [.ref a0, .int (nI 0), .null, .null, .null, .null, .null, .null, .null, .null, .null, .null])) :: [(a0, .inl (d, 3, .inl (vN (zM 0)))), (a2, .inl (d, 40, .inl (vN (zM 2))))]) := hG
  refine mf_2 C hin hG (Nat.le_of_ble_eq_true rfl) dX1_init_16 (fun H locs hG => ?_)
  refine lv_aload_n hx hb dX1_init_19 rfl (lv_at hl 0 rfl) ?_
  refine lv_bipush (v := nI 40) hx hb dX1_init_20 (by decide) ?_
  refine on_i (N := 40) (f := vN (zM 3)) C hG (fun _ => rfl) (by decide) (Nat.le_of_ble_eq_true rfl) (Nat.le_of_ble_eq_true rfl) dX1_init_22 (fun a3 H hG => ?_)
  refine W.widen (k := 3) (n := 83) (Nat.le_of_ble_eq_true rfl) (Nat.le_of_ble_eq_true rfl) ?_
  have hG : Gd D (va_A [(h, .inr (1, oM))] sz) s.heap H _ ((h, .inr (1, [.ref a0, .int (nI 0), .ref a2, .null, .null, .null, .null, .null, .null, .null, .null, .null])) :: [(a0, .inl (d, 3, .inl (vN (zM 0)))), (a2, .inl (d, 40, .inl (vN (zM 2)))), (a3, .inl (d, 40, .inl (vN (zM 3))))]) := hG
  refine mf_3 C hin hG (Nat.le_of_ble_eq_true rfl) dX1_init_24 (fun H locs hG => ?_)
  refine lv_aload_n hx hb dX1_init_27 rfl (lv_at hl 0 rfl) ?_
  refine lv_bipush (v := nI 120) hx hb dX1_init_28 (by decide) ?_
  refine on_z (N := 120) (f := vN (zM 4)) C hG (fun _ => rfl) (by decide) (Nat.le_of_ble_eq_true rfl) (Nat.le_of_ble_eq_true rfl) dX1_init_30 (fun a4 H hG => ?_)
  refine W.widen (k := 4) (n := 203) (Nat.le_of_ble_eq_true rfl) (Nat.le_of_ble_eq_true rfl) ?_
  have hG : Gd D (va_A [(h, .inr (1, oM))] sz) s.heap H _ ((h, .inr (1, [.ref a0, .int (nI 0), .ref a2, .ref a3, .null, .null, .null, .null, .null, .null, .null, .null])) :: [(a0, .inl (d, 3, .inl (vN (zM 0)))), (a2, .inl (d, 40, .inl (vN (zM 2)))), (a3, .inl (d, 40, .inl (vN (zM 3)))), (a4, .inl (b, 120, .inl (vN (zM 4))))]) := hG
  refine mf_4 C hin hG (Nat.le_of_ble_eq_true rfl) dX1_init_32 (fun H locs hG => ?_)
  refine lv_aload_n hx hb dX1_init_35 rfl (lv_at hl 0 rfl) ?_
  refine lv_bipush (v := nI 120) hx hb dX1_init_36 (by decide) ?_
  refine on_z (N := 120) (f := vN (zM 5)) C hG (fun _ => rfl) (by decide) (Nat.le_of_ble_eq_true rfl) (Nat.le_of_ble_eq_true rfl) dX1_init_38 (fun a5 H hG => ?_)
  refine W.widen (k := 5) (n := 323) (Nat.le_of_ble_eq_true rfl) (Nat.le_of_ble_eq_true rfl) ?_
  have hG : Gd D (va_A [(h, .inr (1, oM))] sz) s.heap H _ ((h, .inr (1, [.ref a0, .int (nI 0), .ref a2, .ref a3, .ref a4, .null, .null, .null, .null, .null, .null, .null])) :: [(a0, .inl (d, 3, .inl (vN (zM 0)))), (a2, .inl (d, 40, .inl (vN (zM 2)))), (a3, .inl (d, 40, .inl (vN (zM 3)))), (a4, .inl (b, 120, .inl (vN (zM 4)))), (a5, .inl (b, 120, .inl (vN (zM 5))))]) := hG
  refine mf_5 C hin hG (Nat.le_of_ble_eq_true rfl) dX1_init_40 (fun H locs hG => ?_)
  refine lv_aload_n hx hb dX1_init_43 rfl (lv_at hl 0 rfl) ?_
  refine lv_iconst (v := nI 3) hx hb dX1_init_44 (by decide) ?_
  refine on_i (N := 3) (f := vN (zM 6)) C hG (fun _ => rfl) (by decide) (Nat.le_of_ble_eq_true rfl) (Nat.le_of_ble_eq_true rfl) dX1_init_45 (fun a6 H hG => ?_)
  refine W.widen (k := 6) (n := 326) (Nat.le_of_ble_eq_true rfl) (Nat.le_of_ble_eq_true rfl) ?_
  have hG : Gd D (va_A [(h, .inr (1, oM))] sz) s.heap H _ ((h, .inr (1, [.ref a0, .int (nI 0), .ref a2, .ref a3, .ref a4, .ref a5, .null, .null, .null, .null, .null, .null])) :: [(a0, .inl (d, 3, .inl (vN (zM 0)))), (a2, .inl (d, 40, .inl (vN (zM 2)))), (a3, .inl (d, 40, .inl (vN (zM 3)))), (a4, .inl (b, 120, .inl (vN (zM 4)))), (a5, .inl (b, 120, .inl (vN (zM 5)))), (a6, .inl (d, 3, .inl (vN (zM 6))))]) := hG
  refine mf_6 C hin hG (Nat.le_of_ble_eq_true rfl) dX1_init_47 (fun H locs hG => ?_)
  refine lv_aload_n hx hb dX1_init_50 rfl (lv_at hl 0 rfl) ?_
  refine lv_bipush (v := nI 120) hx hb dX1_init_51 (by decide) ?_
  refine on_i (N := 120) (f := vN (zM 7)) C hG (fun _ => rfl) (by decide) (Nat.le_of_ble_eq_true rfl) (Nat.le_of_ble_eq_true rfl) dX1_init_53 (fun a7 H hG => ?_)
  refine W.widen (k := 7) (n := 446) (Nat.le_of_ble_eq_true rfl) (Nat.le_of_ble_eq_true rfl) ?_
  have hG : Gd D (va_A [(h, .inr (1, oM))] sz) s.heap H _ ((h, .inr (1, [.ref a0, .int (nI 0), .ref a2, .ref a3, .ref a4, .ref a5, .ref a6, .null, .null, .null, .null, .null])) :: [(a0, .inl (d, 3, .inl (vN (zM 0)))), (a2, .inl (d, 40, .inl (vN (zM 2)))), (a3, .inl (d, 40, .inl (vN (zM 3)))), (a4, .inl (b, 120, .inl (vN (zM 4)))), (a5, .inl (b, 120, .inl (vN (zM 5)))), (a6, .inl (d, 3, .inl (vN (zM 6)))), (a7, .inl (d, 120, .inl (vN (zM 7))))]) := hG
  refine mf_7 C hin hG (Nat.le_of_ble_eq_true rfl) dX1_init_55 (fun H locs hG => ?_)
  refine lv_aload_n hx hb dX1_init_58 rfl (lv_at hl 0 rfl) ?_
  refine lv_bipush (v := nI 9) hx hb dX1_init_59 (by decide) ?_
  refine on_i (N := 9) (f := vN (zM 8)) C hG (fun _ => rfl) (by decide) (Nat.le_of_ble_eq_true rfl) (Nat.le_of_ble_eq_true rfl) dX1_init_61 (fun a8 H hG => ?_)
  refine W.widen (k := 8) (n := 455) (Nat.le_of_ble_eq_true rfl) (Nat.le_of_ble_eq_true rfl) ?_
  have hG : Gd D (va_A [(h, .inr (1, oM))] sz) s.heap H _ ((h, .inr (1, [.ref a0, .int (nI 0), .ref a2, .ref a3, .ref a4, .ref a5, .ref a6, .ref a7, .null, .null, .null, .null])) :: [(a0, .inl (d, 3, .inl (vN (zM 0)))), (a2, .inl (d, 40, .inl (vN (zM 2)))), (a3, .inl (d, 40, .inl (vN (zM 3)))), (a4, .inl (b, 120, .inl (vN (zM 4)))), (a5, .inl (b, 120, .inl (vN (zM 5)))), (a6, .inl (d, 3, .inl (vN (zM 6)))), (a7, .inl (d, 120, .inl (vN (zM 7)))), (a8, .inl (d, 9, .inl (vN (zM 8))))]) := hG
  refine mf_8 C hin hG (Nat.le_of_ble_eq_true rfl) dX1_init_63 (fun H locs hG => ?_)
  refine lv_aload_n hx hb dX1_init_66 rfl (lv_at hl 0 rfl) ?_
  refine lv_bipush (v := nI 9) hx hb dX1_init_67 (by decide) ?_
  refine on_i (N := 9) (f := vN (zM 9)) C hG (fun _ => rfl) (by decide) (Nat.le_of_ble_eq_true rfl) (Nat.le_of_ble_eq_true rfl) dX1_init_69 (fun a9 H hG => ?_)
  refine W.widen (k := 9) (n := 464) (Nat.le_of_ble_eq_true rfl) (Nat.le_of_ble_eq_true rfl) ?_
  have hG : Gd D (va_A [(h, .inr (1, oM))] sz) s.heap H _ ((h, .inr (1, [.ref a0, .int (nI 0), .ref a2, .ref a3, .ref a4, .ref a5, .ref a6, .ref a7, .ref a8, .null, .null, .null])) :: [(a0, .inl (d, 3, .inl (vN (zM 0)))), (a2, .inl (d, 40, .inl (vN (zM 2)))), (a3, .inl (d, 40, .inl (vN (zM 3)))), (a4, .inl (b, 120, .inl (vN (zM 4)))), (a5, .inl (b, 120, .inl (vN (zM 5)))), (a6, .inl (d, 3, .inl (vN (zM 6)))), (a7, .inl (d, 120, .inl (vN (zM 7)))), (a8, .inl (d, 9, .inl (vN (zM 8)))), (a9, .inl (d, 9, .inl (vN (zM 9))))]) := hG
  refine mf_9 C hin hG (Nat.le_of_ble_eq_true rfl) dX1_init_71 (fun H locs hG => ?_)
  refine lv_aload_n hx hb dX1_init_74 rfl (lv_at hl 0 rfl) ?_
  refine lv_sipush (v := nI 540) hx hb dX1_init_75 (by decide) ?_
  refine on_i (N := 540) (f := vN (zM 10)) C hG (fun _ => rfl) (by decide) (Nat.le_of_ble_eq_true rfl) (Nat.le_of_ble_eq_true rfl) dX1_init_78 (fun a10 H hG => ?_)
  refine W.widen (k := 10) (n := 1004) (Nat.le_of_ble_eq_true rfl) (Nat.le_of_ble_eq_true rfl) ?_
  have hG : Gd D (va_A [(h, .inr (1, oM))] sz) s.heap H _ ((h, .inr (1, [.ref a0, .int (nI 0), .ref a2, .ref a3, .ref a4, .ref a5, .ref a6, .ref a7, .ref a8, .ref a9, .null, .null])) :: [(a0, .inl (d, 3, .inl (vN (zM 0)))), (a2, .inl (d, 40, .inl (vN (zM 2)))), (a3, .inl (d, 40, .inl (vN (zM 3)))), (a4, .inl (b, 120, .inl (vN (zM 4)))), (a5, .inl (b, 120, .inl (vN (zM 5)))), (a6, .inl (d, 3, .inl (vN (zM 6)))), (a7, .inl (d, 120, .inl (vN (zM 7)))), (a8, .inl (d, 9, .inl (vN (zM 8)))), (a9, .inl (d, 9, .inl (vN (zM 9)))), (a10, .inl (d, 540, .inl (vN (zM 10))))]) := hG
  refine mf_10 C hin hG (Nat.le_of_ble_eq_true rfl) dX1_init_80 (fun H locs hG => ?_)
  refine lv_aload_n hx hb dX1_init_83 rfl (lv_at hl 0 rfl) ?_
  refine lv_sipush (v := nI 540) hx hb dX1_init_84 (by decide) ?_
  refine on_i (N := 540) (f := vM (zM 11)) C hG (fun _ => rfl) (by decide) (Nat.le_of_ble_eq_true rfl) (Nat.le_of_ble_eq_true rfl) dX1_init_87 (fun a11 H hG => ?_)
  refine W.widen (k := 11) (n := 1544) (Nat.le_of_ble_eq_true rfl) (Nat.le_of_ble_eq_true rfl) ?_
  have hG : Gd D (va_A [(h, .inr (1, oM))] sz) s.heap H _ ((h, .inr (1, [.ref a0, .int (nI 0), .ref a2, .ref a3, .ref a4, .ref a5, .ref a6, .ref a7, .ref a8, .ref a9, .ref a10, .null])) :: [(a0, .inl (d, 3, .inl (vN (zM 0)))), (a2, .inl (d, 40, .inl (vN (zM 2)))), (a3, .inl (d, 40, .inl (vN (zM 3)))), (a4, .inl (b, 120, .inl (vN (zM 4)))), (a5, .inl (b, 120, .inl (vN (zM 5)))), (a6, .inl (d, 3, .inl (vN (zM 6)))), (a7, .inl (d, 120, .inl (vN (zM 7)))), (a8, .inl (d, 9, .inl (vN (zM 8)))), (a9, .inl (d, 9, .inl (vN (zM 9)))), (a10, .inl (d, 540, .inl (vN (zM 10)))), (a11, .inl (d, 540, .inl (vM (zM 11))))]) := hG
  refine mf_11 C hin hG (Nat.le_of_ble_eq_true rfl) dX1_init_89 (fun H locs hG => ?_)
  have hG : Gd D (va_A [(h, .inr (1, oM))] sz) s.heap H locs (wM d b h (fun k => match k with | 0 => a0 | 2 => a2 | 3 => a3 | 4 => a4 | 5 => a5 | 6 => a6 | 7 => a7 | 8 => a8 | 9 => a9 | 10 => a10 | _ => a11) zM) := hG
  exact W.vret hx hb hr (fun t ht hW => ⟨⟨(fun k => match k with | 0 => a0 | 2 => a2 | 3 => a3 | 4 => a4 | 5 => a5 | 6 => a6 | 7 => a7 | 8 => a8 | 9 => a9 | 10 => a10 | _ => a11), rfl, trivial, by rw [ht]; exact hG.1, va_K.moved hW.alike C.2.1, hG.2.1⟩, hG.2.2.F ht⟩) hG.2.2.2.2 dX1_init_92 hk
end
section
/-! heaps: order, the set of what they hold; push and pop keep them -/
def hord (κ h : Nat → Nat) (n : Nat) : Prop := ∀ i, 0 < i → i < n → κ (h ((i - 1) / 2)) ≤ κ (h i)
def hset (h : Nat → Nat) (n : Nat) (O : Nat → Prop) : Prop := (∀ i, i < n → O (h i)) ∧ (∀ x, O x → ∃ i, i < n ∧ h i = x) ∧ (∀ i j, i < n → j < n → h i = h j → i = j)
def sw (k p i : Nat) : Nat := if i = k then p else if i = p then k else i
theorem sw_lt {k p i n : Nat} (hk : k < n) (hp : p < n) (hi : i < n) : sw k p i < n := by
  unfold sw
  split
  · exact hp
  · split
    · exact hk
    · exact hi
theorem sw_sw (k p i : Nat) : sw k p (sw k p i) = i := by
  by_cases h1 : i = k
  · subst h1
    by_cases h2 : p = i
    · subst h2; simp [sw]
    · simp [sw, h2]
  · by_cases h2 : i = p
    · subst h2; simp [sw, h1]
    · simp [sw, h1, h2]
theorem hset_swap {h h' : Nat → Nat} {n k p : Nat} {O : Nat → Prop} (hs : hset h n O) (hk : k < n) (hp : p < n) (e1 : h' k = h p) (e2 : h' p = h k) (e3 : ∀ i, i ≠ k → i ≠ p → h' i = h i) : hset h' n O := by
  have es : ∀ i, h' i = h (sw k p i) := by
    intro i
    by_cases h1 : i = k
    · subst h1; rw [e1]; simp [sw]
    · by_cases h2 : i = p
      · subst h2; rw [e2]; simp [sw, h1]
      · rw [e3 i h1 h2]; simp [sw, h1, h2]
  refine ⟨fun i hi => ?_, fun x hx => ?_, fun i j hi hj e => ?_⟩
  · rw [es]; exact hs.1 _ (sw_lt hk hp hi)
  · obtain ⟨i, hi, e⟩ := hs.2.1 x hx
    exact ⟨sw k p i, sw_lt hk hp hi, by rw [es, sw_sw]; exact e⟩
  · rw [es, es] at e
    have e2 := hs.2.2 _ _ (sw_lt hk hp hi) (sw_lt hk hp hj) e
    have e3 := congrArg (sw k p) e2
    rw [sw_sw, sw_sw] at e3
    exact e3
/-- the top is the least -/
theorem hord_min {κ h : Nat → Nat} {n : Nat} (ho : hord κ h n) : ∀ i, i < n → κ (h 0) ≤ κ (h i) := by
  intro i
  induction i using Nat.strongRecOn with
  | ind i ih =>
    intro hi
    by_cases h0 : i = 0
    · rw [h0]; exact Nat.le_refl _
    · exact Nat.le_trans (ih ((i - 1) / 2) (by omega) (by omega)) (ho i (by omega) hi)
section HP
variable {κ h : Nat → Nat} {N k p m o : Nat}
theorem uu_p {v : Nat} : va_up (va_up h (o + k) v) (o + p) m (o + p) = m := va_same _ _ _
theorem uu_k {v : Nat} (e : k ≠ p) : va_up (va_up h (o + k) v) (o + p) m (o + k) = v := by rw [va_other (by omega), va_same]
theorem uu_o {v i : Nat} (e1 : i ≠ k) (e2 : i ≠ p) : va_up (va_up h (o + k) v) (o + p) m (o + i) = h (o + i) := by rw [va_other (by omega), va_other (by omega)]
end HP
theorem pushL_ok {wr st κ : Nat → Nat} {a m N : Nat} {O : Nat → Prop} (hκ : ∀ x y, earS wr st x y ↔ κ x < κ y) (hN : N ≤ 40) : ∀ (f : Nat) (S : Nat → Nat → Nat) (k : Nat), S 1 = wr → S 2 = st → k < N → k < 2 ^ f → S 10 (40 * a + k) = m →
    (∀ i, 0 < i → i < N → i ≠ k → κ (S 10 (40 * a + (i - 1) / 2)) ≤ κ (S 10 (40 * a + i))) →
    (∀ i, 0 < i → i < N → (i - 1) / 2 = k → 0 < k → κ (S 10 (40 * a + (k - 1) / 2)) ≤ κ (S 10 (40 * a + i))) →
    hset (fun i => S 10 (40 * a + i)) N O →
    hord κ (fun i => pushL a m f S k 10 (40 * a + i)) N ∧ hset (fun i => pushL a m f S k 10 (40 * a + i)) N O ∧ ∀ j, (j < 40 * a ∨ 40 * a + N ≤ j) → pushL a m f S k 10 j = S 10 j := by
  intro f
  induction f with
  | zero =>
    intro S k e1 e2 hk hf hm P1 P2 hs
    have hk0 : k = 0 := by omega
    exact ⟨fun i h0 hi => P1 i h0 hi (by omega), hs, fun j _ => rfl⟩
  | succ f ih =>
    intro S k e1 e2 hk hf hm P1 P2 hs
    rw [pushL]
    by_cases hc : 0 < k ∧ earS (S 1) (S 2) m (S 10 (40 * a + (k - 1) / 2))
    · rw [if_pos hc]
      obtain ⟨hk0, hear⟩ := hc
      rw [e1, e2] at hear
      have hlt := (hκ _ _).mp hear
      have hp2 : (k - 1) / 2 < 2 ^ f := by rw [Nat.pow_succ] at hf; omega
      obtain ⟨p, ep⟩ : ∃ p, p = (k - 1) / 2 := ⟨_, rfl⟩
      rw [← ep] at hlt hp2 ⊢
      have hpk : p < k := by omega
      have hS10 : ∀ j, (sU (sU S 10 (40 * a + k) (S 10 (40 * a + p))) 10 (40 * a + p) m) 10 j = va_up (va_up (S 10) (40 * a + k) (S 10 (40 * a + p))) (40 * a + p) m j := fun j => by rw [sU_same, sU_same]
      have v1 : (sU (sU S 10 (40 * a + k) (S 10 (40 * a + p))) 10 (40 * a + p) m) 10 (40 * a + p) = m := by rw [hS10]; exact uu_p
      have v2 : (sU (sU S 10 (40 * a + k) (S 10 (40 * a + p))) 10 (40 * a + p) m) 10 (40 * a + k) = S 10 (40 * a + p) := by rw [hS10]; exact uu_k (by omega)
      have v3 : ∀ i, i ≠ k → i ≠ p → (sU (sU S 10 (40 * a + k) (S 10 (40 * a + p))) 10 (40 * a + p) m) 10 (40 * a + i) = S 10 (40 * a + i) := fun i h1 h2 => by rw [hS10]; exact uu_o h1 h2
      have q1 := ih (sU (sU S 10 (40 * a + k) (S 10 (40 * a + p))) 10 (40 * a + p) m) p (by rw [sU_ne (by decide), sU_ne (by decide)]; exact e1) (by rw [sU_ne (by decide), sU_ne (by decide)]; exact e2) (by omega) hp2 v1 ?_ ?_ ?_
      · refine ⟨q1.1, q1.2.1, fun j hj => ?_⟩
        rw [q1.2.2 j hj, hS10, va_other (by omega), va_other (by omega)]
      · intro i h0 hi hip
        by_cases hik : i = k
        · subst hik
          rw [← ep, v1, v2]
          omega
        · rw [v3 i hik hip]
          by_cases c1 : (i - 1) / 2 = k
          · rw [c1, v2, ep]
            exact P2 i h0 hi c1 hk0
          · by_cases c2 : (i - 1) / 2 = p
            · rw [c2, v1]
              have := P1 i h0 hi hik
              rw [c2] at this
              omega
            · rw [v3 _ c1 c2]
              exact P1 i h0 hi hik
      · intro i h0 hi hip hp0
        have z1 := P1 p hp0 (by omega) (by omega)
        rw [v3 ((p - 1) / 2) (by omega) (by omega)]
        by_cases hik : i = k
        · subst hik; rw [v2]; exact z1
        · rw [v3 i hik (by omega)]
          have z2 := P1 i h0 hi hik
          rw [hip] at z2
          omega
      · exact hset_swap (k := k) (p := p) hs hk (by omega) v2 (by (try dsimp only); rw [v1, hm]) v3
    · rw [if_neg hc]
      refine ⟨fun i h0 hi => ?_, hs, fun j _ => rfl⟩
      by_cases hik : i = k
      · subst hik
        dsimp only
        have hn : ¬ κ m < κ (S 10 (40 * a + (i - 1) / 2)) := fun z => hc ⟨h0, by rw [e1, e2]; exact (hκ _ _).mpr z⟩
        rw [hm]
        omega
      · exact P1 i h0 hi hik
/-- push keeps the heap, with m in it -/
theorem pushF_ok {S : Nat → Nat → Nat} {κ : Nat → Nat} {a m : Nat} {O : Nat → Prop} (hκ : ∀ x y, earS (S 1) (S 2) x y ↔ κ x < κ y) (hn : S 9 a < 40) (ho : hord κ (fun i => S 10 (40 * a + i)) (S 9 a)) (hs : hset (fun i => S 10 (40 * a + i)) (S 9 a) O) (hm : ¬ O m) :
    hord κ (fun i => pushF S a m 10 (40 * a + i)) (S 9 a + 1) ∧ hset (fun i => pushF S a m 10 (40 * a + i)) (S 9 a + 1) (fun x => O x ∨ x = m) ∧ ∀ j, (j < 40 * a ∨ 40 * a + 40 ≤ j) → pushF S a m 10 j = S 10 j := by
  have hS10 : ∀ j, (sU (sU S 10 (40 * a + S 9 a) m) 9 a (S 9 a + 1)) 10 j = va_up (S 10) (40 * a + S 9 a) m j := fun j => by rw [sU_ne (by decide), sU_same]
  have v1 : (sU (sU S 10 (40 * a + S 9 a) m) 9 a (S 9 a + 1)) 10 (40 * a + S 9 a) = m := by rw [hS10]; exact va_same _ _ _
  have v3 : ∀ i, i ≠ S 9 a → (sU (sU S 10 (40 * a + S 9 a) m) 9 a (S 9 a + 1)) 10 (40 * a + i) = S 10 (40 * a + i) := fun i h1 => by rw [hS10]; exact va_other (by omega)
  have q := pushL_ok (a := a) (m := m) (N := S 9 a + 1) (O := fun x => O x ∨ x = m) hκ (by omega) 6 (sU (sU S 10 (40 * a + S 9 a) m) 9 a (S 9 a + 1)) (S 9 a) (by rw [sU_ne (by decide), sU_ne (by decide)]) (by rw [sU_ne (by decide), sU_ne (by decide)]) (by omega) (by omega) v1 ?_ ?_ ?_
  · refine ⟨q.1, q.2.1, fun j hj => ?_⟩
    have e := q.2.2 j (by omega)
    rw [hS10, va_other (by omega)] at e
    exact e
  · intro i h0 hi hik
    rw [v3 i hik, v3 _ (by omega)]
    exact ho i h0 (by omega)
  · intro i h0 hi hp hk
    omega
  · refine ⟨fun i hi => ?_, fun x hx => ?_, fun i j hi hj e => ?_⟩
    · by_cases hik : i = S 9 a
      · subst hik; exact Or.inr v1
      · dsimp only; rw [v3 i hik]; exact Or.inl (hs.1 i (by omega))
    · rcases hx with hx | hx
      · obtain ⟨i, hi, e⟩ := hs.2.1 x hx
        exact ⟨i, by omega, by dsimp only; rw [v3 i (by omega)]; exact e⟩
      · exact ⟨S 9 a, by omega, by dsimp only; rw [v1, hx]⟩
    · dsimp only at e
      by_cases hik : i = S 9 a
      · by_cases hjk : j = S 9 a
        · omega
        · rw [v3 j hjk, hik, v1] at e
          exact absurd (hs.1 j (by omega)) (by dsimp only; rw [← e]; exact hm)
      · by_cases hjk : j = S 9 a
        · rw [v3 i hik, hjk, v1] at e
          exact absurd (hs.1 i (by omega)) (by dsimp only; rw [e]; exact hm)
        · rw [v3 i hik, v3 j hjk] at e
          exact hs.2.2 i j (by omega) (by omega) e
theorem popL_ok {wr st κ : Nat → Nat} {a y z : Nat} {O : Nat → Prop} (hκ : ∀ x y, earS wr st x y ↔ κ x < κ y) (hz : z ≤ 40) : ∀ (f : Nat) (S : Nat → Nat → Nat) (k : Nat), S 1 = wr → S 2 = st → (k < z ∨ z = 0 ∧ k = 0) → 128 ≤ (k + 1) * 2 ^ f →
    (∀ i, 0 < i → i < z → (i - 1) / 2 ≠ k → κ (va_up (S 10) (40 * a + k) y (40 * a + (i - 1) / 2)) ≤ κ (va_up (S 10) (40 * a + k) y (40 * a + i))) →
    (∀ i, 0 < i → i < z → (i - 1) / 2 = k → 0 < k → κ (va_up (S 10) (40 * a + k) y (40 * a + (k - 1) / 2)) ≤ κ (va_up (S 10) (40 * a + k) y (40 * a + i))) →
    hset (fun i => va_up (S 10) (40 * a + k) y (40 * a + i)) z O →
    hord κ (fun i => popL a z y f S k 10 (40 * a + i)) z ∧ hset (fun i => popL a z y f S k 10 (40 * a + i)) z O ∧ ∀ j, (j < 40 * a ∨ 40 * a + 40 ≤ j) → popL a z y f S k 10 j = S 10 j := by
  intro f
  induction f with
  | zero =>
    intro S k e1 e2 hk hf P1 P2 hs
    exfalso
    omega
  | succ f ih =>
    intro S k e1 e2 hk hf P1 P2 hs
    have hgo : ∀ i, i ≠ k → va_up (S 10) (40 * a + k) y (40 * a + i) = S 10 (40 * a + i) := fun i hi => va_other (by omega)
    have hgk : va_up (S 10) (40 * a + k) y (40 * a + k) = y := va_same _ _ _
    rw [popL]
    obtain ⟨ch, ec⟩ : ∃ ch, ch = chX S a z k := ⟨_, rfl⟩
    rw [← ec]
    -- the child that is taken is the lesser one
    have hch : (ch = 2 * k + 1 ∨ ch = 2 * k + 2 ∧ ch < z) ∧ ∀ i, i < z → (i - 1) / 2 = k → 0 < i → κ (S 10 (40 * a + ch)) ≤ κ (S 10 (40 * a + i)) := by
      rw [ec]
      unfold chX
      by_cases c : 2 * k + 1 + 1 < z ∧ earS (S 1) (S 2) (S 10 (40 * a + (2 * k + 1) + 1)) (S 10 (40 * a + (2 * k + 1)))
      · rw [if_pos c]
        refine ⟨Or.inr ⟨rfl, c.1⟩, fun i hi hp h0 => ?_⟩
        have hl := c.2
        rw [e1, e2] at hl
        have hl := (hκ _ _).mp hl
        rw [show 40 * a + (2 * k + 1) + 1 = 40 * a + (2 * k + 1 + 1) by omega] at hl
        rcases (show i = 2 * k + 1 ∨ i = 2 * k + 1 + 1 by omega) with h | h
        · rw [h]; omega
        · rw [h]; exact Nat.le_refl _
      · rw [if_neg c]
        refine ⟨Or.inl rfl, fun i hi hp h0 => ?_⟩
        rcases (show i = 2 * k + 1 ∨ i = 2 * k + 1 + 1 by omega) with h | h
        · rw [h]; exact Nat.le_refl _
        · have hn : ¬ κ (S 10 (40 * a + (2 * k + 1) + 1)) < κ (S 10 (40 * a + (2 * k + 1))) := fun w => c ⟨by omega, by rw [e1, e2]; exact (hκ _ _).mpr w⟩
          rw [h, show 40 * a + (2 * k + 1 + 1) = 40 * a + (2 * k + 1) + 1 by omega]
          omega
    by_cases hc : ch < z ∧ earS (S 1) (S 2) (S 10 (40 * a + ch)) y
    · rw [if_pos hc]
      obtain ⟨hcz, hear⟩ := hc
      rw [e1, e2] at hear
      have hlt := (hκ _ _).mp hear
      have hkz : k < z := by omega
      have hT : ∀ j, (sU S 10 (40 * a + k) (S 10 (40 * a + ch))) 10 j = va_up (S 10) (40 * a + k) (S 10 (40 * a + ch)) j := fun j => by rw [sU_same]
      have v1 : va_up ((sU S 10 (40 * a + k) (S 10 (40 * a + ch))) 10) (40 * a + ch) y (40 * a + ch) = y := va_same _ _ _
      have v2 : va_up ((sU S 10 (40 * a + k) (S 10 (40 * a + ch))) 10) (40 * a + ch) y (40 * a + k) = S 10 (40 * a + ch) := by rw [va_other (by omega), hT, va_same]
      have v3 : ∀ i, i ≠ k → i ≠ ch → va_up ((sU S 10 (40 * a + k) (S 10 (40 * a + ch))) 10) (40 * a + ch) y (40 * a + i) = S 10 (40 * a + i) := fun i h1 h2 => by rw [va_other (by omega), hT, va_other (by omega)]
      have q := ih (sU S 10 (40 * a + k) (S 10 (40 * a + ch))) ch (by rw [sU_ne (by decide)]; exact e1) (by rw [sU_ne (by decide)]; exact e2) (Or.inl hcz) ?_ ?_ ?_ ?_
      · refine ⟨q.1, q.2.1, fun j hj => ?_⟩
        rw [q.2.2 j hj, hT, va_other (by omega)]
      · rw [Nat.pow_succ] at hf
        have h2 : 2 * (k + 1) ≤ ch + 1 := by omega
        have h3 := Nat.mul_le_mul_right (2 ^ f) h2
        have h4 : (k + 1) * (2 ^ f * 2) = 2 * (k + 1) * 2 ^ f := by rw [Nat.mul_comm (2 ^ f) 2, ← Nat.mul_assoc, Nat.mul_comm (k + 1) 2]
        omega
      · intro i h0 hi hp
        by_cases hic : i = ch
        · rw [hic, v1, show (ch - 1) / 2 = k by omega, v2]
          omega
        · by_cases hpk : (i - 1) / 2 = k
          · rw [hpk, v2, v3 i (by omega) hic]
            exact hch.2 i hi hpk h0
          · by_cases hik : i = k
            · subst hik
              rw [v2, v3 _ (by omega) (by omega)]
              have z2 := P2 ch (by omega) hcz (by omega) h0
              rw [hgo _ (by omega), hgo _ (by omega)] at z2
              exact z2
            · rw [v3 i hik hic, v3 _ hpk hp]
              have z1 := P1 i h0 hi hpk
              rw [hgo _ hpk, hgo _ hik] at z1
              exact z1
      · intro i h0 hi hp hc0
        rw [show (ch - 1) / 2 = k by omega, v2, v3 i (by omega) (by omega)]
        have z1 := P1 i h0 hi (by omega)
        rw [hp, hgo _ (by omega), hgo _ (by omega)] at z1
        exact z1
      · refine hset_swap (k := k) (p := ch) hs hkz hcz ?_ ?_ ?_
        · (try dsimp only); rw [v2, hgo _ (by omega)]
        · (try dsimp only); rw [v1, hgk]
        · intro i h1 h2; (try dsimp only); rw [v3 i h1 h2, hgo _ h1]
    · rw [if_neg hc]
      have hT : ∀ j, (sU S 10 (40 * a + k) y) 10 j = va_up (S 10) (40 * a + k) y j := fun j => by rw [sU_same]
      refine ⟨fun i h0 hi => ?_, ?_, fun j hj => ?_⟩
      · dsimp only
        rw [hT, hT]
        by_cases hp : (i - 1) / 2 = k
        · rw [hp, hgk, hgo i (by omega)]
          have hm := hch.2 i hi hp h0
          have hcz : ch < z := by omega
          have hn : ¬ κ (S 10 (40 * a + ch)) < κ y := fun w => hc ⟨hcz, by rw [e1, e2]; exact (hκ _ _).mpr w⟩
          omega
        · exact P1 i h0 hi hp
      · have e : (fun i => (sU S 10 (40 * a + k) y) 10 (40 * a + i)) = fun i => va_up (S 10) (40 * a + k) y (40 * a + i) := funext fun i => hT _
        rw [e]
        exact hs
      · rw [hT, va_other (by omega)]
/-- pop keeps the heap, without its top -/
theorem popF_ok {S : Nat → Nat → Nat} {κ : Nat → Nat} {a : Nat} {O : Nat → Prop} (hκ : ∀ x y, earS (S 1) (S 2) x y ↔ κ x < κ y) (h0 : 0 < S 9 a) (hn : S 9 a ≤ 40) (ho : hord κ (fun i => S 10 (40 * a + i)) (S 9 a)) (hs : hset (fun i => S 10 (40 * a + i)) (S 9 a) O) :
    hord κ (fun i => popF S a 10 (40 * a + i)) (S 9 a - 1) ∧ hset (fun i => popF S a 10 (40 * a + i)) (S 9 a - 1) (fun x => O x ∧ x ≠ S 10 (40 * a)) ∧ ∀ j, (j < 40 * a ∨ 40 * a + 40 ≤ j) → popF S a 10 j = S 10 j := by
  obtain ⟨z, ez⟩ : ∃ z, z = S 9 a - 1 := ⟨_, rfl⟩
  have ezn : S 9 a = z + 1 := by omega
  have hT : (sU S 9 a (S 9 a - 1)) 10 = S 10 := sU_ne (by decide)
  have q := popL_ok (a := a) (y := S 10 (40 * a + z)) (z := z) (O := fun x => O x ∧ x ≠ S 10 (40 * a)) hκ (by omega) 7 (sU S 9 a (S 9 a - 1)) 0 (by rw [sU_ne (by decide)]) (by rw [sU_ne (by decide)]) (by omega) (by omega) ?_ ?_ ?_
  · unfold popF
    rw [← ez]
    refine ⟨?_, ?_, ?_⟩
    · have := q.1; rw [← ez] at this; exact this
    · have := q.2.1; rw [← ez] at this; exact this
    · intro j hj
      have := q.2.2 j hj
      rw [← ez] at this
      rw [this, ez, hT]
  · intro i hi0 hi hp
    rw [hT, va_other (by omega), va_other (by omega)]
    exact ho i hi0 (by omega)
  · intro i hi0 hi hp hk
    omega
  · rw [hT]
    have g0 : va_up (S 10) (40 * a + 0) (S 10 (40 * a + z)) (40 * a + 0) = S 10 (40 * a + z) := va_same _ _ _
    have g1 : ∀ i, i ≠ 0 → va_up (S 10) (40 * a + 0) (S 10 (40 * a + z)) (40 * a + i) = S 10 (40 * a + i) := fun i hi => va_other (by omega)
    have top : ∀ i, i < z + 1 → S 10 (40 * a + i) = S 10 (40 * a) → i = 0 := fun i hi e => hs.2.2 i 0 (by omega) (by omega) (by dsimp only; rw [e]; rfl)
    refine ⟨fun i hi => ?_, fun x hx => ?_, fun i j hi hj e => ?_⟩
    · dsimp only
      by_cases hi0 : i = 0
      · rw [hi0, g0]
        exact ⟨hs.1 z (by omega), fun e => by have := top z (by omega) e; omega⟩
      · rw [g1 i hi0]
        exact ⟨hs.1 i (by omega), fun e => hi0 (top i (by omega) e)⟩
    · obtain ⟨i, hi, e⟩ := hs.2.1 x hx.1
      dsimp only at e
      have hi0 : i ≠ 0 := fun w => hx.2 (by rw [← e, w]; rfl)
      by_cases hiz : i = z
      · exact ⟨0, by omega, by dsimp only; rw [g0, ← hiz]; exact e⟩
      · exact ⟨i, by omega, by dsimp only; rw [g1 i hi0]; exact e⟩
    · dsimp only at e
      by_cases hi0 : i = 0
      · by_cases hj0 : j = 0
        · omega
        · rw [hi0, g0, g1 j hj0] at e
          have := hs.2.2 z j (by omega) (by omega) e
          omega
      · by_cases hj0 : j = 0
        · rw [hj0, g0, g1 i hi0] at e
          have := hs.2.2 i z (by omega) (by omega) e
          omega
        · rw [g1 i hi0, g1 j hj0] at e
          exact hs.2.2 i j (by omega) (by omega) e
end
section
/-! the coupling of the two states; reading keeps it -/
def dF (dn : Nat → Nat) (a : Nat) : Nat → Nat
  | 0 => 0
  | i + 1 => if dn (40 * a + i) ≠ 0 then dF dn a i + 1 else dF dn a i
theorem dF_hF (hs dn : Nat → Nat) (a : Nat) : ∀ i, dF dn a i + hF hs dn a i ≤ i := by
  intro i
  induction i with
  | zero => exact Nat.le_refl _
  | succ i ih =>
    rw [dF, hF]
    by_cases c : dn (40 * a + i) ≠ 0
    · rw [if_pos c, if_neg (fun z => c z.2)]; omega
    · rw [if_neg c]
      split <;> omega
theorem dF_congr {dn dn' : Nat → Nat} {a : Nat} : ∀ i, (∀ x, x < i → dn (40 * a + x) = dn' (40 * a + x)) → dF dn a i = dF dn' a i := by
  intro i
  induction i with
  | zero => intro _; rfl
  | succ i ih =>
    intro h
    rw [dF, dF, ih (fun x z => h x (by omega)), h i (by omega)]
theorem dF_done {dn : Nat → Nat} {a m : Nat} (hm : dn (40 * a + m) = 0) : ∀ i, m < i → dF (va_up dn (40 * a + m) 1) a i = dF dn a i + 1 := by
  intro i
  induction i with
  | zero => intro z; omega
  | succ i ih =>
    intro z
    rw [dF, dF]
    by_cases c : i = m
    · subst c
      rw [va_same, if_pos (by decide), if_neg (fun z => z hm), dF_congr i (fun x hx => va_other (by omega))]
    · rw [va_other (by omega), ih (by omega)]
      split <;> rfl
theorem eaF_min {hs dn wr st κ : Nat → Nat} {a : Nat} (hκ : ∀ x y, earS wr st x y ↔ κ x < κ y) : ∀ i, (eaF hs dn wr st a i = 0 → ∀ x, x < i → ¬ opn hs dn a x) ∧ (0 < eaF hs dn wr st a i → ∀ x, x < i → opn hs dn a x → κ (eaF hs dn wr st a i - 1) ≤ κ x) := by
  intro i
  induction i with
  | zero => exact ⟨fun _ x hx => by omega, fun h => absurd h (Nat.lt_irrefl _)⟩
  | succ i ih =>
    rw [eaF]
    by_cases c : opn hs dn a i ∧ (eaF hs dn wr st a i = 0 ∨ earS wr st i (eaF hs dn wr st a i - 1))
    · rw [if_pos c]
      refine ⟨fun h => by omega, fun _ x hx ho => ?_⟩
      rw [Nat.add_sub_cancel]
      rcases Nat.lt_succ_iff_lt_or_eq.mp hx with y | y
      · rcases c.2 with e | e
        · exact absurd ho (ih.1 e x y)
        · rcases Nat.eq_zero_or_pos (eaF hs dn wr st a i) with e0 | e0
          · exact absurd ho (ih.1 e0 x y)
          · have := ih.2 e0 x y ho
            have := (hκ _ _).mp e
            omega
      · rw [y]; exact Nat.le_refl _
    · rw [if_neg c]
      refine ⟨fun h x hx ho => ?_, fun h x hx ho => ?_⟩
      · rcases Nat.lt_succ_iff_lt_or_eq.mp hx with y | y
        · exact ih.1 h x y ho
        · subst y; exact c ⟨ho, Or.inl h⟩
      · rcases Nat.lt_succ_iff_lt_or_eq.mp hx with y | y
        · exact ih.2 h x y ho
        · subst y
          have hn : ¬ κ x < κ (eaF hs dn wr st a x - 1) := fun z => c ⟨ho, Or.inr ((hκ _ _).mpr z)⟩
          omega
theorem eaF_congr {hs dn wr st hs' dn' wr' st' : Nat → Nat} {a : Nat} : ∀ i, (∀ x, x < i → (opn hs dn a x ↔ opn hs' dn' a x)) → (∀ x, x < i → wr x = wr' x ∧ st x = st' x) → eaF hs dn wr st a i = eaF hs' dn' wr' st' a i := by
  intro i
  induction i with
  | zero => intro _ _; rfl
  | succ i ih =>
    intro h1 h2
    have e := ih (fun x z => h1 x (by omega)) (fun x z => h2 x (by omega))
    have hi := h1 i (by omega)
    have hw := h2 i (by omega)
    rw [eaF, eaF, ← e]
    have hle := eaF_le hs dn wr st a i
    by_cases c : opn hs dn a i ∧ (eaF hs dn wr st a i = 0 ∨ earS wr st i (eaF hs dn wr st a i - 1))
    · rw [if_pos c, if_pos]
      refine ⟨hi.mp c.1, ?_⟩
      rcases Nat.eq_zero_or_pos (eaF hs dn wr st a i) with z | z
      · exact Or.inl z
      · rcases c.2 with y | y
        · exact Or.inl y
        · have hq := h2 (eaF hs dn wr st a i - 1) (by omega)
          exact Or.inr (by unfold earS; rw [← hw.1, ← hw.2, ← hq.1, ← hq.2]; exact y)
    · rw [if_neg c, if_neg]
      intro z
      refine c ⟨hi.mpr z.1, ?_⟩
      rcases Nat.eq_zero_or_pos (eaF hs dn wr st a i) with z0 | z0
      · exact Or.inl z0
      · rcases z.2 with y | y
        · exact Or.inl y
        · have hq := h2 (eaF hs dn wr st a i - 1) (by omega)
          exact Or.inr (by unfold earS; rw [hw.1, hw.2, hq.1, hq.2]; exact y)
theorem hset_iff {h : Nat → Nat} {n : Nat} {O O' : Nat → Prop} (e : ∀ x, O x ↔ O' x) (hs : hset h n O) : hset h n O' :=
  ⟨fun i hi => (e _).mp (hs.1 i hi), fun x hx => hs.2.1 x ((e x).mpr hx), hs.2.2⟩
theorem hset_eq {h h' : Nat → Nat} {n : Nat} {O : Nat → Prop} (e : ∀ i, i < n → h' i = h i) (hs : hset h n O) : hset h' n O :=
  ⟨fun i hi => by rw [e i hi]; exact hs.1 i hi, fun x hx => by obtain ⟨i, hi, z⟩ := hs.2.1 x hx; exact ⟨i, hi, by rw [e i hi]; exact z⟩, fun i j hi hj z => hs.2.2 i j hi hj (by rw [← e i hi, ← e j hj]; exact z)⟩
theorem hord_eq {κ κ' h h' : Nat → Nat} {n : Nat} (e : ∀ i, i < n → κ' (h' i) = κ (h i)) (ho : hord κ h n) : hord κ' h' n :=
  fun i h0 hi => by rw [e i hi, e ((i - 1) / 2) (by omega)]; exact ho i h0 hi
/-! the coupling -/
def ky (Z : Nat → Nat → Nat) (x : Nat) : Nat := 3 * Z 3 x + Z 2 x
theorem ky_ear {Z : Nat → Nat → Nat} (h2 : ∀ j, Z 2 j < 3) : ∀ x y, earS (Z 2) (Z 3) x y ↔ ky Z x < ky Z y := by
  intro x y
  have h3 := h2 x
  have h4 := h2 y
  unfold earS ky
  omega
def OP (Z : Nat → Nat → Nat) (a x : Nat) : Prop := x < Z 1 0 ∧ opn (Z 4) (Z 5) a x
def JE (S Z : Nat → Nat → Nat) : Prop := S 0 0 = Z 1 0 ∧ S 1 = Z 2 ∧ S 2 = Z 3 ∧ S 6 = Z 9 ∧ S 7 = Z 0 ∧ S 11 = Z 6 ∧ S 12 = Z 7 ∧ ∀ a s, a < 3 → s < 3 → S 8 (3 * a + s) = Z 8 (3 * s + a)
def JQ (S Z : Nat → Nat → Nat) : Prop := ∀ y i, y < 9 → i < Z 9 y → S 3 (64 * y + (S 5 y + i) % 64) = Z 10 (60 * y + i) ∧ S 4 (64 * y + (S 5 y + i) % 64) = Z 11 (60 * y + i)
def JB (S Z : Nat → Nat → Nat) (K : Nat) : Prop := (∀ k j, S k j < 100 + 4 * K) ∧ (∀ k j, Z k j < 100 + 4 * K) ∧ Z 1 0 ≤ 40 ∧ (∀ j, Z 2 j < 3) ∧ (∀ j, S 5 j < 64) ∧ (∀ j, Z 9 j < 21 + Z 1 0) ∧ (∀ j, Z 11 j < 41) ∧ (∀ j, S 4 j < 41) ∧ (∀ j, S 10 j < 40) ∧ (∀ j, Z 6 j < 41)
def JH (S Z : Nat → Nat → Nat) : Prop := ∀ a, a < 3 → hord (ky Z) (fun i => S 10 (40 * a + i)) (S 9 a) ∧ hset (fun i => S 10 (40 * a + i)) (S 9 a) (OP Z a) ∧ S 9 a = hF (Z 4) (Z 5) a (Z 1 0) ∧ Z 6 a = dF (Z 5) a (Z 1 0)
def JF (Z : Nat → Nat → Nat) : Prop := (∀ a x, a < 3 → Z 1 0 ≤ x → x < 40 → Z 4 (40 * a + x) = 0) ∧ ∀ j, Z 4 j = 0 → Z 5 j = 0
def JV (Z : Nat → Nat → Nat) : Prop := (∀ a, a < 3 → Z 9 (3 * a + a) = 0) ∧
  (∀ f t i, f < 3 → t < 3 → i < Z 9 (3 * f + t) → 0 < Z 11 (60 * (3 * f + t) + i) → Z 11 (60 * (3 * f + t) + i) - 1 < Z 1 0 ∧ Z 2 (Z 11 (60 * (3 * f + t) + i) - 1) = f ∧ Z 4 (40 * t + (Z 11 (60 * (3 * f + t) + i) - 1)) = 0 ∧ Z 3 (Z 11 (60 * (3 * f + t) + i) - 1) = Z 10 (60 * (3 * f + t) + i)) ∧
  (∀ y i j, y < 9 → i < j → j < Z 9 y → 0 < Z 11 (60 * y + i) → Z 11 (60 * y + i) ≠ Z 11 (60 * y + j))
def JK (Z : Nat → Nat → Nat) : Prop := (∀ x, x < Z 1 0 → Z 3 x ≤ Z 0 (Z 2 x)) ∧ (∀ x y, x < Z 1 0 → y < Z 1 0 → Z 3 x = Z 3 y → Z 2 x = Z 2 y → x = y) ∧ (∀ a s, a < 3 → s < 3 → Z 8 (3 * s + a) ≤ Z 0 a) ∧ ∀ a x, a < 3 → OP Z a x → Z 3 x ≤ Z 0 a
def JN (S Z : Nat → Nat → Nat) (K : Nat) : Prop := JE S Z ∧ JQ S Z ∧ JB S Z K ∧ JH S Z ∧ JF Z ∧ JV Z ∧ JK Z
def JS (Z : Nat → Nat → Nat) (a : Nat) : Prop := eaZ Z a = 0 ∨ ¬ sfM Z a (eaZ Z a - 1)
def JJ (S Z : Nat → Nat → Nat) (K : Nat) : Prop := JN S Z K ∧ ∀ a, a < 3 → JS Z a
section SIM
variable {S Z : Nat → Nat → Nat} {K a : Nat}
theorem JN_top (J : JN S Z K) (ha : a < 3) : (0 < S 9 a ↔ 0 < eaZ Z a) ∧ (0 < S 9 a → eaZ Z a = S 10 (40 * a) + 1 ∧ OP Z a (S 10 (40 * a))) := by
  obtain ⟨-, -, hB, hH, -, -, hK⟩ := J
  obtain ⟨ho, hs, h9, -⟩ := hH a ha
  have hκ := ky_ear hB.2.2.2.1
  have hm := eaF_min (hs := Z 4) (dn := Z 5) (a := a) hκ (Z 1 0)
  have hpos : 0 < S 9 a → 0 < eaZ Z a := by
    intro h0
    rcases Nat.eq_zero_or_pos (eaZ Z a) with e | e
    · have ht := hs.1 0 h0
      exact absurd ht.2 (hm.1 e _ ht.1)
    · exact e
  refine ⟨⟨hpos, fun h => by rw [h9]; exact eaF_hF h⟩, fun h0 => ?_⟩
  have he := hpos h0
  have ht : OP Z a (S 10 (40 * a)) := hs.1 0 h0
  refine ⟨?_, ht⟩
  have hle : eaZ Z a ≤ Z 1 0 := eaF_le _ _ _ _ _ _
  have hop : OP Z a (eaZ Z a - 1) := ⟨by omega, eaF_open _ _ _ _ _ _ he⟩
  obtain ⟨i, hi, ei⟩ := hs.2.1 _ hop
  dsimp only at ei
  have k1 : ky Z (S 10 (40 * a)) ≤ ky Z (eaZ Z a - 1) := by rw [← ei]; exact hord_min ho i hi
  have k2 : ky Z (eaZ Z a - 1) ≤ ky Z (S 10 (40 * a)) := hm.2 he _ ht.1 ht.2
  have w1 := hB.2.2.2.1 (S 10 (40 * a))
  have w2 := hB.2.2.2.1 (eaZ Z a - 1)
  unfold ky at k1 k2
  have e := hK.2.1 (eaZ Z a - 1) (S 10 (40 * a)) hop.1 ht.1 (by omega) (by omega)
  omega
theorem JN_safe (J : JE S Z) (ha : a < 3) (m : Nat) : sfX S a m ↔ sfM Z a m := by
  obtain ⟨-, e1, e2, -, -, -, -, e8⟩ := J
  have z0 : S 8 (3 * a + 0) = Z 8 (3 * 0 + a) := e8 a 0 ha (by decide)
  have z1 : S 8 (3 * a + 1) = Z 8 (3 * 1 + a) := e8 a 1 ha (by decide)
  have z2 : S 8 (3 * a + 2) = Z 8 (3 * 2 + a) := e8 a 2 ha (by decide)
  unfold sfX sfM rdy rd1
  dsimp only
  rw [e1, e2, z0, z1, z2]
theorem JN_read (J : JN S Z K) (ha : a < 3) (h0 : 0 < S 9 a) : JN (rdX S a) (rdM Z a (S 10 (40 * a))) K := by
  have htop := ((JN_top J ha).2 h0).2
  obtain ⟨m, em⟩ : ∃ m, m = S 10 (40 * a) := ⟨_, rfl⟩
  rw [← em] at htop ⊢
  obtain ⟨hE, hQ, hB, hH, hF0, hV, hK⟩ := J
  obtain ⟨bS, bZ, b1, b2, b5, b9, b11, b4, b10, b6⟩ := hB
  obtain ⟨e0, e1, e2, e6, e7, e11, e12, e8⟩ := hE
  obtain ⟨ho, hs, h9, hd⟩ := hH a ha
  have hm40 : m < 40 := by rw [em]; exact b10 _
  have hmw := htop.1
  have hmo := htop.2
  have hdh := dF_hF (Z 4) (Z 5) a (Z 1 0)
  have f5 : rdM Z a m 5 = va_up (Z 5) (40 * a + m) 1 := by unfold rdM; rw [sU_ne (by decide), sU_ne (by decide), sU_same]
  have f6 : rdM Z a m 6 = va_up (Z 6) a (Z 6 a + 1) := by unfold rdM; rw [sU_same, sU_ne (by decide), sU_ne (by decide)]
  have f7 : rdM Z a m 7 = va_up (Z 7) (40 * a + Z 6 a) m := by unfold rdM; rw [sU_ne (by decide), sU_same, sU_ne (by decide)]
  have g : ∀ k, k ≠ 5 → k ≠ 6 → k ≠ 7 → rdM Z a m k = Z k := fun k x y z => rdM_f x y z
  have x0 := g 0 (by decide) (by decide) (by decide)
  have x1 := g 1 (by decide) (by decide) (by decide)
  have x2 := g 2 (by decide) (by decide) (by decide)
  have x3 := g 3 (by decide) (by decide) (by decide)
  have x4 := g 4 (by decide) (by decide) (by decide)
  have x8 := g 8 (by decide) (by decide) (by decide)
  have x9 := g 9 (by decide) (by decide) (by decide)
  have x10 := g 10 (by decide) (by decide) (by decide)
  have x11 := g 11 (by decide) (by decide) (by decide)
  have s : ∀ k, k ≠ 9 → k ≠ 10 → k ≠ 11 → k ≠ 12 → rdX S a k = S k := fun k x y z w => rdX_f x y z w
  have hκ := ky_ear b2
  have hκS : ∀ x y, earS (S 1) (S 2) x y ↔ ky Z x < ky Z y := by rw [e1, e2]; exact hκ
  have h940 : S 9 a ≤ 40 := by omega
  have hpop := popF_ok hκS h0 h940 ho hs
  have ek : ∀ x, ky (rdM Z a m) x = ky Z x := fun x => by unfold ky; rw [x3, x2]
  have hkk : ky (rdM Z a m) = ky Z := funext ek
  -- open ones
  have hopa : ∀ c x, c < 3 → x < 40 → (opn (Z 4) (va_up (Z 5) (40 * a + m) 1) c x ↔ opn (Z 4) (Z 5) c x ∧ ¬ (c = a ∧ x = m)) := by
    intro c x hc hx
    by_cases e : c = a ∧ x = m
    · obtain ⟨rfl, rfl⟩ := e
      unfold opn
      rw [va_same]
      constructor
      · intro z; exact absurd z.2 (by decide)
      · intro z; exact absurd ⟨rfl, rfl⟩ z.2
    · unfold opn
      rw [va_other (by omega)]
      exact ⟨fun z => ⟨z, e⟩, fun z => z.1⟩
  refine ⟨⟨?_, ?_, ?_, ?_, ?_, ?_, ?_, ?_⟩, ?_, ⟨?_, ?_, ?_, ?_, ?_, ?_, ?_, ?_, ?_, ?_⟩, ?_, ⟨?_, ?_⟩, ?_, ?_⟩
  · rw [s 0 (by decide) (by decide) (by decide) (by decide), x1]; exact e0
  · rw [s 1 (by decide) (by decide) (by decide) (by decide), x2]; exact e1
  · rw [s 2 (by decide) (by decide) (by decide) (by decide), x3]; exact e2
  · rw [s 6 (by decide) (by decide) (by decide) (by decide), x9]; exact e6
  · rw [s 7 (by decide) (by decide) (by decide) (by decide), x0]; exact e7
  · rw [rdX_11, f6, e11]
  · rw [rdX_12, f7, e12, e11, em]
  · rw [s 8 (by decide) (by decide) (by decide) (by decide), x8]; exact e8
  · intro y i
    rw [s 3 (by decide) (by decide) (by decide) (by decide), s 4 (by decide) (by decide) (by decide) (by decide), s 5 (by decide) (by decide) (by decide) (by decide), x9, x10, x11]
    exact hQ y i
  · exact rdX_bd bS (by have := b6 a; rw [e11]; omega)
  · exact sU_bd (sU_bd (sU_bd bZ (by omega)) (by omega)) (by have := b6 a; omega)
  · rw [x1]; exact b1
  · rw [x2]; exact b2
  · rw [s 5 (by decide) (by decide) (by decide) (by decide)]; exact b5
  · rw [x9, x1]; exact b9
  · rw [x11]; exact b11
  · rw [s 4 (by decide) (by decide) (by decide) (by decide)]; exact b4
  · rw [rdX_10]; exact popF_10 b10
  · rw [f6]; exact va_bd b6 (by omega)
  · intro c hc
    rw [rdX_9, rdX_10, hkk, x1, x4, f5, f6]
    by_cases hca : c = a
    · subst hca
      rw [va_same, va_same]
      refine ⟨hpop.1, hset_iff (fun x => ?_) hpop.2.1, ?_, ?_⟩
      · unfold OP
        rw [x1, x4, f5]
        constructor
        · intro z
          exact ⟨z.1.1, (hopa c x hc (by have := z.1.1; omega)).mpr ⟨z.1.2, fun w => z.2 (by rw [w.2, em])⟩⟩
        · intro z
          have w := (hopa c x hc (by have := z.1; omega)).mp z.2
          exact ⟨⟨z.1, w.1⟩, fun e => w.2 ⟨rfl, by rw [e, em]⟩⟩
      · have := hF_done hmo hmw
        omega
      · rw [dF_done hmo.2 _ hmw, hd]
    · obtain ⟨ho', hs', h9', hd'⟩ := hH c hc
      have hle : S 9 c ≤ 40 := by have := hF_le (Z 4) (Z 5) c (Z 1 0); omega
      rw [va_other hca, va_other hca]
      have ez : ∀ i, i < S 9 c → popF S a 10 (40 * c + i) = S 10 (40 * c + i) := fun i hi => hpop.2.2 _ (by omega)
      refine ⟨hord_eq (fun i hi => by rw [ez i hi]) ho', hset_iff (fun x => ?_) (hset_eq ez hs'), ?_, ?_⟩
      · unfold OP
        rw [x1, x4, f5]
        constructor
        · intro z; exact ⟨z.1, (hopa c x hc (by have := z.1; omega)).mpr ⟨z.2, fun w => hca w.1⟩⟩
        · intro z; exact ⟨z.1, ((hopa c x hc (by have := z.1; omega)).mp z.2).1⟩
      · rw [h9']
        exact hF_congr _ (fun x hx => ⟨fun z => (hopa c x hc (by omega)).mpr ⟨z, fun w => hca w.1⟩, fun z => ((hopa c x hc (by omega)).mp z).1⟩)
      · rw [hd']
        exact dF_congr _ (fun x hx => (va_other (by omega)).symm)
  · rw [x1, x4]; exact hF0.1
  · intro j
    rw [x4, f5]
    intro hj
    rw [va_other (fun e => hmo.1 (by rw [← e]; exact hj))]
    exact hF0.2 j hj
  · unfold JV
    rw [x1, x2, x3, x4, x9, x10, x11]
    exact hV
  · unfold JK
    rw [x1, x2, x3, x0, x8]
    refine ⟨hK.1, hK.2.1, hK.2.2.1, fun c x hc hx => ?_⟩
    unfold OP at hx
    rw [x1, x4, f5] at hx
    exact hK.2.2.2 c x hc ⟨hx.1, ((hopa c x hc (by have := hx.1; omega)).mp hx.2).1⟩
theorem JS_other (J : JN S Z K) (ha : a < 3) (h0 : 0 < S 9 a) {c : Nat} (hc : c < 3) (hca : c ≠ a) (h : JS Z c) : JS (rdM Z a (S 10 (40 * a))) c := by
  obtain ⟨m, em⟩ : ∃ m, m = S 10 (40 * a) := ⟨_, rfl⟩
  have hm40 : m < 40 := by rw [em]; exact J.2.2.1.2.2.2.2.2.2.2.2.1 _
  have b1 : Z 1 0 ≤ 40 := J.2.2.1.2.2.1
  rw [← em]
  have f5 : rdM Z a m 5 = va_up (Z 5) (40 * a + m) 1 := by unfold rdM; rw [sU_ne (by decide), sU_ne (by decide), sU_same]
  have g : ∀ k, k ≠ 5 → k ≠ 6 → k ≠ 7 → rdM Z a m k = Z k := fun k x y z => rdM_f x y z
  have ee : eaZ (rdM Z a m) c = eaZ Z c := by
    unfold eaZ
    rw [g 4 (by decide) (by decide) (by decide), g 2 (by decide) (by decide) (by decide), g 3 (by decide) (by decide) (by decide), g 1 (by decide) (by decide) (by decide), f5]
    refine eaF_congr _ (fun x hx => ?_) (fun x _ => ⟨rfl, rfl⟩)
    unfold opn
    rw [va_other (by omega)]
  unfold JS
  rw [ee]
  unfold sfM
  rw [g 2 (by decide) (by decide) (by decide), g 3 (by decide) (by decide) (by decide), g 8 (by decide) (by decide) (by decide)]
  exact h
end SIM
theorem JN_ro {K a : Nat} (ha : a < 3) : ∀ (f : Nat) (S Z : Nat → Nat → Nat) (n : Nat), JN S Z K → (roL a f S n).2 = (raL a f Z n).2 ∧ JN (roL a f S n).1 (raL a f Z n).1 K ∧ (hF (Z 4) (Z 5) a (Z 1 0) ≤ f → JS (raL a f Z n).1 a) ∧ ∀ c, c < 3 → c ≠ a → JS Z c → JS (raL a f Z n).1 c := by
  intro f
  induction f with
  | zero =>
    intro S Z n J
    refine ⟨rfl, J, fun h => ?_, fun c _ _ h => h⟩
    rcases Nat.eq_zero_or_pos (eaZ Z a) with e | e
    · exact Or.inl e
    · have := eaF_hF e; omega
  | succ f ih =>
    intro S Z n J
    have ht := JN_top J ha
    have hsf := fun m => JN_safe J.1 ha m
    rw [roL, raL]
    by_cases c : 0 < S 9 a ∧ sfX S a (S 10 (40 * a))
    · have e := (ht.2 c.1).1
      have e1 : eaZ Z a - 1 = S 10 (40 * a) := by omega
      rw [if_pos c, if_pos ⟨ht.1.mp c.1, by rw [e1]; exact (hsf _).mp c.2⟩, e1]
      have q := ih (rdX S a) (rdM Z a (S 10 (40 * a))) (n + 1) (JN_read J ha c.1)
      refine ⟨q.1, q.2.1, fun h => q.2.2.1 ?_, fun c' h1 h2 h3 => q.2.2.2 c' h1 h2 (JS_other J ha c.1 h1 h2 h3)⟩
      have hop := (ht.2 c.1).2
      have hd := hF_done hop.2 hop.1
      have f5 : rdM Z a (S 10 (40 * a)) 5 = va_up (Z 5) (40 * a + S 10 (40 * a)) 1 := by unfold rdM; rw [sU_ne (by decide), sU_ne (by decide), sU_same]
      rw [f5, rdM_f (by decide) (by decide) (by decide), rdM_f (by decide) (by decide) (by decide)]
      omega
    · have c' : ¬ (0 < eaZ Z a ∧ sfM Z a (eaZ Z a - 1)) := by
        intro z
        have h0 := ht.1.mpr z.1
        have e := (ht.2 h0).1
        have e1 : eaZ Z a - 1 = S 10 (40 * a) := by omega
        rw [e1] at z
        exact c ⟨h0, (hsf _).mpr z.2⟩
      rw [if_neg c, if_neg c']
      refine ⟨rfl, J, fun _ => ?_, fun c _ _ h => h⟩
      rcases Nat.eq_zero_or_pos (eaZ Z a) with e | e
      · exact Or.inl e
      · exact Or.inr (fun z => c' ⟨e, z⟩)
end
section
/-! sending (setOut) on both sides -/
section SND
variable {S Z : Nat → Nat → Nat} {a v o : Nat}
theorem so1_JQ (ha : a < 3) (ho : o < 3) (e6 : S 6 = Z 9) (e7 : S 7 a = Z 0 a) (h9 : ∀ j, Z 9 j ≤ 60) (h9o : o ≠ a → Z 9 (3 * a + o) < 60) (hQ : JQ S Z) :
    soX1 S a v o 6 = soM1 Z a v o 9 ∧ JQ (soX1 S a v o) (soM1 Z a v o) ∧ ∀ j, soM1 Z a v o 9 j ≤ 60 := by
  by_cases c : o = a
  · unfold soX1 soM1
    rw [if_pos c, if_pos c]
    exact ⟨e6, hQ, h9⟩
  · have hn := h9o c
    unfold soX1 soM1
    rw [if_neg c, if_neg c]
    obtain ⟨y0, ey⟩ : ∃ y0, y0 = 3 * a + o := ⟨_, rfl⟩
    rw [← ey] at hn ⊢
    have hy0 : y0 < 9 := by omega
    rw [e6]
    refine ⟨?_, ?_, ?_⟩
    · rw [sU_same, sU_same, sU_ne (by decide), sU_ne (by decide), sU_ne (by decide), sU_ne (by decide), e6]
    · intro y i hy hi
      rw [sU_same, sU_ne (by decide), sU_ne (by decide)] at hi
      rw [sU_ne (k := 6) (k' := 3) (by decide), sU_ne (k := 4) (k' := 3) (by decide), sU_same (k := 3), sU_ne (k := 6) (k' := 4) (by decide), sU_same (k := 4), sU_ne (k := 3) (k' := 4) (by decide), sU_ne (k := 6) (k' := 5) (by decide), sU_ne (k := 4) (k' := 5) (by decide), sU_ne (k := 3) (k' := 5) (by decide)]
      rw [sU_ne (k := 9) (k' := 10) (by decide), sU_ne (k := 11) (k' := 10) (by decide), sU_same (k := 10), sU_ne (k := 9) (k' := 11) (by decide), sU_same (k := 11), sU_ne (k := 10) (k' := 11) (by decide)]
      by_cases cy : y = y0
      · subst cy
        rw [va_same] at hi
        by_cases ci : i = Z 9 y
        · subst ci
          rw [va_same, va_same, va_same, va_same]
          exact ⟨e7, rfl⟩
        · rw [va_other (by omega), va_other (by omega), va_other (by omega), va_other (by omega)]
          exact hQ y i hy (by omega)
      · rw [va_other cy] at hi
        have hi60 := h9 y
        rw [va_other (by omega), va_other (by omega), va_other (by omega), va_other (by omega)]
        exact hQ y i hy hi
    · intro j
      rw [sU_same, sU_ne (by decide), sU_ne (by decide)]
      by_cases cj : j = y0
      · rw [cj, va_same]; omega
      · rw [va_other cj]; exact h9 j
theorem so_JQ (ha : a < 3) (e6 : S 6 = Z 9) (e7 : S 7 a = Z 0 a) (h9 : ∀ j, Z 9 j ≤ 60) (h9o : ∀ o, o < 3 → o ≠ a → Z 9 (3 * a + o) < 60) (hQ : JQ S Z) :
    soX S a v 6 = soM Z a v 9 ∧ JQ (soX S a v) (soM Z a v) := by
  have q0 := so1_JQ (v := v) (o := 0) ha (by decide) e6 e7 h9 (h9o 0 (by decide)) hQ
  have q1 := so1_JQ (v := v) (o := 1) ha (by decide) q0.1 (by rw [soX1_f (by decide) (by decide) (by decide), soM1_f (by decide) (by decide) (by decide)]; exact e7) q0.2.2 (fun c => by rw [soM1_9 (by omega)]; exact h9o 1 (by decide) c) q0.2.1
  have q2 := so1_JQ (v := v) (o := 2) ha (by decide) q1.1 (by rw [soX1_f (by decide) (by decide) (by decide), soX1_f (by decide) (by decide) (by decide), soM1_f (by decide) (by decide) (by decide), soM1_f (by decide) (by decide) (by decide)]; exact e7) q1.2.2 (fun c => by rw [soM1_9 (by omega), soM1_9 (by omega)]; exact h9o 2 (by decide) c) q1.2.1
  exact ⟨q2.1, q2.2.1⟩
theorem soM1_id : soM1 Z a v a = Z := by unfold soM1; rw [if_pos rfl]
theorem soM_9v (ha : a < 3) {f t : Nat} (hf : f < 3) (ht : t < 3) : soM Z a v 9 (3 * f + t) = if f = a ∧ t ≠ a then Z 9 (3 * f + t) + 1 else Z 9 (3 * f + t) := by
  unfold soM
  by_cases c : f = a
  · subst c
    rcases (show t = 0 ∨ t = 1 ∨ t = 2 by omega) with h | h | h
    · rw [soM1_9 (by omega), soM1_9 (by omega)]
      by_cases ct : t = f
      · rw [if_neg (fun z => z.2 ct), ← h, ct, soM1_id]
      · rw [if_pos ⟨rfl, ct⟩, h, soM1_9s (by omega)]
    · rw [soM1_9 (by omega)]
      by_cases ct : t = f
      · rw [if_neg (fun z => z.2 ct), ← h, ct, soM1_id, soM1_9 (by omega)]
      · rw [if_pos ⟨rfl, ct⟩, h, soM1_9s (by omega), soM1_9 (by omega)]
    · by_cases ct : t = f
      · rw [if_neg (fun z => z.2 ct), ← h, ct, soM1_id, soM1_9 (by omega), soM1_9 (by omega)]
      · rw [if_pos ⟨rfl, ct⟩, h, soM1_9s (by omega), soM1_9 (by omega), soM1_9 (by omega)]
  · rw [if_neg (fun z => c z.1), soM1_9 (by omega), soM1_9 (by omega), soM1_9 (by omega)]
theorem soM1_10 {j : Nat} : soM1 Z a v o 10 j = if o ≠ a ∧ j = 60 * (3 * a + o) + Z 9 (3 * a + o) then Z 0 a else Z 10 j := by
  unfold soM1
  by_cases c : o = a
  · rw [if_pos c, if_neg (fun z => z.1 c)]
  · rw [if_neg c, sU_ne (by decide), sU_ne (by decide), sU_same]
    by_cases cj : j = 60 * (3 * a + o) + Z 9 (3 * a + o)
    · rw [if_pos ⟨c, cj⟩, cj, va_same]
    · rw [if_neg (fun z => cj z.2), va_other cj]
theorem soM1_11 {j : Nat} : soM1 Z a v o 11 j = if o ≠ a ∧ j = 60 * (3 * a + o) + Z 9 (3 * a + o) then v else Z 11 j := by
  unfold soM1
  by_cases c : o = a
  · rw [if_pos c, if_neg (fun z => z.1 c)]
  · rw [if_neg c, sU_ne (by decide), sU_same, sU_ne (by decide)]
    by_cases cj : j = 60 * (3 * a + o) + Z 9 (3 * a + o)
    · rw [if_pos ⟨c, cj⟩, cj, va_same]
    · rw [if_neg (fun z => cj z.2), va_other cj]
theorem soM_10v (ha : a < 3) (h9 : ∀ o, o < 3 → o ≠ a → Z 9 (3 * a + o) < 60) {f t i : Nat} (hf : f < 3) (ht : t < 3) (hi : i < 60) :
    soM Z a v 10 (60 * (3 * f + t) + i) = (if f = a ∧ t ≠ a ∧ i = Z 9 (3 * f + t) then Z 0 a else Z 10 (60 * (3 * f + t) + i)) ∧ soM Z a v 11 (60 * (3 * f + t) + i) = (if f = a ∧ t ≠ a ∧ i = Z 9 (3 * f + t) then v else Z 11 (60 * (3 * f + t) + i)) := by
  have z2 : soM1 (soM1 Z a v 0) a v 1 9 (3 * a + 2) = Z 9 (3 * a + 2) := by rw [soM1_9 (by omega), soM1_9 (by omega)]
  have z1 : soM1 Z a v 0 9 (3 * a + 1) = Z 9 (3 * a + 1) := by rw [soM1_9 (by omega)]
  have y2 : soM1 (soM1 Z a v 0) a v 1 0 a = Z 0 a := by rw [soM1_f (by decide) (by decide) (by decide), soM1_f (by decide) (by decide) (by decide)]
  have y1 : soM1 Z a v 0 0 a = Z 0 a := by rw [soM1_f (by decide) (by decide) (by decide)]
  unfold soM
  rw [soM1_10, soM1_10, soM1_10, soM1_11, soM1_11, soM1_11, z2, z1, y2, y1]
  by_cases c : f = a ∧ t ≠ a ∧ i = Z 9 (3 * f + t)
  · rw [if_pos c, if_pos c]
    obtain ⟨rfl, hta, ei⟩ := c
    rcases (show t = 0 ∨ t = 1 ∨ t = 2 by omega) with h | h | h
    · subst h
      rw [if_neg (by omega), if_neg (by omega), if_pos ⟨hta, by rw [ei]⟩, if_neg (by omega), if_neg (by omega), if_pos ⟨hta, by rw [ei]⟩]
      exact ⟨rfl, rfl⟩
    · subst h
      rw [if_neg (by omega), if_pos ⟨hta, by rw [ei]⟩, if_neg (by omega), if_pos ⟨hta, by rw [ei]⟩]
      exact ⟨rfl, rfl⟩
    · subst h
      rw [if_pos ⟨hta, by rw [ei]⟩, if_pos ⟨hta, by rw [ei]⟩]
      exact ⟨rfl, rfl⟩
  · have n : ∀ k, k < 3 → ¬ (k ≠ a ∧ 60 * (3 * f + t) + i = 60 * (3 * a + k) + Z 9 (3 * a + k)) := by
      intro k hk z
      have hz := h9 k hk z.1
      have e1 : f = a := by omega
      have e2 : t = k := by omega
      exact c ⟨e1, by rw [e2]; exact z.1, by rw [e1, e2]; omega⟩
    rw [if_neg c, if_neg c, if_neg (n 2 (by decide)), if_neg (n 1 (by decide)), if_neg (n 0 (by decide)), if_neg (n 2 (by decide)), if_neg (n 1 (by decide)), if_neg (n 0 (by decide))]
    exact ⟨rfl, rfl⟩
theorem soM_9b {B : Nat} (h : ∀ j, Z 9 j < B) (h1 : ∀ o, o < 3 → o ≠ a → Z 9 (3 * a + o) + 1 < B) : ∀ j, soM Z a v 9 j < B := by
  have st : ∀ (o : Nat) (T : Nat → Nat → Nat), (∀ j, T 9 j < B) → (o ≠ a → T 9 (3 * a + o) + 1 < B) → ∀ j, soM1 T a v o 9 j < B := by
    intro o T h h1
    unfold soM1
    split
    · exact h
    · rename_i c
      intro j
      rw [sU_same, sU_ne (by decide), sU_ne (by decide)]
      exact va_bd h (h1 c) j
  unfold soM
  exact st 2 _ (st 1 _ (st 0 _ h (h1 0 (by decide))) (fun c => by rw [soM1_9 (by omega)]; exact h1 1 (by decide) c)) (fun c => by rw [soM1_9 (by omega), soM1_9 (by omega)]; exact h1 2 (by decide) c)
theorem soM_11b {B : Nat} (h : ∀ j, Z 11 j < B) (hv : v < B) : ∀ j, soM Z a v 11 j < B := by
  have st : ∀ (o : Nat) (T : Nat → Nat → Nat), (∀ j, T 11 j < B) → ∀ j, soM1 T a v o 11 j < B := by
    intro o T h j
    rw [soM1_11]
    split
    · exact hv
    · exact h j
  unfold soM
  exact st 2 _ (st 1 _ (st 0 _ h))
theorem soX_4b {B : Nat} (h : ∀ j, S 4 j < B) (hv : v < B) : ∀ j, soX S a v 4 j < B := by
  have st : ∀ (o : Nat) (T : Nat → Nat → Nat), (∀ j, T 4 j < B) → ∀ j, soX1 T a v o 4 j < B := by
    intro o T h j
    unfold soX1
    split
    · exact h j
    · rw [sU_ne (by decide), sU_same, sU_ne (by decide)]
      exact va_bd h hv j
  unfold soX
  exact st 2 _ (st 1 _ (st 0 _ h))
theorem soM_bd {B : Nat} (hB : ∀ k j, Z k j < B) (hv : v < B + 3) : ∀ k j, soM Z a v k j < B + 3 := by
  have st : ∀ (o C : Nat) (T : Nat → Nat → Nat), (∀ j, T 9 j < C) → ∀ j, soM1 T a v o 9 j < C + 1 := by
    intro o C T h
    unfold soM1
    split
    · exact fun j => Nat.lt_succ_of_lt (h j)
    · intro j
      rw [sU_same, sU_ne (by decide), sU_ne (by decide)]
      exact va_bd (fun j => Nat.lt_succ_of_lt (h j)) (by have := h (3 * a + o); omega) j
  have e1 := st 0 B Z (hB 9)
  have e2 := st 1 (B + 1) _ e1
  have w0 : ∀ k j, Z k j < B + 3 := fun k j => Nat.lt_of_lt_of_le (hB k j) (by omega)
  have w1 := soM1_bd (a := a) (v := v) (o := 0) w0 (fun j => by have := hB 9 j; omega) hv
  have w2 := soM1_bd (a := a) (v := v) (o := 1) w1 (fun j => by have := e1 j; omega) hv
  exact soM1_bd (a := a) (v := v) (o := 2) w2 (fun j => by have := e2 j; omega) hv
end SND
/-- what is on the ways stays valid when a message or a tick is sent -/
theorem JV_send {Z Z0 Z' : Nat → Nat → Nat} {a v : Nat} (ha : a < 3) (hV : JV Z) (h60 : ∀ j, Z 9 j ≤ 60) (h59 : ∀ o, o < 3 → o ≠ a → Z 9 (3 * a + o) < 60) (e9 : Z0 9 = Z 9) (e10 : Z0 10 = Z 10) (e11 : Z0 11 = Z 11)
    (g9 : Z' 9 = soM Z0 a v 9) (g10 : Z' 10 = soM Z0 a v 10) (g11 : Z' 11 = soM Z0 a v 11) (g2 : ∀ x, x < Z 1 0 → Z' 2 x = Z 2 x) (g3 : ∀ x, x < Z 1 0 → Z' 3 x = Z 3 x) (g4 : ∀ t x, t < 3 → x < Z 1 0 → Z' 4 (40 * t + x) = Z 4 (40 * t + x)) (gw : Z 1 0 ≤ Z' 1 0)
    (hnew : 0 < v → v = Z 1 0 + 1 ∧ Z 1 0 < Z' 1 0 ∧ Z' 2 (Z 1 0) = a ∧ (∀ t, t < 3 → t ≠ a → Z' 4 (40 * t + Z 1 0) = 0) ∧ Z' 3 (Z 1 0) = Z0 0 a) : JV Z' := by
  have h59' : ∀ o, o < 3 → o ≠ a → Z0 9 (3 * a + o) < 60 := by rw [e9]; exact h59
  have v9 : ∀ f t, f < 3 → t < 3 → Z' 9 (3 * f + t) = if f = a ∧ t ≠ a then Z 9 (3 * f + t) + 1 else Z 9 (3 * f + t) := fun f t hf ht => by rw [g9, soM_9v ha hf ht, e9]
  have v10 : ∀ f t i, f < 3 → t < 3 → i < 60 → Z' 10 (60 * (3 * f + t) + i) = (if f = a ∧ t ≠ a ∧ i = Z 9 (3 * f + t) then Z0 0 a else Z 10 (60 * (3 * f + t) + i)) ∧ Z' 11 (60 * (3 * f + t) + i) = (if f = a ∧ t ≠ a ∧ i = Z 9 (3 * f + t) then v else Z 11 (60 * (3 * f + t) + i)) := fun f t i hf ht hi => by
    rw [g10, g11]
    have := soM_10v (Z := Z0) (v := v) ha h59' hf ht hi
    rw [e9, e10, e11] at this
    exact this
  -- a place that is in use: new, or old
  have split : ∀ f t i, f < 3 → t < 3 → i < Z' 9 (3 * f + t) → i < 60 ∧ ((f = a ∧ t ≠ a ∧ i = Z 9 (3 * f + t)) ∨ (¬ (f = a ∧ t ≠ a ∧ i = Z 9 (3 * f + t)) ∧ i < Z 9 (3 * f + t))) := by
    intro f t i hf ht hi
    rw [v9 f t hf ht] at hi
    have q := h60 (3 * f + t)
    by_cases c : f = a ∧ t ≠ a
    · rw [if_pos c] at hi
      have q2 := h59 t ht c.2
      rw [← c.1] at q2
      by_cases ci : i = Z 9 (3 * f + t)
      · exact ⟨by omega, Or.inl ⟨c.1, c.2, ci⟩⟩
      · exact ⟨by omega, Or.inr ⟨fun z => ci z.2.2, by omega⟩⟩
    · rw [if_neg c] at hi
      exact ⟨by omega, Or.inr ⟨fun z => c ⟨z.1, z.2.1⟩, hi⟩⟩
  refine ⟨fun c hc => ?_, fun f t i hf ht hi h0 => ?_, fun y i j hy hij hj h0 => ?_⟩
  · rw [v9 c c hc hc, if_neg (fun z => z.2 z.1)]
    exact hV.1 c hc
  · obtain ⟨hi60, hs⟩ := split f t i hf ht hi
    have q := v10 f t i hf ht hi60
    rcases hs with hs | ⟨hn, hl⟩
    · rw [if_pos hs, if_pos hs] at q
      rw [q.1, q.2]
      rw [q.2] at h0
      obtain ⟨n1, n2, n3, n4, n5⟩ := hnew h0
      have ev : v - 1 = Z 1 0 := by omega
      rw [ev]
      exact ⟨n2, by rw [n3, hs.1], n4 t ht hs.2.1, n5⟩
    · rw [if_neg hn, if_neg hn] at q
      rw [q.1, q.2]
      rw [q.2] at h0
      obtain ⟨o1, o2, o3, o4⟩ := hV.2.1 f t i hf ht hl h0
      exact ⟨by omega, by rw [g2 _ o1]; exact o2, by rw [g4 t _ ht o1]; exact o3, by rw [g3 _ o1]; exact o4⟩
  · obtain ⟨f, t, hf, ht, rfl⟩ : ∃ f t, f < 3 ∧ t < 3 ∧ y = 3 * f + t := ⟨y / 3, y % 3, by omega, by omega, by omega⟩
    obtain ⟨hi60, hs⟩ := split f t i hf ht (by omega)
    obtain ⟨hj60, hs2⟩ := split f t j hf ht hj
    have q := (v10 f t i hf ht hi60).2
    have q2 := (v10 f t j hf ht hj60).2
    have hni : ¬ (f = a ∧ t ≠ a ∧ i = Z 9 (3 * f + t)) := by
      intro z
      rcases hs2 with w | w
      · omega
      · omega
    have hli : i < Z 9 (3 * f + t) := by
      rcases hs with w | w
      · exact absurd w hni
      · exact w.2
    rw [if_neg hni] at q
    rw [q] at h0 ⊢
    rcases hs2 with w | ⟨hn, hl⟩
    · rw [if_pos w] at q2
      rw [q2]
      obtain ⟨o1, -⟩ := hV.2.1 f t i hf ht hli h0
      intro e
      have hv0 : 0 < v := by omega
      have := (hnew hv0).1
      omega
    · rw [if_neg hn] at q2
      rw [q2]
      exact hV.2.2 (3 * f + t) i j hy hij hl h0
end
section
/-! the start; tick; write -/
theorem JJ_init : JJ zX zM 0 := by
  have z : ∀ k j, k ≠ 4 → zX k j = 0 := fun k j h => by unfold zX; rw [if_neg h]
  have z4 : ∀ j, zX 4 j = 1 := fun j => rfl
  have m : ∀ k j, k ≠ 11 → zM k j = 0 := fun k j h => by unfold zM; rw [if_neg h]
  have m11 : ∀ j, zM 11 j = 1 := fun j => rfl
  have bz : ∀ k j, zX k j ≤ 1 := fun k j => by unfold zX; split <;> omega
  have bm : ∀ k j, zM k j ≤ 1 := fun k j => by unfold zM; split <;> omega
  have w0 : zM 1 0 = 0 := rfl
  refine ⟨⟨⟨rfl, rfl, rfl, rfl, rfl, rfl, rfl, fun a s _ _ => rfl⟩, fun y i hy hi => ?_, ⟨fun k j => by have := bz k j; omega, fun k j => by have := bm k j; omega, by decide, fun j => by rw [m 2 j (by decide)]; decide, fun j => by rw [z 5 j (by decide)]; decide, fun j => by rw [m 9 j (by decide)]; omega, fun j => by rw [m11]; decide, fun j => by rw [z4]; decide, fun j => by rw [z 10 j (by decide)]; decide, fun j => by rw [m 6 j (by decide)]; decide⟩, fun a ha => ?_, ⟨fun a x _ _ _ => rfl, fun j _ => rfl⟩, ⟨fun a _ => rfl, fun f t i _ _ hi _ => ?_, fun y i j _ _ hj _ => ?_⟩, ⟨fun x hx => ?_, fun x y hx => ?_, fun a s _ _ => Nat.le_refl _, fun a x _ hx => ?_⟩⟩, fun a _ => Or.inl rfl⟩
  · rw [m 9 y (by decide)] at hi; omega
  · rw [z 9 a (by decide)]
    refine ⟨fun i _ hi => by omega, ⟨fun i hi => by omega, fun x hx => ?_, fun i j hi => by omega⟩, rfl, rfl⟩
    have := hx.1; rw [w0] at this; omega
  · rw [m 9 _ (by decide)] at hi; omega
  · rw [m 9 _ (by decide)] at hj; omega
  · rw [w0] at hx; omega
  · rw [w0] at hx; omega
  · have := hx.1; rw [w0] at this; omega
section TW
variable {S Z : Nat → Nat → Nat} {K a : Nat}
theorem up_mono {g : Nat → Nat} {i v : Nat} (h : g i ≤ v) : ∀ j, g j ≤ va_up g i v j := by
  intro j
  by_cases c : j = i
  · rw [c, va_same]; exact h
  · rw [va_other c]; exact Nat.le_refl _
theorem JJ_tick (J : JJ S Z K) (ha : a < 3) (h20 : ∀ o, o < 3 → Z 9 (3 * a + o) < 20) : JJ (tickX S a) (tickM Z a) (K + 1) := by
  obtain ⟨⟨hE, hQ, hB, hH, hF0, hV, hK⟩, hS⟩ := J
  obtain ⟨bS, bZ, b1, b2, b5, b9, b11, b4, b10, b6⟩ := hB
  obtain ⟨e0, e1, e2, e6, e7, e11, e12, e8⟩ := hE
  have h60 : ∀ j, Z 9 j ≤ 60 := fun j => by have := b9 j; omega
  have h59 : ∀ o, o < 3 → o ≠ a → Z 9 (3 * a + o) < 60 := fun o ho _ => by have := h20 o ho; omega
  have q := so_JQ (S := sU S 7 a (S 7 a + 1)) (Z := sU Z 0 a (Z 0 a + 1)) (v := 0) ha e6 (by rw [sU_same, sU_same, va_same, va_same, e7]) h60 h59 hQ
  have sf : ∀ k, k ≠ 3 → k ≠ 4 → k ≠ 6 → k ≠ 7 → tickX S a k = S k := fun k h3 h4 h6 h7 => by unfold tickX; rw [soX_f h3 h4 h6, sU_ne h7]
  have mf : ∀ k, k ≠ 0 → k ≠ 9 → k ≠ 10 → k ≠ 11 → tickM Z a k = Z k := fun k h0 h9 h10 h11 => by unfold tickM; rw [soM_f h10 h11 h9, sU_ne h0]
  have s7 : tickX S a 7 = va_up (S 7) a (S 7 a + 1) := by unfold tickX; rw [soX_f (by decide) (by decide) (by decide), sU_same]
  have m0 : tickM Z a 0 = va_up (Z 0) a (Z 0 a + 1) := by unfold tickM; rw [soM_f (by decide) (by decide) (by decide), sU_same]
  have x1 := mf 1 (by decide) (by decide) (by decide) (by decide)
  have x2 := mf 2 (by decide) (by decide) (by decide) (by decide)
  have x3 := mf 3 (by decide) (by decide) (by decide) (by decide)
  have x4 := mf 4 (by decide) (by decide) (by decide) (by decide)
  have x5 := mf 5 (by decide) (by decide) (by decide) (by decide)
  have x6 := mf 6 (by decide) (by decide) (by decide) (by decide)
  have x7 := mf 7 (by decide) (by decide) (by decide) (by decide)
  have x8 := mf 8 (by decide) (by decide) (by decide) (by decide)
  have bS0 : ∀ k j, sU S 7 a (S 7 a + 1) k j < 100 + 4 * K + 1 := sU_bd (fun k j => Nat.lt_succ_of_lt (bS k j)) (by have := bS 7 a; omega)
  have bZ0 : ∀ k j, sU Z 0 a (Z 0 a + 1) k j < 100 + 4 * K + 1 := sU_bd (fun k j => Nat.lt_succ_of_lt (bZ k j)) (by have := bZ 0 a; omega)
  have hm := up_mono (g := Z 0) (i := a) (v := Z 0 a + 1) (by omega)
  refine ⟨⟨⟨?_, ?_, ?_, q.1, ?_, ?_, ?_, ?_⟩, q.2, ⟨?_, ?_, ?_, ?_, ?_, ?_, ?_, ?_, ?_, ?_⟩, ?_, ?_, ?_, ?_⟩, ?_⟩
  · rw [sf 0 (by decide) (by decide) (by decide) (by decide), x1]; exact e0
  · rw [sf 1 (by decide) (by decide) (by decide) (by decide), x2]; exact e1
  · rw [sf 2 (by decide) (by decide) (by decide) (by decide), x3]; exact e2
  · rw [s7, m0, e7]
  · rw [sf 11 (by decide) (by decide) (by decide) (by decide), x6]; exact e11
  · rw [sf 12 (by decide) (by decide) (by decide) (by decide), x7]; exact e12
  · rw [sf 8 (by decide) (by decide) (by decide) (by decide), x8]; exact e8
  · intro k j
    have := soX_bd (a := a) (v := 0) bS0 (by omega) k j
    unfold tickX
    omega
  · intro k j
    have := soM_bd (a := a) (v := 0) bZ0 (by omega) k j
    unfold tickM
    omega
  · rw [x1]; exact b1
  · rw [x2]; exact b2
  · rw [sf 5 (by decide) (by decide) (by decide) (by decide)]; exact b5
  · rw [x1]
    exact soM_9b (Z := sU Z 0 a (Z 0 a + 1)) b9 (fun o ho _ => by have := h20 o ho; show Z 9 (3 * a + o) + 1 < 21 + Z 1 0; omega)
  · exact soM_11b (Z := sU Z 0 a (Z 0 a + 1)) b11 (by decide)
  · exact soX_4b (S := sU S 7 a (S 7 a + 1)) b4 (by decide)
  · rw [sf 10 (by decide) (by decide) (by decide) (by decide)]; exact b10
  · rw [x6]; exact b6
  · have ek : ky (tickM Z a) = ky Z := funext fun x => by unfold ky; rw [x2, x3]
    have eo : ∀ c, OP (tickM Z a) c = OP Z c := fun c => funext fun x => by unfold OP; rw [x1, x4, x5]
    intro c hc
    rw [sf 9 (by decide) (by decide) (by decide) (by decide), sf 10 (by decide) (by decide) (by decide) (by decide), ek, eo, x1, x4, x5, x6]
    exact hH c hc
  · unfold JF; rw [x1, x4, x5]; exact hF0
  · exact JV_send (Z := Z) (Z0 := sU Z 0 a (Z 0 a + 1)) (a := a) (v := 0) ha hV h60 h59 rfl rfl rfl rfl rfl rfl (fun x _ => by rw [x2]) (fun x _ => by rw [x3]) (fun t x _ _ => by rw [x4]) (by rw [x1]; exact Nat.le_refl _) (fun h => by omega)
  · have eo : ∀ c, OP (tickM Z a) c = OP Z c := fun c => funext fun x => by unfold OP; rw [x1, x4, x5]
    refine ⟨fun x hx => ?_, fun x y hx hy => ?_, fun c s hc hs => ?_, fun c x hc hx => ?_⟩
    · rw [x1] at hx; rw [x3, x2, m0]; exact Nat.le_trans (hK.1 x hx) (hm _)
    · rw [x1] at hx hy; rw [x3, x2]; exact hK.2.1 x y hx hy
    · rw [x8, m0]; exact Nat.le_trans (hK.2.2.1 c s hc hs) (hm _)
    · rw [eo] at hx; rw [x3, m0]; exact Nat.le_trans (hK.2.2.2 c x hc hx) (hm _)
  · intro c hc
    have ee : eaZ (tickM Z a) c = eaZ Z c := by unfold eaZ; rw [x1, x2, x3, x4, x5]
    unfold JS
    rw [ee]
    unfold sfM
    rw [x2, x3, x8]
    exact hS c hc
/-- write, on the model's side: what the fields are -/
theorem JJ_write (J : JJ S Z K) (ha : a < 3) (hw : Z 1 0 < 40) : JJ (writeX S a) (writeM Z a) (K + 1) := by
  obtain ⟨⟨hE, hQ, hB, hH, hF0, hV, hK⟩, hS⟩ := J
  obtain ⟨bS, bZ, b1, b2, b5, b9, b11, b4, b10, b6⟩ := hB
  obtain ⟨e0, e1, e2, e6, e7, e11, e12, e8⟩ := hE
  obtain ⟨w, ew⟩ : ∃ w, w = Z 1 0 := ⟨_, rfl⟩
  have h60 : ∀ j, Z 9 j ≤ 60 := fun j => by have := b9 j; omega
  have h59 : ∀ o, o < 3 → o ≠ a → Z 9 (3 * a + o) < 60 := fun o ho _ => by have := b9 (3 * a + o); omega
  have hwS : S 0 0 = w := by rw [e0, ew]
  have q := so_JQ (S := wr4 S a) (Z := wrM Z a) (v := w + 1) ha e6 (by show va_up (S 7) a (S 7 a + 1) a = va_up (Z 0) a (Z 0 a + 1) a; rw [va_same, va_same, e7]) h60 h59 hQ
  -- the fields behind it
  obtain ⟨Z', eZ⟩ : ∃ Z', Z' = writeM Z a := ⟨_, rfl⟩
  obtain ⟨T, eT⟩ : ∃ T, T = soX (wr4 S a) a (w + 1) := ⟨_, rfl⟩
  obtain ⟨P, eP⟩ : ∃ P, P = pushF T a w := ⟨_, rfl⟩
  have hZ : Z' = sU (soM (wrM Z a) a (w + 1)) 1 0 (w + 1) := by rw [eZ, ew]; rfl
  have zf : ∀ k, k ≠ 1 → k ≠ 9 → k ≠ 10 → k ≠ 11 → Z' k = wrM Z a k := fun k h1 h9 h10 h11 => by rw [hZ, sU_ne h1, soM_f h10 h11 h9]
  have z0 : Z' 0 = va_up (Z 0) a (Z 0 a + 1) := zf 0 (by decide) (by decide) (by decide) (by decide)
  have z1 : Z' 1 0 = w + 1 := by rw [hZ, sU_same, va_same]
  have z2 : Z' 2 = va_up (Z 2) w a := by rw [zf 2 (by decide) (by decide) (by decide) (by decide), ew]; rfl
  have z3 : Z' 3 = va_up (Z 3) w (Z 0 a + 1) := by rw [zf 3 (by decide) (by decide) (by decide) (by decide), ew]; rfl
  have z4 : Z' 4 = va_up (Z 4) (40 * a + w) 1 := by rw [zf 4 (by decide) (by decide) (by decide) (by decide), ew]; rfl
  have z5 : Z' 5 = Z 5 := zf 5 (by decide) (by decide) (by decide) (by decide)
  have z6 : Z' 6 = Z 6 := zf 6 (by decide) (by decide) (by decide) (by decide)
  have z7 : Z' 7 = Z 7 := zf 7 (by decide) (by decide) (by decide) (by decide)
  have z8 : Z' 8 = Z 8 := zf 8 (by decide) (by decide) (by decide) (by decide)
  have z9 : Z' 9 = soM (wrM Z a) a (w + 1) 9 := by rw [hZ, sU_ne (by decide)]
  have z10 : Z' 10 = soM (wrM Z a) a (w + 1) 10 := by rw [hZ, sU_ne (by decide)]
  have z11 : Z' 11 = soM (wrM Z a) a (w + 1) 11 := by rw [hZ, sU_ne (by decide)]
  have tf : ∀ k, k ≠ 3 → k ≠ 4 → k ≠ 6 → T k = wr4 S a k := fun k h3 h4 h6 => by rw [eT, soX_f h3 h4 h6]
  have pf : ∀ k, k ≠ 9 → k ≠ 10 → P k = T k := fun k h9 h10 => by rw [eP, pushF_f h9 h10]
  have t1 : T 1 = va_up (S 1) w a := by rw [tf 1 (by decide) (by decide) (by decide), ← hwS]; rfl
  have t2 : T 2 = va_up (S 2) w (S 7 a + 1) := by rw [tf 2 (by decide) (by decide) (by decide), ← hwS]; rfl
  have t9 : T 9 = S 9 := tf 9 (by decide) (by decide) (by decide)
  have t10 : T 10 = S 10 := tf 10 (by decide) (by decide) (by decide)
  have c7 : S 7 a = Z 0 a := by rw [e7]
  -- facts of the start
  have fr : ∀ c, c < 3 → Z 4 (40 * c + w) = 0 ∧ Z 5 (40 * c + w) = 0 := fun c hc => by
    have h := hF0.1 c w hc (by omega) (by omega)
    exact ⟨h, hF0.2 _ h⟩
  have old2 : ∀ x, x < w → Z' 2 x = Z 2 x := fun x hx => by rw [z2, va_other (by omega)]
  have old3 : ∀ x, x < w → Z' 3 x = Z 3 x := fun x hx => by rw [z3, va_other (by omega)]
  have old4 : ∀ c x, c < 3 → x < 40 → ¬ (c = a ∧ x = w) → Z' 4 (40 * c + x) = Z 4 (40 * c + x) := fun c x hc hx h => by rw [z4, va_other (by omega)]
  have opO : ∀ c x, c < 3 → x < 40 → ¬ (c = a ∧ x = w) → (opn (Z' 4) (Z' 5) c x ↔ opn (Z 4) (Z 5) c x) := fun c x hc hx h => by unfold opn; rw [old4 c x hc hx h, z5]
  have opN : opn (Z' 4) (Z' 5) a w := by unfold opn; rw [z4, va_same, z5]; exact ⟨by decide, (fr a ha).2⟩
  have opC : ∀ c, c < 3 → c ≠ a → ¬ opn (Z' 4) (Z' 5) c w := fun c hc h z => by
    have := ((opO c w hc (by omega) (fun y => h y.1)).mp z).1
    exact this (fr c hc).1
  have hm := up_mono (g := Z 0) (i := a) (v := Z 0 a + 1) (by omega)
  have b2' : ∀ j, Z' 2 j < 3 := by rw [z2]; exact va_bd b2 ha
  have hκ' := ky_ear b2'
  have hκT : ∀ x y, earS (T 1) (T 2) x y ↔ ky Z' x < ky Z' y := by rw [t1, t2, e1, e2, c7, ← z2, ← z3]; exact hκ'
  have ek : ∀ x, x < w → ky Z' x = ky Z x := fun x hx => by unfold ky; rw [old2 x hx, old3 x hx]
  have h9a : ∀ c, c < 3 → S 9 c ≤ w := fun c hc => by rw [(hH c hc).2.2.1, ew]; exact hF_le _ _ _ _
  -- the open ones behind it
  have OPa : ∀ x, (OP Z a x ∨ x = w) ↔ OP Z' a x := by
    intro x
    unfold OP
    rw [z1, ← ew]
    constructor
    · rintro (h | h)
      · exact ⟨by omega, (opO a x ha (by omega) (fun y => by omega)).mpr h.2⟩
      · rw [h]; exact ⟨by omega, opN⟩
    · intro h
      by_cases c : x = w
      · exact Or.inr c
      · exact Or.inl ⟨by omega, (opO a x ha (by omega) (fun y => c y.2)).mp h.2⟩
  have OPc : ∀ c x, c < 3 → c ≠ a → (OP Z c x ↔ OP Z' c x) := by
    intro c x hc hca
    unfold OP
    rw [z1, ← ew]
    constructor
    · intro h; exact ⟨by omega, (opO c x hc (by omega) (fun y => hca y.1)).mpr h.2⟩
    · intro h
      have hx : x ≠ w := fun e => opC c hc hca (by rw [← e]; exact h.2)
      exact ⟨by omega, (opO c x hc (by omega) (fun y => hca y.1)).mp h.2⟩
  have Jn : JN P Z' (K + 1) := by
    refine ⟨⟨?_, ?_, ?_, ?_, ?_, ?_, ?_, ?_⟩, ?_, ⟨?_, ?_, ?_, b2', ?_, ?_, ?_, ?_, ?_, ?_⟩, ?_, ⟨?_, ?_⟩, ?_, ⟨?_, ?_, ?_, ?_⟩⟩
    · rw [pf 0 (by decide) (by decide), tf 0 (by decide) (by decide) (by decide), z1]
      show va_up (S 0) 0 (S 0 0 + 1) 0 = w + 1
      rw [va_same, hwS]
    · rw [pf 1 (by decide) (by decide), t1, z2, e1]
    · rw [pf 2 (by decide) (by decide), t2, z3, e2, c7]
    · rw [pf 6 (by decide) (by decide), eT, z9]; exact q.1
    · rw [pf 7 (by decide) (by decide), tf 7 (by decide) (by decide) (by decide), z0]
      show va_up (S 7) a (S 7 a + 1) = _
      rw [e7]
    · rw [pf 11 (by decide) (by decide), tf 11 (by decide) (by decide) (by decide), z6]; exact e11
    · rw [pf 12 (by decide) (by decide), tf 12 (by decide) (by decide) (by decide), z7]; exact e12
    · rw [pf 8 (by decide) (by decide), tf 8 (by decide) (by decide) (by decide), z8]; exact e8
    · intro y i
      rw [pf 3 (by decide) (by decide), pf 4 (by decide) (by decide), pf 5 (by decide) (by decide), eT, z9, z10, z11]
      exact q.2 y i
    · have c0 : ∀ k j, wr4 S a k j < 100 + 4 * K + 1 := by
        have h0 := bS 0 0
        have h7 := bS 7 a
        exact sU_bd (sU_bd (sU_bd (sU_bd (fun k j => Nat.lt_succ_of_lt (bS k j)) (by omega)) (by omega)) (by omega)) (by omega)
      have c1 := soX_bd (a := a) (v := w + 1) c0 (by omega)
      rw [← eT] at c1
      have h9 := h9a a ha
      have c2 := pushF_bd (a := a) (m := w) c1 (by omega) (by rw [t9]; omega)
      rw [← eP] at c2
      intro k j
      have := c2 k j
      omega
    · have c0 : ∀ k j, wrM Z a k j < 100 + 4 * K + 1 := by
        have h0 := bZ 0 a
        exact sU_bd (sU_bd (sU_bd (sU_bd (fun k j => Nat.lt_succ_of_lt (bZ k j)) (by omega)) (by omega)) (by omega)) (by omega)
      have c1 := soM_bd (a := a) (v := w + 1) c0 (by omega)
      have c2 := sU_bd (k := 1) (i := 0) (v := w + 1) c1 (by omega)
      rw [← hZ] at c2
      intro k j
      have := c2 k j
      omega
    · rw [z1]; omega
    · rw [pf 5 (by decide) (by decide), tf 5 (by decide) (by decide) (by decide)]; exact b5
    · rw [z9, z1]
      exact soM_9b (Z := wrM Z a) (fun j => by have : Z 9 j < 21 + Z 1 0 := b9 j; show Z 9 j < _; omega) (fun o ho _ => by have := b9 (3 * a + o); show Z 9 (3 * a + o) + 1 < _; omega)
    · rw [z11]; exact soM_11b (Z := wrM Z a) b11 (by omega)
    · rw [pf 4 (by decide) (by decide), eT]; exact soX_4b (S := wr4 S a) b4 (by omega)
    · rw [eP]; exact pushF_10 (by rw [t10]; exact b10) (by omega)
    · rw [z6]; exact b6
    · -- heaps
      have ha' := hH a ha
      have hpush := pushF_ok (S := T) (κ := ky Z') (a := a) (m := w) (O := OP Z a) hκT (by rw [t9]; have := h9a a ha; omega) (by
        rw [t9, t10]
        exact hord_eq (fun i hi => ek _ (by have : S 10 (40 * a + i) < Z 1 0 := (ha'.2.1.1 i hi).1; omega)) ha'.1) (by rw [t9, t10]; exact ha'.2.1) (fun z => by have := z.1; omega)
      rw [← eP, t9] at hpush
      have p9 : P 9 = va_up (S 9) a (S 9 a + 1) := by rw [eP, pushF_9, t9]
      intro c hc
      rw [p9, z1, z6]
      by_cases hca : c = a
      · subst hca
        rw [va_same]
        refine ⟨hpush.1, hset_iff OPa hpush.2.1, ?_, ?_⟩
        · rw [hF, if_pos opN, ha'.2.2.1, ← ew, hF_congr w (fun x hx => (opO c x hc (by omega) (fun y => by omega)).symm)]
        · rw [z5, dF, if_neg (fun z => z (fr c hc).2), ha'.2.2.2, ew]
      · obtain ⟨ho', hs', h9', hd'⟩ := hH c hc
        have hle := h9a c hc
        rw [va_other hca]
        have ez : ∀ i, i < S 9 c → P 10 (40 * c + i) = S 10 (40 * c + i) := fun i hi => by rw [hpush.2.2 _ (by omega), t10]
        refine ⟨hord_eq (fun i hi => by rw [ez i hi]; exact ek _ (by have : S 10 (40 * c + i) < Z 1 0 := (hs'.1 i hi).1; omega)) ho', hset_iff (fun x => OPc c x hc hca) (hset_eq ez hs'), ?_, ?_⟩
        · rw [hF, if_neg (opC c hc hca), h9', ← ew, hF_congr w (fun x hx => (opO c x hc (by omega) (fun y => hca y.1)).symm)]
        · rw [z5, dF, if_neg (fun z => z (fr c hc).2), hd', ew]
    · intro c x hc hx hx40
      rw [z1] at hx
      rw [old4 c x hc hx40 (fun y => by omega)]
      exact hF0.1 c x hc (by omega) hx40
    · intro j hj
      rw [z5]
      rw [z4] at hj
      by_cases c : j = 40 * a + w
      · rw [c, va_same] at hj; omega
      · rw [va_other c] at hj; exact hF0.2 j hj
    · exact JV_send (Z := Z) (Z0 := wrM Z a) (a := a) (v := w + 1) ha hV h60 h59 rfl rfl rfl z9 z10 z11 (fun x hx => old2 x (by omega)) (fun x hx => old3 x (by omega)) (fun t x ht hx => old4 t x ht (by omega) (fun y => by omega)) (by rw [z1]; omega)
        (fun _ => by
          rw [← ew]
          exact ⟨rfl, by rw [z1]; omega, by rw [z2, va_same], fun t ht hta => by rw [old4 t w ht (by omega) (fun y => hta y.1)]; exact (fr t ht).1, by rw [z3, va_same]; show _ = va_up (Z 0) a (Z 0 a + 1) a; rw [va_same]⟩)
    · intro x hx
      rw [z1] at hx
      by_cases c : x = w
      · rw [c, z3, va_same, z2, va_same, z0, va_same]; exact Nat.le_refl _
      · rw [old3 x (by omega), old2 x (by omega), z0]
        exact Nat.le_trans (hK.1 x (by omega)) (hm _)
    · intro x y hx hy
      rw [z1] at hx hy
      by_cases c : x = w
      · by_cases c' : y = w
        · intro _ _; omega
        · rw [c, z3, z2, va_same, va_same, va_other (by omega), va_other (by omega)]
          intro g3 g2
          have := hK.1 y (by omega)
          rw [← g2, ← g3] at this
          omega
      · by_cases c' : y = w
        · rw [c', z3, z2, va_same, va_same, va_other (by omega), va_other (by omega)]
          intro g3 g2
          have := hK.1 x (by omega)
          rw [g2, g3] at this
          omega
        · rw [old3 x (by omega), old3 y (by omega), old2 x (by omega), old2 y (by omega)]
          exact hK.2.1 x y (by omega) (by omega)
    · intro c s hc hs
      rw [z8, z0]
      exact Nat.le_trans (hK.2.2.1 c s hc hs) (hm _)
    · intro c x hc hx
      by_cases hxw : x = w
      · by_cases hca : c = a
        · rw [hxw, hca, z3, z0, va_same, va_same]; exact Nat.le_refl _
        · exact absurd (by rw [← hxw]; exact hx.2) (opC c hc hca)
      · have hxl : x < w := by have := hx.1; rw [z1] at this; omega
        rw [old3 x hxl, z0]
        exact Nat.le_trans (hK.2.2.2 c x hc ⟨by omega, (opO c x hc (by omega) (fun y => hxw y.2)).mp hx.2⟩) (hm _)
  have Js : ∀ c, c < 3 → JS Z' c := by
    intro c hc
    have eold : eaF (Z' 4) (Z' 5) (Z' 2) (Z' 3) c w = eaZ Z c := by
      unfold eaZ
      rw [← ew]
      exact eaF_congr w (fun x hx => opO c x hc (by omega) (fun y => by omega)) (fun x hx => ⟨old2 x hx, old3 x hx⟩)
    have hle : eaZ Z c ≤ w := by rw [ew]; exact eaF_le _ _ _ _ _ _
    have sfo : ∀ x, x < w → (sfM Z' c x ↔ sfM Z c x) := fun x hx => by unfold sfM rdy rd1; rw [old2 x hx, old3 x hx, z8]
    unfold JS
    have een : eaZ Z' c = eaF (Z' 4) (Z' 5) (Z' 2) (Z' 3) c (w + 1) := by unfold eaZ; rw [z1]
    rw [een, eaF, eold]
    by_cases hca : c = a
    · subst hca
      rcases Nat.eq_zero_or_pos (eaZ Z c) with e | e
      · rw [if_pos ⟨opN, Or.inl e⟩]
        refine Or.inr (fun z => ?_)
        rw [Nat.add_sub_cancel] at z
        unfold sfM rdy rd1 at z
        dsimp only at z
        rw [z2, z3, va_same, va_same, z8] at z
        have k0 := hK.2.2.1 c 0 hc (by decide)
        have k1 := hK.2.2.1 c 1 hc (by decide)
        have k2 := hK.2.2.1 c 2 hc (by decide)
        omega
      · have hop : OP Z c (eaZ Z c - 1) := ⟨by omega, eaF_open _ _ _ _ _ _ e⟩
        have hst := hK.2.2.2 c _ hc hop
        rw [if_neg]
        · rcases hS c hc with h | h
          · omega
          · exact Or.inr (fun z => h ((sfo _ (by omega)).mp z))
        · intro z
          rcases z.2 with y | y
          · omega
          · unfold earS at y
            rw [old3 (eaZ Z c - 1) (by omega), z3, va_same] at y
            omega
    · rw [if_neg (fun z => opC c hc hca z.1)]
      rcases hS c hc with h | h
      · exact Or.inl h
      · rcases Nat.eq_zero_or_pos (eaZ Z c) with e | e
        · exact Or.inl e
        · exact Or.inr (fun z => h ((sfo _ (by omega)).mp z))
  have hro : writeX S a = P := by
    unfold writeX
    rw [hwS, ← eT, ← eP]
    show (roL a (39 + 1) P 0).1 = P
    rw [roL, if_neg]
    intro z
    have ht := JN_top Jn ha
    have e := (ht.2 z.1).1
    rcases Js a ha with h | h
    · omega
    · exact h (by rw [show eaZ Z' a - 1 = P 10 (40 * a) by omega]; exact (JN_safe Jn.1 ha _).mp z.2)
  rw [hro, ← eZ]
  exact ⟨Jn, Js⟩
end TW
end
section
/-! take -/
theorem shL_v {y : Nat} {Z : Nat → Nat → Nat} : ∀ i j, shL y Z i 10 j = (if 60 * y ≤ j ∧ j < 60 * y + i then Z 10 (j + 1) else Z 10 j) ∧ shL y Z i 11 j = (if 60 * y ≤ j ∧ j < 60 * y + i then Z 11 (j + 1) else Z 11 j) := by
  intro i
  induction i with
  | zero =>
    intro j
    rw [if_neg (by omega), if_neg (by omega)]
    exact ⟨rfl, rfl⟩
  | succ i ih =>
    intro j
    have h1 := ih (60 * y + i + 1)
    rw [if_neg (by omega), if_neg (by omega)] at h1
    rw [shL, sU_ne (k := 11) (k' := 10) (by decide), sU_same (k := 10), sU_same (k := 11), sU_ne (k := 10) (k' := 11) (by decide), h1.1, h1.2]
    by_cases c : j = 60 * y + i
    · rw [c, va_same, va_same, if_pos (by omega), if_pos (by omega)]
      exact ⟨rfl, rfl⟩
    · rw [va_other c, va_other c, (ih j).1, (ih j).2]
      by_cases c2 : 60 * y ≤ j ∧ j < 60 * y + i
      · rw [if_pos c2, if_pos c2, if_pos (by omega), if_pos (by omega)]
        exact ⟨rfl, rfl⟩
      · rw [if_neg c2, if_neg c2, if_neg (by omega), if_neg (by omega)]
        exact ⟨rfl, rfl⟩
theorem JJ_take {S Z : Nat → Nat → Nat} {K f t : Nat} (J : JJ S Z K) (hf : f < 3) (ht : t < 3) (hft : f ≠ t) (hne : Z 9 (3 * f + t) ≠ 0) :
    JJ (takeX S f t).1 (takeM Z f t).1 (K + 1) ∧ (takeX S f t).2 = (takeM Z f t).2 := by
  obtain ⟨⟨hE, hQ, hB, hH, hF0, hV, hK⟩, hS⟩ := J
  obtain ⟨bS, bZ, b1, b2, b5, b9, b11, b4, b10, b6⟩ := hB
  obtain ⟨e0, e1, e2, e6, e7, e11, e12, e8⟩ := hE
  obtain ⟨y, ey⟩ : ∃ y, y = 3 * f + t := ⟨_, rfl⟩
  obtain ⟨n, en⟩ : ∃ n, n = Z 9 y := ⟨_, rfl⟩
  have hy : y < 9 := by omega
  have hn0 : 0 < n := by rw [en, ey]; omega
  have hn60 : n ≤ 60 := by have := b9 y; omega
  have h60 : ∀ j, Z 9 j ≤ 60 := fun j => by have := b9 j; omega
  have s5 := b5 y
  have hq0 := hQ y 0 hy (by omega)
  rw [Nat.add_zero, Nat.mod_eq_of_lt s5, Nat.add_zero] at hq0
  obtain ⟨cl, ecl⟩ : ∃ cl, cl = Z 10 (60 * y) := ⟨_, rfl⟩
  obtain ⟨v, ev⟩ : ∃ v, v = Z 11 (60 * y) := ⟨_, rfl⟩
  rw [← ecl, ← ev] at hq0
  have hv41 : v < 41 := by rw [ev]; exact b11 _
  obtain ⟨M, eM⟩ : ∃ M, M = mx (Z 0 t) cl + 1 := ⟨_, rfl⟩
  have hM1 : Z 0 t ≤ M := by rw [eM]; unfold mx; split <;> omega
  have hM2 : cl ≤ M := by rw [eM]; unfold mx; split <;> omega
  have bcl : cl < 100 + 4 * K := by rw [ecl]; exact bZ _ _
  have hM3 : M < 100 + 4 * K + 1 := by have h0 := bZ 0 t; rw [eM]; unfold mx; split <;> omega
  have c7 : S 7 t = Z 0 t := by rw [e7]
  -- the model's state before reading
  obtain ⟨Z', eZ⟩ : ∃ Z', Z' = tm5 Z f t := ⟨_, rfl⟩
  obtain ⟨Zs, eZs⟩ : ∃ Zs, Zs = shL y (sU Z 9 y (n - 1)) (n - 1) := ⟨_, rfl⟩
  have hm4 : tm4 Z f t = sU (sU Zs 0 t M) 8 y cl := by unfold tm4; rw [← ey, ← en, ← eZs, ← ecl, eM]
  have hZ : Z' = if 0 < v then sU (sU (sU Zs 0 t M) 8 y cl) 4 (40 * t + (v - 1)) 1 else sU (sU Zs 0 t M) 8 y cl := by rw [eZ, ← hm4]; unfold tm5; rw [← ey, ← ev]
  have zsf : ∀ k, k ≠ 9 → k ≠ 10 → k ≠ 11 → Zs k = Z k := fun k h9 h10 h11 => by rw [eZs, shL_f h10 h11, sU_ne h9]
  have zf : ∀ k, k ≠ 4 → Z' k = sU (sU Zs 0 t M) 8 y cl k := fun k h => by rw [hZ]; split; exact sU_ne h; rfl
  have z0 : Z' 0 = va_up (Z 0) t M := by rw [zf 0 (by decide), sU_ne (by decide), sU_same, zsf 0 (by decide) (by decide) (by decide)]
  have zo : ∀ k, k ≠ 0 → k ≠ 4 → k ≠ 8 → k ≠ 9 → k ≠ 10 → k ≠ 11 → Z' k = Z k := fun k h0 h4 h8 h9 h10 h11 => by rw [zf k h4, sU_ne h8, sU_ne h0, zsf k h9 h10 h11]
  have z1 := zo 1 (by decide) (by decide) (by decide) (by decide) (by decide) (by decide)
  have z2 := zo 2 (by decide) (by decide) (by decide) (by decide) (by decide) (by decide)
  have z3 := zo 3 (by decide) (by decide) (by decide) (by decide) (by decide) (by decide)
  have z5 := zo 5 (by decide) (by decide) (by decide) (by decide) (by decide) (by decide)
  have z6 := zo 6 (by decide) (by decide) (by decide) (by decide) (by decide) (by decide)
  have z7 := zo 7 (by decide) (by decide) (by decide) (by decide) (by decide) (by decide)
  have z8 : Z' 8 = va_up (Z 8) y cl := by rw [zf 8 (by decide), sU_same, sU_ne (by decide), zsf 8 (by decide) (by decide) (by decide)]
  have z9 : Z' 9 = va_up (Z 9) y (n - 1) := by rw [zf 9 (by decide), sU_ne (by decide), sU_ne (by decide), eZs, shL_f (by decide) (by decide), sU_same]
  have z10 : Z' 10 = Zs 10 := by rw [zf 10 (by decide), sU_ne (by decide), sU_ne (by decide)]
  have z11 : Z' 11 = Zs 11 := by rw [zf 11 (by decide), sU_ne (by decide), sU_ne (by decide)]
  have w10 : ∀ j, Z' 10 j = if 60 * y ≤ j ∧ j < 60 * y + (n - 1) then Z 10 (j + 1) else Z 10 j := fun j => by rw [z10, eZs]; exact (shL_v (n - 1) j).1
  have w11 : ∀ j, Z' 11 j = if 60 * y ≤ j ∧ j < 60 * y + (n - 1) then Z 11 (j + 1) else Z 11 j := fun j => by rw [z11, eZs]; exact (shL_v (n - 1) j).2
  have z4n : ¬ 0 < v → Z' 4 = Z 4 := fun h => by rw [hZ, if_neg h, sU_ne (by decide), sU_ne (by decide), zsf 4 (by decide) (by decide) (by decide)]
  have z4p : 0 < v → Z' 4 = va_up (Z 4) (40 * t + (v - 1)) 1 := fun h => by rw [hZ, if_pos h, sU_same, sU_ne (by decide), sU_ne (by decide), zsf 4 (by decide) (by decide) (by decide)]
  -- the message
  have hmsg : 0 < v → v - 1 < Z 1 0 ∧ Z 2 (v - 1) = f ∧ Z 4 (40 * t + (v - 1)) = 0 ∧ Z 3 (v - 1) = cl := fun h => by
    have := hV.2.1 f t 0 hf ht (by omega) (by rw [← ey, Nat.add_zero, ← ev]; exact h)
    rw [← ey, Nat.add_zero, ← ev, ← ecl] at this
    exact this
  have old4 : ∀ c x, c < 3 → x < 40 → ¬ (0 < v ∧ c = t ∧ x = v - 1) → Z' 4 (40 * c + x) = Z 4 (40 * c + x) := fun c x hc hx h => by
    by_cases hv : 0 < v
    · rw [z4p hv, va_other (by omega)]
    · rw [z4n hv]
  have opO : ∀ c x, c < 3 → x < 40 → ¬ (0 < v ∧ c = t ∧ x = v - 1) → (opn (Z' 4) (Z' 5) c x ↔ opn (Z 4) (Z 5) c x) := fun c x hc hx h => by unfold opn; rw [old4 c x hc hx h, z5]
  have opN : 0 < v → opn (Z' 4) (Z' 5) t (v - 1) := fun h => by unfold opn; rw [z4p h, va_same, z5]; exact ⟨by decide, hF0.2 _ (hmsg h).2.2.1⟩
  have hm := up_mono (g := Z 0) (i := t) (v := M) hM1
  have ek : ky Z' = ky Z := funext fun x => by unfold ky; rw [z2, z3]
  have hκ := ky_ear b2
  have h9w : ∀ c, c < 3 → S 9 c ≤ Z 1 0 := fun c hc => by rw [(hH c hc).2.2.1]; exact hF_le _ _ _ _
  have OPc : ∀ c x, c < 3 → ¬ (0 < v ∧ c = t) → (OP Z c x ↔ OP Z' c x) := by
    intro c x hc h
    unfold OP
    rw [z1]
    constructor
    · intro g; exact ⟨g.1, (opO c x hc (by omega) (fun w => h ⟨w.1, w.2.1⟩)).mpr g.2⟩
    · intro g; exact ⟨g.1, (opO c x hc (by omega) (fun w => h ⟨w.1, w.2.1⟩)).mp g.2⟩
  have OPt : 0 < v → ∀ x, (OP Z t x ∨ x = v - 1) ↔ OP Z' t x := by
    intro hv x
    have hm1 := (hmsg hv).1
    unfold OP
    rw [z1]
    constructor
    · rintro (g | g)
      · by_cases e : x = v - 1
        · rw [e]; exact ⟨hm1, opN hv⟩
        · exact ⟨g.1, (opO t x ht (by omega) (fun w => e w.2.2)).mpr g.2⟩
      · rw [g]; exact ⟨hm1, opN hv⟩
    · intro g
      by_cases e : x = v - 1
      · exact Or.inr e
      · exact Or.inl ⟨g.1, (opO t x ht (by omega) (fun w => e w.2.2)).mp g.2⟩
  have hnO : 0 < v → ¬ OP Z t (v - 1) := fun hv z => z.2.1 (hmsg hv).2.2.1
  have hFc : ∀ c, c < 3 → ¬ (0 < v ∧ c = t) → hF (Z' 4) (Z' 5) c (Z 1 0) = hF (Z 4) (Z 5) c (Z 1 0) := fun c hc h => hF_congr _ (fun x hx => opO c x hc (by omega) (fun w => h ⟨w.1, w.2.1⟩))
  have hFt : 0 < v → hF (Z' 4) (Z' 5) t (Z 1 0) = hF (Z 4) (Z 5) t (Z 1 0) + 1 := fun hv => hF_less (opN hv) (fun z => hnO hv ⟨(hmsg hv).1, z⟩) _ (hmsg hv).1 (fun x hx hne => opO t x ht (by omega) (fun w => hne w.2.2))
  -- the class's state before reading
  obtain ⟨T, eT⟩ : ∃ T, T = tk4 S f t := ⟨_, rfl⟩
  obtain ⟨P, eP⟩ : ∃ P, P = tk5 S f t := ⟨_, rfl⟩
  have hT : T = sU (sU (sU (sU S 5 y ((S 5 y + 1) % 64)) 6 y (n - 1)) 8 (3 * t + f) cl) 7 t M := by rw [eT]; unfold tk4; rw [← ey, hq0.1, c7, ← eM, e6, ← en]
  have hP : P = if 0 < v then pushF T t (v - 1) else T := by rw [eP]; unfold tk5; rw [← ey, hq0.2, ← eT]
  have t5 : T 5 = va_up (S 5) y ((S 5 y + 1) % 64) := by rw [hT, sU_ne (by decide), sU_ne (by decide), sU_ne (by decide), sU_same]
  have t6 : T 6 = va_up (S 6) y (n - 1) := by rw [hT, sU_ne (by decide), sU_ne (by decide), sU_same, sU_ne (by decide)]
  have t7 : T 7 = va_up (S 7) t M := by rw [hT, sU_same, sU_ne (by decide), sU_ne (by decide), sU_ne (by decide)]
  have t8 : T 8 = va_up (S 8) (3 * t + f) cl := by rw [hT, sU_ne (by decide), sU_same, sU_ne (by decide), sU_ne (by decide)]
  have to : ∀ k, k ≠ 5 → k ≠ 6 → k ≠ 7 → k ≠ 8 → T k = S k := fun k h5 h6 h7 h8 => by rw [hT, sU_ne h7, sU_ne h8, sU_ne h6, sU_ne h5]
  have t9 := to 9 (by decide) (by decide) (by decide) (by decide)
  have t10 := to 10 (by decide) (by decide) (by decide) (by decide)
  have pf : ∀ k, k ≠ 9 → k ≠ 10 → P k = T k := fun k h9 h10 => by rw [hP]; split; exact pushF_f h9 h10; rfl
  have bT : ∀ k j, T k j < 100 + 4 * K + 1 := by
    rw [hT]
    exact sU_bd (sU_bd (sU_bd (sU_bd (fun k j => Nat.lt_succ_of_lt (bS k j)) (by omega)) (by omega)) (by omega)) hM3
  have hκT : ∀ x y, earS (T 1) (T 2) x y ↔ ky Z x < ky Z y := by rw [to 1 (by decide) (by decide) (by decide) (by decide), to 2 (by decide) (by decide) (by decide) (by decide), e1, e2]; exact hκ
  have Jn : JN P Z' (K + 1) := by
    refine ⟨⟨?_, ?_, ?_, ?_, ?_, ?_, ?_, ?_⟩, ?_, ⟨?_, ?_, ?_, ?_, ?_, ?_, ?_, ?_, ?_, ?_⟩, ?_, ⟨?_, ?_⟩, ⟨?_, ?_, ?_⟩, ⟨?_, ?_, ?_, ?_⟩⟩
    · rw [pf 0 (by decide) (by decide), to 0 (by decide) (by decide) (by decide) (by decide), z1]; exact e0
    · rw [pf 1 (by decide) (by decide), to 1 (by decide) (by decide) (by decide) (by decide), z2]; exact e1
    · rw [pf 2 (by decide) (by decide), to 2 (by decide) (by decide) (by decide) (by decide), z3]; exact e2
    · rw [pf 6 (by decide) (by decide), t6, z9, e6]
    · rw [pf 7 (by decide) (by decide), t7, z0, e7]
    · rw [pf 11 (by decide) (by decide), to 11 (by decide) (by decide) (by decide) (by decide), z6]; exact e11
    · rw [pf 12 (by decide) (by decide), to 12 (by decide) (by decide) (by decide) (by decide), z7]; exact e12
    · intro c s hc hs
      rw [pf 8 (by decide) (by decide), t8, z8]
      by_cases h : c = t ∧ s = f
      · rw [h.1, h.2, va_same, ← ey, va_same]
      · rw [va_other (by omega), va_other (by omega)]
        exact e8 c s hc hs
    · intro y' i hy' hi
      rw [z9] at hi
      rw [pf 3 (by decide) (by decide), pf 4 (by decide) (by decide), pf 5 (by decide) (by decide), to 3 (by decide) (by decide) (by decide) (by decide), to 4 (by decide) (by decide) (by decide) (by decide), t5, w10, w11]
      by_cases h : y' = y
      · subst h
        rw [va_same] at hi ⊢
        rw [if_pos (by omega), if_pos (by omega)]
        have q := hQ y' (i + 1) hy' (by omega)
        rw [show ((S 5 y' + 1) % 64 + i) % 64 = (S 5 y' + (i + 1)) % 64 by omega, show 60 * y' + i + 1 = 60 * y' + (i + 1) by omega]
        exact q
      · rw [va_other h] at hi ⊢
        have := h60 y'
        rw [if_neg (by omega), if_neg (by omega)]
        exact hQ y' i hy' hi
    · intro k j
      have h9 := h9w t ht
      have : P k j < 100 + 4 * K + 1 := by
        rw [hP]
        split
        · exact pushF_bd bT (by omega) (by rw [t9]; omega) k j
        · exact bT k j
      omega
    · have g0 : ∀ k j, Zs k j < 100 + 4 * K := by rw [eZs]; exact shL_bd (sU_bd bZ (by omega)) _
      have g1 : ∀ k j, sU (sU Zs 0 t M) 8 y cl k j < 100 + 4 * K + 1 := sU_bd (sU_bd (fun k j => Nat.lt_succ_of_lt (g0 k j)) hM3) (by omega)
      intro k j
      have : Z' k j < 100 + 4 * K + 1 := by
        rw [hZ]
        split
        · exact sU_bd g1 (by omega) k j
        · exact g1 k j
      omega
    · rw [z1]; exact b1
    · rw [z2]; exact b2
    · rw [pf 5 (by decide) (by decide), t5]; exact va_bd b5 (Nat.mod_lt _ (by decide))
    · rw [z9, z1]; exact va_bd b9 (by have := b9 y; omega)
    · intro j; rw [w11]; split; exact b11 _; exact b11 _
    · rw [pf 4 (by decide) (by decide), to 4 (by decide) (by decide) (by decide) (by decide)]; exact b4
    · rw [hP]
      split
      · exact pushF_10 (by rw [t10]; exact b10) (by omega)
      · rw [t10]; exact b10
    · rw [z6]; exact b6
    · intro c hc
      rw [ek, z1, z6]
      obtain ⟨ho, hs, h9, hd⟩ := hH c hc
      have h9c := h9w c hc
      by_cases hv : 0 < v
      · have hFt' := hFt hv
        have hle := hF_le (Z' 4) (Z' 5) t (Z 1 0)
        have h9t := (hH t ht).2.2.1
        have hpush := pushF_ok (S := T) (κ := ky Z) (a := t) (m := v - 1) (O := OP Z t) hκT (by rw [t9]; omega) (by rw [t9, t10]; exact (hH t ht).1) (by rw [t9, t10]; exact (hH t ht).2.1) (hnO hv)
        rw [hP, if_pos hv, pushF_9, t9]
        rw [t9] at hpush
        by_cases hct : c = t
        · subst hct
          rw [va_same]
          exact ⟨hpush.1, hset_iff (OPt hv) hpush.2.1, by rw [hFt', h9], by rw [z5]; exact hd⟩
        · rw [va_other hct]
          have ez : ∀ i, i < S 9 c → pushF T t (v - 1) 10 (40 * c + i) = S 10 (40 * c + i) := fun i hi => by rw [hpush.2.2 _ (by omega), t10]
          exact ⟨hord_eq (fun i hi => by rw [ez i hi]) ho, hset_iff (fun x => OPc c x hc (fun w => hct w.2)) (hset_eq ez hs), by rw [hFc c hc (fun w => hct w.2)]; exact h9, by rw [z5]; exact hd⟩
      · rw [hP, if_neg hv, t9, t10]
        exact ⟨ho, hset_iff (fun x => OPc c x hc (fun w => hv w.1)) hs, by rw [hFc c hc (fun w => hv w.1)]; exact h9, by rw [z5]; exact hd⟩
    · intro c x hc hx hx40
      rw [z1] at hx
      rw [old4 c x hc hx40 (fun w => by have := (hmsg w.1).1; omega)]
      exact hF0.1 c x hc hx hx40
    · intro j hj
      rw [z5]
      by_cases hv : 0 < v
      · rw [z4p hv] at hj
        by_cases e : j = 40 * t + (v - 1)
        · rw [e, va_same] at hj; omega
        · rw [va_other e] at hj; exact hF0.2 j hj
      · rw [z4n hv] at hj; exact hF0.2 j hj
    · intro c hc
      rw [z9, va_other (by omega)]
      exact hV.1 c hc
    · intro f' t' i hf' ht' hi h0
      rw [z9] at hi
      by_cases h : 3 * f' + t' = y
      · have e1 : f' = f := by omega
        have e2 : t' = t := by omega
        subst e1; subst e2
        rw [h] at hi h0 ⊢
        rw [va_same] at hi
        rw [w11, if_pos (by omega)] at h0 ⊢
        rw [w10, if_pos (by omega), z1, z2, z3]
        have q := hV.2.1 f' t' (i + 1) hf' ht' (by rw [h]; omega) (by rw [h]; exact h0)
        rw [h] at q
        have q : Z 11 (60 * y + i + 1) - 1 < Z 1 0 ∧ Z 2 (Z 11 (60 * y + i + 1) - 1) = f' ∧ Z 4 (40 * t' + (Z 11 (60 * y + i + 1) - 1)) = 0 ∧ Z 3 (Z 11 (60 * y + i + 1) - 1) = Z 10 (60 * y + i + 1) := q
        refine ⟨q.1, q.2.1, ?_, q.2.2.2⟩
        rw [old4 t' _ ht' (by omega) ?_]
        · exact q.2.2.1
        · intro w
          have d := hV.2.2 y 0 (i + 1) hy (by omega) (by omega) (by rw [Nat.add_zero, ← ev]; exact w.1)
          rw [Nat.add_zero, ← ev] at d
          have d : v ≠ Z 11 (60 * y + i + 1) := d
          omega
      · rw [va_other h] at hi
        have hi60 := h60 (3 * f' + t')
        have hni : ¬ (60 * y ≤ 60 * (3 * f' + t') + i ∧ 60 * (3 * f' + t') + i < 60 * y + (n - 1)) := by omega
        rw [w11, if_neg hni] at h0 ⊢
        rw [w10, if_neg hni, z1, z2, z3]
        have q := hV.2.1 f' t' i hf' ht' hi h0
        refine ⟨q.1, q.2.1, ?_, q.2.2.2⟩
        rw [old4 t' _ ht' (by omega) ?_]
        · exact q.2.2.1
        · intro w
          have g := (hmsg w.1).2.1
          rw [← w.2.2, q.2.1] at g
          omega
    · intro y' i j hy' hij hj h0
      rw [z9] at hj
      by_cases h : y' = y
      · subst h
        rw [va_same] at hj
        rw [w11, if_pos (by omega)] at h0 ⊢
        rw [w11, if_pos (by omega)]
        exact hV.2.2 y' (i + 1) (j + 1) hy' (by omega) (by omega) h0
      · rw [va_other h] at hj
        have hj60 := h60 y'
        rw [w11, if_neg (by omega)] at h0 ⊢
        rw [w11, if_neg (by omega)]
        exact hV.2.2 y' i j hy' hij hj h0
    · intro x hx
      rw [z1] at hx
      rw [z3, z2, z0]
      exact Nat.le_trans (hK.1 x hx) (hm _)
    · rw [z1, z2, z3]; exact hK.2.1
    · intro c s hc hs
      rw [z8, z0]
      by_cases h : c = t ∧ s = f
      · rw [h.1, h.2, ← ey, va_same, va_same]; exact hM2
      · rw [va_other (by omega)]
        exact Nat.le_trans (hK.2.2.1 c s hc hs) (hm _)
    · intro c x hc hx
      rw [z3, z0]
      by_cases h : 0 < v ∧ c = t ∧ x = v - 1
      · rw [h.2.1, h.2.2, va_same, (hmsg h.1).2.2.2]; exact hM2
      · have hx1 := hx.1
        rw [z1] at hx1
        exact Nat.le_trans (hK.2.2.2 c x hc ⟨hx1, (opO c x hc (by omega) h).mp hx.2⟩) (hm _)
  have Jo : ∀ c, c < 3 → c ≠ t → JS Z' c := by
    intro c hc hct
    have ee : eaZ Z' c = eaZ Z c := by
      unfold eaZ
      rw [z1, z2, z3]
      exact eaF_congr _ (fun x hx => opO c x hc (by omega) (fun w => hct w.2.1)) (fun x _ => ⟨rfl, rfl⟩)
    have g8 : ∀ s, s < 3 → Z' 8 (3 * s + c) = Z 8 (3 * s + c) := fun s hs => by rw [z8, va_other (by omega)]
    have k0 := g8 0 (by decide)
    have k1 := g8 1 (by decide)
    have k2 := g8 2 (by decide)
    unfold JS
    rw [ee]
    rcases hS c hc with h | h
    · exact Or.inl h
    · refine Or.inr (fun z => h ?_)
      unfold sfM rdy rd1 at z ⊢
      dsimp only at z ⊢
      rw [z2, z3, k0, k1, k2] at z
      exact z
  have q := JN_ro ht 40 P Z' 0 Jn
  unfold takeX takeM
  rw [← eP, ← eZ]
  refine ⟨⟨q.2.1, fun c hc => ?_⟩, q.1⟩
  by_cases h : c = t
  · rw [h]
    exact q.2.2.1 (by have := hF_le (Z' 4) (Z' 5) t (Z' 1 0); rw [z1] at this; rw [z1]; omega)
  · exact q.2.2.2 c hc h (Jo c hc h)
end
section
set_option maxRecDepth 100000
/-! one call of the law, on both states -/
section ST
variable {S Z : Nat → Nat → Nat} {K : Nat}
theorem JJ_mono (J : JJ S Z K) : JJ S Z (K + 1) := by
  obtain ⟨⟨hE, hQ, hB, hR⟩, hS⟩ := J
  exact ⟨⟨hE, hQ, ⟨fun k j => by have := hB.1 k j; omega, fun k j => by have := hB.2.1 k j; omega, hB.2.2⟩, hR⟩, hS⟩
theorem JJ_bS (J : JJ S Z K) (hK : K ≤ 64) (B : Nat) (hB : 1000 ≤ B) : ∀ k j, S k j < B := fun k j => by have := J.1.2.2.1.1 k j; omega
theorem JJ_bZ (J : JJ S Z K) (hK : K ≤ 64) (B : Nat) (hB : 1000 ≤ B) : ∀ k j, Z k j < B := fun k j => by have := J.1.2.2.1.2.1 k j; omega
theorem JJ_w (J : JJ S Z K) : Z 1 0 ≤ 40 := J.1.2.2.1.2.2.1
theorem JJ_5 (J : JJ S Z K) : ∀ j, S 5 j < 64 := J.1.2.2.1.2.2.2.2.1
theorem JJ_9 (J : JJ S Z K) : ∀ j, Z 9 j < 21 + Z 1 0 := J.1.2.2.1.2.2.2.2.2.1
theorem JJ_11 (J : JJ S Z K) : ∀ j, Z 11 j < 41 := J.1.2.2.1.2.2.2.2.2.2.1
theorem JJ_4 (J : JJ S Z K) : ∀ j, S 4 j < 41 := J.1.2.2.1.2.2.2.2.2.2.2.1
theorem JJ_10 (J : JJ S Z K) : ∀ j, S 10 j < 40 := J.1.2.2.1.2.2.2.2.2.2.2.2.1
theorem JJ_6 (J : JJ S Z K) : ∀ j, Z 6 j < 41 := J.1.2.2.1.2.2.2.2.2.2.2.2.2
theorem JJ_e11 (J : JJ S Z K) : S 11 = Z 6 := J.1.1.2.2.2.2.2.1
theorem JJ_e12 (J : JJ S Z K) : S 12 = Z 7 := J.1.1.2.2.2.2.2.2.1
theorem JJ_e6 (J : JJ S Z K) : S 6 = Z 9 := J.1.1.2.2.2.1
theorem JJ_e7 (J : JJ S Z K) : S 7 = Z 0 := J.1.1.2.2.2.2.1
theorem JJ_e0 (J : JJ S Z K) : S 0 0 = Z 1 0 := J.1.1.1
theorem JJ_sum (J : JJ S Z K) {a : Nat} (ha : a < 3) : S 9 a + S 11 a ≤ Z 1 0 := by
  have h := J.1.2.2.2.1 a ha
  have := dF_hF (Z 4) (Z 5) a (Z 1 0)
  rw [JJ_e11 J, h.2.2.1, h.2.2.2]
  omega
theorem tm5_5 {f t : Nat} : tm5 Z f t 5 = Z 5 := by
  unfold tm5
  split
  · unfold tm4
    rw [sU_ne (by decide), sU_ne (by decide), sU_ne (by decide), shL_f (by decide) (by decide), sU_ne (by decide)]
  · unfold tm4
    rw [sU_ne (by decide), sU_ne (by decide), shL_f (by decide) (by decide), sU_ne (by decide)]
theorem JJ_h6 (J : JJ S Z K) {f t : Nat} (ht : t < 3) : Z 6 t + hF (tm5 Z f t 4) (tm5 Z f t 5) t (Z 1 0) ≤ 40 := by
  have h := J.1.2.2.2.1 t ht
  have h2 := dF_hF (tm5 Z f t 4) (Z 5) t (Z 1 0)
  have h3 := JJ_w J
  rw [tm5_5, h.2.2.2]
  omega
/-- one more has room where a message comes -/
theorem JJ_more (J : JJ S Z K) {f t : Nat} (hf : f < 3) (ht : t < 3) (hne : S 6 (3 * f + t) ≠ 0) (hv : 0 < S 4 (64 * (3 * f + t) + S 5 (3 * f + t))) : S 9 t + S 11 t < 40 := by
  have hV := J.1.2.2.2.2.2.1
  have hF0 := J.1.2.2.2.2.1
  have hQ := J.1.2.1
  have hw := JJ_w J
  rw [JJ_e6 J] at hne
  have hq := (hQ (3 * f + t) 0 (by omega) (by omega)).2
  rw [Nat.add_zero, Nat.mod_eq_of_lt (JJ_5 J _), Nat.add_zero] at hq
  rw [hq] at hv
  have hm := hV.2.1 f t 0 hf ht (by omega) (by rw [Nat.add_zero]; exact hv)
  rw [Nat.add_zero] at hm
  obtain ⟨m, em⟩ : ∃ m, m = Z 11 (60 * (3 * f + t)) - 1 := ⟨_, rfl⟩
  rw [← em] at hm
  have hop : opn (va_up (Z 4) (40 * t + m) 1) (Z 5) t m := by unfold opn; rw [va_same]; exact ⟨by decide, hF0.2 _ hm.2.2.1⟩
  have h1 := hF_less (hs' := Z 4) (dn' := Z 5) hop (fun z => z.1 hm.2.2.1) (Z 1 0) hm.1 (fun x hx hne => by unfold opn; rw [va_other (by omega)])
  have h2 := dF_hF (va_up (Z 4) (40 * t + m) 1) (Z 5) t (Z 1 0)
  have h3 := J.1.2.2.2.1 t ht
  rw [JJ_e11 J, h3.2.2.1, h3.2.2.2]
  omega
theorem st_write (J : JJ S Z K) (x : Int32) : JJ (wrS S x) (wmS Z x) (K + 1) ∧ wrR S x = wmR Z x := by
  have e0 := JJ_e0 J
  have hw := JJ_w J
  unfold wrS wmS wrR wmR
  by_cases c : wrO S x
  · have c' : wmO Z x := ⟨c.1, by have := c.2; omega⟩
    rw [if_pos c, if_pos c', if_pos c, if_pos c', e0]
    exact ⟨JJ_write J c.1 (by have := c.2; omega), rfl⟩
  · have c' : ¬ wmO Z x := fun z => c ⟨z.1, by have := z.2; omega⟩
    rw [if_neg c, if_neg c', if_neg c, if_neg c']
    exact ⟨JJ_mono J, rfl⟩
theorem st_tick (J : JJ S Z K) (x : Int32) : JJ (tkS S x) (tmS Z x) (K + 1) ∧ tkR S x = tmR Z x := by
  have e6 := JJ_e6 J
  have e7 := JJ_e7 J
  have hV := J.1.2.2.2.2.2.1.1
  have iff : tkX S x ↔ tmX Z x := by
    unfold tkX tmX fullM fl1
    rw [e6]
    constructor
    · intro z; omega
    · intro z
      have hs := hV (xm x) z.1
      refine ⟨z.1, ?_⟩
      rcases (show xm x = 0 ∨ xm x = 1 ∨ xm x = 2 by omega) with e | e | e
      · rw [e] at hs z ⊢; simp only [Nat.mul_zero, Nat.zero_add, Nat.add_zero] at hs z ⊢; omega
      · rw [e] at hs z ⊢; simp only [Nat.mul_one, Nat.add_zero] at hs z ⊢; omega
      · rw [e] at hs z ⊢; simp only [Nat.add_zero] at hs z ⊢; omega
  unfold tkS tmS tkR tmR
  by_cases c : tkX S x
  · rw [if_pos c, if_pos (iff.mp c), if_pos c, if_pos (iff.mp c), e7]
    refine ⟨JJ_tick J c.1 (fun o ho => ?_), rfl⟩
    rw [← e6]
    rcases (show o = 0 ∨ o = 1 ∨ o = 2 by omega) with e | e | e
    · subst e; exact c.2.1
    · subst e; exact c.2.2.1
    · subst e; exact c.2.2.2
  · rw [if_neg c, if_neg (fun z => c (iff.mpr z)), if_neg c, if_neg (fun z => c (iff.mpr z))]
    exact ⟨JJ_mono J, rfl⟩
theorem st_take (J : JJ S Z K) (x y : Int32) : JJ (takS S x y) (tamS Z x y) (K + 1) ∧ takR S x y = tamR Z x y := by
  have e6 := JJ_e6 J
  have iff : tkO S x y ↔ tmO Z x y := by unfold tkO tmO; rw [e6]
  unfold takS tamS takR tamR
  by_cases c : tkO S x y
  · have c' := iff.mp c
    rw [if_pos c, if_pos c', if_pos c, if_pos c']
    have q := JJ_take J c'.1 c'.2.1 c'.2.2.1 c'.2.2.2
    exact ⟨q.1, by rw [q.2]⟩
  · rw [if_neg c, if_neg (fun z => c (iff.mpr z)), if_neg c, if_neg (fun z => c (iff.mpr z))]
    exact ⟨JJ_mono J, rfl⟩
theorem st_held (J : JJ S Z K) (x : Int32) : aOne x (S 9) = aOne x (fun a => hF (Z 4) (Z 5) a (Z 1 0)) := by
  unfold aOne
  by_cases c : xm x < 3
  · rw [if_pos c, if_pos c, (J.1.2.2.2.1 _ c).2.2.1]
  · rw [if_neg c, if_neg c]
theorem aAgree_det {x y : Int32} {rc ro : Nat → Nat} {r r' : Int32} (h : aAgree x y rc ro r) (h' : aAgree x y rc ro r') : r = r' := by
  by_cases c : xm x < 3 ∧ xm y < 3
  · rcases h.1 c with z | z <;> rcases h'.1 c with z' | z'
    · rw [z.2, z'.2]
    · exact absurd z.1 z'.1
    · exact absurd z'.1 z.1
    · rw [z.2, z'.2]
  · rw [h.2 c, h'.2 c]
end ST
/-! two worlds side by side -/
section SBS
variable {D : va_G} {A : Nat → Prop} {w1 w2 w1' w2' : va_W} {H H1 : Heap} {cl : List vw_C}
theorem spl_P (hP : va_P D cl (w1 ++ w2) H) : va_P D cl w1 H ∧ va_P D cl w2 H := by
  constructor
  · intro k x hx
    have hl : k < w1.length := (List.getElem?_eq_some_iff.mp hx).1
    exact hP k x (by rw [List.getElem?_append_left hl]; exact hx)
  · intro k x hx
    exact hP (w1.length + k) x (by rw [List.getElem?_append_right (by omega), Nat.add_sub_cancel_left]; exact hx)
theorem spl_D (hD : va_D A (w1 ++ w2)) : va_D A w1 ∧ va_D A w2 ∧ ∀ (i j : Nat) (x y : Nat × va_E), w1[i]? = some x → w2[j]? = some y → x.1 ≠ y.1 := by
  have l1 : ∀ (k : Nat) (x : Nat × va_E), w1[k]? = some x → (w1 ++ w2)[k]? = some x := fun k x hx => by
    rw [List.getElem?_append_left (List.getElem?_eq_some_iff.mp hx).1]; exact hx
  have l2 : ∀ (k : Nat) (x : Nat × va_E), w2[k]? = some x → (w1 ++ w2)[w1.length + k]? = some x := fun k x hx => by
    rw [List.getElem?_append_right (by omega), Nat.add_sub_cancel_left]; exact hx
  refine ⟨⟨fun i j x y hx hy e => hD.1 i j x y (l1 i x hx) (l1 j y hy) e, fun k x hx => hD.2 k x (l1 k x hx)⟩, ⟨fun i j x y hx hy e => ?_, fun k x hx => hD.2 _ x (l2 k x hx)⟩, fun i j x y hx hy e => ?_⟩
  · have := hD.1 _ _ x y (l2 i x hx) (l2 j y hy) e
    omega
  · have := hD.1 _ _ x y (l1 i x hx) (l2 j y hy) e
    have := (List.getElem?_eq_some_iff.mp hx).1
    omega
theorem spl_L (hP : va_P D cl (w1 ++ w2) H) (hD : va_D A (w1 ++ w2)) (hk : ∀ q : Nat, q < H.size → ¬ va_A w1 H.size q → H1[q]? = H[q]?) (hF : ∀ q, va_A w1 H.size q → A q) (hP1 : va_P D cl w1' H1) (hD1 : va_D (va_A w1 H.size) w1') : va_P D cl (w1' ++ w2) H1 ∧ va_D A (w1' ++ w2) := by
  have hp := (spl_P hP).2
  obtain ⟨d1, d2, dx⟩ := spl_D hD
  have key : ∀ (j : Nat) (y : Nat × va_E), w2[j]? = some y → y.1 < H.size ∧ ¬ va_A w1 H.size y.1 := by
    intro j y hy
    have hl := (hp j y hy).lt
    refine ⟨hl, fun z => ?_⟩
    rcases z with ⟨k, e, z⟩ | z
    · exact dx k j (y.1, e) y z hy rfl
    · omega
  exact ⟨va_P.app hP1 (fun k x hx => (hp k x hx).kept (hk _ (key k x hx).1 (key k x hx).2)), va_D.app (hD1.weaken (fun k x _ z => hF _ z)) d2 (fun i j x y hx hy e => (key j y hy).2 (by rw [← e]; exact hD1.2 i x hx))⟩
theorem spl_R (hP : va_P D cl (w1 ++ w2) H) (hD : va_D A (w1 ++ w2)) (hk : ∀ q : Nat, q < H.size → ¬ va_A w2 H.size q → H1[q]? = H[q]?) (hF : ∀ q, va_A w2 H.size q → A q) (hP1 : va_P D cl w2' H1) (hD1 : va_D (va_A w2 H.size) w2') : va_P D cl (w1 ++ w2') H1 ∧ va_D A (w1 ++ w2') := by
  have hp := (spl_P hP).1
  obtain ⟨d1, d2, dx⟩ := spl_D hD
  have key : ∀ (j : Nat) (y : Nat × va_E), w1[j]? = some y → y.1 < H.size ∧ ¬ va_A w2 H.size y.1 := by
    intro j y hy
    have hl := (hp j y hy).lt
    refine ⟨hl, fun z => ?_⟩
    rcases z with ⟨k, e, z⟩ | z
    · exact dx j k y (y.1, e) hy z rfl
    · omega
  exact ⟨va_P.app (fun k x hx => (hp k x hx).kept (hk _ (key k x hx).1 (key k x hx).2)) hP1, va_D.app d1 (hD1.weaken (fun k x _ z => hF _ z)) (fun i j x y hx hy e => (key i x hx).2 (by rw [e]; exact hD1.2 j y hy))⟩
end SBS
end
section
set_option maxRecDepth 100000
/-! the law: its calls on the two worlds side by side; a case a method -/
def R_law : String := "OrderedRoomLaw"
section LAWR
variable {p : Program} {l : Launch} {e : Env} {R : Room} {s : State} {m : MethodId} {args : Array Value} {below : List Frame} {meth : Method} {c : Code} {H : Heap} {locs : List Loc} {cells slots : Nat} {Q : State → Prop}
variable {cc : ByteArray} {pc : Nat} {ls : Array Slot} {rest : List Value} {D : va_G} {A : Nat → Prop} {d b : ClassId} {own : String} {nL : Nat} {h : Nat}
theorem ls_ld {b0 L : Nat} {xs : Nat → Int32} (hx : p.tables.exec = Jvm.exec) (hb : c.code = cc) (hX : va_X b0 L xs s s.heap) (hbl : b0 < s.heap.size) (hS : va_S (fun q => s.heap.size ≤ q) s.heap H locs) {i : Nat} (hi : i < L) (hL : L ≤ 192) (hdg : decode cc pc = .ok (.iaload, 1))
    (kk : W p l e R s m args below meth c H locs cells slots Q (F0 m (pc + 1) ls (.int (xs i) :: rest))) : W p l e R s m args below meth c H locs cells slots Q (F0 m pc ls (.int (nI i) :: .ref b0 :: rest)) := by
  have ei : (nI i).toNatClampNeg = i := nI_clamp (by omega)
  refine va_sld hx hb hX hbl (by omega) hS (vp_in_nI hi (by omega)) hdg ?_
  rw [ei]
  exact kk
theorem oc_L {y : MethodName} {bytes : ByteArray} {maxL index n : Nat} {ret : Option FieldType} {rm : Room} {C1 : String} {w1 w2 w1' : va_W} {As st : List Value} {r0 : Int32} (C : Cx p s m args c cc own nL D d b A) (hG : Gd D A s.heap H locs (w1 ++ w2))
    (hM : cI l y bytes maxL ret rm (.ref h :: As) D d b H.size w1 w1' r0) (cw : CallW R s args own C1 index y bytes maxL ret (ws_ y bytes maxL ret) rm 0 0 n)
    (hrc : ∃ cell : Cell, H[h]? = some cell ∧ cell.vm.isStatics = false ∧ s.vm.findClass C1 = some cell.cls)
    (hn : As.length = n) (hsz : ls.size = nL) (hst : st = As.reverse ++ .ref h :: rest) (hro : (rest.map fun v => v.category).sum ≤ 8) (hdg : decode cc pc = .ok (.invokevirtual index, 3)) (hf : cells ≤ R.cells ∧ slots ≤ R.slots)
    (kk : ∀ (H1 : Heap) (locs1 : List Loc), Gd D A s.heap H1 locs1 (w1' ++ w2) → W p l e R s m args below meth c H1 locs1 cells slots Q (F0 m (pc + 3) ls (.int r0 :: rest))) : W p l e R s m args below meth c H locs cells slots Q (F0 m pc ls st) := by
  have hp := (spl_P hG.1).1
  have hd := (spl_D hG.2.1).1
  have hF : ∀ q : Nat, va_A w1 H.size q → A q := by
    intro q hq
    rcases hq with ⟨k, e, hk⟩ | hq
    · exact hd.2 k (q, e) hk
    · exact C.2.2 q (Nat.le_trans hG.2.2.1 hq)
  refine va_calli (va_runV C.1 hM cw ⟨fun a U g mk z => ⟨z.1, z.2.1, z.2.2.1, va_K.moved (u := U) (U := U.calling g mk a) (Vm.Alike.refl U.vm) z.2.2.2.1, z.2.2.2.2⟩, hrc, fun U hU hW => ⟨rfl, by rw [hU], by rw [hU]; exact hp, va_K.moved hW.alike C.2.1, hd.weaken (fun _ _ _ _ => trivial)⟩⟩ rfl hn hsz hst (lv_room hro) hdg hf) hG.2.2 (fun q _ z => hF q z) hF (fun r u t H1 locs1 ht hvm hp hB hz hk hS => ?_)
  have hp : r = r0 := hp
  subst hp
  have j := spl_L hG.1 hG.2.1 hk hF (by rw [← ht]; exact hB.1) hB.2.2
  exact kk H1 locs1 ⟨j.1, j.2, hS⟩
theorem oc_M {y : MethodName} {bytes : ByteArray} {maxL index n : Nat} {ret : Option FieldType} {rm : Room} {C1 : String} {w1 w2 w2' : va_W} {As st : List Value} {r0 : Int32} (C : Cx p s m args c cc own nL D d b A) (hG : Gd D A s.heap H locs (w1 ++ w2))
    (hM : cI l y bytes maxL ret rm (.ref h :: As) D d b H.size w2 w2' r0) (cw : CallW R s args own C1 index y bytes maxL ret (ws_ y bytes maxL ret) rm 0 0 n)
    (hrc : ∃ cell : Cell, H[h]? = some cell ∧ cell.vm.isStatics = false ∧ s.vm.findClass C1 = some cell.cls)
    (hn : As.length = n) (hsz : ls.size = nL) (hst : st = As.reverse ++ .ref h :: rest) (hro : (rest.map fun v => v.category).sum ≤ 8) (hdg : decode cc pc = .ok (.invokevirtual index, 3)) (hf : cells ≤ R.cells ∧ slots ≤ R.slots)
    (kk : ∀ (H1 : Heap) (locs1 : List Loc), Gd D A s.heap H1 locs1 (w1 ++ w2') → W p l e R s m args below meth c H1 locs1 cells slots Q (F0 m (pc + 3) ls (.int r0 :: rest))) : W p l e R s m args below meth c H locs cells slots Q (F0 m pc ls st) := by
  have hp := (spl_P hG.1).2
  have hd := (spl_D hG.2.1).2.1
  have hF : ∀ q : Nat, va_A w2 H.size q → A q := by
    intro q hq
    rcases hq with ⟨k, e, hk⟩ | hq
    · exact hd.2 k (q, e) hk
    · exact C.2.2 q (Nat.le_trans hG.2.2.1 hq)
  refine va_calli (va_runV C.1 hM cw ⟨fun a U g mk z => ⟨z.1, z.2.1, z.2.2.1, va_K.moved (u := U) (U := U.calling g mk a) (Vm.Alike.refl U.vm) z.2.2.2.1, z.2.2.2.2⟩, hrc, fun U hU hW => ⟨rfl, by rw [hU], by rw [hU]; exact hp, va_K.moved hW.alike C.2.1, hd.weaken (fun _ _ _ _ => trivial)⟩⟩ rfl hn hsz hst (lv_room hro) hdg hf) hG.2.2 (fun q _ z => hF q z) hF (fun r u t H1 locs1 ht hvm hp hB hz hk hS => ?_)
  have hp : r = r0 := hp
  subst hp
  have j := spl_R hG.1 hG.2.1 hk hF (by rw [← ht]; exact hB.1) hB.2.2
  exact kk H1 locs1 ⟨j.1, j.2, hS⟩
end LAWR
theorem clX_write {s : State} {args : Array Value} (ht : ∀ w ∈ lw_all, w.before args s = true) : CallW room_1 s args R_law RX0 13 yX0_write cX0_write 2 (some .int) (ws_ yX0_write cX0_write 2 (some .int)) (rmk 3 74) 0 0 1 := cwV 1 ht (lw_V q64 q65 q66 q13 q67) rfl rfl rfl (by decide +kernel) ⟨Nat.le_of_ble_eq_true rfl, Nat.le_of_ble_eq_true rfl⟩
theorem clX_tick {s : State} {args : Array Value} (ht : ∀ w ∈ lw_all, w.before args s = true) : CallW room_1 s args R_law RX0 18 yX0_tick cX0_tick 3 (some .int) (ws_ yX0_tick cX0_tick 3 (some .int)) (rmk 1 25) 0 0 1 := cwV 1 ht (lw_V q95 q96 q97 q13 q98) rfl rfl rfl (by decide +kernel) ⟨Nat.le_of_ble_eq_true rfl, Nat.le_of_ble_eq_true rfl⟩
theorem clX_take {s : State} {args : Array Value} (ht : ∀ w ∈ lw_all, w.before args s = true) : CallW room_1 s args R_law RX0 22 yX0_take cX0_take 6 (some .int) (ws_ yX0_take cX0_take 6 (some .int)) (rmk 3 74) 0 0 2 := cwV 2 ht (lw_V q99 q100 q101 q13 q102) rfl rfl rfl (by decide +kernel) ⟨Nat.le_of_ble_eq_true rfl, Nat.le_of_ble_eq_true rfl⟩
theorem clX_waiting {s : State} {args : Array Value} (ht : ∀ w ∈ lw_all, w.before args s = true) : CallW room_1 s args R_law RX0 27 yX0_waiting cX0_waiting 3 (some .int) (ws_ yX0_waiting cX0_waiting 3 (some .int)) (rmk 1 20) 0 0 2 := cwV 2 ht (lw_V q103 q104 q105 q13 q106) rfl rfl rfl (by decide +kernel) ⟨Nat.le_of_ble_eq_true rfl, Nat.le_of_ble_eq_true rfl⟩
theorem clX_clock {s : State} {args : Array Value} (ht : ∀ w ∈ lw_all, w.before args s = true) : CallW room_1 s args R_law RX0 31 yX0_clock cX0_clock 2 (some .int) (ws_ yX0_clock cX0_clock 2 (some .int)) (rmk 1 20) 0 0 1 := cwV 1 ht (lw_V q107 q108 q109 q13 q110) rfl rfl rfl (by decide +kernel) ⟨Nat.le_of_ble_eq_true rfl, Nat.le_of_ble_eq_true rfl⟩
theorem clX_count {s : State} {args : Array Value} (ht : ∀ w ∈ lw_all, w.before args s = true) : CallW room_1 s args R_law RX0 35 yX0_count cX0_count 2 (some .int) (ws_ yX0_count cX0_count 2 (some .int)) (rmk 1 20) 0 0 1 := cwV 1 ht (lw_V q111 q112 q113 q13 q114) rfl rfl rfl (by decide +kernel) ⟨Nat.le_of_ble_eq_true rfl, Nat.le_of_ble_eq_true rfl⟩
theorem clX_read {s : State} {args : Array Value} (ht : ∀ w ∈ lw_all, w.before args s = true) : CallW room_1 s args R_law RX0 39 yX0_read cX0_read 3 (some .int) (ws_ yX0_read cX0_read 3 (some .int)) (rmk 1 20) 0 0 2 := cwV 2 ht (lw_V q115 q116 q117 q13 q118) rfl rfl rfl (by decide +kernel) ⟨Nat.le_of_ble_eq_true rfl, Nat.le_of_ble_eq_true rfl⟩
theorem clX_held {s : State} {args : Array Value} (ht : ∀ w ∈ lw_all, w.before args s = true) : CallW room_1 s args R_law RX0 43 yX0_held cX0_held 2 (some .int) (ws_ yX0_held cX0_held 2 (some .int)) (rmk 1 20) 0 0 1 := cwV 1 ht (lw_V q119 q120 q121 q13 q122) rfl rfl rfl (by decide +kernel) ⟨Nat.le_of_ble_eq_true rfl, Nat.le_of_ble_eq_true rfl⟩
theorem clX_agree {s : State} {args : Array Value} (ht : ∀ w ∈ lw_all, w.before args s = true) : CallW room_1 s args R_law RX0 47 yX0_agree cX0_agree 4 (some .int) (ws_ yX0_agree cX0_agree 4 (some .int)) (rmk 1 20) 0 0 2 := cwV 2 ht (lw_V q123 q124 q125 q13 q126) rfl rfl rfl (by decide +kernel) ⟨Nat.le_of_ble_eq_true rfl, Nat.le_of_ble_eq_true rfl⟩
theorem clM_write {s : State} {args : Array Value} (ht : ∀ w ∈ lw_all, w.before args s = true) : CallW room_1 s args R_law RX1 17 yX1_write cX1_write 2 (some .int) (ws_ yX1_write cX1_write 2 (some .int)) (rmk 1 25) 0 0 1 := cwV 1 ht (lw_V q171 q172 q173 q14 q174) rfl rfl rfl (by decide +kernel) ⟨Nat.le_of_ble_eq_true rfl, Nat.le_of_ble_eq_true rfl⟩
theorem clM_tick {s : State} {args : Array Value} (ht : ∀ w ∈ lw_all, w.before args s = true) : CallW room_1 s args R_law RX1 21 yX1_tick cX1_tick 2 (some .int) (ws_ yX1_tick cX1_tick 2 (some .int)) (rmk 1 25) 0 0 1 := cwV 1 ht (lw_V q182 q183 q184 q14 q185) rfl rfl rfl (by decide +kernel) ⟨Nat.le_of_ble_eq_true rfl, Nat.le_of_ble_eq_true rfl⟩
theorem clM_take {s : State} {args : Array Value} (ht : ∀ w ∈ lw_all, w.before args s = true) : CallW room_1 s args R_law RX1 26 yX1_take cX1_take 7 (some .int) (ws_ yX1_take cX1_take 7 (some .int)) (rmk 3 71) 0 0 2 := cwV 2 ht (lw_V q190 q191 q192 q14 q193) rfl rfl rfl (by decide +kernel) ⟨Nat.le_of_ble_eq_true rfl, Nat.le_of_ble_eq_true rfl⟩
theorem clM_waiting {s : State} {args : Array Value} (ht : ∀ w ∈ lw_all, w.before args s = true) : CallW room_1 s args R_law RX1 30 yX1_waiting cX1_waiting 3 (some .int) (ws_ yX1_waiting cX1_waiting 3 (some .int)) (rmk 1 20) 0 0 2 := cwV 2 ht (lw_V q210 q211 q212 q14 q213) rfl rfl rfl (by decide +kernel) ⟨Nat.le_of_ble_eq_true rfl, Nat.le_of_ble_eq_true rfl⟩
theorem clM_clock {s : State} {args : Array Value} (ht : ∀ w ∈ lw_all, w.before args s = true) : CallW room_1 s args R_law RX1 34 yX1_clock cX1_clock 2 (some .int) (ws_ yX1_clock cX1_clock 2 (some .int)) (rmk 1 20) 0 0 1 := cwV 1 ht (lw_V q214 q215 q216 q14 q217) rfl rfl rfl (by decide +kernel) ⟨Nat.le_of_ble_eq_true rfl, Nat.le_of_ble_eq_true rfl⟩
theorem clM_count {s : State} {args : Array Value} (ht : ∀ w ∈ lw_all, w.before args s = true) : CallW room_1 s args R_law RX1 38 yX1_count cX1_count 2 (some .int) (ws_ yX1_count cX1_count 2 (some .int)) (rmk 1 20) 0 0 1 := cwV 1 ht (lw_V q218 q219 q220 q14 q221) rfl rfl rfl (by decide +kernel) ⟨Nat.le_of_ble_eq_true rfl, Nat.le_of_ble_eq_true rfl⟩
theorem clM_read {s : State} {args : Array Value} (ht : ∀ w ∈ lw_all, w.before args s = true) : CallW room_1 s args R_law RX1 42 yX1_read cX1_read 3 (some .int) (ws_ yX1_read cX1_read 3 (some .int)) (rmk 1 20) 0 0 2 := cwV 2 ht (lw_V q222 q223 q224 q14 q225) rfl rfl rfl (by decide +kernel) ⟨Nat.le_of_ble_eq_true rfl, Nat.le_of_ble_eq_true rfl⟩
theorem clM_held {s : State} {args : Array Value} (ht : ∀ w ∈ lw_all, w.before args s = true) : CallW room_1 s args R_law RX1 46 yX1_held cX1_held 4 (some .int) (ws_ yX1_held cX1_held 4 (some .int)) (rmk 1 20) 0 0 1 := cwV 1 ht (lw_V q226 q227 q228 q14 q229) rfl rfl rfl (by decide +kernel) ⟨Nat.le_of_ble_eq_true rfl, Nat.le_of_ble_eq_true rfl⟩
theorem clM_agree {s : State} {args : Array Value} (ht : ∀ w ∈ lw_all, w.before args s = true) : CallW room_1 s args R_law RX1 50 yX1_agree cX1_agree 4 (some .int) (ws_ yX1_agree cX1_agree 4 (some .int)) (rmk 1 20) 0 0 2 := cwV 2 ht (lw_V q230 q231 q232 q14 q233) rfl rfl rfl (by decide +kernel) ⟨Nat.le_of_ble_eq_true rfl, Nat.le_of_ble_eq_true rfl⟩
section LAWC
variable {p : Program} {l : Launch} {e : Env} {s : State} {m : MethodId} {args : Array Value} {below : List Frame} {meth : Method} {c : Code} {H : Heap} {locs : List Loc} {Q : State → Prop} {ls : Array Slot} {D : va_G} {d bb : ClassId} {b0 L hx1 hm1 K : Nat} {xs : Nat → Int32} {qx qm : Nat → Nat} {S Z : Nat → Nat → Nat}
set_option maxHeartbeats 4000000 in
theorem law_write (C : Cx p s m args c code R_law 4 D d bb (fun q => s.heap.size ≤ q)) (hX : va_X b0 L xs s s.heap) (hbl : b0 < s.heap.size) (hL : L ≤ 192) (hK : 3 * K + 3 ≤ L) (J : JJ S Z K) (hG : Gd D (fun q => s.heap.size ≤ q) s.heap H locs (wX d hx1 qx S ++ wM d bb hm1 qm Z)) (hl : lv_has ls 4 [(0, .ref (b0)), (1, .ref (hx1)), (2, .ref (hm1)), (3, .int (nI (3 * K)))]) (kk : ∀ (S1 Z1 : Nat → Nat → Nat) (H1 : Heap) (locs1 : List Loc), JJ S1 Z1 (K + 1) → Gd D (fun q => s.heap.size ≤ q) s.heap H1 locs1 (wX d hx1 qx S1 ++ wM d bb hm1 qm Z1) → W p l e room_1 s m args below meth c H1 locs1 25 3077 Q (F0 m 331 ls [])) : W p l e room_1 s m args below meth c H locs 25 3077 Q (F0 m 84 ls []) := by
  have hx := C.1.1
  have hb := C.1.2.1
  have hts := C.1.2.2.2.2
  have hK64 : K ≤ 64 := by omega
  refine lv_aload_n hx hb dL_law_84 rfl (lv_at hl 1 rfl) ?_
  refine lv_aload_n hx hb dL_law_85 rfl (lv_at hl 0 rfl) ?_
  refine lv_iload_n hx hb dL_law_86 rfl (lv_at hl 3 rfl) ?_
  refine lv_iconst (v := (nI (1))) hx hb dL_law_87 (by decide) ?_
  refine oi_add hx hb dL_law_88 ?_
  refine ls_ld hx hb hX hbl hG.2.2 (i := (3 * K) + 1) (by omega) hL dL_law_89 ?_
  refine oc_L (As := [.int (xs ((3 * K) + 1))]) (rest := []) C hG (cX_write l D d bb hx1 qx S _ (JJ_bS J hK64 _ (by decide)) (JJ_10 J) (fun z a ha => by have h1 := JJ_sum J ha; have h2 := JJ_e0 J; omega) (xs (3 * K + 1))) (clX_write hts) (rcX C (spl_P hG.1).1) rfl hl.1 rfl (Nat.le_of_ble_eq_true rfl) dL_law_90 ⟨Nat.le_of_ble_eq_true rfl, Nat.le_of_ble_eq_true rfl⟩ (fun H locs hG => ?_)
  refine lv_aload_n hx hb dL_law_93 rfl (lv_at hl 2 rfl) ?_
  refine lv_aload_n hx hb dL_law_94 rfl (lv_at hl 0 rfl) ?_
  refine lv_iload_n hx hb dL_law_95 rfl (lv_at hl 3 rfl) ?_
  refine lv_iconst (v := (nI (1))) hx hb dL_law_96 (by decide) ?_
  refine oi_add hx hb dL_law_97 ?_
  refine ls_ld hx hb hX hbl hG.2.2 (i := (3 * K) + 1) (by omega) hL dL_law_98 ?_
  refine oc_M (As := [.int (xs ((3 * K) + 1))]) (rest := [.int (wrR S (xs (3 * K + 1)))]) C hG (cM_write l D d bb hm1 qm Z _ (JJ_bZ J hK64 _ (by decide)) (JJ_w J) (fun z j => by have := JJ_9 J j; omega) (xs (3 * K + 1))) (clM_write hts) (rcM C (spl_P hG.1).2) rfl hl.1 rfl (Nat.le_of_ble_eq_true rfl) dL_law_99 ⟨Nat.le_of_ble_eq_true rfl, Nat.le_of_ble_eq_true rfl⟩ (fun H locs hG => ?_)
  have q := st_write J (xs (3 * K + 1))
  refine lv_icmp_eq (tgt := 331) hx hb dL_law_102 (by decide) (fun c1 => ?_) (fun c1 => False.elim (c1 (q.2)))
  exact kk _ _ H locs q.1 hG
set_option maxHeartbeats 4000000 in
theorem law_tick (C : Cx p s m args c code R_law 4 D d bb (fun q => s.heap.size ≤ q)) (hX : va_X b0 L xs s s.heap) (hbl : b0 < s.heap.size) (hL : L ≤ 192) (hK : 3 * K + 3 ≤ L) (J : JJ S Z K) (hG : Gd D (fun q => s.heap.size ≤ q) s.heap H locs (wX d hx1 qx S ++ wM d bb hm1 qm Z)) (hl : lv_has ls 4 [(0, .ref (b0)), (1, .ref (hx1)), (2, .ref (hm1)), (3, .int (nI (3 * K)))]) (kk : ∀ (S1 Z1 : Nat → Nat → Nat) (H1 : Heap) (locs1 : List Loc), JJ S1 Z1 (K + 1) → Gd D (fun q => s.heap.size ≤ q) s.heap H1 locs1 (wX d hx1 qx S1 ++ wM d bb hm1 qm Z1) → W p l e room_1 s m args below meth c H1 locs1 25 3077 Q (F0 m 331 ls [])) : W p l e room_1 s m args below meth c H locs 25 3077 Q (F0 m 107 ls []) := by
  have hx := C.1.1
  have hb := C.1.2.1
  have hts := C.1.2.2.2.2
  have hK64 : K ≤ 64 := by omega
  refine lv_aload_n hx hb dL_law_107 rfl (lv_at hl 1 rfl) ?_
  refine lv_aload_n hx hb dL_law_108 rfl (lv_at hl 0 rfl) ?_
  refine lv_iload_n hx hb dL_law_109 rfl (lv_at hl 3 rfl) ?_
  refine lv_iconst (v := (nI (1))) hx hb dL_law_110 (by decide) ?_
  refine oi_add hx hb dL_law_111 ?_
  refine ls_ld hx hb hX hbl hG.2.2 (i := (3 * K) + 1) (by omega) hL dL_law_112 ?_
  refine oc_L (As := [.int (xs ((3 * K) + 1))]) (rest := []) C hG (cX_tick l D d bb hx1 qx S _ (JJ_bS J hK64 _ (by decide)) (xs (3 * K + 1))) (clX_tick hts) (rcX C (spl_P hG.1).1) rfl hl.1 rfl (Nat.le_of_ble_eq_true rfl) dL_law_113 ⟨Nat.le_of_ble_eq_true rfl, Nat.le_of_ble_eq_true rfl⟩ (fun H locs hG => ?_)
  refine lv_aload_n hx hb dL_law_116 rfl (lv_at hl 2 rfl) ?_
  refine lv_aload_n hx hb dL_law_117 rfl (lv_at hl 0 rfl) ?_
  refine lv_iload_n hx hb dL_law_118 rfl (lv_at hl 3 rfl) ?_
  refine lv_iconst (v := (nI (1))) hx hb dL_law_119 (by decide) ?_
  refine oi_add hx hb dL_law_120 ?_
  refine ls_ld hx hb hX hbl hG.2.2 (i := (3 * K) + 1) (by omega) hL dL_law_121 ?_
  refine oc_M (As := [.int (xs ((3 * K) + 1))]) (rest := [.int (tkR S (xs (3 * K + 1)))]) C hG (cM_tick l D d bb hm1 qm Z _ (JJ_bZ J hK64 _ (by decide)) (xs (3 * K + 1))) (clM_tick hts) (rcM C (spl_P hG.1).2) rfl hl.1 rfl (Nat.le_of_ble_eq_true rfl) dL_law_122 ⟨Nat.le_of_ble_eq_true rfl, Nat.le_of_ble_eq_true rfl⟩ (fun H locs hG => ?_)
  have q := st_tick J (xs (3 * K + 1))
  refine lv_icmp_eq (tgt := 331) hx hb dL_law_125 (by decide) (fun c1 => ?_) (fun c1 => False.elim (c1 (q.2)))
  exact kk _ _ H locs q.1 hG
set_option maxHeartbeats 4000000 in
theorem law_take (C : Cx p s m args c code R_law 4 D d bb (fun q => s.heap.size ≤ q)) (hX : va_X b0 L xs s s.heap) (hbl : b0 < s.heap.size) (hL : L ≤ 192) (hK : 3 * K + 3 ≤ L) (J : JJ S Z K) (hG : Gd D (fun q => s.heap.size ≤ q) s.heap H locs (wX d hx1 qx S ++ wM d bb hm1 qm Z)) (hl : lv_has ls 4 [(0, .ref (b0)), (1, .ref (hx1)), (2, .ref (hm1)), (3, .int (nI (3 * K)))]) (kk : ∀ (S1 Z1 : Nat → Nat → Nat) (H1 : Heap) (locs1 : List Loc), JJ S1 Z1 (K + 1) → Gd D (fun q => s.heap.size ≤ q) s.heap H1 locs1 (wX d hx1 qx S1 ++ wM d bb hm1 qm Z1) → W p l e room_1 s m args below meth c H1 locs1 25 3077 Q (F0 m 331 ls [])) : W p l e room_1 s m args below meth c H locs 25 3077 Q (F0 m 130 ls []) := by
  have hx := C.1.1
  have hb := C.1.2.1
  have hts := C.1.2.2.2.2
  have hK64 : K ≤ 64 := by omega
  refine lv_aload_n hx hb dL_law_130 rfl (lv_at hl 1 rfl) ?_
  refine lv_aload_n hx hb dL_law_131 rfl (lv_at hl 0 rfl) ?_
  refine lv_iload_n hx hb dL_law_132 rfl (lv_at hl 3 rfl) ?_
  refine lv_iconst (v := (nI (1))) hx hb dL_law_133 (by decide) ?_
  refine oi_add hx hb dL_law_134 ?_
  refine ls_ld hx hb hX hbl hG.2.2 (i := (3 * K) + 1) (by omega) hL dL_law_135 ?_
  refine lv_aload_n hx hb dL_law_136 rfl (lv_at hl 0 rfl) ?_
  refine lv_iload_n hx hb dL_law_137 rfl (lv_at hl 3 rfl) ?_
  refine lv_iconst (v := (nI (2))) hx hb dL_law_138 (by decide) ?_
  refine oi_add hx hb dL_law_139 ?_
  refine ls_ld hx hb hX hbl hG.2.2 (i := (3 * K) + 2) (by omega) hL dL_law_140 ?_
  refine oc_L (As := [.int (xs ((3 * K) + 1)), .int (xs ((3 * K) + 2))]) (rest := []) C hG (cX_take l D d bb hx1 qx S _ (JJ_bS J hK64 _ (by decide)) (JJ_5 J) (fun j => by have := JJ_4 J j; omega) (JJ_10 J) (fun a ha => by have h1 := JJ_sum J ha; have h2 := JJ_w J; omega) (xs (3 * K + 1)) (xs (3 * K + 2)) (fun h1 h2 h3 h4 => JJ_more J h1 h2 h3 h4)) (clX_take hts) (rcX C (spl_P hG.1).1) rfl hl.1 rfl (Nat.le_of_ble_eq_true rfl) dL_law_141 ⟨Nat.le_of_ble_eq_true rfl, Nat.le_of_ble_eq_true rfl⟩ (fun H locs hG => ?_)
  refine lv_aload_n hx hb dL_law_144 rfl (lv_at hl 2 rfl) ?_
  refine lv_aload_n hx hb dL_law_145 rfl (lv_at hl 0 rfl) ?_
  refine lv_iload_n hx hb dL_law_146 rfl (lv_at hl 3 rfl) ?_
  refine lv_iconst (v := (nI (1))) hx hb dL_law_147 (by decide) ?_
  refine oi_add hx hb dL_law_148 ?_
  refine ls_ld hx hb hX hbl hG.2.2 (i := (3 * K) + 1) (by omega) hL dL_law_149 ?_
  refine lv_aload_n hx hb dL_law_150 rfl (lv_at hl 0 rfl) ?_
  refine lv_iload_n hx hb dL_law_151 rfl (lv_at hl 3 rfl) ?_
  refine lv_iconst (v := (nI (2))) hx hb dL_law_152 (by decide) ?_
  refine oi_add hx hb dL_law_153 ?_
  refine ls_ld hx hb hX hbl hG.2.2 (i := (3 * K) + 2) (by omega) hL dL_law_154 ?_
  refine oc_M (As := [.int (xs ((3 * K) + 1)), .int (xs ((3 * K) + 2))]) (rest := [.int (takR S (xs (3 * K + 1)) (xs (3 * K + 2)))]) C hG (cM_take l D d bb hm1 qm Z _ (JJ_bZ J hK64 _ (by decide)) (JJ_w J) (fun j => by have h1 := JJ_9 J j; have h2 := JJ_w J; omega) (fun j => by have := JJ_11 J j; omega) (xs (3 * K + 1)) (xs (3 * K + 2)) (fun _ h2 _ => JJ_h6 J h2)) (clM_take hts) (rcM C (spl_P hG.1).2) rfl hl.1 rfl (Nat.le_of_ble_eq_true rfl) dL_law_155 ⟨Nat.le_of_ble_eq_true rfl, Nat.le_of_ble_eq_true rfl⟩ (fun H locs hG => ?_)
  have q := st_take J (xs (3 * K + 1)) (xs (3 * K + 2))
  refine lv_icmp_eq (tgt := 331) hx hb dL_law_158 (by decide) (fun c1 => ?_) (fun c1 => False.elim (c1 (q.2)))
  exact kk _ _ H locs q.1 hG
set_option maxHeartbeats 4000000 in
theorem law_waiting (C : Cx p s m args c code R_law 4 D d bb (fun q => s.heap.size ≤ q)) (hX : va_X b0 L xs s s.heap) (hbl : b0 < s.heap.size) (hL : L ≤ 192) (hK : 3 * K + 3 ≤ L) (J : JJ S Z K) (hG : Gd D (fun q => s.heap.size ≤ q) s.heap H locs (wX d hx1 qx S ++ wM d bb hm1 qm Z)) (hl : lv_has ls 4 [(0, .ref (b0)), (1, .ref (hx1)), (2, .ref (hm1)), (3, .int (nI (3 * K)))]) (kk : ∀ (S1 Z1 : Nat → Nat → Nat) (H1 : Heap) (locs1 : List Loc), JJ S1 Z1 (K + 1) → Gd D (fun q => s.heap.size ≤ q) s.heap H1 locs1 (wX d hx1 qx S1 ++ wM d bb hm1 qm Z1) → W p l e room_1 s m args below meth c H1 locs1 25 3077 Q (F0 m 331 ls [])) : W p l e room_1 s m args below meth c H locs 25 3077 Q (F0 m 163 ls []) := by
  have hx := C.1.1
  have hb := C.1.2.1
  have hts := C.1.2.2.2.2
  have hK64 : K ≤ 64 := by omega
  refine lv_aload_n hx hb dL_law_163 rfl (lv_at hl 1 rfl) ?_
  refine lv_aload_n hx hb dL_law_164 rfl (lv_at hl 0 rfl) ?_
  refine lv_iload_n hx hb dL_law_165 rfl (lv_at hl 3 rfl) ?_
  refine lv_iconst (v := (nI (1))) hx hb dL_law_166 (by decide) ?_
  refine oi_add hx hb dL_law_167 ?_
  refine ls_ld hx hb hX hbl hG.2.2 (i := (3 * K) + 1) (by omega) hL dL_law_168 ?_
  refine lv_aload_n hx hb dL_law_169 rfl (lv_at hl 0 rfl) ?_
  refine lv_iload_n hx hb dL_law_170 rfl (lv_at hl 3 rfl) ?_
  refine lv_iconst (v := (nI (2))) hx hb dL_law_171 (by decide) ?_
  refine oi_add hx hb dL_law_172 ?_
  refine ls_ld hx hb hX hbl hG.2.2 (i := (3 * K) + 2) (by omega) hL dL_law_173 ?_
  refine oc_R (As := [.int (xs ((3 * K) + 1)), .int (xs ((3 * K) + 2))]) (rest := []) C (spl_P hG.1).1 (cX_waiting l D d bb hx1 qx S (xs (3 * K + 1)) (xs (3 * K + 2))) (clX_waiting hts) (rcX C (spl_P hG.1).1) rfl hl.1 rfl (Nat.le_of_ble_eq_true rfl) dL_law_174 ⟨Nat.le_of_ble_eq_true rfl, Nat.le_of_ble_eq_true rfl⟩ (fun r1 hr1 => ?_)
  refine lv_aload_n hx hb dL_law_177 rfl (lv_at hl 2 rfl) ?_
  refine lv_aload_n hx hb dL_law_178 rfl (lv_at hl 0 rfl) ?_
  refine lv_iload_n hx hb dL_law_179 rfl (lv_at hl 3 rfl) ?_
  refine lv_iconst (v := (nI (1))) hx hb dL_law_180 (by decide) ?_
  refine oi_add hx hb dL_law_181 ?_
  refine ls_ld hx hb hX hbl hG.2.2 (i := (3 * K) + 1) (by omega) hL dL_law_182 ?_
  refine lv_aload_n hx hb dL_law_183 rfl (lv_at hl 0 rfl) ?_
  refine lv_iload_n hx hb dL_law_184 rfl (lv_at hl 3 rfl) ?_
  refine lv_iconst (v := (nI (2))) hx hb dL_law_185 (by decide) ?_
  refine oi_add hx hb dL_law_186 ?_
  refine ls_ld hx hb hX hbl hG.2.2 (i := (3 * K) + 2) (by omega) hL dL_law_187 ?_
  refine oc_R (As := [.int (xs ((3 * K) + 1)), .int (xs ((3 * K) + 2))]) (rest := [.int (r1)]) C (spl_P hG.1).2 (cM_waiting l D d bb hm1 qm Z (xs (3 * K + 1)) (xs (3 * K + 2))) (clM_waiting hts) (rcM C (spl_P hG.1).2) rfl hl.1 rfl (Nat.le_of_ble_eq_true rfl) dL_law_188 ⟨Nat.le_of_ble_eq_true rfl, Nat.le_of_ble_eq_true rfl⟩ (fun r2 hr2 => ?_)
  have q : r1 = r2 := hr1.trans (by rw [hr2, JJ_e6 J])
  refine lv_icmp_eq (tgt := 331) hx hb dL_law_191 (by decide) (fun c1 => ?_) (fun c1 => False.elim (c1 (q)))
  exact kk _ _ H locs (JJ_mono J) hG
set_option maxHeartbeats 4000000 in
theorem law_clock (C : Cx p s m args c code R_law 4 D d bb (fun q => s.heap.size ≤ q)) (hX : va_X b0 L xs s s.heap) (hbl : b0 < s.heap.size) (hL : L ≤ 192) (hK : 3 * K + 3 ≤ L) (J : JJ S Z K) (hG : Gd D (fun q => s.heap.size ≤ q) s.heap H locs (wX d hx1 qx S ++ wM d bb hm1 qm Z)) (hl : lv_has ls 4 [(0, .ref (b0)), (1, .ref (hx1)), (2, .ref (hm1)), (3, .int (nI (3 * K)))]) (kk : ∀ (S1 Z1 : Nat → Nat → Nat) (H1 : Heap) (locs1 : List Loc), JJ S1 Z1 (K + 1) → Gd D (fun q => s.heap.size ≤ q) s.heap H1 locs1 (wX d hx1 qx S1 ++ wM d bb hm1 qm Z1) → W p l e room_1 s m args below meth c H1 locs1 25 3077 Q (F0 m 331 ls [])) : W p l e room_1 s m args below meth c H locs 25 3077 Q (F0 m 196 ls []) := by
  have hx := C.1.1
  have hb := C.1.2.1
  have hts := C.1.2.2.2.2
  have hK64 : K ≤ 64 := by omega
  refine lv_aload_n hx hb dL_law_196 rfl (lv_at hl 1 rfl) ?_
  refine lv_aload_n hx hb dL_law_197 rfl (lv_at hl 0 rfl) ?_
  refine lv_iload_n hx hb dL_law_198 rfl (lv_at hl 3 rfl) ?_
  refine lv_iconst (v := (nI (1))) hx hb dL_law_199 (by decide) ?_
  refine oi_add hx hb dL_law_200 ?_
  refine ls_ld hx hb hX hbl hG.2.2 (i := (3 * K) + 1) (by omega) hL dL_law_201 ?_
  refine oc_R (As := [.int (xs ((3 * K) + 1))]) (rest := []) C (spl_P hG.1).1 (cX_clock l D d bb hx1 qx S (xs (3 * K + 1))) (clX_clock hts) (rcX C (spl_P hG.1).1) rfl hl.1 rfl (Nat.le_of_ble_eq_true rfl) dL_law_202 ⟨Nat.le_of_ble_eq_true rfl, Nat.le_of_ble_eq_true rfl⟩ (fun r1 hr1 => ?_)
  refine lv_aload_n hx hb dL_law_205 rfl (lv_at hl 2 rfl) ?_
  refine lv_aload_n hx hb dL_law_206 rfl (lv_at hl 0 rfl) ?_
  refine lv_iload_n hx hb dL_law_207 rfl (lv_at hl 3 rfl) ?_
  refine lv_iconst (v := (nI (1))) hx hb dL_law_208 (by decide) ?_
  refine oi_add hx hb dL_law_209 ?_
  refine ls_ld hx hb hX hbl hG.2.2 (i := (3 * K) + 1) (by omega) hL dL_law_210 ?_
  refine oc_R (As := [.int (xs ((3 * K) + 1))]) (rest := [.int (r1)]) C (spl_P hG.1).2 (cM_clock l D d bb hm1 qm Z (xs (3 * K + 1))) (clM_clock hts) (rcM C (spl_P hG.1).2) rfl hl.1 rfl (Nat.le_of_ble_eq_true rfl) dL_law_211 ⟨Nat.le_of_ble_eq_true rfl, Nat.le_of_ble_eq_true rfl⟩ (fun r2 hr2 => ?_)
  have q : r1 = r2 := hr1.trans (by rw [hr2, JJ_e7 J])
  refine lv_icmp_eq (tgt := 331) hx hb dL_law_214 (by decide) (fun c1 => ?_) (fun c1 => False.elim (c1 (q)))
  exact kk _ _ H locs (JJ_mono J) hG
set_option maxHeartbeats 4000000 in
theorem law_count (C : Cx p s m args c code R_law 4 D d bb (fun q => s.heap.size ≤ q)) (hX : va_X b0 L xs s s.heap) (hbl : b0 < s.heap.size) (hL : L ≤ 192) (hK : 3 * K + 3 ≤ L) (J : JJ S Z K) (hG : Gd D (fun q => s.heap.size ≤ q) s.heap H locs (wX d hx1 qx S ++ wM d bb hm1 qm Z)) (hl : lv_has ls 4 [(0, .ref (b0)), (1, .ref (hx1)), (2, .ref (hm1)), (3, .int (nI (3 * K)))]) (kk : ∀ (S1 Z1 : Nat → Nat → Nat) (H1 : Heap) (locs1 : List Loc), JJ S1 Z1 (K + 1) → Gd D (fun q => s.heap.size ≤ q) s.heap H1 locs1 (wX d hx1 qx S1 ++ wM d bb hm1 qm Z1) → W p l e room_1 s m args below meth c H1 locs1 25 3077 Q (F0 m 331 ls [])) : W p l e room_1 s m args below meth c H locs 25 3077 Q (F0 m 219 ls []) := by
  have hx := C.1.1
  have hb := C.1.2.1
  have hts := C.1.2.2.2.2
  have hK64 : K ≤ 64 := by omega
  refine lv_aload_n hx hb dL_law_219 rfl (lv_at hl 1 rfl) ?_
  refine lv_aload_n hx hb dL_law_220 rfl (lv_at hl 0 rfl) ?_
  refine lv_iload_n hx hb dL_law_221 rfl (lv_at hl 3 rfl) ?_
  refine lv_iconst (v := (nI (1))) hx hb dL_law_222 (by decide) ?_
  refine oi_add hx hb dL_law_223 ?_
  refine ls_ld hx hb hX hbl hG.2.2 (i := (3 * K) + 1) (by omega) hL dL_law_224 ?_
  refine oc_R (As := [.int (xs ((3 * K) + 1))]) (rest := []) C (spl_P hG.1).1 (cX_count l D d bb hx1 qx S (xs (3 * K + 1))) (clX_count hts) (rcX C (spl_P hG.1).1) rfl hl.1 rfl (Nat.le_of_ble_eq_true rfl) dL_law_225 ⟨Nat.le_of_ble_eq_true rfl, Nat.le_of_ble_eq_true rfl⟩ (fun r1 hr1 => ?_)
  refine lv_aload_n hx hb dL_law_228 rfl (lv_at hl 2 rfl) ?_
  refine lv_aload_n hx hb dL_law_229 rfl (lv_at hl 0 rfl) ?_
  refine lv_iload_n hx hb dL_law_230 rfl (lv_at hl 3 rfl) ?_
  refine lv_iconst (v := (nI (1))) hx hb dL_law_231 (by decide) ?_
  refine oi_add hx hb dL_law_232 ?_
  refine ls_ld hx hb hX hbl hG.2.2 (i := (3 * K) + 1) (by omega) hL dL_law_233 ?_
  refine oc_R (As := [.int (xs ((3 * K) + 1))]) (rest := [.int (r1)]) C (spl_P hG.1).2 (cM_count l D d bb hm1 qm Z (xs (3 * K + 1))) (clM_count hts) (rcM C (spl_P hG.1).2) rfl hl.1 rfl (Nat.le_of_ble_eq_true rfl) dL_law_234 ⟨Nat.le_of_ble_eq_true rfl, Nat.le_of_ble_eq_true rfl⟩ (fun r2 hr2 => ?_)
  have q : r1 = r2 := hr1.trans (by rw [hr2, JJ_e11 J])
  refine lv_icmp_eq (tgt := 331) hx hb dL_law_237 (by decide) (fun c1 => ?_) (fun c1 => False.elim (c1 (q)))
  exact kk _ _ H locs (JJ_mono J) hG
set_option maxHeartbeats 4000000 in
theorem law_read (C : Cx p s m args c code R_law 4 D d bb (fun q => s.heap.size ≤ q)) (hX : va_X b0 L xs s s.heap) (hbl : b0 < s.heap.size) (hL : L ≤ 192) (hK : 3 * K + 3 ≤ L) (J : JJ S Z K) (hG : Gd D (fun q => s.heap.size ≤ q) s.heap H locs (wX d hx1 qx S ++ wM d bb hm1 qm Z)) (hl : lv_has ls 4 [(0, .ref (b0)), (1, .ref (hx1)), (2, .ref (hm1)), (3, .int (nI (3 * K)))]) (kk : ∀ (S1 Z1 : Nat → Nat → Nat) (H1 : Heap) (locs1 : List Loc), JJ S1 Z1 (K + 1) → Gd D (fun q => s.heap.size ≤ q) s.heap H1 locs1 (wX d hx1 qx S1 ++ wM d bb hm1 qm Z1) → W p l e room_1 s m args below meth c H1 locs1 25 3077 Q (F0 m 331 ls [])) : W p l e room_1 s m args below meth c H locs 25 3077 Q (F0 m 242 ls []) := by
  have hx := C.1.1
  have hb := C.1.2.1
  have hts := C.1.2.2.2.2
  have hK64 : K ≤ 64 := by omega
  refine lv_aload_n hx hb dL_law_242 rfl (lv_at hl 1 rfl) ?_
  refine lv_aload_n hx hb dL_law_243 rfl (lv_at hl 0 rfl) ?_
  refine lv_iload_n hx hb dL_law_244 rfl (lv_at hl 3 rfl) ?_
  refine lv_iconst (v := (nI (1))) hx hb dL_law_245 (by decide) ?_
  refine oi_add hx hb dL_law_246 ?_
  refine ls_ld hx hb hX hbl hG.2.2 (i := (3 * K) + 1) (by omega) hL dL_law_247 ?_
  refine lv_aload_n hx hb dL_law_248 rfl (lv_at hl 0 rfl) ?_
  refine lv_iload_n hx hb dL_law_249 rfl (lv_at hl 3 rfl) ?_
  refine lv_iconst (v := (nI (2))) hx hb dL_law_250 (by decide) ?_
  refine oi_add hx hb dL_law_251 ?_
  refine ls_ld hx hb hX hbl hG.2.2 (i := (3 * K) + 2) (by omega) hL dL_law_252 ?_
  refine oc_R (As := [.int (xs ((3 * K) + 1)), .int (xs ((3 * K) + 2))]) (rest := []) C (spl_P hG.1).1 (cX_read l D d bb hx1 qx S (fun j => by have := JJ_6 J j; rw [JJ_e11 J]; omega) (xs (3 * K + 1)) (xs (3 * K + 2))) (clX_read hts) (rcX C (spl_P hG.1).1) rfl hl.1 rfl (Nat.le_of_ble_eq_true rfl) dL_law_253 ⟨Nat.le_of_ble_eq_true rfl, Nat.le_of_ble_eq_true rfl⟩ (fun r1 hr1 => ?_)
  refine lv_aload_n hx hb dL_law_256 rfl (lv_at hl 2 rfl) ?_
  refine lv_aload_n hx hb dL_law_257 rfl (lv_at hl 0 rfl) ?_
  refine lv_iload_n hx hb dL_law_258 rfl (lv_at hl 3 rfl) ?_
  refine lv_iconst (v := (nI (1))) hx hb dL_law_259 (by decide) ?_
  refine oi_add hx hb dL_law_260 ?_
  refine ls_ld hx hb hX hbl hG.2.2 (i := (3 * K) + 1) (by omega) hL dL_law_261 ?_
  refine lv_aload_n hx hb dL_law_262 rfl (lv_at hl 0 rfl) ?_
  refine lv_iload_n hx hb dL_law_263 rfl (lv_at hl 3 rfl) ?_
  refine lv_iconst (v := (nI (2))) hx hb dL_law_264 (by decide) ?_
  refine oi_add hx hb dL_law_265 ?_
  refine ls_ld hx hb hX hbl hG.2.2 (i := (3 * K) + 2) (by omega) hL dL_law_266 ?_
  refine oc_R (As := [.int (xs ((3 * K) + 1)), .int (xs ((3 * K) + 2))]) (rest := [.int (r1)]) C (spl_P hG.1).2 (cM_read l D d bb hm1 qm Z (fun j => by have := JJ_6 J j; omega) (xs (3 * K + 1)) (xs (3 * K + 2))) (clM_read hts) (rcM C (spl_P hG.1).2) rfl hl.1 rfl (Nat.le_of_ble_eq_true rfl) dL_law_267 ⟨Nat.le_of_ble_eq_true rfl, Nat.le_of_ble_eq_true rfl⟩ (fun r2 hr2 => ?_)
  have q : r1 = r2 := hr1.trans (by rw [hr2, JJ_e11 J, JJ_e12 J])
  refine lv_icmp_eq (tgt := 331) hx hb dL_law_270 (by decide) (fun c1 => ?_) (fun c1 => False.elim (c1 (q)))
  exact kk _ _ H locs (JJ_mono J) hG
set_option maxHeartbeats 4000000 in
theorem law_held (C : Cx p s m args c code R_law 4 D d bb (fun q => s.heap.size ≤ q)) (hX : va_X b0 L xs s s.heap) (hbl : b0 < s.heap.size) (hL : L ≤ 192) (hK : 3 * K + 3 ≤ L) (J : JJ S Z K) (hG : Gd D (fun q => s.heap.size ≤ q) s.heap H locs (wX d hx1 qx S ++ wM d bb hm1 qm Z)) (hl : lv_has ls 4 [(0, .ref (b0)), (1, .ref (hx1)), (2, .ref (hm1)), (3, .int (nI (3 * K)))]) (kk : ∀ (S1 Z1 : Nat → Nat → Nat) (H1 : Heap) (locs1 : List Loc), JJ S1 Z1 (K + 1) → Gd D (fun q => s.heap.size ≤ q) s.heap H1 locs1 (wX d hx1 qx S1 ++ wM d bb hm1 qm Z1) → W p l e room_1 s m args below meth c H1 locs1 25 3077 Q (F0 m 331 ls [])) : W p l e room_1 s m args below meth c H locs 25 3077 Q (F0 m 275 ls []) := by
  have hx := C.1.1
  have hb := C.1.2.1
  have hts := C.1.2.2.2.2
  have hK64 : K ≤ 64 := by omega
  refine lv_aload_n hx hb dL_law_275 rfl (lv_at hl 1 rfl) ?_
  refine lv_aload_n hx hb dL_law_276 rfl (lv_at hl 0 rfl) ?_
  refine lv_iload_n hx hb dL_law_277 rfl (lv_at hl 3 rfl) ?_
  refine lv_iconst (v := (nI (1))) hx hb dL_law_278 (by decide) ?_
  refine oi_add hx hb dL_law_279 ?_
  refine ls_ld hx hb hX hbl hG.2.2 (i := (3 * K) + 1) (by omega) hL dL_law_280 ?_
  refine oc_R (As := [.int (xs ((3 * K) + 1))]) (rest := []) C (spl_P hG.1).1 (cX_held l D d bb hx1 qx S (xs (3 * K + 1))) (clX_held hts) (rcX C (spl_P hG.1).1) rfl hl.1 rfl (Nat.le_of_ble_eq_true rfl) dL_law_281 ⟨Nat.le_of_ble_eq_true rfl, Nat.le_of_ble_eq_true rfl⟩ (fun r1 hr1 => ?_)
  refine lv_aload_n hx hb dL_law_284 rfl (lv_at hl 2 rfl) ?_
  refine lv_aload_n hx hb dL_law_285 rfl (lv_at hl 0 rfl) ?_
  refine lv_iload_n hx hb dL_law_286 rfl (lv_at hl 3 rfl) ?_
  refine lv_iconst (v := (nI (1))) hx hb dL_law_287 (by decide) ?_
  refine oi_add hx hb dL_law_288 ?_
  refine ls_ld hx hb hX hbl hG.2.2 (i := (3 * K) + 1) (by omega) hL dL_law_289 ?_
  refine oc_R (As := [.int (xs ((3 * K) + 1))]) (rest := [.int (r1)]) C (spl_P hG.1).2 (cM_held l D d bb hm1 qm Z (JJ_bZ J hK64 _ (by decide)) (JJ_w J) (xs (3 * K + 1))) (clM_held hts) (rcM C (spl_P hG.1).2) rfl hl.1 rfl (Nat.le_of_ble_eq_true rfl) dL_law_290 ⟨Nat.le_of_ble_eq_true rfl, Nat.le_of_ble_eq_true rfl⟩ (fun r2 hr2 => ?_)
  have q : r1 = r2 := hr1.trans ((st_held J _).trans hr2.symm)
  refine lv_icmp_eq (tgt := 331) hx hb dL_law_293 (by decide) (fun c1 => ?_) (fun c1 => False.elim (c1 (q)))
  exact kk _ _ H locs (JJ_mono J) hG
set_option maxHeartbeats 4000000 in
theorem law_agree (C : Cx p s m args c code R_law 4 D d bb (fun q => s.heap.size ≤ q)) (hX : va_X b0 L xs s s.heap) (hbl : b0 < s.heap.size) (hL : L ≤ 192) (hK : 3 * K + 3 ≤ L) (J : JJ S Z K) (hG : Gd D (fun q => s.heap.size ≤ q) s.heap H locs (wX d hx1 qx S ++ wM d bb hm1 qm Z)) (hl : lv_has ls 4 [(0, .ref (b0)), (1, .ref (hx1)), (2, .ref (hm1)), (3, .int (nI (3 * K)))]) (kk : ∀ (S1 Z1 : Nat → Nat → Nat) (H1 : Heap) (locs1 : List Loc), JJ S1 Z1 (K + 1) → Gd D (fun q => s.heap.size ≤ q) s.heap H1 locs1 (wX d hx1 qx S1 ++ wM d bb hm1 qm Z1) → W p l e room_1 s m args below meth c H1 locs1 25 3077 Q (F0 m 331 ls [])) : W p l e room_1 s m args below meth c H locs 25 3077 Q (F0 m 298 ls []) := by
  have hx := C.1.1
  have hb := C.1.2.1
  have hts := C.1.2.2.2.2
  have hK64 : K ≤ 64 := by omega
  refine lv_aload_n hx hb dL_law_298 rfl (lv_at hl 1 rfl) ?_
  refine lv_aload_n hx hb dL_law_299 rfl (lv_at hl 0 rfl) ?_
  refine lv_iload_n hx hb dL_law_300 rfl (lv_at hl 3 rfl) ?_
  refine lv_iconst (v := (nI (1))) hx hb dL_law_301 (by decide) ?_
  refine oi_add hx hb dL_law_302 ?_
  refine ls_ld hx hb hX hbl hG.2.2 (i := (3 * K) + 1) (by omega) hL dL_law_303 ?_
  refine lv_aload_n hx hb dL_law_304 rfl (lv_at hl 0 rfl) ?_
  refine lv_iload_n hx hb dL_law_305 rfl (lv_at hl 3 rfl) ?_
  refine lv_iconst (v := (nI (2))) hx hb dL_law_306 (by decide) ?_
  refine oi_add hx hb dL_law_307 ?_
  refine ls_ld hx hb hX hbl hG.2.2 (i := (3 * K) + 2) (by omega) hL dL_law_308 ?_
  refine oc_R (As := [.int (xs ((3 * K) + 1)), .int (xs ((3 * K) + 2))]) (rest := []) C (spl_P hG.1).1 (cX_agree l D d bb hx1 qx S (fun j => by have := JJ_6 J j; rw [JJ_e11 J]; omega) (JJ_bS J hK64 _ (by decide) 12) (xs (3 * K + 1)) (xs (3 * K + 2))) (clX_agree hts) (rcX C (spl_P hG.1).1) rfl hl.1 rfl (Nat.le_of_ble_eq_true rfl) dL_law_309 ⟨Nat.le_of_ble_eq_true rfl, Nat.le_of_ble_eq_true rfl⟩ (fun r1 hr1 => ?_)
  refine lv_aload_n hx hb dL_law_312 rfl (lv_at hl 2 rfl) ?_
  refine lv_aload_n hx hb dL_law_313 rfl (lv_at hl 0 rfl) ?_
  refine lv_iload_n hx hb dL_law_314 rfl (lv_at hl 3 rfl) ?_
  refine lv_iconst (v := (nI (1))) hx hb dL_law_315 (by decide) ?_
  refine oi_add hx hb dL_law_316 ?_
  refine ls_ld hx hb hX hbl hG.2.2 (i := (3 * K) + 1) (by omega) hL dL_law_317 ?_
  refine lv_aload_n hx hb dL_law_318 rfl (lv_at hl 0 rfl) ?_
  refine lv_iload_n hx hb dL_law_319 rfl (lv_at hl 3 rfl) ?_
  refine lv_iconst (v := (nI (2))) hx hb dL_law_320 (by decide) ?_
  refine oi_add hx hb dL_law_321 ?_
  refine ls_ld hx hb hX hbl hG.2.2 (i := (3 * K) + 2) (by omega) hL dL_law_322 ?_
  refine oc_R (As := [.int (xs ((3 * K) + 1)), .int (xs ((3 * K) + 2))]) (rest := [.int (r1)]) C (spl_P hG.1).2 (cM_agree l D d bb hm1 qm Z (fun j => by have := JJ_6 J j; omega) (JJ_bZ J hK64 _ (by decide) 7) (xs (3 * K + 1)) (xs (3 * K + 2))) (clM_agree hts) (rcM C (spl_P hG.1).2) rfl hl.1 rfl (Nat.le_of_ble_eq_true rfl) dL_law_323 ⟨Nat.le_of_ble_eq_true rfl, Nat.le_of_ble_eq_true rfl⟩ (fun r2 hr2 => ?_)
  have q : r1 = r2 := aAgree_det (by rw [JJ_e11 J, JJ_e12 J] at hr1; exact hr1) hr2
  refine lv_icmp_eq (tgt := 331) hx hb dL_law_326 (by decide) (fun c1 => ?_) (fun c1 => False.elim (c1 (q)))
  exact kk _ _ H locs (JJ_mono J) hG
end LAWC
end
section
set_option maxRecDepth 100000
/-! THE CLAIM OUT OF ONE WALK OF THE LAW'S BODY. Your part is whole_start (and what it stands on); all else here is the same for every law, but numbers. -/
def lw_P (b : Addr) (xs : List Int32) (args : Array Value) (s : State) : Prop := args = #[.ref b] ∧ s.IntsAt b xs ∧ xs.length ≤ 192 ∧ (Jvm.Cond.and given_1 narrow_1).before args s = true
def lw_Q (_ : Array Value) (s : State) (o : Outcome) (t : State) : Prop := o = .returned (some (.int 1)) ∧ Framed s o t [] 600000 7290000
def lw_Z (below : List Frame) (a : Array Value) (s : State) : State → Prop := fun t => ∃ o, t.status = .running ∧ Ended t below o ∧ lw_Q a s o t
/-- the law's own end, with 1 on the stack, nothing written that was there before, its room as the claim has it -/
theorem lw_ret {p : Program} {l : Launch} {e : Env} {s : State} {m : MethodId} {below : List Frame} {meth : Method} {c : Code} {b : Nat} (hx : p.tables.exec = Jvm.exec) (hb : c.code = code) (hr : meth.sig.returnType = ret) (hlocks : meth.locks = false) {pc : Nat} {H : Heap} {ls : Array Slot} (hdg : decode code pc = .ok (.ireturn, 1)) : W p l e room_1 s m #[Value.ref b] below meth c H [] 600000 7290000 (lw_Z below #[Value.ref b] s) (F0 m pc ls [.int 1]) := by
  intro T hT X
  obtain ⟨fs, hret, hrun, hended, hW, hframe⟩ := X.leave (v := some (.int 1)) (hlocks := hlocks) (fun h => by rw [hr] at h; cases h)
  have hmeth' : T.vm.method? m = some meth := X.method'
  refine ⟨T.setFrames fs, ?_, .returned (some (.int 1)), hrun, hended, rfl, ⟨_, rfl⟩, hW, hframe⟩
  jvm_step X.here [X.here.top, hx, hb, hdg, hmeth', hr, ret, narrow_b1]
  (try refine ⟨rfl, ?_⟩); (try refine ⟨rfl, ?_⟩)
  first | (intro acts; rw [hret _ acts rfl rfl rfl]) | rw [hret _ _ rfl rfl rfl]
  exact Steps.refl _
/-- what holds at the law's entry: the machine, the code, the tables' words (any of lw_tbl by 'hts w (by decide +kernel)'), the script of L ints xs at the cell b, what the Statement gives of the start (any of its parts by flat_of_before) -/
def lw_At (p : Program) (s : State) (m : MethodId) (meth : Method) (c : Code) (b L : Nat) (xs : Nat → Int32) : Prop :=
  p.tables.exec = Jvm.exec ∧ c.code = code ∧ meth.sig.returnType = ret ∧ c.maxLocals = 4 ∧ s.vm.findClass R_law = some m.cls ∧ (∀ w ∈ lw_tbl, w.before #[Value.ref b] s = true) ∧ va_X b L xs s s.heap ∧ b < s.heap.size ∧ meth.locks = false ∧ (Jvm.Cond.and given_1 narrow_1).before #[Value.ref b] s = true
set_option maxHeartbeats 4000000 in
/-- the law's loop: 3 K ints are read, the two states are coupled -/
theorem law_loop {p : Program} {e : Env} {s : State} {m : MethodId} {below : List Frame} {meth : Method} {c : Code} {D : va_G} {d bb : ClassId} (l : Launch) {b L hx1 hm1 : Nat} {xs : Nat → Int32} {qx qm : Nat → Nat} (C : Cx p s m #[Value.ref b] c code R_law 4 D d bb (fun q => s.heap.size ≤ q)) (hr : meth.sig.returnType = ret) (hlocks : meth.locks = false) (hX : va_X b L xs s s.heap) (hbl : b < s.heap.size) (hL : L ≤ 192) :
    ∀ (n K : Nat) (S Z : Nat → Nat → Nat) (H : Heap) (locs : List Loc) (ls : Array Slot), 65 ≤ K + n → 3 * K ≤ L → JJ S Z K → Gd D (fun q => s.heap.size ≤ q) s.heap H locs (wX d hx1 qx S ++ wM d bb hm1 qm Z) → lv_has ls 4 [(0, .ref (b)), (1, .ref (hx1)), (2, .ref (hm1)), (3, .int (nI (3 * K)))] → W p l e room_1 s m #[Value.ref b] below meth c H locs 25 3077 (lw_Z below #[Value.ref b] s) (F0 m 18 ls []) := by
  have hx := C.1.1
  have hb := C.1.2.1
  intro n
  induction n with
  | zero => intro K S Z H locs ls h1 h2; omega
  | succ n ih =>
    intro K S Z H locs ls h1 h2 J hG hl
    have ex : ∀ ls : Array Slot, W p l e room_1 s m #[Value.ref b] below meth c H locs 25 3077 (lw_Z below #[Value.ref b] s) (F0 m 337 ls []) := by
      intro ls
      refine lv_iconst (v := 1) hx hb dL_law_337 (by decide) ?_
      refine va_forget (fun q hq => hG.2.2.2.2 q hq) ?_
      refine W.widen (k := 600000) (n := 7290000) (Nat.le_of_ble_eq_true rfl) (Nat.le_of_ble_eq_true rfl) ?_
      exact lw_ret hx hb hr hlocks dL_law_338
    have k331 : 3 * K + 3 ≤ L → ∀ (S1 Z1 : Nat → Nat → Nat) (H1 : Heap) (locs1 : List Loc), JJ S1 Z1 (K + 1) → Gd D (fun q => s.heap.size ≤ q) s.heap H1 locs1 (wX d hx1 qx S1 ++ wM d bb hm1 qm Z1) → W p l e room_1 s m #[Value.ref b] below meth c H1 locs1 25 3077 (lw_Z below #[Value.ref b] s) (F0 m 331 ls []) := by
      intro h3 S1 Z1 H1 locs1 J1 hG1
      have e3 : 3 * K + 3 = 3 * (K + 1) := by omega
      refine lv_iinc (v := nI (3 * (K + 1))) (lv' := [(3, .int (nI (3 * (K + 1)))), (0, .ref b), (1, .ref hx1), (2, .ref hm1)]) hx hb dL_law_331 hl (k := 3) rfl (by rw [oi_inc3, e3]) (by decide) rfl (fun ls hl => ?_)
      refine lv_goto (tgt := 18) hx hb dL_law_334 (by decide) ?_
      exact ih (K + 1) S1 Z1 H1 locs1 ls (by omega) (by omega) J1 hG1 (lv_sub hl [1, 2, 3, 0] rfl)
    refine lv_iload_n hx hb dL_law_18 rfl (lv_at hl 3 rfl) ?_
    refine lv_aload_n hx hb dL_law_19 rfl (lv_at hl 0 rfl) ?_
    refine va_slen hx hb hX hbl (by omega) hG.2.2 dL_law_20 ?_
    refine oi_top (y := nI L) rfl ?_
    refine lv_iconst (v := nI 3) hx hb dL_law_21 (by decide) ?_
    by_cases h3 : 3 ≤ L
    · refine oi_sub hx hb h3 dL_law_22 ?_
      refine oi_gt (tgt := 337) hx hb dL_law_23 (by decide) (by omega) (by omega) (fun c1 => ex ls) (fun c1 => ?_)
      have hK3 : 3 * K + 3 ≤ L := by omega
      have k331 := k331 hK3
      refine lv_aload_n hx hb dL_law_26 rfl (lv_at hl 0 rfl) ?_
      refine lv_iload_n hx hb dL_law_27 rfl (lv_at hl 3 rfl) ?_
      refine ls_ld hx hb hX hbl hG.2.2 (i := 3 * K) (by omega) hL dL_law_28 ?_
      refine lv_bipush (v := 15) hx hb dL_law_29 (by decide) ?_
      refine lv_iand hx hb dL_law_31 ?_
      obtain ⟨j, hj, ej⟩ := pk_andE (xs (3 * K)) (m := 15) 4 (by decide)
      refine oi_top ej ?_
      by_cases h9 : 9 ≤ j
      · refine lv_tableOut (tgt := 331) hx hb dL_law_32 (Or.inr (by rw [nI_toInt (by omega)]; omega)) (by decide) ?_
        exact k331 S Z H locs (JJ_mono J) hG
      · rcases (show j = 0 ∨ j = 1 ∨ j = 2 ∨ j = 3 ∨ j = 4 ∨ j = 5 ∨ j = 6 ∨ j = 7 ∨ j = 8 by omega) with h | h | h | h | h | h | h | h | h
        · subst h
          refine lv_tableIn (off := 52) (tgt := 84) hx hb dL_law_32 (by decide) (by decide) (by decide) (by decide) ?_
          exact law_write C hX hbl hL hK3 J hG hl k331
        · subst h
          refine lv_tableIn (off := 75) (tgt := 107) hx hb dL_law_32 (by decide) (by decide) (by decide) (by decide) ?_
          exact law_tick C hX hbl hL hK3 J hG hl k331
        · subst h
          refine lv_tableIn (off := 98) (tgt := 130) hx hb dL_law_32 (by decide) (by decide) (by decide) (by decide) ?_
          exact law_take C hX hbl hL hK3 J hG hl k331
        · subst h
          refine lv_tableIn (off := 131) (tgt := 163) hx hb dL_law_32 (by decide) (by decide) (by decide) (by decide) ?_
          exact law_waiting C hX hbl hL hK3 J hG hl k331
        · subst h
          refine lv_tableIn (off := 164) (tgt := 196) hx hb dL_law_32 (by decide) (by decide) (by decide) (by decide) ?_
          exact law_clock C hX hbl hL hK3 J hG hl k331
        · subst h
          refine lv_tableIn (off := 187) (tgt := 219) hx hb dL_law_32 (by decide) (by decide) (by decide) (by decide) ?_
          exact law_count C hX hbl hL hK3 J hG hl k331
        · subst h
          refine lv_tableIn (off := 210) (tgt := 242) hx hb dL_law_32 (by decide) (by decide) (by decide) (by decide) ?_
          exact law_read C hX hbl hL hK3 J hG hl k331
        · subst h
          refine lv_tableIn (off := 243) (tgt := 275) hx hb dL_law_32 (by decide) (by decide) (by decide) (by decide) ?_
          exact law_held C hX hbl hL hK3 J hG hl k331
        · subst h
          refine lv_tableIn (off := 266) (tgt := 298) hx hb dL_law_32 (by decide) (by decide) (by decide) (by decide) ?_
          exact law_agree C hX hbl hL hK3 J hG hl k331
    · refine lv_isub hx hb dL_law_22 ?_
      refine lv_icmp_gt (tgt := 337) hx hb dL_law_23 (by decide) (fun c1 => ex ls) (fun c1 => ?_)
      exact absurd (Int32.lt_of_lt_of_le (pk_sneg (a := L) (b := 3) (by decide) (by omega)) (nI_pos' (by omega))) c1
set_option maxHeartbeats 4000000 in
/-- from the entry, for every script of at most 192 ints, the law comes to its end with true -/
theorem whole_start {p : Program} {e : Env} {s : State} {m : MethodId} {below : List Frame} {meth : Method} {c : Code} (l : Launch) {b L : Nat} {xs : Nat → Int32} (hL : L ≤ 192) (C0 : lw_At p s m meth c b L xs) : W p l e room_1 s m #[Value.ref b] below meth c s.heap [] 0 0 (lw_Z below #[Value.ref b] s) (entryFrame m ([Value.ref b] : List Value).toArray 4) := by
  obtain ⟨hx, hb, hr, hml, hown, hts0, hX, hbl, hlocks, hgv⟩ := C0
  have hts : ∀ w ∈ lw_all, w.before #[Value.ref b] s = true := fun w h => hts0 w (lw_all_tbl h)
  obtain ⟨c0, i0, hKn0⟩ := u_known (C := RX0) (T := TX0) (N := 13) (n := 13) hts in_X0 (hts _ q16)
  obtain ⟨c1, i1, hKn1⟩ := u_known (C := RX1) (T := TX1) (N := 12) (n := 12) hts in_X1 (hts _ q128)
  obtain ⟨d, kd, compd, hd1, hd2, hd3⟩ := Cond.arrayClass_spec (hts _ q63)
  obtain ⟨bb, kb, compb, hb1, hb2, hb3⟩ := Cond.arrayClass_spec (hts _ q170)
  obtain ⟨D, hK⟩ : ∃ D : va_G, va_K D clX [(d, .int), (bb, .boolean)] s := by
    refine ⟨(fun k => if k = 0 then c0 else c1, fun k => if k = 0 then i0 else i1), fun k q hq => ?_, fun k q hq => ?_⟩
    · match k, hq with
      | 0, hq => cases hq; exact hKn0
      | 1, hq => cases hq; exact hKn1
      | k + 2, hq => simp [clX] at hq
    · match k, hq with
      | 0, hq => cases hq; exact ⟨fun n z => ⟨fun k h => (by cases h), kd, hd2, compd, hd3⟩, hd1⟩
      | 1, hq => cases hq; exact ⟨fun n z => ⟨fun k h => (by cases h), kb, hb2, compb, hb3⟩, hb1⟩
      | k + 2, hq => simp at hq
  have C : Cx p s m #[Value.ref b] c code R_law 4 D d bb (fun q : Nat => s.heap.size ≤ q) := ⟨⟨hx, hb, hml, hown, hts⟩, hK, fun q h => h⟩
  have hl := lv_entry ([.ref b]) (n := 4) (Nat.le_of_ble_eq_true rfl)
  rw [lg_entry_eq]
  generalize (lg_sl ([.ref b]) ++ List.replicate (4 - (lg_sl ([.ref b])).length) Slot.unset).toArray = ls at hl ⊢
  have hl : lv_has ls 4 [(0, .ref b)] := hl
  have hG : Gd D (fun q : Nat => s.heap.size ≤ q) s.heap s.heap [] [] := ⟨fun k q h => by simp at h, ⟨fun i j x y h => by simp at h, fun k q h => by simp at h⟩, va_S.rf⟩
  refine va_new (ci := 0) (fs := oX) (C := RX0) (T := TX0) (N := 13) hx hb hts in_X0 tyX0 tyX0_ok hown (hts _ q15) (hts _ q16) (hts _ q13) hK hG.1 hG.2.1 hG.2.2 C.2.2 rfl (fun j hj => by rcases (show j = 0 ∨ j = 1 ∨ j = 2 ∨ j = 3 ∨ j = 4 ∨ j = 5 ∨ j = 6 ∨ j = 7 ∨ j = 8 ∨ j = 9 ∨ j = 10 ∨ j = 11 ∨ j = 12 by omega) with rfl | rfl | rfl | rfl | rfl | rfl | rfl | rfl | rfl | rfl | rfl | rfl | rfl <;> rfl) (Nat.le_of_ble_eq_true rfl) (Nat.le_of_ble_eq_true rfl) dL_law_0 (fun hx1 H hP hD hS => ?_)
  have hG : Gd D (fun q : Nat => s.heap.size ≤ q) s.heap H [] [(hx1, .inr (0, oX))] := ⟨hP, hD, hS⟩
  refine W.widen (k := 1) (n := 13) (Nat.le_of_ble_eq_true rfl) (Nat.le_of_ble_eq_true rfl) ?_
  refine lv_dup hx hb dL_law_3 rfl ?_
  have hFc := Gd.free C hG
  refine va_callv (va_runI (As := []) (rest := [.ref hx1]) C.1 (cX_init l D d bb hx1 H.size) (cwI 0 hts (lw_meth q19) rfl rfl rfl (hts _ q13) (hts _ q17) (hts _ q18) rfl (by decide +kernel) ⟨Nat.le_of_ble_eq_true rfl, Nat.le_of_ble_eq_true rfl⟩) ⟨fun a U g mk z => ⟨z.1, z.2.1, z.2.2.1, va_K.moved (u := U) (U := U.calling g mk a) (Vm.Alike.refl U.vm) z.2.2.2.1, z.2.2.2.2⟩, fun U hU hW => ⟨rfl, by rw [hU], by rw [hU]; exact hG.1, va_K.moved hW.alike hK, hG.2.1.weaken (fun _ _ _ _ => trivial)⟩⟩ rfl rfl hl.1 rfl (lv_room (Nat.le_of_ble_eq_true rfl)) dL_law_4 ⟨Nat.le_of_ble_eq_true rfl, Nat.le_of_ble_eq_true rfl⟩) hG.2.2 (fun q _ z => hFc q z) hFc (fun qx t H1 locs ht hvm hw hB hz hk hS => ?_)
  have hG : Gd D (fun q : Nat => s.heap.size ≤ q) s.heap H1 locs (wX d hx1 qx zX) := ⟨by rw [← ht]; exact hB.1, hB.2.2.weaken (fun k x hx z => hFc _ z), hS⟩
  refine W.widen (k := 13) (n := 1521) (Nat.le_of_ble_eq_true rfl) (Nat.le_of_ble_eq_true rfl) ?_
  refine lv_astore_n (lv' := [(1, .ref hx1), (0, .ref b)]) hx hb dL_law_7 rfl hl (by decide) rfl (fun ls hl => ?_)
  refine va_new (ci := 1) (fs := oM) (C := RX1) (T := TX1) (N := 12) hx hb hts in_X1 tyX1 tyX1_ok hown (hts _ q127) (hts _ q128) (hts _ q14) hK hG.1 hG.2.1 hG.2.2 C.2.2 rfl (fun j hj => by rcases (show j = 0 ∨ j = 1 ∨ j = 2 ∨ j = 3 ∨ j = 4 ∨ j = 5 ∨ j = 6 ∨ j = 7 ∨ j = 8 ∨ j = 9 ∨ j = 10 ∨ j = 11 by omega) with rfl | rfl | rfl | rfl | rfl | rfl | rfl | rfl | rfl | rfl | rfl | rfl <;> rfl) (Nat.le_of_ble_eq_true rfl) (Nat.le_of_ble_eq_true rfl) dL_law_8 (fun hm1 H2 hP hD hS => ?_)
  refine W.widen (k := 14) (n := 1533) (Nat.le_of_ble_eq_true rfl) (Nat.le_of_ble_eq_true rfl) ?_
  refine lv_dup hx hb dL_law_11 rfl ?_
  have hp := (spl_P hP).2
  have hd := (spl_D hD).2.1
  have hFm : ∀ q : Nat, va_A [(hm1, .inr (1, oM))] H2.size q → s.heap.size ≤ q := by
    intro q hq
    rcases hq with ⟨k, e, hk⟩ | hq
    · exact hd.2 k (q, e) hk
    · exact Nat.le_trans hS.1 hq
  refine va_callv (va_runI (As := []) (rest := [.ref hm1]) C.1 (cM_init l D d bb hm1 H2.size) (cwI 0 hts (lw_meth q131) rfl rfl rfl (hts _ q14) (hts _ q129) (hts _ q130) rfl (by decide +kernel) ⟨Nat.le_of_ble_eq_true rfl, Nat.le_of_ble_eq_true rfl⟩) ⟨fun a U g mk z => ⟨z.1, z.2.1, z.2.2.1, va_K.moved (u := U) (U := U.calling g mk a) (Vm.Alike.refl U.vm) z.2.2.2.1, z.2.2.2.2⟩, fun U hU hW => ⟨rfl, by rw [hU], by rw [hU]; exact hp, va_K.moved hW.alike hK, hd.weaken (fun _ _ _ _ => trivial)⟩⟩ rfl rfl hl.1 rfl (lv_room (Nat.le_of_ble_eq_true rfl)) dL_law_12 ⟨Nat.le_of_ble_eq_true rfl, Nat.le_of_ble_eq_true rfl⟩) hS (fun q _ z => hFm q z) hFm (fun qm t2 H3 locs3 ht2 hvm2 hw2 hB2 hz2 hk2 hS2 => ?_)
  have jn := spl_R (w2' := wM d bb hm1 qm zM) hP hD hk2 hFm (by rw [← ht2]; exact hB2.1) hB2.2.2
  have hG : Gd D (fun q : Nat => s.heap.size ≤ q) s.heap H3 locs3 (wX d hx1 qx zX ++ wM d bb hm1 qm zM) := ⟨jn.1, jn.2, hS2⟩
  refine W.widen (k := 25) (n := 3077) (Nat.le_of_ble_eq_true rfl) (Nat.le_of_ble_eq_true rfl) ?_
  refine lv_astore_n (lv' := [(2, .ref hm1), (1, .ref hx1), (0, .ref b)]) hx hb dL_law_15 rfl hl (by decide) rfl (fun ls hl => ?_)
  refine lv_iconst (v := nI (3 * 0)) hx hb dL_law_16 (by decide) ?_
  refine lv_istore_n (lv' := [(3, .int (nI (3 * 0))), (2, .ref hm1), (1, .ref hx1), (0, .ref b)]) hx hb dL_law_17 rfl hl (by decide) rfl (fun ls hl => ?_)
  exact law_loop l C hr hlocks hX hbl hL 65 0 zX zM H3 locs3 ls (by omega) (by omega) JJ_init hG (lv_sub hl [3, 2, 1, 0] rfl)
end
section
set_option maxRecDepth 100000
set_option maxHeartbeats 4000000 in
theorem lw_walk (l : Launch) (b : Addr) (xs : List Int32) : MetFree l x (headSpec (Jvm.Cond.code x code maxLocals ret :: tables_1) room_1) (lw_P b xs) (fun _ _ _ _ _ => True) lw_Q := by
  refine MetFree.of_bodyS (code := code) (maxLocals := maxLocals) (ret := ret) (by decide) ?_ ?_
  · intro args s m h hn
    obtain ⟨meth, c, h1, h2, h3, h4, h5, h6, -, -⟩ := Cond.code_spec hn (atoms_spec (ws := Jvm.Cond.code x code maxLocals ret :: tables_1) h _ List.mem_cons_self)
    exact ⟨meth, c, h1, h2, h3, h4, h5, h6⟩
  · intro p e s m args below meth c s₁ B hml0 hP _
    obtain ⟨rfl, hx, hbd, hgv⟩ := hP
    obtain ⟨scr, harrAt, hlist, hof, hsmall⟩ := hx
    obtain ⟨hcb, hkn, -, -⟩ := State.arrayAt?_spec harrAt
    have hown : s.vm.findClass R_law = some m.cls := findClass_of_methodNamed B.named
    have hts0 : ∀ c ∈ (Jvm.Cond.code x code maxLocals ret :: tables_1), c.before #[Value.ref b] s = true := atoms_spec (ws := Jvm.Cond.code x code maxLocals ret :: tables_1) B.pre
    have hts : ∀ w ∈ lw_tbl, w.before #[Value.ref b] s = true := k2_hts_sels lw_privs (fun w hw => hts0 w (List.mem_cons_of_mem _ hw)) lw_privs_ok
    have hml : c.maxLocals = 4 := B.maxLocals_eq (hts0 _ List.mem_cons_self)
    have X₀ : Stand p l e room_1 s m #[Value.ref b] below meth c s₁ [] 0 0 := Stand.of_body B
    have hh0 : s₁.heap = s.heap := by rw [B.state]; rfl
    have hsz : scr.slots.size = xs.length := by rw [← Array.length_toList, hlist, List.length_map]
    have hval : ∀ j : Nat, j < xs.length → scr.slots[j]? = some (.int (xs.getD j 0)) := fun j hj => by
      rw [← Array.getElem?_toList, hlist]
      simp [hj]
    have hbl : b < s.heap.size := (Array.getElem?_eq_some_iff.mp hcb).1
    have hX : va_X b xs.length (fun j => xs.getD j 0) s s.heap := ⟨scr, hcb, hof, hkn, hsz, hval⟩
    have K : W p l e room_1 s m #[Value.ref b] below meth c s₁.heap [] 0 0 (lw_Z below #[Value.ref b] s) (entryFrame m ([Value.ref b] : List Value).toArray 4) := by
      rw [hh0]
      exact whole_start l hbd ⟨B.exec, B.bytes, B.returns, hml, hown, hts, hX, hbl, B.notSynchronized, hgv⟩
    obtain ⟨t, a1, o, b1, b2, b3⟩ := K s₁ rfl X₀
    exact ⟨t, o, a1, b1, b2, b3⟩
theorem lw_pre_spec {args : Array Value} {s : State} (h : (Jvm.Cond.and given_1 narrow_1).before args s = true) (hr : rest_1_c.before args s = true) : ∃ (b : Addr) (xs : List Int32), lw_P b xs args s := by
  have hs := flat_of_before _ h
  have hq := flat_of_before _ hr
  have hc : (Cond.count 1).before args s = true := hs _ (by decide +kernel)
  have harr : (Cond.arrayOf (.arg 0) .int).before args s = true := hs _ (by decide +kernel)
  have hle : (Cond.le (.length (.arg 0)) (.int 192)).before args s = true := hs _ (by decide +kernel)
  have hlen : (Cond.isInt (.length (.arg 0))).before args s = true := hq _ (by decide +kernel)
  have hall : (Cond.all (.arg 0) (.isInt (.elem (.arg 0) (.index 0)))).before args s = true := hq _ (by decide +kernel)
  obtain ⟨b, xs, hb, hx⟩ := State.ints_of_pre rfl harr hlen hall
  have hsm : xs.length < 2 ^ 31 := hx.choose_spec.2.2.2
  have hev : (Term.length (.arg 0)).eval args s none [] s = some (.int xs.length.toInt32) := hx.length_eval hb
  have hv := Cond.le_ints hev (show (Term.int 192).eval args s none [] s = some (.int 192) from rfl)
  have hd : xs.length.toInt32 ≤ 192 := by
    simpa [Cond.before, Cond.holds, hv] using hle
  have hN : xs.length ≤ 192 := (Int32.ofNat_le_ofNat hsm (by decide)).mp (show Int32.ofNat xs.length ≤ Int32.ofNat 192 from hd)
  exact ⟨b, xs, Cond.one_arg hc (show args[0]? = some (.ref b) from hb), hx, hN, h⟩
theorem lw_comes (l : Launch) : Comes l x (Jvm.Cond.code x code maxLocals ret :: tables_1) room_1 (fun tb e args s => Calls_1 tb e args s ∧ rest_1 tb e args s ∧ Pre_1 tb e args s)
    (fun _ _ args s o t => lw_Q args s o t) := by
  intro p e ha hc hk s m args below hf hfit hheap happ hpre
  obtain ⟨b, xs, hP⟩ := lw_pre_spec hpre.2.2 hpre.2.1
  obtain ⟨k, o, h1, h2, h3, hQ⟩ := lw_walk l b xs p e ha hc hk s m args below hf ((Spec.applies_iff_loose hf).mp happ).1 hP trivial
  exact ⟨k, o, h1, h2, h3, hQ⟩
theorem lw_frame {s t : State} {o : Outcome} {args : Array Value} (h : Framed s o t [] 600000 7290000) :
    Framed s o t (fieldLocs frame_1_writes args s ++ arrayLocs frame_1_arrays args s ++ staticLocs frame_1_statics s) 600000 7290000 := h
theorem lw_limb (L : Cond) (hL : ∀ (args : Array Value) (s t : State), L.after args s (.returned (some (.int 1))) t = true) :
    ArmFor flags0 classFile x code maxLocals ret World_1 tables_1 room_1 Calls_1 rest_1 Pre_1
      (fun tb e a s o t => postC L tb e a s o t ∧ Framed s o t (fieldLocs frame_1_writes a s ++ arrayLocs frame_1_arrays a s ++ staticLocs frame_1_statics s) 600000 7290000) := by
  intro l _ _ _ p e ha hc hk s m args below hf hfit hheap happ hpre
  obtain ⟨k, o, h1, h2, h3, rfl, hF⟩ := lw_comes l p e ha hc hk s m args below hf hfit hheap happ hpre
  exact ⟨k, _, h1, h2, h3, hL args s _, lw_frame hF⟩
theorem i_vc : Claimed_1_1 ∧ Claimed_1_2 := ⟨lw_limb limb_1_1 (fun args s t => by simp [limb_1_1, Cond.after, Cond.holds, Cond.value]), lw_limb limb_1_2 (fun args s t => Cond.after_iff.mpr (by
  first | (rw [show limb_1_2 = Cond.eq .result (.int 1) from rfl, Cond.eq_ints (x := 1) (y := 1) rfl rfl]; simp; done) | (simp [limb_1_2, Cond.value, Term.eval]; done)))⟩
end
