section
-- ===== PART A: goes FIRST, ahead of the names: the tables' words, and 'selects' of the private methods out of them =====
/-- a private method of a class that the tables say can be made, by its rows of tables_1 -/
def lw_okq (q : MethodName × Nat) : Prop := (q.1.cls ≠ "java/lang/invoke/MethodHandle" ∧ q.1.cls ≠ "java/lang/invoke/VarHandle") ∧ Cond.instantiable q.1.cls q.2 ∈ tables_1 ∧ Cond.privateMethod q.1 ∈ tables_1 ∧ Cond.instanceMethod q.1 ∈ tables_1
set_option maxRecDepth 100000
theorem lw_p0 : lw_okq (⟨"BoxDesk", "hookAt", "(II)I"⟩, 4) := ⟨⟨by decide +kernel, by decide +kernel⟩, List.mem_of_getElem? (i := 5) rfl, List.mem_of_getElem? (i := 58) rfl, List.mem_of_getElem? (i := 59) rfl⟩
theorem lw_p1 : lw_okq (⟨"BoxDesk", "height", "(I)I"⟩, 4) := ⟨⟨by decide +kernel, by decide +kernel⟩, List.mem_of_getElem? (i := 5) rfl, List.mem_of_getElem? (i := 62) rfl, List.mem_of_getElem? (i := 63) rfl⟩
theorem lw_p2 : lw_okq (⟨"BoxDeskModel", "shape", "(I)I"⟩, 4) := ⟨⟨by decide +kernel, by decide +kernel⟩, List.mem_of_getElem? (i := 86) rfl, List.mem_of_getElem? (i := 119) rfl, List.mem_of_getElem? (i := 120) rfl⟩
def lw_privs_1 : List (MethodName × Nat) := [(⟨"BoxDesk", "hookAt", "(II)I"⟩, 4), (⟨"BoxDesk", "height", "(I)I"⟩, 4), (⟨"BoxDeskModel", "shape", "(I)I"⟩, 4)]
theorem lw_r1 : ∀ q ∈ lw_privs_1, lw_okq q := List.forall_mem_cons.mpr ⟨lw_p0, List.forall_mem_cons.mpr ⟨lw_p1, List.forall_mem_cons.mpr ⟨lw_p2, fun _ h => absurd h List.not_mem_nil⟩⟩⟩
def lw_privs : List (MethodName × Nat) := lw_privs_1
def lw_tbl : List Cond := k2_sels lw_privs ++ tables_1
theorem lw_privs_ok : ∀ q ∈ lw_privs, lw_okq q := lw_r1
-- ===== ONE list of words for every method: the tables' words that hold all through a run =====
def lw_all : List Cond := lw_tbl.filter goodWord
/-- a word of the tables by its place: claim/WORDS.tsv -/
theorem lw_w {w : Cond} (i : Nat) (h : lw_tbl[i]? = some w) (g : goodWord w = true) : w ∈ lw_all := List.mem_filter.mpr ⟨List.mem_of_getElem? h, g⟩
theorem lw_all_tbl {w : Cond} (h : w ∈ lw_all) : w ∈ lw_tbl := (List.mem_filter.mp h).1
theorem lw_self : GoodIn lw_all lw_all := fun w h => ⟨h, good_of_word (List.mem_filter.mp h).2⟩
/-- a class's field words, by their places -/
theorem lw_in (ws : List Cond) (ps : List Nat) (hp : ws = ps.filterMap (fun i => lw_tbl[i]?)) (hg : ws.all goodWord = true) : ∀ w ∈ ws, w ∈ lw_all := by
  intro w h
  have h1 := List.all_eq_true.mp hg w h
  rw [hp] at h
  obtain ⟨i, -, hi⟩ := List.mem_filterMap.mp h
  exact lw_w i hi h1
/-- the words of a contract for the method y with code b, L locals, answer r -/
abbrev ws_ (y : MethodName) (b : ByteArray) (L : Nat) (r : Option FieldType) : List Cond := Cond.code y b L r :: lw_all
theorem lw_meth {y : MethodName} {b : ByteArray} {L : Nat} {r : Option FieldType} (h : Cond.code y b L r ∈ lw_all) : GoodIn lw_all (ws_ y b L r) := by
  intro w hw
  rcases List.mem_cons.mp hw with e | e
  · rw [e]
    exact lw_self _ h
  · exact lw_self _ e
theorem lw_app {a c : List Cond} (ha : ∀ w ∈ a, w ∈ lw_all) (hc : GoodIn lw_all c) : GoodIn lw_all (a ++ c) := by
  intro w hw
  rcases List.mem_append.mp hw with e | e
  · exact lw_self w (ha w e)
  · exact hc w e
/-- what a call through an object asks: cwV n hts (lw_V ..) -/
theorem lw_V {own : String} {idx : Nat} {C : String} {y : MethodName} {b : ByteArray} {L : Nat} {r : Option FieldType} (h1 : Cond.methodLink own idx y ∈ lw_all) (h2 : Cond.instanceMethod y ∈ lw_all) (h3 : Cond.selects C y y ∈ lw_all) (h4 : Cond.initialized C ∈ lw_all) (h5 : Cond.code y b L r ∈ lw_all) : GoodIn lw_all (wsV own idx C y (ws_ y b L r)) := by
  refine lw_app ?_ (lw_meth h5)
  intro w hw
  simp only [List.mem_cons, List.not_mem_nil, or_false] at hw
  rcases hw with e | e | e | e
  · rw [e]; exact h1
  · rw [e]; exact h2
  · rw [e]; exact h3
  · rw [e]; exact h4
/-- what a static call asks: va_cwS n hts (lw_S ..) -/
theorem lw_S {own : String} {idx : Nat} {y : MethodName} {b : ByteArray} {L : Nat} {r : Option FieldType} (h1 : Cond.methodLink own idx y ∈ lw_all) (h2 : Cond.static y ∈ lw_all) (h3 : Cond.initialized y.cls ∈ lw_all) (h4 : Cond.code y b L r ∈ lw_all) : GoodIn lw_all (va_wsS own idx y (ws_ y b L r)) := by
  refine lw_app ?_ (lw_meth h4)
  intro w hw
  simp only [List.mem_cons, List.not_mem_nil, or_false] at hw
  rcases hw with e | e | e
  · rw [e]; exact h1
  · rw [e]; exact h2
  · rw [e]; exact h3
/-- the words of a contract for a method WITH HANDLERS (hh: its table) -/
abbrev wsW_ (y : MethodName) (b : ByteArray) (L : Nat) (r : Option FieldType) (hh : List (Nat × Nat × Nat × Nat)) : List Cond := Cond.codeWith y b L r hh :: lw_all
theorem lw_methW {y : MethodName} {b : ByteArray} {L : Nat} {r : Option FieldType} {hh : List (Nat × Nat × Nat × Nat)} (h : Cond.codeWith y b L r hh ∈ lw_all) : GoodIn lw_all (wsW_ y b L r hh) := by
  intro w hw
  rcases List.mem_cons.mp hw with e | e
  · rw [e]
    exact lw_self _ h
  · exact lw_self _ e
/-- any list of words by their places (lw_in), good -/
theorem lw_good {ws : List Cond} (h : ∀ w ∈ ws, w ∈ lw_all) : GoodIn lw_all ws := fun w hw => lw_self w (h w hw)
/-- what a call of a method with handlers asks: vx_cwVW n hts (lw_VW ..), vx_cwSW n hts (lw_SW ..) -/
theorem lw_VW {own : String} {idx : Nat} {C : String} {y : MethodName} {b : ByteArray} {L : Nat} {r : Option FieldType} {hh : List (Nat × Nat × Nat × Nat)} (h1 : Cond.methodLink own idx y ∈ lw_all) (h2 : Cond.instanceMethod y ∈ lw_all) (h3 : Cond.selects C y y ∈ lw_all) (h4 : Cond.initialized C ∈ lw_all) (h5 : Cond.codeWith y b L r hh ∈ lw_all) : GoodIn lw_all (wsV own idx C y (wsW_ y b L r hh)) := by
  refine lw_app ?_ (lw_methW h5)
  intro w hw
  simp only [List.mem_cons, List.not_mem_nil, or_false] at hw
  rcases hw with e | e | e | e
  · rw [e]; exact h1
  · rw [e]; exact h2
  · rw [e]; exact h3
  · rw [e]; exact h4
theorem lw_SW {own : String} {idx : Nat} {y : MethodName} {b : ByteArray} {L : Nat} {r : Option FieldType} {hh : List (Nat × Nat × Nat × Nat)} (h1 : Cond.methodLink own idx y ∈ lw_all) (h2 : Cond.static y ∈ lw_all) (h3 : Cond.initialized y.cls ∈ lw_all) (h4 : Cond.codeWith y b L r hh ∈ lw_all) : GoodIn lw_all (va_wsS own idx y (wsW_ y b L r hh)) := by
  refine lw_app ?_ (lw_methW h4)
  intro w hw
  simp only [List.mem_cons, List.not_mem_nil, or_false] at hw
  rcases hw with e | e | e
  · rw [e]; exact h1
  · rw [e]; exact h2
  · rw [e]; exact h3
/-- a word by its place in its run of the tables -/
theorem lw_at {r : List Cond} (hr : ∀ w ∈ r, w ∈ lw_tbl) {w : Cond} (i : Nat) (h : r[i]? = some w) : w ∈ lw_tbl := hr w (List.mem_of_getElem? h)
theorem lw_g {w : Cond} (h : w ∈ lw_tbl) (g : goodWord w = true) : w ∈ lw_all := List.mem_filter.mpr ⟨h, g⟩
theorem lw_ms : ∀ w ∈ k2_sels lw_privs, w ∈ lw_tbl := fun w h => show w ∈ k2_sels lw_privs ++ tables_1 from List.mem_append_left _ h
theorem lw_m0 : ∀ w ∈ tables_1, w ∈ lw_tbl := fun w h => show w ∈ k2_sels lw_privs ++ tables_1 from List.mem_append_right (k2_sels lw_privs) h
theorem qs0 : (Cond.selects "BoxDesk" ⟨"BoxDesk", "hookAt", "(II)I"⟩ ⟨"BoxDesk", "hookAt", "(II)I"⟩) ∈ lw_all := lw_g (lw_at lw_ms 0 rfl) rfl
theorem qs1 : (Cond.selects "BoxDesk" ⟨"BoxDesk", "height", "(I)I"⟩ ⟨"BoxDesk", "height", "(I)I"⟩) ∈ lw_all := lw_g (lw_at lw_ms 1 rfl) rfl
theorem qs2 : (Cond.selects "BoxDeskModel" ⟨"BoxDeskModel", "shape", "(I)I"⟩ ⟨"BoxDeskModel", "shape", "(I)I"⟩) ∈ lw_all := lw_g (lw_at lw_ms 2 rfl) rfl
-- ===== end of PART A; then your names; then what follows =====
end
section
/-! java/lang/Object -/
set_option maxRecDepth 100000
def RJ0 : String := "java/lang/Object"
abbrev cJ0_init : ByteArray := object_method_1_code
def yJ0_init : MethodName := ⟨RJ0, "<init>", "()V"⟩
theorem dJ0_init_0 : decode cJ0_init 0 = .ok (.return_, 1) := by decide +kernel
theorem q13 : (Jvm.Cond.instanceMethod ({ cls := "java/lang/Object", name := "<init>", desc := "()V" } : Jvm.MethodName)) ∈ lw_all := lw_g (lw_at lw_m0 10 rfl) rfl
theorem q14 : (Jvm.Cond.code ({ cls := "java/lang/Object", name := "<init>", desc := "()V" } : Jvm.MethodName) object_method_1_code (1 : Nat) (Option.none : Option Jvm.ClassFile.FieldType)) ∈ lw_all := lw_g (lw_at lw_m0 11 rfl) rfl
theorem q25 : (Jvm.Cond.arrayClass Jvm.ClassFile.FieldType.int) ∈ lw_all := lw_g (lw_at lw_m0 22 rfl) rfl
set_option maxRecDepth 100000
theorem q107 : (Jvm.Cond.arrayClass Jvm.ClassFile.FieldType.long) ∈ lw_all := lw_g (lw_at lw_m0 104 rfl) rfl
theorem q3 : (Jvm.Cond.initialized "BoxDeskLaw") ∈ lw_all := lw_g (lw_at lw_m0 0 rfl) rfl
set_option maxRecDepth 100000
theorem q7 : (Jvm.Cond.classLink "BoxDeskLaw" (7 : Nat) "BoxDesk") ∈ lw_all := lw_g (lw_at lw_m0 4 rfl) rfl
theorem q9 : (Jvm.Cond.methodLink "BoxDeskLaw" (9 : Nat) ({ cls := "BoxDesk", name := "<init>", desc := "()V" } : Jvm.MethodName)) ∈ lw_all := lw_g (lw_at lw_m0 6 rfl) rfl
theorem q39 : (Jvm.Cond.methodLink "BoxDeskLaw" (13 : Nat) ({ cls := "BoxDesk", name := "add", desc := "(I)Z" } : Jvm.MethodName)) ∈ lw_all := lw_g (lw_at lw_m0 36 rfl) rfl
theorem q44 : (Jvm.Cond.methodLink "BoxDeskLaw" (18 : Nat) ({ cls := "BoxDesk", name := "drop", desc := "()Z" } : Jvm.MethodName)) ∈ lw_all := lw_g (lw_at lw_m0 41 rfl) rfl
theorem q48 : (Jvm.Cond.methodLink "BoxDeskLaw" (23 : Nat) ({ cls := "BoxDesk", name := "orders", desc := "()J" } : Jvm.MethodName)) ∈ lw_all := lw_g (lw_at lw_m0 45 rfl) rfl
theorem q72 : (Jvm.Cond.methodLink "BoxDeskLaw" (28 : Nat) ({ cls := "BoxDesk", name := "boxes", desc := "()I" } : Jvm.MethodName)) ∈ lw_all := lw_g (lw_at lw_m0 69 rfl) rfl
theorem q76 : (Jvm.Cond.methodLink "BoxDeskLaw" (33 : Nat) ({ cls := "BoxDesk", name := "hook", desc := "(II)I" } : Jvm.MethodName)) ∈ lw_all := lw_g (lw_at lw_m0 73 rfl) rfl
theorem q80 : (Jvm.Cond.methodLink "BoxDeskLaw" (38 : Nat) ({ cls := "BoxDesk", name := "column", desc := "(I)I" } : Jvm.MethodName)) ∈ lw_all := lw_g (lw_at lw_m0 77 rfl) rfl
theorem q84 : (Jvm.Cond.methodLink "BoxDeskLaw" (43 : Nat) ({ cls := "BoxDesk", name := "inner", desc := "()I" } : Jvm.MethodName)) ∈ lw_all := lw_g (lw_at lw_m0 81 rfl) rfl
theorem q88 : (Jvm.Cond.classLink "BoxDeskLaw" (10 : Nat) "BoxDeskModel") ∈ lw_all := lw_g (lw_at lw_m0 85 rfl) rfl
theorem q90 : (Jvm.Cond.methodLink "BoxDeskLaw" (12 : Nat) ({ cls := "BoxDeskModel", name := "<init>", desc := "()V" } : Jvm.MethodName)) ∈ lw_all := lw_g (lw_at lw_m0 87 rfl) rfl
theorem q108 : (Jvm.Cond.methodLink "BoxDeskLaw" (17 : Nat) ({ cls := "BoxDeskModel", name := "add", desc := "(I)Z" } : Jvm.MethodName)) ∈ lw_all := lw_g (lw_at lw_m0 105 rfl) rfl
theorem q113 : (Jvm.Cond.methodLink "BoxDeskLaw" (22 : Nat) ({ cls := "BoxDeskModel", name := "drop", desc := "()Z" } : Jvm.MethodName)) ∈ lw_all := lw_g (lw_at lw_m0 110 rfl) rfl
theorem q117 : (Jvm.Cond.methodLink "BoxDeskLaw" (27 : Nat) ({ cls := "BoxDeskModel", name := "orders", desc := "()J" } : Jvm.MethodName)) ∈ lw_all := lw_g (lw_at lw_m0 114 rfl) rfl
theorem q125 : (Jvm.Cond.methodLink "BoxDeskLaw" (32 : Nat) ({ cls := "BoxDeskModel", name := "boxes", desc := "()I" } : Jvm.MethodName)) ∈ lw_all := lw_g (lw_at lw_m0 122 rfl) rfl
theorem q129 : (Jvm.Cond.methodLink "BoxDeskLaw" (37 : Nat) ({ cls := "BoxDeskModel", name := "hook", desc := "(II)I" } : Jvm.MethodName)) ∈ lw_all := lw_g (lw_at lw_m0 126 rfl) rfl
theorem q133 : (Jvm.Cond.methodLink "BoxDeskLaw" (42 : Nat) ({ cls := "BoxDeskModel", name := "column", desc := "(I)I" } : Jvm.MethodName)) ∈ lw_all := lw_g (lw_at lw_m0 130 rfl) rfl
theorem q137 : (Jvm.Cond.methodLink "BoxDeskLaw" (46 : Nat) ({ cls := "BoxDeskModel", name := "inner", desc := "()I" } : Jvm.MethodName)) ∈ lw_all := lw_g (lw_at lw_m0 134 rfl) rfl
/-! BoxDesk$Product -/
set_option maxRecDepth 100000
def RX1 : String := "BoxDesk$Product"
def TX1 : u_T := fun k => match k with
  | _ => ("BoxDesk$Product", "times", "[I", true)
def tyX1 : Nat → FieldType := fun k => match k with
  | _ => .array .int
abbrev wsX10 : List Cond := u_ws RX1 TX1 1
theorem nmX1 : ∀ a, a < 1 → ∀ b, b < 1 → a ≠ b → (TX1 a).2.1 ≠ (TX1 b).2.1 := by decide +kernel
theorem tyX1_ok : ∀ k, k < 1 → parseFieldDescriptor (TX1 k).2.2.1 = some (tyX1 k) := by decide +kernel
abbrev cX1_init : ByteArray := prog_2_method_1_code
def yX1_init : MethodName := ⟨RX1, "<init>", "()V"⟩
theorem dX1_init_0 : decode cX1_init 0 = .ok (.aload_n 0, 1) := by decide +kernel
theorem dX1_init_1 : decode cX1_init 1 = .ok (.invokespecial 1, 3) := by decide +kernel
theorem dX1_init_4 : decode cX1_init 4 = .ok (.aload_n 0, 1) := by decide +kernel
theorem dX1_init_5 : decode cX1_init 5 = .ok (.bipush 26, 2) := by decide +kernel
theorem dX1_init_7 : decode cX1_init 7 = .ok (.newarray .int, 2) := by decide +kernel
theorem dX1_init_9 : decode cX1_init 9 = .ok (.putfield 9, 3) := by decide +kernel
theorem dX1_init_12 : decode cX1_init 12 = .ok (.return_, 1) := by decide +kernel
abbrev cX1_begin : ByteArray := prog_2_method_2_code
def yX1_begin : MethodName := ⟨RX1, "begin", "()V"⟩
theorem dX1_begin_0 : decode cX1_begin 0 = .ok (.iconst 0, 1) := by decide +kernel
theorem dX1_begin_1 : decode cX1_begin 1 = .ok (.istore_n 1, 1) := by decide +kernel
theorem dX1_begin_2 : decode cX1_begin 2 = .ok (.iload_n 1, 1) := by decide +kernel
theorem dX1_begin_3 : decode cX1_begin 3 = .ok (.bipush 26, 2) := by decide +kernel
theorem dX1_begin_5 : decode cX1_begin 5 = .ok (.if_icmp .ge 16, 3) := by decide +kernel
theorem dX1_begin_8 : decode cX1_begin 8 = .ok (.aload_n 0, 1) := by decide +kernel
theorem dX1_begin_9 : decode cX1_begin 9 = .ok (.getfield 9, 3) := by decide +kernel
theorem dX1_begin_12 : decode cX1_begin 12 = .ok (.iload_n 1, 1) := by decide +kernel
theorem dX1_begin_13 : decode cX1_begin 13 = .ok (.iconst 0, 1) := by decide +kernel
theorem dX1_begin_14 : decode cX1_begin 14 = .ok (.iastore, 1) := by decide +kernel
theorem dX1_begin_15 : decode cX1_begin 15 = .ok (.iinc 1 1, 3) := by decide +kernel
theorem dX1_begin_18 : decode cX1_begin 18 = .ok (.goto (-16), 3) := by decide +kernel
theorem dX1_begin_21 : decode cX1_begin 21 = .ok (.return_, 1) := by decide +kernel
abbrev cX1_take : ByteArray := prog_2_method_3_code
def yX1_take : MethodName := ⟨RX1, "take", "(II)V"⟩
theorem dX1_take_0 : decode cX1_take 0 = .ok (.iload_n 1, 1) := by decide +kernel
theorem dX1_take_1 : decode cX1_take 1 = .ok (.istore_n 3, 1) := by decide +kernel
theorem dX1_take_2 : decode cX1_take 2 = .ok (.iconst 2, 1) := by decide +kernel
theorem dX1_take_3 : decode cX1_take 3 = .ok (.istore 4, 2) := by decide +kernel
theorem dX1_take_5 : decode cX1_take 5 = .ok (.iload_n 3, 1) := by decide +kernel
theorem dX1_take_6 : decode cX1_take 6 = .ok (.iconst 1, 1) := by decide +kernel
theorem dX1_take_7 : decode cX1_take 7 = .ok (.if_icmp .le 35, 3) := by decide +kernel
theorem dX1_take_10 : decode cX1_take 10 = .ok (.iload_n 3, 1) := by decide +kernel
theorem dX1_take_11 : decode cX1_take 11 = .ok (.iload 4, 2) := by decide +kernel
theorem dX1_take_13 : decode cX1_take 13 = .ok (.irem, 1) := by decide +kernel
theorem dX1_take_14 : decode cX1_take 14 = .ok (.ifCond .ne 22, 3) := by decide +kernel
theorem dX1_take_17 : decode cX1_take 17 = .ok (.aload_n 0, 1) := by decide +kernel
theorem dX1_take_18 : decode cX1_take 18 = .ok (.getfield 9, 3) := by decide +kernel
theorem dX1_take_21 : decode cX1_take 21 = .ok (.iload 4, 2) := by decide +kernel
theorem dX1_take_23 : decode cX1_take 23 = .ok (.dup2, 1) := by decide +kernel
theorem dX1_take_24 : decode cX1_take 24 = .ok (.iaload, 1) := by decide +kernel
theorem dX1_take_25 : decode cX1_take 25 = .ok (.iload_n 2, 1) := by decide +kernel
theorem dX1_take_26 : decode cX1_take 26 = .ok (.iadd, 1) := by decide +kernel
theorem dX1_take_27 : decode cX1_take 27 = .ok (.iastore, 1) := by decide +kernel
theorem dX1_take_28 : decode cX1_take 28 = .ok (.iload_n 3, 1) := by decide +kernel
theorem dX1_take_29 : decode cX1_take 29 = .ok (.iload 4, 2) := by decide +kernel
theorem dX1_take_31 : decode cX1_take 31 = .ok (.idiv, 1) := by decide +kernel
theorem dX1_take_32 : decode cX1_take 32 = .ok (.istore_n 3, 1) := by decide +kernel
theorem dX1_take_33 : decode cX1_take 33 = .ok (.goto (-23), 3) := by decide +kernel
theorem dX1_take_36 : decode cX1_take 36 = .ok (.iinc 4 1, 3) := by decide +kernel
theorem dX1_take_39 : decode cX1_take 39 = .ok (.goto (-34), 3) := by decide +kernel
theorem dX1_take_42 : decode cX1_take 42 = .ok (.return_, 1) := by decide +kernel
abbrev cX1_value : ByteArray := prog_2_method_4_code
def yX1_value : MethodName := ⟨RX1, "value", "()J"⟩
theorem dX1_value_0 : decode cX1_value 0 = .ok (.lconst 1, 1) := by decide +kernel
theorem dX1_value_1 : decode cX1_value 1 = .ok (.lstore_n 1, 1) := by decide +kernel
theorem dX1_value_2 : decode cX1_value 2 = .ok (.iconst 2, 1) := by decide +kernel
theorem dX1_value_3 : decode cX1_value 3 = .ok (.istore_n 3, 1) := by decide +kernel
theorem dX1_value_4 : decode cX1_value 4 = .ok (.iload_n 3, 1) := by decide +kernel
theorem dX1_value_5 : decode cX1_value 5 = .ok (.bipush 26, 2) := by decide +kernel
theorem dX1_value_7 : decode cX1_value 7 = .ok (.if_icmp .ge 34, 3) := by decide +kernel
theorem dX1_value_10 : decode cX1_value 10 = .ok (.iconst 0, 1) := by decide +kernel
theorem dX1_value_11 : decode cX1_value 11 = .ok (.istore 4, 2) := by decide +kernel
theorem dX1_value_13 : decode cX1_value 13 = .ok (.iload 4, 2) := by decide +kernel
theorem dX1_value_15 : decode cX1_value 15 = .ok (.aload_n 0, 1) := by decide +kernel
theorem dX1_value_16 : decode cX1_value 16 = .ok (.getfield 9, 3) := by decide +kernel
theorem dX1_value_19 : decode cX1_value 19 = .ok (.iload_n 3, 1) := by decide +kernel
theorem dX1_value_20 : decode cX1_value 20 = .ok (.iaload, 1) := by decide +kernel
theorem dX1_value_21 : decode cX1_value 21 = .ok (.if_icmp .ge 14, 3) := by decide +kernel
theorem dX1_value_24 : decode cX1_value 24 = .ok (.lload_n 1, 1) := by decide +kernel
theorem dX1_value_25 : decode cX1_value 25 = .ok (.iload_n 3, 1) := by decide +kernel
theorem dX1_value_26 : decode cX1_value 26 = .ok (.i2l, 1) := by decide +kernel
theorem dX1_value_27 : decode cX1_value 27 = .ok (.lmul, 1) := by decide +kernel
theorem dX1_value_28 : decode cX1_value 28 = .ok (.lstore_n 1, 1) := by decide +kernel
theorem dX1_value_29 : decode cX1_value 29 = .ok (.iinc 4 1, 3) := by decide +kernel
theorem dX1_value_32 : decode cX1_value 32 = .ok (.goto (-19), 3) := by decide +kernel
theorem dX1_value_35 : decode cX1_value 35 = .ok (.iinc 3 1, 3) := by decide +kernel
theorem dX1_value_38 : decode cX1_value 38 = .ok (.goto (-34), 3) := by decide +kernel
theorem dX1_value_41 : decode cX1_value 41 = .ok (.lload_n 1, 1) := by decide +kernel
theorem dX1_value_42 : decode cX1_value 42 = .ok (.lreturn, 1) := by decide +kernel
theorem q5 : (Jvm.Cond.initialized "BoxDesk$Product") ∈ lw_all := lw_g (lw_at lw_m0 2 rfl) rfl
theorem q16 : (Jvm.Cond.instantiable "BoxDesk$Product" (1 : Nat)) ∈ lw_all := lw_g (lw_at lw_m0 13 rfl) rfl
theorem q18 : (Jvm.Cond.instanceMethod ({ cls := "BoxDesk$Product", name := "<init>", desc := "()V" } : Jvm.MethodName)) ∈ lw_all := lw_g (lw_at lw_m0 15 rfl) rfl
theorem q19 : (Jvm.Cond.code ({ cls := "BoxDesk$Product", name := "<init>", desc := "()V" } : Jvm.MethodName) prog_2_method_1_code (1 : Nat) (Option.none : Option Jvm.ClassFile.FieldType)) ∈ lw_all := lw_g (lw_at lw_m0 16 rfl) rfl
theorem q20 : (Jvm.Cond.methodLink "BoxDesk$Product" (1 : Nat) ({ cls := "java/lang/Object", name := "<init>", desc := "()V" } : Jvm.MethodName)) ∈ lw_all := lw_g (lw_at lw_m0 17 rfl) rfl
theorem q21 : (Jvm.Cond.fieldLink "BoxDesk$Product" (9 : Nat) "BoxDesk$Product" "times" "[I") ∈ lw_all := lw_g (lw_at lw_m0 18 rfl) rfl
theorem q22 : (Jvm.Cond.laysFinal "BoxDesk$Product" "BoxDesk$Product" "times" "[I") ∈ lw_all := lw_g (lw_at lw_m0 19 rfl) rfl
theorem q23 : (Jvm.Cond.soleField "BoxDesk$Product" "times") ∈ lw_all := lw_g (lw_at lw_m0 20 rfl) rfl
theorem q24 : (Jvm.Cond.superclass "BoxDesk$Product" "java/lang/Object") ∈ lw_all := lw_g (lw_at lw_m0 21 rfl) rfl
theorem q53 : (Jvm.Cond.instanceMethod ({ cls := "BoxDesk$Product", name := "begin", desc := "()V" } : Jvm.MethodName)) ∈ lw_all := lw_g (lw_at lw_m0 50 rfl) rfl
theorem q54 : (Jvm.Cond.selects "BoxDesk$Product" ({ cls := "BoxDesk$Product", name := "begin", desc := "()V" } : Jvm.MethodName) ({ cls := "BoxDesk$Product", name := "begin", desc := "()V" } : Jvm.MethodName)) ∈ lw_all := lw_g (lw_at lw_m0 51 rfl) rfl
theorem q55 : (Jvm.Cond.code ({ cls := "BoxDesk$Product", name := "begin", desc := "()V" } : Jvm.MethodName) prog_2_method_2_code (2 : Nat) (Option.none : Option Jvm.ClassFile.FieldType)) ∈ lw_all := lw_g (lw_at lw_m0 52 rfl) rfl
theorem q57 : (Jvm.Cond.instanceMethod ({ cls := "BoxDesk$Product", name := "take", desc := "(II)V" } : Jvm.MethodName)) ∈ lw_all := lw_g (lw_at lw_m0 54 rfl) rfl
theorem q58 : (Jvm.Cond.selects "BoxDesk$Product" ({ cls := "BoxDesk$Product", name := "take", desc := "(II)V" } : Jvm.MethodName) ({ cls := "BoxDesk$Product", name := "take", desc := "(II)V" } : Jvm.MethodName)) ∈ lw_all := lw_g (lw_at lw_m0 55 rfl) rfl
theorem q59 : (Jvm.Cond.code ({ cls := "BoxDesk$Product", name := "take", desc := "(II)V" } : Jvm.MethodName) prog_2_method_3_code (5 : Nat) (Option.none : Option Jvm.ClassFile.FieldType)) ∈ lw_all := lw_g (lw_at lw_m0 56 rfl) rfl
theorem q69 : (Jvm.Cond.instanceMethod ({ cls := "BoxDesk$Product", name := "value", desc := "()J" } : Jvm.MethodName)) ∈ lw_all := lw_g (lw_at lw_m0 66 rfl) rfl
theorem q70 : (Jvm.Cond.selects "BoxDesk$Product" ({ cls := "BoxDesk$Product", name := "value", desc := "()J" } : Jvm.MethodName) ({ cls := "BoxDesk$Product", name := "value", desc := "()J" } : Jvm.MethodName)) ∈ lw_all := lw_g (lw_at lw_m0 67 rfl) rfl
theorem q71 : (Jvm.Cond.code ({ cls := "BoxDesk$Product", name := "value", desc := "()J" } : Jvm.MethodName) prog_2_method_4_code (5 : Nat) (Option.some Jvm.ClassFile.FieldType.long)) ∈ lw_all := lw_g (lw_at lw_m0 68 rfl) rfl
theorem in_X1 : ∀ w ∈ wsX10, w ∈ lw_all := lw_in wsX10 [22] (by decide +kernel) (by decide +kernel)
/-! BoxDesk -/
set_option maxRecDepth 100000
def RX0 : String := "BoxDesk"
def TX0 : u_T := fun k => match k with
  | 0 => ("BoxDesk", "row", "[I", true)
  | 1 => ("BoxDesk", "rows", "I", false)
  | 2 => ("BoxDesk", "product", "LBoxDesk$Product;", true)
  | _ => ("BoxDesk", "ways", "[I", true)
def tyX0 : Nat → FieldType := fun k => match k with
  | 0 => .array .int
  | 1 => .int
  | 2 => .object "BoxDesk$Product"
  | _ => .array .int
abbrev wsX00 : List Cond := u_ws RX0 TX0 4
theorem nmX0 : ∀ a, a < 4 → ∀ b, b < 4 → a ≠ b → (TX0 a).2.1 ≠ (TX0 b).2.1 := by decide +kernel
theorem tyX0_ok : ∀ k, k < 4 → parseFieldDescriptor (TX0 k).2.2.1 = some (tyX0 k) := by decide +kernel
abbrev cX0_init : ByteArray := prog_1_method_1_code
def yX0_init : MethodName := ⟨RX0, "<init>", "()V"⟩
theorem dX0_init_0 : decode cX0_init 0 = .ok (.aload_n 0, 1) := by decide +kernel
theorem dX0_init_1 : decode cX0_init 1 = .ok (.invokespecial 1, 3) := by decide +kernel
theorem dX0_init_4 : decode cX0_init 4 = .ok (.aload_n 0, 1) := by decide +kernel
theorem dX0_init_5 : decode cX0_init 5 = .ok (.iconst 5, 1) := by decide +kernel
theorem dX0_init_6 : decode cX0_init 6 = .ok (.newarray .int, 2) := by decide +kernel
theorem dX0_init_8 : decode cX0_init 8 = .ok (.putfield 9, 3) := by decide +kernel
theorem dX0_init_11 : decode cX0_init 11 = .ok (.aload_n 0, 1) := by decide +kernel
theorem dX0_init_12 : decode cX0_init 12 = .ok (.new 13, 3) := by decide +kernel
theorem dX0_init_15 : decode cX0_init 15 = .ok (.dup, 1) := by decide +kernel
theorem dX0_init_16 : decode cX0_init 16 = .ok (.invokespecial 15, 3) := by decide +kernel
theorem dX0_init_19 : decode cX0_init 19 = .ok (.putfield 16, 3) := by decide +kernel
theorem dX0_init_22 : decode cX0_init 22 = .ok (.aload_n 0, 1) := by decide +kernel
theorem dX0_init_23 : decode cX0_init 23 = .ok (.bipush 6, 2) := by decide +kernel
theorem dX0_init_25 : decode cX0_init 25 = .ok (.newarray .int, 2) := by decide +kernel
theorem dX0_init_27 : decode cX0_init 27 = .ok (.putfield 20, 3) := by decide +kernel
theorem dX0_init_30 : decode cX0_init 30 = .ok (.return_, 1) := by decide +kernel
abbrev cX0_add : ByteArray := prog_1_method_2_code
def yX0_add : MethodName := ⟨RX0, "add", "(I)Z"⟩
theorem dX0_add_0 : decode cX0_add 0 = .ok (.iconst 1, 1) := by decide +kernel
theorem dX0_add_1 : decode cX0_add 1 = .ok (.iload_n 1, 1) := by decide +kernel
theorem dX0_add_2 : decode cX0_add 2 = .ok (.ldc 25, 2) := by decide +kernel
theorem dX0_add_4 : decode cX0_add 4 = .ok (.iand, 1) := by decide +kernel
theorem dX0_add_5 : decode cX0_add 5 = .ok (.iconst 5, 1) := by decide +kernel
theorem dX0_add_6 : decode cX0_add 6 = .ok (.irem, 1) := by decide +kernel
theorem dX0_add_7 : decode cX0_add 7 = .ok (.iadd, 1) := by decide +kernel
theorem dX0_add_8 : decode cX0_add 8 = .ok (.istore_n 2, 1) := by decide +kernel
theorem dX0_add_9 : decode cX0_add 9 = .ok (.aload_n 0, 1) := by decide +kernel
theorem dX0_add_10 : decode cX0_add 10 = .ok (.getfield 26, 3) := by decide +kernel
theorem dX0_add_13 : decode cX0_add 13 = .ok (.iconst 5, 1) := by decide +kernel
theorem dX0_add_14 : decode cX0_add 14 = .ok (.if_icmp .eq 25, 3) := by decide +kernel
theorem dX0_add_17 : decode cX0_add 17 = .ok (.aload_n 0, 1) := by decide +kernel
theorem dX0_add_18 : decode cX0_add 18 = .ok (.getfield 26, 3) := by decide +kernel
theorem dX0_add_21 : decode cX0_add 21 = .ok (.ifCond .le 20, 3) := by decide +kernel
theorem dX0_add_24 : decode cX0_add 24 = .ok (.iload_n 2, 1) := by decide +kernel
theorem dX0_add_25 : decode cX0_add 25 = .ok (.aload_n 0, 1) := by decide +kernel
theorem dX0_add_26 : decode cX0_add 26 = .ok (.getfield 9, 3) := by decide +kernel
theorem dX0_add_29 : decode cX0_add 29 = .ok (.aload_n 0, 1) := by decide +kernel
theorem dX0_add_30 : decode cX0_add 30 = .ok (.getfield 26, 3) := by decide +kernel
theorem dX0_add_33 : decode cX0_add 33 = .ok (.iconst 1, 1) := by decide +kernel
theorem dX0_add_34 : decode cX0_add 34 = .ok (.isub, 1) := by decide +kernel
theorem dX0_add_35 : decode cX0_add 35 = .ok (.iaload, 1) := by decide +kernel
theorem dX0_add_36 : decode cX0_add 36 = .ok (.if_icmp .le 5, 3) := by decide +kernel
theorem dX0_add_39 : decode cX0_add 39 = .ok (.iconst 0, 1) := by decide +kernel
theorem dX0_add_40 : decode cX0_add 40 = .ok (.ireturn, 1) := by decide +kernel
theorem dX0_add_41 : decode cX0_add 41 = .ok (.aload_n 0, 1) := by decide +kernel
theorem dX0_add_42 : decode cX0_add 42 = .ok (.getfield 9, 3) := by decide +kernel
theorem dX0_add_45 : decode cX0_add 45 = .ok (.aload_n 0, 1) := by decide +kernel
theorem dX0_add_46 : decode cX0_add 46 = .ok (.getfield 26, 3) := by decide +kernel
theorem dX0_add_49 : decode cX0_add 49 = .ok (.iload_n 2, 1) := by decide +kernel
theorem dX0_add_50 : decode cX0_add 50 = .ok (.iastore, 1) := by decide +kernel
theorem dX0_add_51 : decode cX0_add 51 = .ok (.aload_n 0, 1) := by decide +kernel
theorem dX0_add_52 : decode cX0_add 52 = .ok (.dup, 1) := by decide +kernel
theorem dX0_add_53 : decode cX0_add 53 = .ok (.getfield 26, 3) := by decide +kernel
theorem dX0_add_56 : decode cX0_add 56 = .ok (.iconst 1, 1) := by decide +kernel
theorem dX0_add_57 : decode cX0_add 57 = .ok (.iadd, 1) := by decide +kernel
theorem dX0_add_58 : decode cX0_add 58 = .ok (.putfield 26, 3) := by decide +kernel
theorem dX0_add_61 : decode cX0_add 61 = .ok (.iconst 1, 1) := by decide +kernel
theorem dX0_add_62 : decode cX0_add 62 = .ok (.ireturn, 1) := by decide +kernel
abbrev cX0_drop : ByteArray := prog_1_method_3_code
def yX0_drop : MethodName := ⟨RX0, "drop", "()Z"⟩
theorem dX0_drop_0 : decode cX0_drop 0 = .ok (.aload_n 0, 1) := by decide +kernel
theorem dX0_drop_1 : decode cX0_drop 1 = .ok (.getfield 26, 3) := by decide +kernel
theorem dX0_drop_4 : decode cX0_drop 4 = .ok (.ifCond .ne 5, 3) := by decide +kernel
theorem dX0_drop_7 : decode cX0_drop 7 = .ok (.iconst 0, 1) := by decide +kernel
theorem dX0_drop_8 : decode cX0_drop 8 = .ok (.ireturn, 1) := by decide +kernel
theorem dX0_drop_9 : decode cX0_drop 9 = .ok (.aload_n 0, 1) := by decide +kernel
theorem dX0_drop_10 : decode cX0_drop 10 = .ok (.dup, 1) := by decide +kernel
theorem dX0_drop_11 : decode cX0_drop 11 = .ok (.getfield 26, 3) := by decide +kernel
theorem dX0_drop_14 : decode cX0_drop 14 = .ok (.iconst 1, 1) := by decide +kernel
theorem dX0_drop_15 : decode cX0_drop 15 = .ok (.isub, 1) := by decide +kernel
theorem dX0_drop_16 : decode cX0_drop 16 = .ok (.putfield 26, 3) := by decide +kernel
theorem dX0_drop_19 : decode cX0_drop 19 = .ok (.iconst 1, 1) := by decide +kernel
theorem dX0_drop_20 : decode cX0_drop 20 = .ok (.ireturn, 1) := by decide +kernel
abbrev cX0_orders : ByteArray := prog_1_method_4_code
def yX0_orders : MethodName := ⟨RX0, "orders", "()J"⟩
theorem dX0_orders_0 : decode cX0_orders 0 = .ok (.aload_n 0, 1) := by decide +kernel
theorem dX0_orders_1 : decode cX0_orders 1 = .ok (.getfield 16, 3) := by decide +kernel
theorem dX0_orders_4 : decode cX0_orders 4 = .ok (.invokevirtual 30, 3) := by decide +kernel
theorem dX0_orders_7 : decode cX0_orders 7 = .ok (.iconst 0, 1) := by decide +kernel
theorem dX0_orders_8 : decode cX0_orders 8 = .ok (.istore_n 1, 1) := by decide +kernel
theorem dX0_orders_9 : decode cX0_orders 9 = .ok (.iconst 0, 1) := by decide +kernel
theorem dX0_orders_10 : decode cX0_orders 10 = .ok (.istore_n 2, 1) := by decide +kernel
theorem dX0_orders_11 : decode cX0_orders 11 = .ok (.iload_n 2, 1) := by decide +kernel
theorem dX0_orders_12 : decode cX0_orders 12 = .ok (.aload_n 0, 1) := by decide +kernel
theorem dX0_orders_13 : decode cX0_orders 13 = .ok (.getfield 26, 3) := by decide +kernel
theorem dX0_orders_16 : decode cX0_orders 16 = .ok (.if_icmp .ge 53, 3) := by decide +kernel
theorem dX0_orders_19 : decode cX0_orders 19 = .ok (.iconst 0, 1) := by decide +kernel
theorem dX0_orders_20 : decode cX0_orders 20 = .ok (.istore_n 3, 1) := by decide +kernel
theorem dX0_orders_21 : decode cX0_orders 21 = .ok (.iload_n 3, 1) := by decide +kernel
theorem dX0_orders_22 : decode cX0_orders 22 = .ok (.aload_n 0, 1) := by decide +kernel
theorem dX0_orders_23 : decode cX0_orders 23 = .ok (.getfield 9, 3) := by decide +kernel
theorem dX0_orders_26 : decode cX0_orders 26 = .ok (.iload_n 2, 1) := by decide +kernel
theorem dX0_orders_27 : decode cX0_orders 27 = .ok (.iaload, 1) := by decide +kernel
theorem dX0_orders_28 : decode cX0_orders 28 = .ok (.if_icmp .ge 35, 3) := by decide +kernel
theorem dX0_orders_31 : decode cX0_orders 31 = .ok (.iinc 1 1, 3) := by decide +kernel
theorem dX0_orders_34 : decode cX0_orders 34 = .ok (.aload_n 0, 1) := by decide +kernel
theorem dX0_orders_35 : decode cX0_orders 35 = .ok (.getfield 16, 3) := by decide +kernel
theorem dX0_orders_38 : decode cX0_orders 38 = .ok (.iload_n 1, 1) := by decide +kernel
theorem dX0_orders_39 : decode cX0_orders 39 = .ok (.iconst 1, 1) := by decide +kernel
theorem dX0_orders_40 : decode cX0_orders 40 = .ok (.invokevirtual 33, 3) := by decide +kernel
theorem dX0_orders_43 : decode cX0_orders 43 = .ok (.aload_n 0, 1) := by decide +kernel
theorem dX0_orders_44 : decode cX0_orders 44 = .ok (.getfield 16, 3) := by decide +kernel
theorem dX0_orders_47 : decode cX0_orders 47 = .ok (.aload_n 0, 1) := by decide +kernel
theorem dX0_orders_48 : decode cX0_orders 48 = .ok (.iload_n 2, 1) := by decide +kernel
theorem dX0_orders_49 : decode cX0_orders 49 = .ok (.iload_n 3, 1) := by decide +kernel
theorem dX0_orders_50 : decode cX0_orders 50 = .ok (.invokevirtual 37, 3) := by decide +kernel
theorem dX0_orders_53 : decode cX0_orders 53 = .ok (.iconst (-1), 1) := by decide +kernel
theorem dX0_orders_54 : decode cX0_orders 54 = .ok (.invokevirtual 33, 3) := by decide +kernel
theorem dX0_orders_57 : decode cX0_orders 57 = .ok (.iinc 3 1, 3) := by decide +kernel
theorem dX0_orders_60 : decode cX0_orders 60 = .ok (.goto (-39), 3) := by decide +kernel
theorem dX0_orders_63 : decode cX0_orders 63 = .ok (.iinc 2 1, 3) := by decide +kernel
theorem dX0_orders_66 : decode cX0_orders 66 = .ok (.goto (-55), 3) := by decide +kernel
theorem dX0_orders_69 : decode cX0_orders 69 = .ok (.aload_n 0, 1) := by decide +kernel
theorem dX0_orders_70 : decode cX0_orders 70 = .ok (.getfield 16, 3) := by decide +kernel
theorem dX0_orders_73 : decode cX0_orders 73 = .ok (.invokevirtual 41, 3) := by decide +kernel
theorem dX0_orders_76 : decode cX0_orders 76 = .ok (.lreturn, 1) := by decide +kernel
abbrev cX0_hookAt : ByteArray := prog_1_method_6_code
def yX0_hookAt : MethodName := ⟨RX0, "hookAt", "(II)I"⟩
theorem dX0_hookAt_0 : decode cX0_hookAt 0 = .ok (.aload_n 0, 1) := by decide +kernel
theorem dX0_hookAt_1 : decode cX0_hookAt 1 = .ok (.getfield 9, 3) := by decide +kernel
theorem dX0_hookAt_4 : decode cX0_hookAt 4 = .ok (.iload_n 1, 1) := by decide +kernel
theorem dX0_hookAt_5 : decode cX0_hookAt 5 = .ok (.iaload, 1) := by decide +kernel
theorem dX0_hookAt_6 : decode cX0_hookAt 6 = .ok (.iload_n 2, 1) := by decide +kernel
theorem dX0_hookAt_7 : decode cX0_hookAt 7 = .ok (.isub, 1) := by decide +kernel
theorem dX0_hookAt_8 : decode cX0_hookAt 8 = .ok (.aload_n 0, 1) := by decide +kernel
theorem dX0_hookAt_9 : decode cX0_hookAt 9 = .ok (.iload_n 2, 1) := by decide +kernel
theorem dX0_hookAt_10 : decode cX0_hookAt 10 = .ok (.invokevirtual 45, 3) := by decide +kernel
theorem dX0_hookAt_13 : decode cX0_hookAt 13 = .ok (.iadd, 1) := by decide +kernel
theorem dX0_hookAt_14 : decode cX0_hookAt 14 = .ok (.iload_n 1, 1) := by decide +kernel
theorem dX0_hookAt_15 : decode cX0_hookAt 15 = .ok (.isub, 1) := by decide +kernel
theorem dX0_hookAt_16 : decode cX0_hookAt 16 = .ok (.iconst 1, 1) := by decide +kernel
theorem dX0_hookAt_17 : decode cX0_hookAt 17 = .ok (.isub, 1) := by decide +kernel
theorem dX0_hookAt_18 : decode cX0_hookAt 18 = .ok (.ireturn, 1) := by decide +kernel
abbrev cX0_height : ByteArray := prog_1_method_5_code
def yX0_height : MethodName := ⟨RX0, "height", "(I)I"⟩
theorem dX0_height_0 : decode cX0_height 0 = .ok (.iconst 0, 1) := by decide +kernel
theorem dX0_height_1 : decode cX0_height 1 = .ok (.istore_n 2, 1) := by decide +kernel
theorem dX0_height_2 : decode cX0_height 2 = .ok (.iload_n 2, 1) := by decide +kernel
theorem dX0_height_3 : decode cX0_height 3 = .ok (.aload_n 0, 1) := by decide +kernel
theorem dX0_height_4 : decode cX0_height 4 = .ok (.getfield 26, 3) := by decide +kernel
theorem dX0_height_7 : decode cX0_height 7 = .ok (.if_icmp .ge 19, 3) := by decide +kernel
theorem dX0_height_10 : decode cX0_height 10 = .ok (.aload_n 0, 1) := by decide +kernel
theorem dX0_height_11 : decode cX0_height 11 = .ok (.getfield 9, 3) := by decide +kernel
theorem dX0_height_14 : decode cX0_height 14 = .ok (.iload_n 2, 1) := by decide +kernel
theorem dX0_height_15 : decode cX0_height 15 = .ok (.iaload, 1) := by decide +kernel
theorem dX0_height_16 : decode cX0_height 16 = .ok (.iload_n 1, 1) := by decide +kernel
theorem dX0_height_17 : decode cX0_height 17 = .ok (.if_icmp .le 9, 3) := by decide +kernel
theorem dX0_height_20 : decode cX0_height 20 = .ok (.iinc 2 1, 3) := by decide +kernel
theorem dX0_height_23 : decode cX0_height 23 = .ok (.goto (-21), 3) := by decide +kernel
theorem dX0_height_26 : decode cX0_height 26 = .ok (.iload_n 2, 1) := by decide +kernel
theorem dX0_height_27 : decode cX0_height 27 = .ok (.ireturn, 1) := by decide +kernel
abbrev cX0_boxes : ByteArray := prog_1_method_7_code
def yX0_boxes : MethodName := ⟨RX0, "boxes", "()I"⟩
theorem dX0_boxes_0 : decode cX0_boxes 0 = .ok (.iconst 0, 1) := by decide +kernel
theorem dX0_boxes_1 : decode cX0_boxes 1 = .ok (.istore_n 1, 1) := by decide +kernel
theorem dX0_boxes_2 : decode cX0_boxes 2 = .ok (.iconst 0, 1) := by decide +kernel
theorem dX0_boxes_3 : decode cX0_boxes 3 = .ok (.istore_n 2, 1) := by decide +kernel
theorem dX0_boxes_4 : decode cX0_boxes 4 = .ok (.iload_n 2, 1) := by decide +kernel
theorem dX0_boxes_5 : decode cX0_boxes 5 = .ok (.iconst 5, 1) := by decide +kernel
theorem dX0_boxes_6 : decode cX0_boxes 6 = .ok (.if_icmp .ge 17, 3) := by decide +kernel
theorem dX0_boxes_9 : decode cX0_boxes 9 = .ok (.iload_n 1, 1) := by decide +kernel
theorem dX0_boxes_10 : decode cX0_boxes 10 = .ok (.aload_n 0, 1) := by decide +kernel
theorem dX0_boxes_11 : decode cX0_boxes 11 = .ok (.iload_n 2, 1) := by decide +kernel
theorem dX0_boxes_12 : decode cX0_boxes 12 = .ok (.invokevirtual 45, 3) := by decide +kernel
theorem dX0_boxes_15 : decode cX0_boxes 15 = .ok (.iadd, 1) := by decide +kernel
theorem dX0_boxes_16 : decode cX0_boxes 16 = .ok (.istore_n 1, 1) := by decide +kernel
theorem dX0_boxes_17 : decode cX0_boxes 17 = .ok (.iinc 2 1, 3) := by decide +kernel
theorem dX0_boxes_20 : decode cX0_boxes 20 = .ok (.goto (-16), 3) := by decide +kernel
theorem dX0_boxes_23 : decode cX0_boxes 23 = .ok (.iload_n 1, 1) := by decide +kernel
theorem dX0_boxes_24 : decode cX0_boxes 24 = .ok (.ireturn, 1) := by decide +kernel
abbrev cX0_hook : ByteArray := prog_1_method_8_code
def yX0_hook : MethodName := ⟨RX0, "hook", "(II)I"⟩
theorem dX0_hook_0 : decode cX0_hook 0 = .ok (.iload_n 1, 1) := by decide +kernel
theorem dX0_hook_1 : decode cX0_hook 1 = .ok (.ldc 25, 2) := by decide +kernel
theorem dX0_hook_3 : decode cX0_hook 3 = .ok (.iand, 1) := by decide +kernel
theorem dX0_hook_4 : decode cX0_hook 4 = .ok (.iconst 5, 1) := by decide +kernel
theorem dX0_hook_5 : decode cX0_hook 5 = .ok (.irem, 1) := by decide +kernel
theorem dX0_hook_6 : decode cX0_hook 6 = .ok (.istore_n 3, 1) := by decide +kernel
theorem dX0_hook_7 : decode cX0_hook 7 = .ok (.iload_n 2, 1) := by decide +kernel
theorem dX0_hook_8 : decode cX0_hook 8 = .ok (.ldc 25, 2) := by decide +kernel
theorem dX0_hook_10 : decode cX0_hook 10 = .ok (.iand, 1) := by decide +kernel
theorem dX0_hook_11 : decode cX0_hook 11 = .ok (.iconst 5, 1) := by decide +kernel
theorem dX0_hook_12 : decode cX0_hook 12 = .ok (.irem, 1) := by decide +kernel
theorem dX0_hook_13 : decode cX0_hook 13 = .ok (.istore 4, 2) := by decide +kernel
theorem dX0_hook_15 : decode cX0_hook 15 = .ok (.iload_n 3, 1) := by decide +kernel
theorem dX0_hook_16 : decode cX0_hook 16 = .ok (.aload_n 0, 1) := by decide +kernel
theorem dX0_hook_17 : decode cX0_hook 17 = .ok (.getfield 26, 3) := by decide +kernel
theorem dX0_hook_20 : decode cX0_hook 20 = .ok (.if_icmp .ge 24, 3) := by decide +kernel
theorem dX0_hook_23 : decode cX0_hook 23 = .ok (.iload 4, 2) := by decide +kernel
theorem dX0_hook_25 : decode cX0_hook 25 = .ok (.aload_n 0, 1) := by decide +kernel
theorem dX0_hook_26 : decode cX0_hook 26 = .ok (.getfield 9, 3) := by decide +kernel
theorem dX0_hook_29 : decode cX0_hook 29 = .ok (.iload_n 3, 1) := by decide +kernel
theorem dX0_hook_30 : decode cX0_hook 30 = .ok (.iaload, 1) := by decide +kernel
theorem dX0_hook_31 : decode cX0_hook 31 = .ok (.if_icmp .ge 13, 3) := by decide +kernel
theorem dX0_hook_34 : decode cX0_hook 34 = .ok (.aload_n 0, 1) := by decide +kernel
theorem dX0_hook_35 : decode cX0_hook 35 = .ok (.iload_n 3, 1) := by decide +kernel
theorem dX0_hook_36 : decode cX0_hook 36 = .ok (.iload 4, 2) := by decide +kernel
theorem dX0_hook_38 : decode cX0_hook 38 = .ok (.invokevirtual 37, 3) := by decide +kernel
theorem dX0_hook_41 : decode cX0_hook 41 = .ok (.goto 4, 3) := by decide +kernel
theorem dX0_hook_44 : decode cX0_hook 44 = .ok (.iconst 0, 1) := by decide +kernel
theorem dX0_hook_45 : decode cX0_hook 45 = .ok (.ireturn, 1) := by decide +kernel
abbrev cX0_column : ByteArray := prog_1_method_9_code
def yX0_column : MethodName := ⟨RX0, "column", "(I)I"⟩
theorem dX0_column_0 : decode cX0_column 0 = .ok (.aload_n 0, 1) := by decide +kernel
theorem dX0_column_1 : decode cX0_column 1 = .ok (.iload_n 1, 1) := by decide +kernel
theorem dX0_column_2 : decode cX0_column 2 = .ok (.ldc 25, 2) := by decide +kernel
theorem dX0_column_4 : decode cX0_column 4 = .ok (.iand, 1) := by decide +kernel
theorem dX0_column_5 : decode cX0_column 5 = .ok (.iconst 5, 1) := by decide +kernel
theorem dX0_column_6 : decode cX0_column 6 = .ok (.irem, 1) := by decide +kernel
theorem dX0_column_7 : decode cX0_column 7 = .ok (.invokevirtual 45, 3) := by decide +kernel
theorem dX0_column_10 : decode cX0_column 10 = .ok (.ireturn, 1) := by decide +kernel
abbrev cX0_inner : ByteArray := prog_1_method_10_code
def yX0_inner : MethodName := ⟨RX0, "inner", "()I"⟩
theorem dX0_inner_0 : decode cX0_inner 0 = .ok (.iconst 0, 1) := by decide +kernel
theorem dX0_inner_1 : decode cX0_inner 1 = .ok (.istore_n 1, 1) := by decide +kernel
theorem dX0_inner_2 : decode cX0_inner 2 = .ok (.iload_n 1, 1) := by decide +kernel
theorem dX0_inner_3 : decode cX0_inner 3 = .ok (.iconst 5, 1) := by decide +kernel
theorem dX0_inner_4 : decode cX0_inner 4 = .ok (.if_icmp .gt 16, 3) := by decide +kernel
theorem dX0_inner_7 : decode cX0_inner 7 = .ok (.aload_n 0, 1) := by decide +kernel
theorem dX0_inner_8 : decode cX0_inner 8 = .ok (.getfield 20, 3) := by decide +kernel
theorem dX0_inner_11 : decode cX0_inner 11 = .ok (.iload_n 1, 1) := by decide +kernel
theorem dX0_inner_12 : decode cX0_inner 12 = .ok (.iconst 1, 1) := by decide +kernel
theorem dX0_inner_13 : decode cX0_inner 13 = .ok (.iastore, 1) := by decide +kernel
theorem dX0_inner_14 : decode cX0_inner 14 = .ok (.iinc 1 1, 3) := by decide +kernel
theorem dX0_inner_17 : decode cX0_inner 17 = .ok (.goto (-15), 3) := by decide +kernel
theorem dX0_inner_20 : decode cX0_inner 20 = .ok (.aload_n 0, 1) := by decide +kernel
theorem dX0_inner_21 : decode cX0_inner 21 = .ok (.getfield 26, 3) := by decide +kernel
theorem dX0_inner_24 : decode cX0_inner 24 = .ok (.iconst 1, 1) := by decide +kernel
theorem dX0_inner_25 : decode cX0_inner 25 = .ok (.isub, 1) := by decide +kernel
theorem dX0_inner_26 : decode cX0_inner 26 = .ok (.istore_n 1, 1) := by decide +kernel
theorem dX0_inner_27 : decode cX0_inner 27 = .ok (.iload_n 1, 1) := by decide +kernel
theorem dX0_inner_28 : decode cX0_inner 28 = .ok (.ifCond .lt 50, 3) := by decide +kernel
theorem dX0_inner_31 : decode cX0_inner 31 = .ok (.iconst 0, 1) := by decide +kernel
theorem dX0_inner_32 : decode cX0_inner 32 = .ok (.istore_n 2, 1) := by decide +kernel
theorem dX0_inner_33 : decode cX0_inner 33 = .ok (.iconst 0, 1) := by decide +kernel
theorem dX0_inner_34 : decode cX0_inner 34 = .ok (.istore_n 3, 1) := by decide +kernel
theorem dX0_inner_35 : decode cX0_inner 35 = .ok (.iload_n 3, 1) := by decide +kernel
theorem dX0_inner_36 : decode cX0_inner 36 = .ok (.iconst 5, 1) := by decide +kernel
theorem dX0_inner_37 : decode cX0_inner 37 = .ok (.if_icmp .gt 35, 3) := by decide +kernel
theorem dX0_inner_40 : decode cX0_inner 40 = .ok (.iload_n 3, 1) := by decide +kernel
theorem dX0_inner_41 : decode cX0_inner 41 = .ok (.aload_n 0, 1) := by decide +kernel
theorem dX0_inner_42 : decode cX0_inner 42 = .ok (.getfield 9, 3) := by decide +kernel
theorem dX0_inner_45 : decode cX0_inner 45 = .ok (.iload_n 1, 1) := by decide +kernel
theorem dX0_inner_46 : decode cX0_inner 46 = .ok (.iaload, 1) := by decide +kernel
theorem dX0_inner_47 : decode cX0_inner 47 = .ok (.if_icmp .gt 12, 3) := by decide +kernel
theorem dX0_inner_50 : decode cX0_inner 50 = .ok (.iload_n 2, 1) := by decide +kernel
theorem dX0_inner_51 : decode cX0_inner 51 = .ok (.aload_n 0, 1) := by decide +kernel
theorem dX0_inner_52 : decode cX0_inner 52 = .ok (.getfield 20, 3) := by decide +kernel
theorem dX0_inner_55 : decode cX0_inner 55 = .ok (.iload_n 3, 1) := by decide +kernel
theorem dX0_inner_56 : decode cX0_inner 56 = .ok (.iaload, 1) := by decide +kernel
theorem dX0_inner_57 : decode cX0_inner 57 = .ok (.iadd, 1) := by decide +kernel
theorem dX0_inner_58 : decode cX0_inner 58 = .ok (.istore_n 2, 1) := by decide +kernel
theorem dX0_inner_59 : decode cX0_inner 59 = .ok (.aload_n 0, 1) := by decide +kernel
theorem dX0_inner_60 : decode cX0_inner 60 = .ok (.getfield 20, 3) := by decide +kernel
theorem dX0_inner_63 : decode cX0_inner 63 = .ok (.iload_n 3, 1) := by decide +kernel
theorem dX0_inner_64 : decode cX0_inner 64 = .ok (.iload_n 2, 1) := by decide +kernel
theorem dX0_inner_65 : decode cX0_inner 65 = .ok (.iastore, 1) := by decide +kernel
theorem dX0_inner_66 : decode cX0_inner 66 = .ok (.iinc 3 1, 3) := by decide +kernel
theorem dX0_inner_69 : decode cX0_inner 69 = .ok (.goto (-34), 3) := by decide +kernel
theorem dX0_inner_72 : decode cX0_inner 72 = .ok (.iinc 1 (-1), 3) := by decide +kernel
theorem dX0_inner_75 : decode cX0_inner 75 = .ok (.goto (-48), 3) := by decide +kernel
theorem dX0_inner_78 : decode cX0_inner 78 = .ok (.aload_n 0, 1) := by decide +kernel
theorem dX0_inner_79 : decode cX0_inner 79 = .ok (.getfield 20, 3) := by decide +kernel
theorem dX0_inner_82 : decode cX0_inner 82 = .ok (.iconst 5, 1) := by decide +kernel
theorem dX0_inner_83 : decode cX0_inner 83 = .ok (.iaload, 1) := by decide +kernel
theorem dX0_inner_84 : decode cX0_inner 84 = .ok (.ireturn, 1) := by decide +kernel
theorem q4 : (Jvm.Cond.initialized "BoxDesk") ∈ lw_all := lw_g (lw_at lw_m0 1 rfl) rfl
theorem q8 : (Jvm.Cond.instantiable "BoxDesk" (4 : Nat)) ∈ lw_all := lw_g (lw_at lw_m0 5 rfl) rfl
theorem q10 : (Jvm.Cond.instanceMethod ({ cls := "BoxDesk", name := "<init>", desc := "()V" } : Jvm.MethodName)) ∈ lw_all := lw_g (lw_at lw_m0 7 rfl) rfl
theorem q11 : (Jvm.Cond.code ({ cls := "BoxDesk", name := "<init>", desc := "()V" } : Jvm.MethodName) prog_1_method_1_code (1 : Nat) (Option.none : Option Jvm.ClassFile.FieldType)) ∈ lw_all := lw_g (lw_at lw_m0 8 rfl) rfl
theorem q12 : (Jvm.Cond.methodLink "BoxDesk" (1 : Nat) ({ cls := "java/lang/Object", name := "<init>", desc := "()V" } : Jvm.MethodName)) ∈ lw_all := lw_g (lw_at lw_m0 9 rfl) rfl
theorem q15 : (Jvm.Cond.classLink "BoxDesk" (13 : Nat) "BoxDesk$Product") ∈ lw_all := lw_g (lw_at lw_m0 12 rfl) rfl
theorem q17 : (Jvm.Cond.methodLinkNest "BoxDesk" (15 : Nat) ({ cls := "BoxDesk$Product", name := "<init>", desc := "()V" } : Jvm.MethodName) "BoxDesk") ∈ lw_tbl := lw_at lw_m0 14 rfl
theorem q26 : (Jvm.Cond.fieldLink "BoxDesk" (9 : Nat) "BoxDesk" "row" "[I") ∈ lw_all := lw_g (lw_at lw_m0 23 rfl) rfl
theorem q27 : (Jvm.Cond.fieldLink "BoxDesk" (26 : Nat) "BoxDesk" "rows" "I") ∈ lw_all := lw_g (lw_at lw_m0 24 rfl) rfl
theorem q28 : (Jvm.Cond.fieldLink "BoxDesk" (16 : Nat) "BoxDesk" "product" "LBoxDesk$Product;") ∈ lw_all := lw_g (lw_at lw_m0 25 rfl) rfl
theorem q29 : (Jvm.Cond.fieldLink "BoxDesk" (20 : Nat) "BoxDesk" "ways" "[I") ∈ lw_all := lw_g (lw_at lw_m0 26 rfl) rfl
theorem q30 : (Jvm.Cond.laysFinal "BoxDesk" "BoxDesk" "row" "[I") ∈ lw_all := lw_g (lw_at lw_m0 27 rfl) rfl
theorem q31 : (Jvm.Cond.soleField "BoxDesk" "row") ∈ lw_all := lw_g (lw_at lw_m0 28 rfl) rfl
theorem q32 : (Jvm.Cond.lays "BoxDesk" "BoxDesk" "rows" "I") ∈ lw_all := lw_g (lw_at lw_m0 29 rfl) rfl
theorem q33 : (Jvm.Cond.soleField "BoxDesk" "rows") ∈ lw_all := lw_g (lw_at lw_m0 30 rfl) rfl
theorem q34 : (Jvm.Cond.laysFinal "BoxDesk" "BoxDesk" "product" "LBoxDesk$Product;") ∈ lw_all := lw_g (lw_at lw_m0 31 rfl) rfl
theorem q35 : (Jvm.Cond.soleField "BoxDesk" "product") ∈ lw_all := lw_g (lw_at lw_m0 32 rfl) rfl
theorem q36 : (Jvm.Cond.laysFinal "BoxDesk" "BoxDesk" "ways" "[I") ∈ lw_all := lw_g (lw_at lw_m0 33 rfl) rfl
theorem q37 : (Jvm.Cond.soleField "BoxDesk" "ways") ∈ lw_all := lw_g (lw_at lw_m0 34 rfl) rfl
theorem q38 : (Jvm.Cond.superclass "BoxDesk" "java/lang/Object") ∈ lw_all := lw_g (lw_at lw_m0 35 rfl) rfl
theorem q40 : (Jvm.Cond.instanceMethod ({ cls := "BoxDesk", name := "add", desc := "(I)Z" } : Jvm.MethodName)) ∈ lw_all := lw_g (lw_at lw_m0 37 rfl) rfl
theorem q41 : (Jvm.Cond.selects "BoxDesk" ({ cls := "BoxDesk", name := "add", desc := "(I)Z" } : Jvm.MethodName) ({ cls := "BoxDesk", name := "add", desc := "(I)Z" } : Jvm.MethodName)) ∈ lw_all := lw_g (lw_at lw_m0 38 rfl) rfl
theorem q42 : (Jvm.Cond.code ({ cls := "BoxDesk", name := "add", desc := "(I)Z" } : Jvm.MethodName) prog_1_method_2_code (3 : Nat) (Option.some Jvm.ClassFile.FieldType.boolean)) ∈ lw_all := lw_g (lw_at lw_m0 39 rfl) rfl
theorem q43 : (Jvm.Cond.constant "BoxDesk" (25 : Nat) (2147483647 : Int32)) ∈ lw_all := lw_g (lw_at lw_m0 40 rfl) rfl
theorem q45 : (Jvm.Cond.instanceMethod ({ cls := "BoxDesk", name := "drop", desc := "()Z" } : Jvm.MethodName)) ∈ lw_all := lw_g (lw_at lw_m0 42 rfl) rfl
theorem q46 : (Jvm.Cond.selects "BoxDesk" ({ cls := "BoxDesk", name := "drop", desc := "()Z" } : Jvm.MethodName) ({ cls := "BoxDesk", name := "drop", desc := "()Z" } : Jvm.MethodName)) ∈ lw_all := lw_g (lw_at lw_m0 43 rfl) rfl
theorem q47 : (Jvm.Cond.code ({ cls := "BoxDesk", name := "drop", desc := "()Z" } : Jvm.MethodName) prog_1_method_3_code (1 : Nat) (Option.some Jvm.ClassFile.FieldType.boolean)) ∈ lw_all := lw_g (lw_at lw_m0 44 rfl) rfl
theorem q49 : (Jvm.Cond.instanceMethod ({ cls := "BoxDesk", name := "orders", desc := "()J" } : Jvm.MethodName)) ∈ lw_all := lw_g (lw_at lw_m0 46 rfl) rfl
theorem q50 : (Jvm.Cond.selects "BoxDesk" ({ cls := "BoxDesk", name := "orders", desc := "()J" } : Jvm.MethodName) ({ cls := "BoxDesk", name := "orders", desc := "()J" } : Jvm.MethodName)) ∈ lw_all := lw_g (lw_at lw_m0 47 rfl) rfl
theorem q51 : (Jvm.Cond.code ({ cls := "BoxDesk", name := "orders", desc := "()J" } : Jvm.MethodName) prog_1_method_4_code (4 : Nat) (Option.some Jvm.ClassFile.FieldType.long)) ∈ lw_all := lw_g (lw_at lw_m0 48 rfl) rfl
theorem q52 : (Jvm.Cond.methodLink "BoxDesk" (30 : Nat) ({ cls := "BoxDesk$Product", name := "begin", desc := "()V" } : Jvm.MethodName)) ∈ lw_all := lw_g (lw_at lw_m0 49 rfl) rfl
theorem q56 : (Jvm.Cond.methodLink "BoxDesk" (33 : Nat) ({ cls := "BoxDesk$Product", name := "take", desc := "(II)V" } : Jvm.MethodName)) ∈ lw_all := lw_g (lw_at lw_m0 53 rfl) rfl
theorem q60 : (Jvm.Cond.methodLink "BoxDesk" (37 : Nat) ({ cls := "BoxDesk", name := "hookAt", desc := "(II)I" } : Jvm.MethodName)) ∈ lw_all := lw_g (lw_at lw_m0 57 rfl) rfl
theorem q61 : (Jvm.Cond.privateMethod ({ cls := "BoxDesk", name := "hookAt", desc := "(II)I" } : Jvm.MethodName)) ∈ lw_tbl := lw_at lw_m0 58 rfl
theorem q62 : (Jvm.Cond.instanceMethod ({ cls := "BoxDesk", name := "hookAt", desc := "(II)I" } : Jvm.MethodName)) ∈ lw_all := lw_g (lw_at lw_m0 59 rfl) rfl
theorem q63 : (Jvm.Cond.code ({ cls := "BoxDesk", name := "hookAt", desc := "(II)I" } : Jvm.MethodName) prog_1_method_6_code (3 : Nat) (Option.some Jvm.ClassFile.FieldType.int)) ∈ lw_all := lw_g (lw_at lw_m0 60 rfl) rfl
theorem q64 : (Jvm.Cond.methodLink "BoxDesk" (45 : Nat) ({ cls := "BoxDesk", name := "height", desc := "(I)I" } : Jvm.MethodName)) ∈ lw_all := lw_g (lw_at lw_m0 61 rfl) rfl
theorem q65 : (Jvm.Cond.privateMethod ({ cls := "BoxDesk", name := "height", desc := "(I)I" } : Jvm.MethodName)) ∈ lw_tbl := lw_at lw_m0 62 rfl
theorem q66 : (Jvm.Cond.instanceMethod ({ cls := "BoxDesk", name := "height", desc := "(I)I" } : Jvm.MethodName)) ∈ lw_all := lw_g (lw_at lw_m0 63 rfl) rfl
theorem q67 : (Jvm.Cond.code ({ cls := "BoxDesk", name := "height", desc := "(I)I" } : Jvm.MethodName) prog_1_method_5_code (3 : Nat) (Option.some Jvm.ClassFile.FieldType.int)) ∈ lw_all := lw_g (lw_at lw_m0 64 rfl) rfl
theorem q68 : (Jvm.Cond.methodLink "BoxDesk" (41 : Nat) ({ cls := "BoxDesk$Product", name := "value", desc := "()J" } : Jvm.MethodName)) ∈ lw_all := lw_g (lw_at lw_m0 65 rfl) rfl
theorem q73 : (Jvm.Cond.instanceMethod ({ cls := "BoxDesk", name := "boxes", desc := "()I" } : Jvm.MethodName)) ∈ lw_all := lw_g (lw_at lw_m0 70 rfl) rfl
theorem q74 : (Jvm.Cond.selects "BoxDesk" ({ cls := "BoxDesk", name := "boxes", desc := "()I" } : Jvm.MethodName) ({ cls := "BoxDesk", name := "boxes", desc := "()I" } : Jvm.MethodName)) ∈ lw_all := lw_g (lw_at lw_m0 71 rfl) rfl
theorem q75 : (Jvm.Cond.code ({ cls := "BoxDesk", name := "boxes", desc := "()I" } : Jvm.MethodName) prog_1_method_7_code (3 : Nat) (Option.some Jvm.ClassFile.FieldType.int)) ∈ lw_all := lw_g (lw_at lw_m0 72 rfl) rfl
theorem q77 : (Jvm.Cond.instanceMethod ({ cls := "BoxDesk", name := "hook", desc := "(II)I" } : Jvm.MethodName)) ∈ lw_all := lw_g (lw_at lw_m0 74 rfl) rfl
theorem q78 : (Jvm.Cond.selects "BoxDesk" ({ cls := "BoxDesk", name := "hook", desc := "(II)I" } : Jvm.MethodName) ({ cls := "BoxDesk", name := "hook", desc := "(II)I" } : Jvm.MethodName)) ∈ lw_all := lw_g (lw_at lw_m0 75 rfl) rfl
theorem q79 : (Jvm.Cond.code ({ cls := "BoxDesk", name := "hook", desc := "(II)I" } : Jvm.MethodName) prog_1_method_8_code (5 : Nat) (Option.some Jvm.ClassFile.FieldType.int)) ∈ lw_all := lw_g (lw_at lw_m0 76 rfl) rfl
theorem q81 : (Jvm.Cond.instanceMethod ({ cls := "BoxDesk", name := "column", desc := "(I)I" } : Jvm.MethodName)) ∈ lw_all := lw_g (lw_at lw_m0 78 rfl) rfl
theorem q82 : (Jvm.Cond.selects "BoxDesk" ({ cls := "BoxDesk", name := "column", desc := "(I)I" } : Jvm.MethodName) ({ cls := "BoxDesk", name := "column", desc := "(I)I" } : Jvm.MethodName)) ∈ lw_all := lw_g (lw_at lw_m0 79 rfl) rfl
theorem q83 : (Jvm.Cond.code ({ cls := "BoxDesk", name := "column", desc := "(I)I" } : Jvm.MethodName) prog_1_method_9_code (2 : Nat) (Option.some Jvm.ClassFile.FieldType.int)) ∈ lw_all := lw_g (lw_at lw_m0 80 rfl) rfl
theorem q85 : (Jvm.Cond.instanceMethod ({ cls := "BoxDesk", name := "inner", desc := "()I" } : Jvm.MethodName)) ∈ lw_all := lw_g (lw_at lw_m0 82 rfl) rfl
theorem q86 : (Jvm.Cond.selects "BoxDesk" ({ cls := "BoxDesk", name := "inner", desc := "()I" } : Jvm.MethodName) ({ cls := "BoxDesk", name := "inner", desc := "()I" } : Jvm.MethodName)) ∈ lw_all := lw_g (lw_at lw_m0 83 rfl) rfl
theorem q87 : (Jvm.Cond.code ({ cls := "BoxDesk", name := "inner", desc := "()I" } : Jvm.MethodName) prog_1_method_10_code (4 : Nat) (Option.some Jvm.ClassFile.FieldType.int)) ∈ lw_all := lw_g (lw_at lw_m0 84 rfl) rfl
theorem in_X0 : ∀ w ∈ wsX00, w ∈ lw_all := lw_in wsX00 [30, 32, 34, 36] (by decide +kernel) (by decide +kernel)
end
section
/-! BoxDeskModel -/
set_option maxRecDepth 100000
def RX2 : String := "BoxDeskModel"
def TX2 : u_T := fun k => match k with
  | 0 => ("BoxDeskModel", "row", "[I", true)
  | 1 => ("BoxDeskModel", "rows", "I", false)
  | 2 => ("BoxDeskModel", "at", "[I", true)
  | _ => ("BoxDeskModel", "ways", "[J", true)
def tyX2 : Nat → FieldType := fun k => match k with
  | 0 => .array .int
  | 1 => .int
  | 2 => .array .int
  | _ => .array .long
abbrev wsX20 : List Cond := u_ws RX2 TX2 4
theorem nmX2 : ∀ a, a < 4 → ∀ b, b < 4 → a ≠ b → (TX2 a).2.1 ≠ (TX2 b).2.1 := by decide +kernel
theorem tyX2_ok : ∀ k, k < 4 → parseFieldDescriptor (TX2 k).2.2.1 = some (tyX2 k) := by decide +kernel
abbrev cX2_init : ByteArray := prog_4_method_1_code
def yX2_init : MethodName := ⟨RX2, "<init>", "()V"⟩
theorem dX2_init_0 : decode cX2_init 0 = .ok (.aload_n 0, 1) := by decide +kernel
theorem dX2_init_1 : decode cX2_init 1 = .ok (.invokespecial 1, 3) := by decide +kernel
theorem dX2_init_4 : decode cX2_init 4 = .ok (.aload_n 0, 1) := by decide +kernel
theorem dX2_init_5 : decode cX2_init 5 = .ok (.iconst 5, 1) := by decide +kernel
theorem dX2_init_6 : decode cX2_init 6 = .ok (.newarray .int, 2) := by decide +kernel
theorem dX2_init_8 : decode cX2_init 8 = .ok (.putfield 7, 3) := by decide +kernel
theorem dX2_init_11 : decode cX2_init 11 = .ok (.aload_n 0, 1) := by decide +kernel
theorem dX2_init_12 : decode cX2_init 12 = .ok (.iconst 5, 1) := by decide +kernel
theorem dX2_init_13 : decode cX2_init 13 = .ok (.newarray .int, 2) := by decide +kernel
theorem dX2_init_15 : decode cX2_init 15 = .ok (.putfield 13, 3) := by decide +kernel
theorem dX2_init_18 : decode cX2_init 18 = .ok (.aload_n 0, 1) := by decide +kernel
theorem dX2_init_19 : decode cX2_init 19 = .ok (.sipush 7776, 3) := by decide +kernel
theorem dX2_init_22 : decode cX2_init 22 = .ok (.newarray .long, 2) := by decide +kernel
theorem dX2_init_24 : decode cX2_init 24 = .ok (.putfield 16, 3) := by decide +kernel
theorem dX2_init_27 : decode cX2_init 27 = .ok (.return_, 1) := by decide +kernel
abbrev cX2_add : ByteArray := prog_4_method_2_code
def yX2_add : MethodName := ⟨RX2, "add", "(I)Z"⟩
theorem dX2_add_0 : decode cX2_add 0 = .ok (.iconst 1, 1) := by decide +kernel
theorem dX2_add_1 : decode cX2_add 1 = .ok (.iload_n 1, 1) := by decide +kernel
theorem dX2_add_2 : decode cX2_add 2 = .ok (.ldc 20, 2) := by decide +kernel
theorem dX2_add_4 : decode cX2_add 4 = .ok (.iand, 1) := by decide +kernel
theorem dX2_add_5 : decode cX2_add 5 = .ok (.iconst 5, 1) := by decide +kernel
theorem dX2_add_6 : decode cX2_add 6 = .ok (.irem, 1) := by decide +kernel
theorem dX2_add_7 : decode cX2_add 7 = .ok (.iadd, 1) := by decide +kernel
theorem dX2_add_8 : decode cX2_add 8 = .ok (.istore_n 2, 1) := by decide +kernel
theorem dX2_add_9 : decode cX2_add 9 = .ok (.aload_n 0, 1) := by decide +kernel
theorem dX2_add_10 : decode cX2_add 10 = .ok (.getfield 21, 3) := by decide +kernel
theorem dX2_add_13 : decode cX2_add 13 = .ok (.iconst 5, 1) := by decide +kernel
theorem dX2_add_14 : decode cX2_add 14 = .ok (.if_icmp .eq 25, 3) := by decide +kernel
theorem dX2_add_17 : decode cX2_add 17 = .ok (.aload_n 0, 1) := by decide +kernel
theorem dX2_add_18 : decode cX2_add 18 = .ok (.getfield 21, 3) := by decide +kernel
theorem dX2_add_21 : decode cX2_add 21 = .ok (.ifCond .le 20, 3) := by decide +kernel
theorem dX2_add_24 : decode cX2_add 24 = .ok (.aload_n 0, 1) := by decide +kernel
theorem dX2_add_25 : decode cX2_add 25 = .ok (.getfield 7, 3) := by decide +kernel
theorem dX2_add_28 : decode cX2_add 28 = .ok (.aload_n 0, 1) := by decide +kernel
theorem dX2_add_29 : decode cX2_add 29 = .ok (.getfield 21, 3) := by decide +kernel
theorem dX2_add_32 : decode cX2_add 32 = .ok (.iconst 1, 1) := by decide +kernel
theorem dX2_add_33 : decode cX2_add 33 = .ok (.isub, 1) := by decide +kernel
theorem dX2_add_34 : decode cX2_add 34 = .ok (.iaload, 1) := by decide +kernel
theorem dX2_add_35 : decode cX2_add 35 = .ok (.iload_n 2, 1) := by decide +kernel
theorem dX2_add_36 : decode cX2_add 36 = .ok (.if_icmp .ge 5, 3) := by decide +kernel
theorem dX2_add_39 : decode cX2_add 39 = .ok (.iconst 0, 1) := by decide +kernel
theorem dX2_add_40 : decode cX2_add 40 = .ok (.ireturn, 1) := by decide +kernel
theorem dX2_add_41 : decode cX2_add 41 = .ok (.aload_n 0, 1) := by decide +kernel
theorem dX2_add_42 : decode cX2_add 42 = .ok (.getfield 7, 3) := by decide +kernel
theorem dX2_add_45 : decode cX2_add 45 = .ok (.aload_n 0, 1) := by decide +kernel
theorem dX2_add_46 : decode cX2_add 46 = .ok (.getfield 21, 3) := by decide +kernel
theorem dX2_add_49 : decode cX2_add 49 = .ok (.iload_n 2, 1) := by decide +kernel
theorem dX2_add_50 : decode cX2_add 50 = .ok (.iastore, 1) := by decide +kernel
theorem dX2_add_51 : decode cX2_add 51 = .ok (.aload_n 0, 1) := by decide +kernel
theorem dX2_add_52 : decode cX2_add 52 = .ok (.aload_n 0, 1) := by decide +kernel
theorem dX2_add_53 : decode cX2_add 53 = .ok (.getfield 21, 3) := by decide +kernel
theorem dX2_add_56 : decode cX2_add 56 = .ok (.iconst 1, 1) := by decide +kernel
theorem dX2_add_57 : decode cX2_add 57 = .ok (.iadd, 1) := by decide +kernel
theorem dX2_add_58 : decode cX2_add 58 = .ok (.putfield 21, 3) := by decide +kernel
theorem dX2_add_61 : decode cX2_add 61 = .ok (.iconst 1, 1) := by decide +kernel
theorem dX2_add_62 : decode cX2_add 62 = .ok (.ireturn, 1) := by decide +kernel
abbrev cX2_drop : ByteArray := prog_4_method_3_code
def yX2_drop : MethodName := ⟨RX2, "drop", "()Z"⟩
theorem dX2_drop_0 : decode cX2_drop 0 = .ok (.aload_n 0, 1) := by decide +kernel
theorem dX2_drop_1 : decode cX2_drop 1 = .ok (.getfield 21, 3) := by decide +kernel
theorem dX2_drop_4 : decode cX2_drop 4 = .ok (.ifCond .ne 5, 3) := by decide +kernel
theorem dX2_drop_7 : decode cX2_drop 7 = .ok (.iconst 0, 1) := by decide +kernel
theorem dX2_drop_8 : decode cX2_drop 8 = .ok (.ireturn, 1) := by decide +kernel
theorem dX2_drop_9 : decode cX2_drop 9 = .ok (.aload_n 0, 1) := by decide +kernel
theorem dX2_drop_10 : decode cX2_drop 10 = .ok (.aload_n 0, 1) := by decide +kernel
theorem dX2_drop_11 : decode cX2_drop 11 = .ok (.getfield 21, 3) := by decide +kernel
theorem dX2_drop_14 : decode cX2_drop 14 = .ok (.iconst 1, 1) := by decide +kernel
theorem dX2_drop_15 : decode cX2_drop 15 = .ok (.isub, 1) := by decide +kernel
theorem dX2_drop_16 : decode cX2_drop 16 = .ok (.putfield 21, 3) := by decide +kernel
theorem dX2_drop_19 : decode cX2_drop 19 = .ok (.iconst 1, 1) := by decide +kernel
theorem dX2_drop_20 : decode cX2_drop 20 = .ok (.ireturn, 1) := by decide +kernel
abbrev cX2_orders : ByteArray := prog_4_method_5_code
def yX2_orders : MethodName := ⟨RX2, "orders", "()J"⟩
theorem dX2_orders_0 : decode cX2_orders 0 = .ok (.iconst 0, 1) := by decide +kernel
theorem dX2_orders_1 : decode cX2_orders 1 = .ok (.istore_n 1, 1) := by decide +kernel
theorem dX2_orders_2 : decode cX2_orders 2 = .ok (.iload_n 1, 1) := by decide +kernel
theorem dX2_orders_3 : decode cX2_orders 3 = .ok (.sipush 7776, 3) := by decide +kernel
theorem dX2_orders_6 : decode cX2_orders 6 = .ok (.if_icmp .ge 199, 3) := by decide +kernel
theorem dX2_orders_9 : decode cX2_orders 9 = .ok (.iload_n 1, 1) := by decide +kernel
theorem dX2_orders_10 : decode cX2_orders 10 = .ok (.istore_n 2, 1) := by decide +kernel
theorem dX2_orders_11 : decode cX2_orders 11 = .ok (.iconst 1, 1) := by decide +kernel
theorem dX2_orders_12 : decode cX2_orders 12 = .ok (.istore_n 3, 1) := by decide +kernel
theorem dX2_orders_13 : decode cX2_orders 13 = .ok (.iconst 0, 1) := by decide +kernel
theorem dX2_orders_14 : decode cX2_orders 14 = .ok (.istore 4, 2) := by decide +kernel
theorem dX2_orders_16 : decode cX2_orders 16 = .ok (.iload 4, 2) := by decide +kernel
theorem dX2_orders_18 : decode cX2_orders 18 = .ok (.iconst 5, 1) := by decide +kernel
theorem dX2_orders_19 : decode cX2_orders 19 = .ok (.if_icmp .ge 75, 3) := by decide +kernel
theorem dX2_orders_22 : decode cX2_orders 22 = .ok (.aload_n 0, 1) := by decide +kernel
theorem dX2_orders_23 : decode cX2_orders 23 = .ok (.getfield 13, 3) := by decide +kernel
theorem dX2_orders_26 : decode cX2_orders 26 = .ok (.iload 4, 2) := by decide +kernel
theorem dX2_orders_28 : decode cX2_orders 28 = .ok (.iload_n 2, 1) := by decide +kernel
theorem dX2_orders_29 : decode cX2_orders 29 = .ok (.bipush 6, 2) := by decide +kernel
theorem dX2_orders_31 : decode cX2_orders 31 = .ok (.irem, 1) := by decide +kernel
theorem dX2_orders_32 : decode cX2_orders 32 = .ok (.iastore, 1) := by decide +kernel
theorem dX2_orders_33 : decode cX2_orders 33 = .ok (.iload_n 2, 1) := by decide +kernel
theorem dX2_orders_34 : decode cX2_orders 34 = .ok (.bipush 6, 2) := by decide +kernel
theorem dX2_orders_36 : decode cX2_orders 36 = .ok (.idiv, 1) := by decide +kernel
theorem dX2_orders_37 : decode cX2_orders 37 = .ok (.istore_n 2, 1) := by decide +kernel
theorem dX2_orders_38 : decode cX2_orders 38 = .ok (.iload_n 3, 1) := by decide +kernel
theorem dX2_orders_39 : decode cX2_orders 39 = .ok (.ifCond .eq 47, 3) := by decide +kernel
theorem dX2_orders_42 : decode cX2_orders 42 = .ok (.aload_n 0, 1) := by decide +kernel
theorem dX2_orders_43 : decode cX2_orders 43 = .ok (.getfield 13, 3) := by decide +kernel
theorem dX2_orders_46 : decode cX2_orders 46 = .ok (.iload 4, 2) := by decide +kernel
theorem dX2_orders_48 : decode cX2_orders 48 = .ok (.iaload, 1) := by decide +kernel
theorem dX2_orders_49 : decode cX2_orders 49 = .ok (.aload_n 0, 1) := by decide +kernel
theorem dX2_orders_50 : decode cX2_orders 50 = .ok (.iload 4, 2) := by decide +kernel
theorem dX2_orders_52 : decode cX2_orders 52 = .ok (.invokevirtual 25, 3) := by decide +kernel
theorem dX2_orders_55 : decode cX2_orders 55 = .ok (.if_icmp .gt 31, 3) := by decide +kernel
theorem dX2_orders_58 : decode cX2_orders 58 = .ok (.iload 4, 2) := by decide +kernel
theorem dX2_orders_60 : decode cX2_orders 60 = .ok (.ifCond .eq 22, 3) := by decide +kernel
theorem dX2_orders_63 : decode cX2_orders 63 = .ok (.aload_n 0, 1) := by decide +kernel
theorem dX2_orders_64 : decode cX2_orders 64 = .ok (.getfield 13, 3) := by decide +kernel
theorem dX2_orders_67 : decode cX2_orders 67 = .ok (.iload 4, 2) := by decide +kernel
theorem dX2_orders_69 : decode cX2_orders 69 = .ok (.iaload, 1) := by decide +kernel
theorem dX2_orders_70 : decode cX2_orders 70 = .ok (.aload_n 0, 1) := by decide +kernel
theorem dX2_orders_71 : decode cX2_orders 71 = .ok (.getfield 13, 3) := by decide +kernel
theorem dX2_orders_74 : decode cX2_orders 74 = .ok (.iload 4, 2) := by decide +kernel
theorem dX2_orders_76 : decode cX2_orders 76 = .ok (.iconst 1, 1) := by decide +kernel
theorem dX2_orders_77 : decode cX2_orders 77 = .ok (.isub, 1) := by decide +kernel
theorem dX2_orders_78 : decode cX2_orders 78 = .ok (.iaload, 1) := by decide +kernel
theorem dX2_orders_79 : decode cX2_orders 79 = .ok (.if_icmp .gt 7, 3) := by decide +kernel
theorem dX2_orders_82 : decode cX2_orders 82 = .ok (.iconst 1, 1) := by decide +kernel
theorem dX2_orders_83 : decode cX2_orders 83 = .ok (.goto 4, 3) := by decide +kernel
theorem dX2_orders_86 : decode cX2_orders 86 = .ok (.iconst 0, 1) := by decide +kernel
theorem dX2_orders_87 : decode cX2_orders 87 = .ok (.istore_n 3, 1) := by decide +kernel
theorem dX2_orders_88 : decode cX2_orders 88 = .ok (.iinc 4 1, 3) := by decide +kernel
theorem dX2_orders_91 : decode cX2_orders 91 = .ok (.goto (-75), 3) := by decide +kernel
theorem dX2_orders_94 : decode cX2_orders 94 = .ok (.aload_n 0, 1) := by decide +kernel
theorem dX2_orders_95 : decode cX2_orders 95 = .ok (.getfield 16, 3) := by decide +kernel
theorem dX2_orders_98 : decode cX2_orders 98 = .ok (.iload_n 1, 1) := by decide +kernel
theorem dX2_orders_99 : decode cX2_orders 99 = .ok (.iload_n 1, 1) := by decide +kernel
theorem dX2_orders_100 : decode cX2_orders 100 = .ok (.ifCond .ne 7, 3) := by decide +kernel
theorem dX2_orders_103 : decode cX2_orders 103 = .ok (.lconst 1, 1) := by decide +kernel
theorem dX2_orders_104 : decode cX2_orders 104 = .ok (.goto 4, 3) := by decide +kernel
theorem dX2_orders_107 : decode cX2_orders 107 = .ok (.lconst 0, 1) := by decide +kernel
theorem dX2_orders_108 : decode cX2_orders 108 = .ok (.lastore, 1) := by decide +kernel
theorem dX2_orders_109 : decode cX2_orders 109 = .ok (.iload_n 3, 1) := by decide +kernel
theorem dX2_orders_110 : decode cX2_orders 110 = .ok (.ifCond .eq 89, 3) := by decide +kernel
theorem dX2_orders_113 : decode cX2_orders 113 = .ok (.iload_n 1, 1) := by decide +kernel
theorem dX2_orders_114 : decode cX2_orders 114 = .ok (.ifCond .le 85, 3) := by decide +kernel
theorem dX2_orders_117 : decode cX2_orders 117 = .ok (.iconst 1, 1) := by decide +kernel
theorem dX2_orders_118 : decode cX2_orders 118 = .ok (.istore 4, 2) := by decide +kernel
theorem dX2_orders_120 : decode cX2_orders 120 = .ok (.iconst 0, 1) := by decide +kernel
theorem dX2_orders_121 : decode cX2_orders 121 = .ok (.istore 5, 2) := by decide +kernel
theorem dX2_orders_123 : decode cX2_orders 123 = .ok (.iload 5, 2) := by decide +kernel
theorem dX2_orders_125 : decode cX2_orders 125 = .ok (.iconst 5, 1) := by decide +kernel
theorem dX2_orders_126 : decode cX2_orders 126 = .ok (.if_icmp .ge 73, 3) := by decide +kernel
theorem dX2_orders_129 : decode cX2_orders 129 = .ok (.aload_n 0, 1) := by decide +kernel
theorem dX2_orders_130 : decode cX2_orders 130 = .ok (.getfield 13, 3) := by decide +kernel
theorem dX2_orders_133 : decode cX2_orders 133 = .ok (.iload 5, 2) := by decide +kernel
theorem dX2_orders_135 : decode cX2_orders 135 = .ok (.iaload, 1) := by decide +kernel
theorem dX2_orders_136 : decode cX2_orders 136 = .ok (.ifCond .le 50, 3) := by decide +kernel
theorem dX2_orders_139 : decode cX2_orders 139 = .ok (.iload 5, 2) := by decide +kernel
theorem dX2_orders_141 : decode cX2_orders 141 = .ok (.iconst 4, 1) := by decide +kernel
theorem dX2_orders_142 : decode cX2_orders 142 = .ok (.if_icmp .eq 22, 3) := by decide +kernel
theorem dX2_orders_145 : decode cX2_orders 145 = .ok (.aload_n 0, 1) := by decide +kernel
theorem dX2_orders_146 : decode cX2_orders 146 = .ok (.getfield 13, 3) := by decide +kernel
theorem dX2_orders_149 : decode cX2_orders 149 = .ok (.iload 5, 2) := by decide +kernel
theorem dX2_orders_151 : decode cX2_orders 151 = .ok (.iconst 1, 1) := by decide +kernel
theorem dX2_orders_152 : decode cX2_orders 152 = .ok (.iadd, 1) := by decide +kernel
theorem dX2_orders_153 : decode cX2_orders 153 = .ok (.iaload, 1) := by decide +kernel
theorem dX2_orders_154 : decode cX2_orders 154 = .ok (.aload_n 0, 1) := by decide +kernel
theorem dX2_orders_155 : decode cX2_orders 155 = .ok (.getfield 13, 3) := by decide +kernel
theorem dX2_orders_158 : decode cX2_orders 158 = .ok (.iload 5, 2) := by decide +kernel
theorem dX2_orders_160 : decode cX2_orders 160 = .ok (.iaload, 1) := by decide +kernel
theorem dX2_orders_161 : decode cX2_orders 161 = .ok (.if_icmp .ge 25, 3) := by decide +kernel
theorem dX2_orders_164 : decode cX2_orders 164 = .ok (.aload_n 0, 1) := by decide +kernel
theorem dX2_orders_165 : decode cX2_orders 165 = .ok (.getfield 16, 3) := by decide +kernel
theorem dX2_orders_168 : decode cX2_orders 168 = .ok (.iload_n 1, 1) := by decide +kernel
theorem dX2_orders_169 : decode cX2_orders 169 = .ok (.aload_n 0, 1) := by decide +kernel
theorem dX2_orders_170 : decode cX2_orders 170 = .ok (.getfield 16, 3) := by decide +kernel
theorem dX2_orders_173 : decode cX2_orders 173 = .ok (.iload_n 1, 1) := by decide +kernel
theorem dX2_orders_174 : decode cX2_orders 174 = .ok (.laload, 1) := by decide +kernel
theorem dX2_orders_175 : decode cX2_orders 175 = .ok (.aload_n 0, 1) := by decide +kernel
theorem dX2_orders_176 : decode cX2_orders 176 = .ok (.getfield 16, 3) := by decide +kernel
theorem dX2_orders_179 : decode cX2_orders 179 = .ok (.iload_n 1, 1) := by decide +kernel
theorem dX2_orders_180 : decode cX2_orders 180 = .ok (.iload 4, 2) := by decide +kernel
theorem dX2_orders_182 : decode cX2_orders 182 = .ok (.isub, 1) := by decide +kernel
theorem dX2_orders_183 : decode cX2_orders 183 = .ok (.laload, 1) := by decide +kernel
theorem dX2_orders_184 : decode cX2_orders 184 = .ok (.ladd, 1) := by decide +kernel
theorem dX2_orders_185 : decode cX2_orders 185 = .ok (.lastore, 1) := by decide +kernel
theorem dX2_orders_186 : decode cX2_orders 186 = .ok (.iload 4, 2) := by decide +kernel
theorem dX2_orders_188 : decode cX2_orders 188 = .ok (.bipush 6, 2) := by decide +kernel
theorem dX2_orders_190 : decode cX2_orders 190 = .ok (.imul, 1) := by decide +kernel
theorem dX2_orders_191 : decode cX2_orders 191 = .ok (.istore 4, 2) := by decide +kernel
theorem dX2_orders_193 : decode cX2_orders 193 = .ok (.iinc 5 1, 3) := by decide +kernel
theorem dX2_orders_196 : decode cX2_orders 196 = .ok (.goto (-73), 3) := by decide +kernel
theorem dX2_orders_199 : decode cX2_orders 199 = .ok (.iinc 1 1, 3) := by decide +kernel
theorem dX2_orders_202 : decode cX2_orders 202 = .ok (.goto (-200), 3) := by decide +kernel
theorem dX2_orders_205 : decode cX2_orders 205 = .ok (.iconst 0, 1) := by decide +kernel
theorem dX2_orders_206 : decode cX2_orders 206 = .ok (.istore_n 1, 1) := by decide +kernel
theorem dX2_orders_207 : decode cX2_orders 207 = .ok (.iconst 4, 1) := by decide +kernel
theorem dX2_orders_208 : decode cX2_orders 208 = .ok (.istore_n 2, 1) := by decide +kernel
theorem dX2_orders_209 : decode cX2_orders 209 = .ok (.iload_n 2, 1) := by decide +kernel
theorem dX2_orders_210 : decode cX2_orders 210 = .ok (.ifCond .lt 20, 3) := by decide +kernel
theorem dX2_orders_213 : decode cX2_orders 213 = .ok (.bipush 6, 2) := by decide +kernel
theorem dX2_orders_215 : decode cX2_orders 215 = .ok (.iload_n 1, 1) := by decide +kernel
theorem dX2_orders_216 : decode cX2_orders 216 = .ok (.imul, 1) := by decide +kernel
theorem dX2_orders_217 : decode cX2_orders 217 = .ok (.aload_n 0, 1) := by decide +kernel
theorem dX2_orders_218 : decode cX2_orders 218 = .ok (.iload_n 2, 1) := by decide +kernel
theorem dX2_orders_219 : decode cX2_orders 219 = .ok (.invokevirtual 25, 3) := by decide +kernel
theorem dX2_orders_222 : decode cX2_orders 222 = .ok (.iadd, 1) := by decide +kernel
theorem dX2_orders_223 : decode cX2_orders 223 = .ok (.istore_n 1, 1) := by decide +kernel
theorem dX2_orders_224 : decode cX2_orders 224 = .ok (.iinc 2 (-1), 3) := by decide +kernel
theorem dX2_orders_227 : decode cX2_orders 227 = .ok (.goto (-18), 3) := by decide +kernel
theorem dX2_orders_230 : decode cX2_orders 230 = .ok (.aload_n 0, 1) := by decide +kernel
theorem dX2_orders_231 : decode cX2_orders 231 = .ok (.getfield 16, 3) := by decide +kernel
theorem dX2_orders_234 : decode cX2_orders 234 = .ok (.iload_n 1, 1) := by decide +kernel
theorem dX2_orders_235 : decode cX2_orders 235 = .ok (.laload, 1) := by decide +kernel
theorem dX2_orders_236 : decode cX2_orders 236 = .ok (.lreturn, 1) := by decide +kernel
abbrev cX2_shape : ByteArray := prog_4_method_4_code
def yX2_shape : MethodName := ⟨RX2, "shape", "(I)I"⟩
theorem dX2_shape_0 : decode cX2_shape 0 = .ok (.iload_n 1, 1) := by decide +kernel
theorem dX2_shape_1 : decode cX2_shape 1 = .ok (.aload_n 0, 1) := by decide +kernel
theorem dX2_shape_2 : decode cX2_shape 2 = .ok (.getfield 21, 3) := by decide +kernel
theorem dX2_shape_5 : decode cX2_shape 5 = .ok (.if_icmp .ge 12, 3) := by decide +kernel
theorem dX2_shape_8 : decode cX2_shape 8 = .ok (.aload_n 0, 1) := by decide +kernel
theorem dX2_shape_9 : decode cX2_shape 9 = .ok (.getfield 7, 3) := by decide +kernel
theorem dX2_shape_12 : decode cX2_shape 12 = .ok (.iload_n 1, 1) := by decide +kernel
theorem dX2_shape_13 : decode cX2_shape 13 = .ok (.iaload, 1) := by decide +kernel
theorem dX2_shape_14 : decode cX2_shape 14 = .ok (.goto 4, 3) := by decide +kernel
theorem dX2_shape_17 : decode cX2_shape 17 = .ok (.iconst 0, 1) := by decide +kernel
theorem dX2_shape_18 : decode cX2_shape 18 = .ok (.ireturn, 1) := by decide +kernel
abbrev cX2_boxes : ByteArray := prog_4_method_6_code
def yX2_boxes : MethodName := ⟨RX2, "boxes", "()I"⟩
theorem dX2_boxes_0 : decode cX2_boxes 0 = .ok (.iconst 0, 1) := by decide +kernel
theorem dX2_boxes_1 : decode cX2_boxes 1 = .ok (.istore_n 1, 1) := by decide +kernel
theorem dX2_boxes_2 : decode cX2_boxes 2 = .ok (.iconst 0, 1) := by decide +kernel
theorem dX2_boxes_3 : decode cX2_boxes 3 = .ok (.istore_n 2, 1) := by decide +kernel
theorem dX2_boxes_4 : decode cX2_boxes 4 = .ok (.iload_n 2, 1) := by decide +kernel
theorem dX2_boxes_5 : decode cX2_boxes 5 = .ok (.aload_n 0, 1) := by decide +kernel
theorem dX2_boxes_6 : decode cX2_boxes 6 = .ok (.getfield 21, 3) := by decide +kernel
theorem dX2_boxes_9 : decode cX2_boxes 9 = .ok (.if_icmp .ge 18, 3) := by decide +kernel
theorem dX2_boxes_12 : decode cX2_boxes 12 = .ok (.iload_n 1, 1) := by decide +kernel
theorem dX2_boxes_13 : decode cX2_boxes 13 = .ok (.aload_n 0, 1) := by decide +kernel
theorem dX2_boxes_14 : decode cX2_boxes 14 = .ok (.getfield 7, 3) := by decide +kernel
theorem dX2_boxes_17 : decode cX2_boxes 17 = .ok (.iload_n 2, 1) := by decide +kernel
theorem dX2_boxes_18 : decode cX2_boxes 18 = .ok (.iaload, 1) := by decide +kernel
theorem dX2_boxes_19 : decode cX2_boxes 19 = .ok (.iadd, 1) := by decide +kernel
theorem dX2_boxes_20 : decode cX2_boxes 20 = .ok (.istore_n 1, 1) := by decide +kernel
theorem dX2_boxes_21 : decode cX2_boxes 21 = .ok (.iinc 2 1, 3) := by decide +kernel
theorem dX2_boxes_24 : decode cX2_boxes 24 = .ok (.goto (-20), 3) := by decide +kernel
theorem dX2_boxes_27 : decode cX2_boxes 27 = .ok (.iload_n 1, 1) := by decide +kernel
theorem dX2_boxes_28 : decode cX2_boxes 28 = .ok (.ireturn, 1) := by decide +kernel
abbrev cX2_hook : ByteArray := prog_4_method_7_code
def yX2_hook : MethodName := ⟨RX2, "hook", "(II)I"⟩
theorem dX2_hook_0 : decode cX2_hook 0 = .ok (.iload_n 1, 1) := by decide +kernel
theorem dX2_hook_1 : decode cX2_hook 1 = .ok (.ldc 20, 2) := by decide +kernel
theorem dX2_hook_3 : decode cX2_hook 3 = .ok (.iand, 1) := by decide +kernel
theorem dX2_hook_4 : decode cX2_hook 4 = .ok (.iconst 5, 1) := by decide +kernel
theorem dX2_hook_5 : decode cX2_hook 5 = .ok (.irem, 1) := by decide +kernel
theorem dX2_hook_6 : decode cX2_hook 6 = .ok (.istore_n 3, 1) := by decide +kernel
theorem dX2_hook_7 : decode cX2_hook 7 = .ok (.iload_n 2, 1) := by decide +kernel
theorem dX2_hook_8 : decode cX2_hook 8 = .ok (.ldc 20, 2) := by decide +kernel
theorem dX2_hook_10 : decode cX2_hook 10 = .ok (.iand, 1) := by decide +kernel
theorem dX2_hook_11 : decode cX2_hook 11 = .ok (.iconst 5, 1) := by decide +kernel
theorem dX2_hook_12 : decode cX2_hook 12 = .ok (.irem, 1) := by decide +kernel
theorem dX2_hook_13 : decode cX2_hook 13 = .ok (.istore 4, 2) := by decide +kernel
theorem dX2_hook_15 : decode cX2_hook 15 = .ok (.iload 4, 2) := by decide +kernel
theorem dX2_hook_17 : decode cX2_hook 17 = .ok (.aload_n 0, 1) := by decide +kernel
theorem dX2_hook_18 : decode cX2_hook 18 = .ok (.iload_n 3, 1) := by decide +kernel
theorem dX2_hook_19 : decode cX2_hook 19 = .ok (.invokevirtual 25, 3) := by decide +kernel
theorem dX2_hook_22 : decode cX2_hook 22 = .ok (.if_icmp .lt 5, 3) := by decide +kernel
theorem dX2_hook_25 : decode cX2_hook 25 = .ok (.iconst 0, 1) := by decide +kernel
theorem dX2_hook_26 : decode cX2_hook 26 = .ok (.ireturn, 1) := by decide +kernel
theorem dX2_hook_27 : decode cX2_hook 27 = .ok (.aload_n 0, 1) := by decide +kernel
theorem dX2_hook_28 : decode cX2_hook 28 = .ok (.iload_n 3, 1) := by decide +kernel
theorem dX2_hook_29 : decode cX2_hook 29 = .ok (.invokevirtual 25, 3) := by decide +kernel
theorem dX2_hook_32 : decode cX2_hook 32 = .ok (.iload 4, 2) := by decide +kernel
theorem dX2_hook_34 : decode cX2_hook 34 = .ok (.isub, 1) := by decide +kernel
theorem dX2_hook_35 : decode cX2_hook 35 = .ok (.istore 5, 2) := by decide +kernel
theorem dX2_hook_37 : decode cX2_hook 37 = .ok (.iload_n 3, 1) := by decide +kernel
theorem dX2_hook_38 : decode cX2_hook 38 = .ok (.iconst 1, 1) := by decide +kernel
theorem dX2_hook_39 : decode cX2_hook 39 = .ok (.iadd, 1) := by decide +kernel
theorem dX2_hook_40 : decode cX2_hook 40 = .ok (.istore 6, 2) := by decide +kernel
theorem dX2_hook_42 : decode cX2_hook 42 = .ok (.iload 6, 2) := by decide +kernel
theorem dX2_hook_44 : decode cX2_hook 44 = .ok (.iconst 5, 1) := by decide +kernel
theorem dX2_hook_45 : decode cX2_hook 45 = .ok (.if_icmp .ge 26, 3) := by decide +kernel
theorem dX2_hook_48 : decode cX2_hook 48 = .ok (.aload_n 0, 1) := by decide +kernel
theorem dX2_hook_49 : decode cX2_hook 49 = .ok (.iload 6, 2) := by decide +kernel
theorem dX2_hook_51 : decode cX2_hook 51 = .ok (.invokevirtual 25, 3) := by decide +kernel
theorem dX2_hook_54 : decode cX2_hook 54 = .ok (.iload 4, 2) := by decide +kernel
theorem dX2_hook_56 : decode cX2_hook 56 = .ok (.if_icmp .le 9, 3) := by decide +kernel
theorem dX2_hook_59 : decode cX2_hook 59 = .ok (.iload 5, 2) := by decide +kernel
theorem dX2_hook_61 : decode cX2_hook 61 = .ok (.iconst 1, 1) := by decide +kernel
theorem dX2_hook_62 : decode cX2_hook 62 = .ok (.iadd, 1) := by decide +kernel
theorem dX2_hook_63 : decode cX2_hook 63 = .ok (.istore 5, 2) := by decide +kernel
theorem dX2_hook_65 : decode cX2_hook 65 = .ok (.iinc 6 1, 3) := by decide +kernel
theorem dX2_hook_68 : decode cX2_hook 68 = .ok (.goto (-26), 3) := by decide +kernel
theorem dX2_hook_71 : decode cX2_hook 71 = .ok (.iload 5, 2) := by decide +kernel
theorem dX2_hook_73 : decode cX2_hook 73 = .ok (.ireturn, 1) := by decide +kernel
abbrev cX2_column : ByteArray := prog_4_method_8_code
def yX2_column : MethodName := ⟨RX2, "column", "(I)I"⟩
theorem dX2_column_0 : decode cX2_column 0 = .ok (.iload_n 1, 1) := by decide +kernel
theorem dX2_column_1 : decode cX2_column 1 = .ok (.ldc 20, 2) := by decide +kernel
theorem dX2_column_3 : decode cX2_column 3 = .ok (.iand, 1) := by decide +kernel
theorem dX2_column_4 : decode cX2_column 4 = .ok (.iconst 5, 1) := by decide +kernel
theorem dX2_column_5 : decode cX2_column 5 = .ok (.irem, 1) := by decide +kernel
theorem dX2_column_6 : decode cX2_column 6 = .ok (.istore_n 2, 1) := by decide +kernel
theorem dX2_column_7 : decode cX2_column 7 = .ok (.iconst 0, 1) := by decide +kernel
theorem dX2_column_8 : decode cX2_column 8 = .ok (.istore_n 3, 1) := by decide +kernel
theorem dX2_column_9 : decode cX2_column 9 = .ok (.iconst 0, 1) := by decide +kernel
theorem dX2_column_10 : decode cX2_column 10 = .ok (.istore 4, 2) := by decide +kernel
theorem dX2_column_12 : decode cX2_column 12 = .ok (.iload 4, 2) := by decide +kernel
theorem dX2_column_14 : decode cX2_column 14 = .ok (.iconst 5, 1) := by decide +kernel
theorem dX2_column_15 : decode cX2_column 15 = .ok (.if_icmp .ge 23, 3) := by decide +kernel
theorem dX2_column_18 : decode cX2_column 18 = .ok (.aload_n 0, 1) := by decide +kernel
theorem dX2_column_19 : decode cX2_column 19 = .ok (.iload 4, 2) := by decide +kernel
theorem dX2_column_21 : decode cX2_column 21 = .ok (.invokevirtual 25, 3) := by decide +kernel
theorem dX2_column_24 : decode cX2_column 24 = .ok (.iload_n 2, 1) := by decide +kernel
theorem dX2_column_25 : decode cX2_column 25 = .ok (.if_icmp .le 7, 3) := by decide +kernel
theorem dX2_column_28 : decode cX2_column 28 = .ok (.iload_n 3, 1) := by decide +kernel
theorem dX2_column_29 : decode cX2_column 29 = .ok (.iconst 1, 1) := by decide +kernel
theorem dX2_column_30 : decode cX2_column 30 = .ok (.iadd, 1) := by decide +kernel
theorem dX2_column_31 : decode cX2_column 31 = .ok (.istore_n 3, 1) := by decide +kernel
theorem dX2_column_32 : decode cX2_column 32 = .ok (.iinc 4 1, 3) := by decide +kernel
theorem dX2_column_35 : decode cX2_column 35 = .ok (.goto (-23), 3) := by decide +kernel
theorem dX2_column_38 : decode cX2_column 38 = .ok (.iload_n 3, 1) := by decide +kernel
theorem dX2_column_39 : decode cX2_column 39 = .ok (.ireturn, 1) := by decide +kernel
abbrev cX2_inner : ByteArray := prog_4_method_9_code
def yX2_inner : MethodName := ⟨RX2, "inner", "()I"⟩
theorem dX2_inner_0 : decode cX2_inner 0 = .ok (.iconst 0, 1) := by decide +kernel
theorem dX2_inner_1 : decode cX2_inner 1 = .ok (.istore_n 1, 1) := by decide +kernel
theorem dX2_inner_2 : decode cX2_inner 2 = .ok (.iconst 0, 1) := by decide +kernel
theorem dX2_inner_3 : decode cX2_inner 3 = .ok (.istore_n 2, 1) := by decide +kernel
theorem dX2_inner_4 : decode cX2_inner 4 = .ok (.iload_n 2, 1) := by decide +kernel
theorem dX2_inner_5 : decode cX2_inner 5 = .ok (.sipush 7776, 3) := by decide +kernel
theorem dX2_inner_8 : decode cX2_inner 8 = .ok (.if_icmp .ge 106, 3) := by decide +kernel
theorem dX2_inner_11 : decode cX2_inner 11 = .ok (.iload_n 2, 1) := by decide +kernel
theorem dX2_inner_12 : decode cX2_inner 12 = .ok (.istore_n 3, 1) := by decide +kernel
theorem dX2_inner_13 : decode cX2_inner 13 = .ok (.iconst 1, 1) := by decide +kernel
theorem dX2_inner_14 : decode cX2_inner 14 = .ok (.istore 4, 2) := by decide +kernel
theorem dX2_inner_16 : decode cX2_inner 16 = .ok (.iconst 0, 1) := by decide +kernel
theorem dX2_inner_17 : decode cX2_inner 17 = .ok (.istore 5, 2) := by decide +kernel
theorem dX2_inner_19 : decode cX2_inner 19 = .ok (.iload 5, 2) := by decide +kernel
theorem dX2_inner_21 : decode cX2_inner 21 = .ok (.iconst 5, 1) := by decide +kernel
theorem dX2_inner_22 : decode cX2_inner 22 = .ok (.if_icmp .ge 77, 3) := by decide +kernel
theorem dX2_inner_25 : decode cX2_inner 25 = .ok (.aload_n 0, 1) := by decide +kernel
theorem dX2_inner_26 : decode cX2_inner 26 = .ok (.getfield 13, 3) := by decide +kernel
theorem dX2_inner_29 : decode cX2_inner 29 = .ok (.iload 5, 2) := by decide +kernel
theorem dX2_inner_31 : decode cX2_inner 31 = .ok (.iload_n 3, 1) := by decide +kernel
theorem dX2_inner_32 : decode cX2_inner 32 = .ok (.bipush 6, 2) := by decide +kernel
theorem dX2_inner_34 : decode cX2_inner 34 = .ok (.irem, 1) := by decide +kernel
theorem dX2_inner_35 : decode cX2_inner 35 = .ok (.iastore, 1) := by decide +kernel
theorem dX2_inner_36 : decode cX2_inner 36 = .ok (.iload_n 3, 1) := by decide +kernel
theorem dX2_inner_37 : decode cX2_inner 37 = .ok (.bipush 6, 2) := by decide +kernel
theorem dX2_inner_39 : decode cX2_inner 39 = .ok (.idiv, 1) := by decide +kernel
theorem dX2_inner_40 : decode cX2_inner 40 = .ok (.istore_n 3, 1) := by decide +kernel
theorem dX2_inner_41 : decode cX2_inner 41 = .ok (.iload 4, 2) := by decide +kernel
theorem dX2_inner_43 : decode cX2_inner 43 = .ok (.ifCond .eq 47, 3) := by decide +kernel
theorem dX2_inner_46 : decode cX2_inner 46 = .ok (.aload_n 0, 1) := by decide +kernel
theorem dX2_inner_47 : decode cX2_inner 47 = .ok (.getfield 13, 3) := by decide +kernel
theorem dX2_inner_50 : decode cX2_inner 50 = .ok (.iload 5, 2) := by decide +kernel
theorem dX2_inner_52 : decode cX2_inner 52 = .ok (.iaload, 1) := by decide +kernel
theorem dX2_inner_53 : decode cX2_inner 53 = .ok (.aload_n 0, 1) := by decide +kernel
theorem dX2_inner_54 : decode cX2_inner 54 = .ok (.iload 5, 2) := by decide +kernel
theorem dX2_inner_56 : decode cX2_inner 56 = .ok (.invokevirtual 25, 3) := by decide +kernel
theorem dX2_inner_59 : decode cX2_inner 59 = .ok (.if_icmp .gt 31, 3) := by decide +kernel
theorem dX2_inner_62 : decode cX2_inner 62 = .ok (.iload 5, 2) := by decide +kernel
theorem dX2_inner_64 : decode cX2_inner 64 = .ok (.ifCond .eq 22, 3) := by decide +kernel
theorem dX2_inner_67 : decode cX2_inner 67 = .ok (.aload_n 0, 1) := by decide +kernel
theorem dX2_inner_68 : decode cX2_inner 68 = .ok (.getfield 13, 3) := by decide +kernel
theorem dX2_inner_71 : decode cX2_inner 71 = .ok (.iload 5, 2) := by decide +kernel
theorem dX2_inner_73 : decode cX2_inner 73 = .ok (.iaload, 1) := by decide +kernel
theorem dX2_inner_74 : decode cX2_inner 74 = .ok (.aload_n 0, 1) := by decide +kernel
theorem dX2_inner_75 : decode cX2_inner 75 = .ok (.getfield 13, 3) := by decide +kernel
theorem dX2_inner_78 : decode cX2_inner 78 = .ok (.iload 5, 2) := by decide +kernel
theorem dX2_inner_80 : decode cX2_inner 80 = .ok (.iconst 1, 1) := by decide +kernel
theorem dX2_inner_81 : decode cX2_inner 81 = .ok (.isub, 1) := by decide +kernel
theorem dX2_inner_82 : decode cX2_inner 82 = .ok (.iaload, 1) := by decide +kernel
theorem dX2_inner_83 : decode cX2_inner 83 = .ok (.if_icmp .gt 7, 3) := by decide +kernel
theorem dX2_inner_86 : decode cX2_inner 86 = .ok (.iconst 1, 1) := by decide +kernel
theorem dX2_inner_87 : decode cX2_inner 87 = .ok (.goto 4, 3) := by decide +kernel
theorem dX2_inner_90 : decode cX2_inner 90 = .ok (.iconst 0, 1) := by decide +kernel
theorem dX2_inner_91 : decode cX2_inner 91 = .ok (.istore 4, 2) := by decide +kernel
theorem dX2_inner_93 : decode cX2_inner 93 = .ok (.iinc 5 1, 3) := by decide +kernel
theorem dX2_inner_96 : decode cX2_inner 96 = .ok (.goto (-77), 3) := by decide +kernel
theorem dX2_inner_99 : decode cX2_inner 99 = .ok (.iload 4, 2) := by decide +kernel
theorem dX2_inner_101 : decode cX2_inner 101 = .ok (.ifCond .eq 7, 3) := by decide +kernel
theorem dX2_inner_104 : decode cX2_inner 104 = .ok (.iload_n 1, 1) := by decide +kernel
theorem dX2_inner_105 : decode cX2_inner 105 = .ok (.iconst 1, 1) := by decide +kernel
theorem dX2_inner_106 : decode cX2_inner 106 = .ok (.iadd, 1) := by decide +kernel
theorem dX2_inner_107 : decode cX2_inner 107 = .ok (.istore_n 1, 1) := by decide +kernel
theorem dX2_inner_108 : decode cX2_inner 108 = .ok (.iinc 2 1, 3) := by decide +kernel
theorem dX2_inner_111 : decode cX2_inner 111 = .ok (.goto (-107), 3) := by decide +kernel
theorem dX2_inner_114 : decode cX2_inner 114 = .ok (.iload_n 1, 1) := by decide +kernel
theorem dX2_inner_115 : decode cX2_inner 115 = .ok (.ireturn, 1) := by decide +kernel
theorem q6 : (Jvm.Cond.initialized "BoxDeskModel") ∈ lw_all := lw_g (lw_at lw_m0 3 rfl) rfl
theorem q89 : (Jvm.Cond.instantiable "BoxDeskModel" (4 : Nat)) ∈ lw_all := lw_g (lw_at lw_m0 86 rfl) rfl
theorem q91 : (Jvm.Cond.instanceMethod ({ cls := "BoxDeskModel", name := "<init>", desc := "()V" } : Jvm.MethodName)) ∈ lw_all := lw_g (lw_at lw_m0 88 rfl) rfl
theorem q92 : (Jvm.Cond.code ({ cls := "BoxDeskModel", name := "<init>", desc := "()V" } : Jvm.MethodName) prog_4_method_1_code (1 : Nat) (Option.none : Option Jvm.ClassFile.FieldType)) ∈ lw_all := lw_g (lw_at lw_m0 89 rfl) rfl
theorem q93 : (Jvm.Cond.methodLink "BoxDeskModel" (1 : Nat) ({ cls := "java/lang/Object", name := "<init>", desc := "()V" } : Jvm.MethodName)) ∈ lw_all := lw_g (lw_at lw_m0 90 rfl) rfl
theorem q94 : (Jvm.Cond.fieldLink "BoxDeskModel" (7 : Nat) "BoxDeskModel" "row" "[I") ∈ lw_all := lw_g (lw_at lw_m0 91 rfl) rfl
theorem q95 : (Jvm.Cond.fieldLink "BoxDeskModel" (21 : Nat) "BoxDeskModel" "rows" "I") ∈ lw_all := lw_g (lw_at lw_m0 92 rfl) rfl
theorem q96 : (Jvm.Cond.fieldLink "BoxDeskModel" (13 : Nat) "BoxDeskModel" "at" "[I") ∈ lw_all := lw_g (lw_at lw_m0 93 rfl) rfl
theorem q97 : (Jvm.Cond.fieldLink "BoxDeskModel" (16 : Nat) "BoxDeskModel" "ways" "[J") ∈ lw_all := lw_g (lw_at lw_m0 94 rfl) rfl
theorem q98 : (Jvm.Cond.laysFinal "BoxDeskModel" "BoxDeskModel" "row" "[I") ∈ lw_all := lw_g (lw_at lw_m0 95 rfl) rfl
theorem q99 : (Jvm.Cond.soleField "BoxDeskModel" "row") ∈ lw_all := lw_g (lw_at lw_m0 96 rfl) rfl
theorem q100 : (Jvm.Cond.lays "BoxDeskModel" "BoxDeskModel" "rows" "I") ∈ lw_all := lw_g (lw_at lw_m0 97 rfl) rfl
theorem q101 : (Jvm.Cond.soleField "BoxDeskModel" "rows") ∈ lw_all := lw_g (lw_at lw_m0 98 rfl) rfl
theorem q102 : (Jvm.Cond.laysFinal "BoxDeskModel" "BoxDeskModel" "at" "[I") ∈ lw_all := lw_g (lw_at lw_m0 99 rfl) rfl
theorem q103 : (Jvm.Cond.soleField "BoxDeskModel" "at") ∈ lw_all := lw_g (lw_at lw_m0 100 rfl) rfl
theorem q104 : (Jvm.Cond.laysFinal "BoxDeskModel" "BoxDeskModel" "ways" "[J") ∈ lw_all := lw_g (lw_at lw_m0 101 rfl) rfl
theorem q105 : (Jvm.Cond.soleField "BoxDeskModel" "ways") ∈ lw_all := lw_g (lw_at lw_m0 102 rfl) rfl
theorem q106 : (Jvm.Cond.superclass "BoxDeskModel" "java/lang/Object") ∈ lw_all := lw_g (lw_at lw_m0 103 rfl) rfl
theorem q109 : (Jvm.Cond.instanceMethod ({ cls := "BoxDeskModel", name := "add", desc := "(I)Z" } : Jvm.MethodName)) ∈ lw_all := lw_g (lw_at lw_m0 106 rfl) rfl
theorem q110 : (Jvm.Cond.selects "BoxDeskModel" ({ cls := "BoxDeskModel", name := "add", desc := "(I)Z" } : Jvm.MethodName) ({ cls := "BoxDeskModel", name := "add", desc := "(I)Z" } : Jvm.MethodName)) ∈ lw_all := lw_g (lw_at lw_m0 107 rfl) rfl
theorem q111 : (Jvm.Cond.code ({ cls := "BoxDeskModel", name := "add", desc := "(I)Z" } : Jvm.MethodName) prog_4_method_2_code (3 : Nat) (Option.some Jvm.ClassFile.FieldType.boolean)) ∈ lw_all := lw_g (lw_at lw_m0 108 rfl) rfl
theorem q112 : (Jvm.Cond.constant "BoxDeskModel" (20 : Nat) (2147483647 : Int32)) ∈ lw_all := lw_g (lw_at lw_m0 109 rfl) rfl
theorem q114 : (Jvm.Cond.instanceMethod ({ cls := "BoxDeskModel", name := "drop", desc := "()Z" } : Jvm.MethodName)) ∈ lw_all := lw_g (lw_at lw_m0 111 rfl) rfl
theorem q115 : (Jvm.Cond.selects "BoxDeskModel" ({ cls := "BoxDeskModel", name := "drop", desc := "()Z" } : Jvm.MethodName) ({ cls := "BoxDeskModel", name := "drop", desc := "()Z" } : Jvm.MethodName)) ∈ lw_all := lw_g (lw_at lw_m0 112 rfl) rfl
theorem q116 : (Jvm.Cond.code ({ cls := "BoxDeskModel", name := "drop", desc := "()Z" } : Jvm.MethodName) prog_4_method_3_code (1 : Nat) (Option.some Jvm.ClassFile.FieldType.boolean)) ∈ lw_all := lw_g (lw_at lw_m0 113 rfl) rfl
theorem q118 : (Jvm.Cond.instanceMethod ({ cls := "BoxDeskModel", name := "orders", desc := "()J" } : Jvm.MethodName)) ∈ lw_all := lw_g (lw_at lw_m0 115 rfl) rfl
theorem q119 : (Jvm.Cond.selects "BoxDeskModel" ({ cls := "BoxDeskModel", name := "orders", desc := "()J" } : Jvm.MethodName) ({ cls := "BoxDeskModel", name := "orders", desc := "()J" } : Jvm.MethodName)) ∈ lw_all := lw_g (lw_at lw_m0 116 rfl) rfl
theorem q120 : (Jvm.Cond.code ({ cls := "BoxDeskModel", name := "orders", desc := "()J" } : Jvm.MethodName) prog_4_method_5_code (6 : Nat) (Option.some Jvm.ClassFile.FieldType.long)) ∈ lw_all := lw_g (lw_at lw_m0 117 rfl) rfl
theorem q121 : (Jvm.Cond.methodLink "BoxDeskModel" (25 : Nat) ({ cls := "BoxDeskModel", name := "shape", desc := "(I)I" } : Jvm.MethodName)) ∈ lw_all := lw_g (lw_at lw_m0 118 rfl) rfl
theorem q122 : (Jvm.Cond.privateMethod ({ cls := "BoxDeskModel", name := "shape", desc := "(I)I" } : Jvm.MethodName)) ∈ lw_tbl := lw_at lw_m0 119 rfl
theorem q123 : (Jvm.Cond.instanceMethod ({ cls := "BoxDeskModel", name := "shape", desc := "(I)I" } : Jvm.MethodName)) ∈ lw_all := lw_g (lw_at lw_m0 120 rfl) rfl
theorem q124 : (Jvm.Cond.code ({ cls := "BoxDeskModel", name := "shape", desc := "(I)I" } : Jvm.MethodName) prog_4_method_4_code (2 : Nat) (Option.some Jvm.ClassFile.FieldType.int)) ∈ lw_all := lw_g (lw_at lw_m0 121 rfl) rfl
theorem q126 : (Jvm.Cond.instanceMethod ({ cls := "BoxDeskModel", name := "boxes", desc := "()I" } : Jvm.MethodName)) ∈ lw_all := lw_g (lw_at lw_m0 123 rfl) rfl
theorem q127 : (Jvm.Cond.selects "BoxDeskModel" ({ cls := "BoxDeskModel", name := "boxes", desc := "()I" } : Jvm.MethodName) ({ cls := "BoxDeskModel", name := "boxes", desc := "()I" } : Jvm.MethodName)) ∈ lw_all := lw_g (lw_at lw_m0 124 rfl) rfl
theorem q128 : (Jvm.Cond.code ({ cls := "BoxDeskModel", name := "boxes", desc := "()I" } : Jvm.MethodName) prog_4_method_6_code (3 : Nat) (Option.some Jvm.ClassFile.FieldType.int)) ∈ lw_all := lw_g (lw_at lw_m0 125 rfl) rfl
theorem q130 : (Jvm.Cond.instanceMethod ({ cls := "BoxDeskModel", name := "hook", desc := "(II)I" } : Jvm.MethodName)) ∈ lw_all := lw_g (lw_at lw_m0 127 rfl) rfl
theorem q131 : (Jvm.Cond.selects "BoxDeskModel" ({ cls := "BoxDeskModel", name := "hook", desc := "(II)I" } : Jvm.MethodName) ({ cls := "BoxDeskModel", name := "hook", desc := "(II)I" } : Jvm.MethodName)) ∈ lw_all := lw_g (lw_at lw_m0 128 rfl) rfl
theorem q132 : (Jvm.Cond.code ({ cls := "BoxDeskModel", name := "hook", desc := "(II)I" } : Jvm.MethodName) prog_4_method_7_code (7 : Nat) (Option.some Jvm.ClassFile.FieldType.int)) ∈ lw_all := lw_g (lw_at lw_m0 129 rfl) rfl
theorem q134 : (Jvm.Cond.instanceMethod ({ cls := "BoxDeskModel", name := "column", desc := "(I)I" } : Jvm.MethodName)) ∈ lw_all := lw_g (lw_at lw_m0 131 rfl) rfl
theorem q135 : (Jvm.Cond.selects "BoxDeskModel" ({ cls := "BoxDeskModel", name := "column", desc := "(I)I" } : Jvm.MethodName) ({ cls := "BoxDeskModel", name := "column", desc := "(I)I" } : Jvm.MethodName)) ∈ lw_all := lw_g (lw_at lw_m0 132 rfl) rfl
theorem q136 : (Jvm.Cond.code ({ cls := "BoxDeskModel", name := "column", desc := "(I)I" } : Jvm.MethodName) prog_4_method_8_code (5 : Nat) (Option.some Jvm.ClassFile.FieldType.int)) ∈ lw_all := lw_g (lw_at lw_m0 133 rfl) rfl
theorem q138 : (Jvm.Cond.instanceMethod ({ cls := "BoxDeskModel", name := "inner", desc := "()I" } : Jvm.MethodName)) ∈ lw_all := lw_g (lw_at lw_m0 135 rfl) rfl
theorem q139 : (Jvm.Cond.selects "BoxDeskModel" ({ cls := "BoxDeskModel", name := "inner", desc := "()I" } : Jvm.MethodName) ({ cls := "BoxDeskModel", name := "inner", desc := "()I" } : Jvm.MethodName)) ∈ lw_all := lw_g (lw_at lw_m0 136 rfl) rfl
theorem q140 : (Jvm.Cond.code ({ cls := "BoxDeskModel", name := "inner", desc := "()I" } : Jvm.MethodName) prog_4_method_9_code (6 : Nat) (Option.some Jvm.ClassFile.FieldType.int)) ∈ lw_all := lw_g (lw_at lw_m0 137 rfl) rfl
theorem in_X2 : ∀ w ∈ wsX20, w ∈ lw_all := lw_in wsX20 [98, 100, 102, 104] (by decide +kernel) (by decide +kernel)
/-! the law's own entry -/
set_option maxRecDepth 100000
abbrev cL_law : ByteArray := code
theorem dL_law_0 : decode cL_law 0 = .ok (.new 7, 3) := by decide +kernel
theorem dL_law_3 : decode cL_law 3 = .ok (.dup, 1) := by decide +kernel
theorem dL_law_4 : decode cL_law 4 = .ok (.invokespecial 9, 3) := by decide +kernel
theorem dL_law_7 : decode cL_law 7 = .ok (.astore_n 1, 1) := by decide +kernel
theorem dL_law_8 : decode cL_law 8 = .ok (.new 10, 3) := by decide +kernel
theorem dL_law_11 : decode cL_law 11 = .ok (.dup, 1) := by decide +kernel
theorem dL_law_12 : decode cL_law 12 = .ok (.invokespecial 12, 3) := by decide +kernel
theorem dL_law_15 : decode cL_law 15 = .ok (.astore_n 2, 1) := by decide +kernel
theorem dL_law_16 : decode cL_law 16 = .ok (.iconst 0, 1) := by decide +kernel
theorem dL_law_17 : decode cL_law 17 = .ok (.istore_n 3, 1) := by decide +kernel
theorem dL_law_18 : decode cL_law 18 = .ok (.iload_n 3, 1) := by decide +kernel
theorem dL_law_19 : decode cL_law 19 = .ok (.aload_n 0, 1) := by decide +kernel
theorem dL_law_20 : decode cL_law 20 = .ok (.arraylength, 1) := by decide +kernel
theorem dL_law_21 : decode cL_law 21 = .ok (.iconst 3, 1) := by decide +kernel
theorem dL_law_22 : decode cL_law 22 = .ok (.isub, 1) := by decide +kernel
theorem dL_law_23 : decode cL_law 23 = .ok (.if_icmp .gt 191, 3) := by decide +kernel
theorem dL_law_26 : decode cL_law 26 = .ok (.aload_n 0, 1) := by decide +kernel
theorem dL_law_27 : decode cL_law 27 = .ok (.iload_n 3, 1) := by decide +kernel
theorem dL_law_28 : decode cL_law 28 = .ok (.iaload, 1) := by decide +kernel
theorem dL_law_29 : decode cL_law 29 = .ok (.bipush 7, 2) := by decide +kernel
theorem dL_law_31 : decode cL_law 31 = .ok (.iand, 1) := by decide +kernel
theorem dL_law_32 : decode cL_law 32 = .ok (.tableswitch 176 0 6 #[44, 67, 80, 94, 107, 140, 163], 44) := by decide +kernel
theorem dL_law_76 : decode cL_law 76 = .ok (.aload_n 1, 1) := by decide +kernel
theorem dL_law_77 : decode cL_law 77 = .ok (.aload_n 0, 1) := by decide +kernel
theorem dL_law_78 : decode cL_law 78 = .ok (.iload_n 3, 1) := by decide +kernel
theorem dL_law_79 : decode cL_law 79 = .ok (.iconst 1, 1) := by decide +kernel
theorem dL_law_80 : decode cL_law 80 = .ok (.iadd, 1) := by decide +kernel
theorem dL_law_81 : decode cL_law 81 = .ok (.iaload, 1) := by decide +kernel
theorem dL_law_82 : decode cL_law 82 = .ok (.invokevirtual 13, 3) := by decide +kernel
theorem dL_law_85 : decode cL_law 85 = .ok (.aload_n 2, 1) := by decide +kernel
theorem dL_law_86 : decode cL_law 86 = .ok (.aload_n 0, 1) := by decide +kernel
theorem dL_law_87 : decode cL_law 87 = .ok (.iload_n 3, 1) := by decide +kernel
theorem dL_law_88 : decode cL_law 88 = .ok (.iconst 1, 1) := by decide +kernel
theorem dL_law_89 : decode cL_law 89 = .ok (.iadd, 1) := by decide +kernel
theorem dL_law_90 : decode cL_law 90 = .ok (.iaload, 1) := by decide +kernel
theorem dL_law_91 : decode cL_law 91 = .ok (.invokevirtual 17, 3) := by decide +kernel
theorem dL_law_94 : decode cL_law 94 = .ok (.if_icmp .eq 114, 3) := by decide +kernel
theorem dL_law_97 : decode cL_law 97 = .ok (.iconst 0, 1) := by decide +kernel
theorem dL_law_98 : decode cL_law 98 = .ok (.ireturn, 1) := by decide +kernel
theorem dL_law_99 : decode cL_law 99 = .ok (.aload_n 1, 1) := by decide +kernel
theorem dL_law_100 : decode cL_law 100 = .ok (.invokevirtual 18, 3) := by decide +kernel
theorem dL_law_103 : decode cL_law 103 = .ok (.aload_n 2, 1) := by decide +kernel
theorem dL_law_104 : decode cL_law 104 = .ok (.invokevirtual 22, 3) := by decide +kernel
theorem dL_law_107 : decode cL_law 107 = .ok (.if_icmp .eq 101, 3) := by decide +kernel
theorem dL_law_110 : decode cL_law 110 = .ok (.iconst 0, 1) := by decide +kernel
theorem dL_law_111 : decode cL_law 111 = .ok (.ireturn, 1) := by decide +kernel
theorem dL_law_112 : decode cL_law 112 = .ok (.aload_n 1, 1) := by decide +kernel
theorem dL_law_113 : decode cL_law 113 = .ok (.invokevirtual 23, 3) := by decide +kernel
theorem dL_law_116 : decode cL_law 116 = .ok (.aload_n 2, 1) := by decide +kernel
theorem dL_law_117 : decode cL_law 117 = .ok (.invokevirtual 27, 3) := by decide +kernel
theorem dL_law_120 : decode cL_law 120 = .ok (.lcmp, 1) := by decide +kernel
theorem dL_law_121 : decode cL_law 121 = .ok (.ifCond .eq 87, 3) := by decide +kernel
theorem dL_law_124 : decode cL_law 124 = .ok (.iconst 0, 1) := by decide +kernel
theorem dL_law_125 : decode cL_law 125 = .ok (.ireturn, 1) := by decide +kernel
theorem dL_law_126 : decode cL_law 126 = .ok (.aload_n 1, 1) := by decide +kernel
theorem dL_law_127 : decode cL_law 127 = .ok (.invokevirtual 28, 3) := by decide +kernel
theorem dL_law_130 : decode cL_law 130 = .ok (.aload_n 2, 1) := by decide +kernel
theorem dL_law_131 : decode cL_law 131 = .ok (.invokevirtual 32, 3) := by decide +kernel
theorem dL_law_134 : decode cL_law 134 = .ok (.if_icmp .eq 74, 3) := by decide +kernel
theorem dL_law_137 : decode cL_law 137 = .ok (.iconst 0, 1) := by decide +kernel
theorem dL_law_138 : decode cL_law 138 = .ok (.ireturn, 1) := by decide +kernel
theorem dL_law_139 : decode cL_law 139 = .ok (.aload_n 1, 1) := by decide +kernel
theorem dL_law_140 : decode cL_law 140 = .ok (.aload_n 0, 1) := by decide +kernel
theorem dL_law_141 : decode cL_law 141 = .ok (.iload_n 3, 1) := by decide +kernel
theorem dL_law_142 : decode cL_law 142 = .ok (.iconst 1, 1) := by decide +kernel
theorem dL_law_143 : decode cL_law 143 = .ok (.iadd, 1) := by decide +kernel
theorem dL_law_144 : decode cL_law 144 = .ok (.iaload, 1) := by decide +kernel
theorem dL_law_145 : decode cL_law 145 = .ok (.aload_n 0, 1) := by decide +kernel
theorem dL_law_146 : decode cL_law 146 = .ok (.iload_n 3, 1) := by decide +kernel
theorem dL_law_147 : decode cL_law 147 = .ok (.iconst 2, 1) := by decide +kernel
theorem dL_law_148 : decode cL_law 148 = .ok (.iadd, 1) := by decide +kernel
theorem dL_law_149 : decode cL_law 149 = .ok (.iaload, 1) := by decide +kernel
theorem dL_law_150 : decode cL_law 150 = .ok (.invokevirtual 33, 3) := by decide +kernel
theorem dL_law_153 : decode cL_law 153 = .ok (.aload_n 2, 1) := by decide +kernel
theorem dL_law_154 : decode cL_law 154 = .ok (.aload_n 0, 1) := by decide +kernel
theorem dL_law_155 : decode cL_law 155 = .ok (.iload_n 3, 1) := by decide +kernel
theorem dL_law_156 : decode cL_law 156 = .ok (.iconst 1, 1) := by decide +kernel
theorem dL_law_157 : decode cL_law 157 = .ok (.iadd, 1) := by decide +kernel
theorem dL_law_158 : decode cL_law 158 = .ok (.iaload, 1) := by decide +kernel
theorem dL_law_159 : decode cL_law 159 = .ok (.aload_n 0, 1) := by decide +kernel
theorem dL_law_160 : decode cL_law 160 = .ok (.iload_n 3, 1) := by decide +kernel
theorem dL_law_161 : decode cL_law 161 = .ok (.iconst 2, 1) := by decide +kernel
theorem dL_law_162 : decode cL_law 162 = .ok (.iadd, 1) := by decide +kernel
theorem dL_law_163 : decode cL_law 163 = .ok (.iaload, 1) := by decide +kernel
theorem dL_law_164 : decode cL_law 164 = .ok (.invokevirtual 37, 3) := by decide +kernel
theorem dL_law_167 : decode cL_law 167 = .ok (.if_icmp .eq 41, 3) := by decide +kernel
theorem dL_law_170 : decode cL_law 170 = .ok (.iconst 0, 1) := by decide +kernel
theorem dL_law_171 : decode cL_law 171 = .ok (.ireturn, 1) := by decide +kernel
theorem dL_law_172 : decode cL_law 172 = .ok (.aload_n 1, 1) := by decide +kernel
theorem dL_law_173 : decode cL_law 173 = .ok (.aload_n 0, 1) := by decide +kernel
theorem dL_law_174 : decode cL_law 174 = .ok (.iload_n 3, 1) := by decide +kernel
theorem dL_law_175 : decode cL_law 175 = .ok (.iconst 1, 1) := by decide +kernel
theorem dL_law_176 : decode cL_law 176 = .ok (.iadd, 1) := by decide +kernel
theorem dL_law_177 : decode cL_law 177 = .ok (.iaload, 1) := by decide +kernel
theorem dL_law_178 : decode cL_law 178 = .ok (.invokevirtual 38, 3) := by decide +kernel
theorem dL_law_181 : decode cL_law 181 = .ok (.aload_n 2, 1) := by decide +kernel
theorem dL_law_182 : decode cL_law 182 = .ok (.aload_n 0, 1) := by decide +kernel
theorem dL_law_183 : decode cL_law 183 = .ok (.iload_n 3, 1) := by decide +kernel
theorem dL_law_184 : decode cL_law 184 = .ok (.iconst 1, 1) := by decide +kernel
theorem dL_law_185 : decode cL_law 185 = .ok (.iadd, 1) := by decide +kernel
theorem dL_law_186 : decode cL_law 186 = .ok (.iaload, 1) := by decide +kernel
theorem dL_law_187 : decode cL_law 187 = .ok (.invokevirtual 42, 3) := by decide +kernel
theorem dL_law_190 : decode cL_law 190 = .ok (.if_icmp .eq 18, 3) := by decide +kernel
theorem dL_law_193 : decode cL_law 193 = .ok (.iconst 0, 1) := by decide +kernel
theorem dL_law_194 : decode cL_law 194 = .ok (.ireturn, 1) := by decide +kernel
theorem dL_law_195 : decode cL_law 195 = .ok (.aload_n 1, 1) := by decide +kernel
theorem dL_law_196 : decode cL_law 196 = .ok (.invokevirtual 43, 3) := by decide +kernel
theorem dL_law_199 : decode cL_law 199 = .ok (.aload_n 2, 1) := by decide +kernel
theorem dL_law_200 : decode cL_law 200 = .ok (.invokevirtual 46, 3) := by decide +kernel
theorem dL_law_203 : decode cL_law 203 = .ok (.if_icmp .eq 5, 3) := by decide +kernel
theorem dL_law_206 : decode cL_law 206 = .ok (.iconst 0, 1) := by decide +kernel
theorem dL_law_207 : decode cL_law 207 = .ok (.ireturn, 1) := by decide +kernel
theorem dL_law_208 : decode cL_law 208 = .ok (.iinc 3 3, 3) := by decide +kernel
theorem dL_law_211 : decode cL_law 211 = .ok (.goto (-193), 3) := by decide +kernel
theorem dL_law_214 : decode cL_law 214 = .ok (.iconst 1, 1) := by decide +kernel
theorem dL_law_215 : decode cL_law 215 = .ok (.ireturn, 1) := by decide +kernel
abbrev vwCl : List vw_C := [(RX0, TX0, 4), (RX1, TX1, 1), (RX2, TX2, 4)]
end
section
/-! OWN ROWS: numbers as naturals, worlds by short names, calls and returns in one row -/
set_option maxRecDepth 100000
/-- the array's contents with one place changed -/
def bd_up (f : Nat → Nat) (k v : Nat) : Nat → Nat := fun j => if j = k then v else f j
theorem bd_up_s (f : Nat → Nat) (k v : Nat) : bd_up f k v k = v := by simp [bd_up]
theorem bd_up_n (f : Nat → Nat) {k j : Nat} (v : Nat) (h : j ≠ k) : bd_up f k v j = f j := by simp [bd_up, h]
theorem bd_upI (f : Nat → Nat) (k v : Nat) : upd (fun i => nI (f i)) k (nI v) = fun j => nI (bd_up f k v j) := by
  funext j
  by_cases h : j = k
  · simp [upd, bd_up, h]
  · simp [upd, bd_up, h]
theorem bd_upL (f : Nat → Nat) (k v : Nat) : vp_updL (fun i => lN (f i)) k (lN v) = fun j => lN (bd_up f k v j) := by
  funext j
  by_cases h : j = k
  · simp [vp_updL, bd_up, h]
  · simp [vp_updL, bd_up, h]
theorem bd_fm {α β : Type} {g : α → Option β} : ∀ {is : List α} {w : List β}, is.map g = w.map some → is.filterMap g = w := by
  intro is
  induction is with
  | nil =>
    intro w h
    cases w with
    | nil => rfl
    | cons b w => simp at h
  | cons a is ih =>
    intro w h
    cases w with
    | nil => simp at h
    | cons b w =>
      simp only [List.map_cons, List.cons.injEq] at h
      rw [List.filterMap_cons, h.1]
      simp [ih h.2]
/-- the cells -/
abbrev bd_Dk (h0 h1 h2 h3 n : Nat) : Nat × va_E := (h0, .inr (0, [.ref h1, .int (nI n), .ref h2, .ref h3]))
abbrev bd_Pr (h2 h4 : Nat) : Nat × va_E := (h2, .inr (1, [.ref h4]))
abbrev bd_Md (g0 g1 g2 g3 n : Nat) : Nat × va_E := (g0, .inr (2, [.ref g1, .int (nI n), .ref g2, .ref g3]))
abbrev bd_Ar (a : Nat) (d : ClassId) (N : Nat) (f : Nat → Nat) : Nat × va_E := (a, .inl (d, N, .inl (fun i => nI (f i))))
abbrev bd_Tm (a : Nat) (d : ClassId) (t : Nat → Int32) : Nat × va_E := (a, .inl (d, 26, .inl t))
abbrev bd_Lr (a : Nat) (d : ClassId) (N : Nat) (w : Nat → Nat) : Nat × va_E := (a, .inl (d, N, .inr (.inl (fun i => lN (w i)))))
/-- a contract's world at its start and at its end -/
abbrev bd_pW (dC : Nat → ClassId) (dI : Nat → Nat → Nat) (sz : Nat) (ws : va_W) (tys : List (ClassId × FieldType)) (U : State) : Prop := U.heap.size = sz ∧ va_P (dC, dI) vwCl ws U.heap ∧ va_K (dC, dI) vwCl tys U ∧ va_D (fun _ => True) ws
abbrev bd_bW (dC : Nat → ClassId) (dI : Nat → Nat → Nat) (A : Nat → Prop) (ws : va_W) (tys : List (ClassId × FieldType)) (t : State) : Prop := va_P (dC, dI) vwCl ws t.heap ∧ va_K (dC, dI) vwCl tys t ∧ va_D A ws
theorem bd_blind {dC : Nat → ClassId} {dI : Nat → Nat → Nat} {sz : Nat} {ws : va_W} {tys : List (ClassId × FieldType)} {av : List Value} : FrameBlind (va_Pc av (bd_pW dC dI sz ws tys)) := by
  intro a U g mk q
  obtain ⟨q0, q1, qP, qK, qD⟩ := q
  exact ⟨q0, q1, qP, va_K.moved (u := U) (U := U.calling g mk a) (Vm.Alike.refl U.vm) qK, qD⟩
section OW
variable {p : Program} {l : Launch} {e : Env} {R : Room} {s : State} {m : MethodId} {args : Array Value} {below : List Frame} {meth : Method} {c : Code} {H : Heap} {locs : List Loc} {cells slots : Nat} {Q : State → Prop}
variable {cc : ByteArray} {pc : Nat} {ls : Array Slot} {rest : List Value}
theorem bd_eqi {x y : Int32} (h : x = y) (k : W p l e R s m args below meth c H locs cells slots Q (F0 m pc ls (.int y :: rest))) : W p l e R s m args below meth c H locs cells slots Q (F0 m pc ls (.int x :: rest)) := by
  rw [h]; exact k
theorem bd_eql {x y : Int64} (h : x = y) (k : W p l e R s m args below meth c H locs cells slots Q (F0 m pc ls (.long y :: rest))) : W p l e R s m args below meth c H locs cells slots Q (F0 m pc ls (.long x :: rest)) := by
  rw [h]; exact k
theorem bd_icmp_ge (hexec : p.tables.exec = Jvm.exec) (hb : c.code = cc) {x y : Nat} {off : Int} {tgt : Nat} (hdg : decode cc pc = .ok (.if_icmp .ge off, 3)) (ht : (pc : Int) + off = (tgt : Int)) (hx : x < 2 ^ 31) (hy : y < 2 ^ 31)
    (kt : y ≤ x → W p l e R s m args below meth c H locs cells slots Q (F0 m tgt ls rest)) (kf : x < y → W p l e R s m args below meth c H locs cells slots Q (F0 m (pc + 3) ls rest)) : W p l e R s m args below meth c H locs cells slots Q (F0 m pc ls (.int (nI y) :: .int (nI x) :: rest)) :=
  lv_icmp_ge hexec hb hdg ht (fun h => kt ((nI_leI hy hx).mp h)) (fun h => kf (Nat.lt_of_not_le (fun z => h ((nI_leI hy hx).mpr z))))
theorem bd_icmp_le (hexec : p.tables.exec = Jvm.exec) (hb : c.code = cc) {x y : Nat} {off : Int} {tgt : Nat} (hdg : decode cc pc = .ok (.if_icmp .le off, 3)) (ht : (pc : Int) + off = (tgt : Int)) (hx : x < 2 ^ 31) (hy : y < 2 ^ 31)
    (kt : x ≤ y → W p l e R s m args below meth c H locs cells slots Q (F0 m tgt ls rest)) (kf : y < x → W p l e R s m args below meth c H locs cells slots Q (F0 m (pc + 3) ls rest)) : W p l e R s m args below meth c H locs cells slots Q (F0 m pc ls (.int (nI y) :: .int (nI x) :: rest)) :=
  lv_icmp_le hexec hb hdg ht (fun h => kt ((nI_leI hx hy).mp h)) (fun h => kf (Nat.lt_of_not_le (fun z => h ((nI_leI hx hy).mpr z))))
theorem bd_icmp_gt (hexec : p.tables.exec = Jvm.exec) (hb : c.code = cc) {x y : Nat} {off : Int} {tgt : Nat} (hdg : decode cc pc = .ok (.if_icmp .gt off, 3)) (ht : (pc : Int) + off = (tgt : Int)) (hx : x < 2 ^ 31) (hy : y < 2 ^ 31)
    (kt : y < x → W p l e R s m args below meth c H locs cells slots Q (F0 m tgt ls rest)) (kf : x ≤ y → W p l e R s m args below meth c H locs cells slots Q (F0 m (pc + 3) ls rest)) : W p l e R s m args below meth c H locs cells slots Q (F0 m pc ls (.int (nI y) :: .int (nI x) :: rest)) :=
  lv_icmp_gt hexec hb hdg ht (fun h => kt ((nI_ltI hy hx).mp h)) (fun h => kf (Nat.le_of_not_lt (fun z => h ((nI_ltI hy hx).mpr z))))
theorem bd_icmp_lt (hexec : p.tables.exec = Jvm.exec) (hb : c.code = cc) {x y : Nat} {off : Int} {tgt : Nat} (hdg : decode cc pc = .ok (.if_icmp .lt off, 3)) (ht : (pc : Int) + off = (tgt : Int)) (hx : x < 2 ^ 31) (hy : y < 2 ^ 31)
    (kt : x < y → W p l e R s m args below meth c H locs cells slots Q (F0 m tgt ls rest)) (kf : y ≤ x → W p l e R s m args below meth c H locs cells slots Q (F0 m (pc + 3) ls rest)) : W p l e R s m args below meth c H locs cells slots Q (F0 m pc ls (.int (nI y) :: .int (nI x) :: rest)) :=
  lv_icmp_lt hexec hb hdg ht (fun h => kt ((nI_ltI hx hy).mp h)) (fun h => kf (Nat.le_of_not_lt (fun z => h ((nI_ltI hx hy).mpr z))))
theorem bd_icmp_eq (hexec : p.tables.exec = Jvm.exec) (hb : c.code = cc) {x y : Nat} {off : Int} {tgt : Nat} (hdg : decode cc pc = .ok (.if_icmp .eq off, 3)) (ht : (pc : Int) + off = (tgt : Int)) (hx : x < 2 ^ 31) (hy : y < 2 ^ 31)
    (kt : x = y → W p l e R s m args below meth c H locs cells slots Q (F0 m tgt ls rest)) (kf : x ≠ y → W p l e R s m args below meth c H locs cells slots Q (F0 m (pc + 3) ls rest)) : W p l e R s m args below meth c H locs cells slots Q (F0 m pc ls (.int (nI y) :: .int (nI x) :: rest)) :=
  lv_icmp_eq hexec hb hdg ht (fun h => kt ((nI_eq hx hy).mp h)) (fun h => kf (fun z => h ((nI_eq hx hy).mpr z)))
theorem bd_if_le (hexec : p.tables.exec = Jvm.exec) (hb : c.code = cc) {x : Nat} {off : Int} {tgt : Nat} (hdg : decode cc pc = .ok (.ifCond .le off, 3)) (ht : (pc : Int) + off = (tgt : Int)) (hx : x < 2 ^ 31)
    (kt : x = 0 → W p l e R s m args below meth c H locs cells slots Q (F0 m tgt ls rest)) (kf : 0 < x → W p l e R s m args below meth c H locs cells slots Q (F0 m (pc + 3) ls rest)) : W p l e R s m args below meth c H locs cells slots Q (F0 m pc ls (.int (nI x) :: rest)) :=
  lv_if_le hexec hb hdg ht (fun h => kt (Nat.eq_zero_of_not_pos (fun z => nI_nle z hx h))) (fun h => kf (Nat.pos_of_ne_zero (fun z => h (by rw [z]; decide))))
theorem bd_if_ne (hexec : p.tables.exec = Jvm.exec) (hb : c.code = cc) {x : Nat} {off : Int} {tgt : Nat} (hdg : decode cc pc = .ok (.ifCond .ne off, 3)) (ht : (pc : Int) + off = (tgt : Int)) (hx : x < 2 ^ 31)
    (kt : 0 < x → W p l e R s m args below meth c H locs cells slots Q (F0 m tgt ls rest)) (kf : x = 0 → W p l e R s m args below meth c H locs cells slots Q (F0 m (pc + 3) ls rest)) : W p l e R s m args below meth c H locs cells slots Q (F0 m pc ls (.int (nI x) :: rest)) :=
  lv_if_ne hexec hb hdg ht (fun h => kt (Nat.pos_of_ne_zero (fun z => h (by rw [z]; decide)))) (fun h => kf (Nat.eq_zero_of_not_pos (fun z => nI_ne0 z hx h)))
theorem bd_if_eq (hexec : p.tables.exec = Jvm.exec) (hb : c.code = cc) {x : Nat} {off : Int} {tgt : Nat} (hdg : decode cc pc = .ok (.ifCond .eq off, 3)) (ht : (pc : Int) + off = (tgt : Int)) (hx : x < 2 ^ 31)
    (kt : x = 0 → W p l e R s m args below meth c H locs cells slots Q (F0 m tgt ls rest)) (kf : 0 < x → W p l e R s m args below meth c H locs cells slots Q (F0 m (pc + 3) ls rest)) : W p l e R s m args below meth c H locs cells slots Q (F0 m pc ls (.int (nI x) :: rest)) :=
  lv_if_eq hexec hb hdg ht (fun h => kt (Nat.eq_zero_of_not_pos (fun z => nI_ne0 z hx h))) (fun h => kf (Nat.pos_of_ne_zero (fun z => h (by rw [z]; decide))))
variable {D : va_G} {cl : List vw_C} {tys : List (ClassId × FieldType)} {ws : va_W} {A : Nat → Prop} {H0 : Heap} {a : Nat}
theorem bd_iald (hexec : p.tables.exec = Jvm.exec) (hb : c.code = cc) (hK : va_K D cl tys s) (hP : va_P D cl ws H) (q0 t0 : Nat) {cA : ClassId} {n : Nat} {f : Nat → Nat} (ha : ws[q0]? = some (a, .inl (cA, n, .inl (fun i => nI (f i))))) (ht : tys[t0]? = some (cA, .int)) {i : Nat} (hi : i < n) (hn : n < 2 ^ 31) (hdg : decode cc pc = .ok (.iaload, 1))
    (kk : W p l e R s m args below meth c H locs cells slots Q (F0 m (pc + 1) ls (.int (nI (f i)) :: rest))) : W p l e R s m args below meth c H locs cells slots Q (F0 m pc ls (.int (nI i) :: .ref a :: rest)) := by
  refine va_iald hexec hb hK hP q0 t0 ha ht (vp_in_nI hi hn) hdg ?_
  rw [nI_clamp (Nat.lt_trans hi hn)]
  exact kk
theorem bd_gald (hexec : p.tables.exec = Jvm.exec) (hb : c.code = cc) (hK : va_K D cl tys s) (hP : va_P D cl ws H) (q0 t0 : Nat) {cA : ClassId} {n : Nat} {g : Nat → Int32} (ha : ws[q0]? = some (a, .inl (cA, n, .inl g))) (ht : tys[t0]? = some (cA, .int)) {i : Nat} (hi : i < n) (hn : n < 2 ^ 31) (hdg : decode cc pc = .ok (.iaload, 1))
    (kk : W p l e R s m args below meth c H locs cells slots Q (F0 m (pc + 1) ls (.int (g i) :: rest))) : W p l e R s m args below meth c H locs cells slots Q (F0 m pc ls (.int (nI i) :: .ref a :: rest)) := by
  refine va_iald hexec hb hK hP q0 t0 ha ht (vp_in_nI hi hn) hdg ?_
  rw [nI_clamp (Nat.lt_trans hi hn)]
  exact kk
theorem bd_lald (hexec : p.tables.exec = Jvm.exec) (hb : c.code = cc) (hK : va_K D cl tys s) (hP : va_P D cl ws H) (q0 t0 : Nat) {cA : ClassId} {n : Nat} {f : Nat → Nat} (ha : ws[q0]? = some (a, .inl (cA, n, .inr (.inl (fun i => lN (f i)))))) (ht : tys[t0]? = some (cA, .long)) {i : Nat} (hi : i < n) (hn : n < 2 ^ 31) (hdg : decode cc pc = .ok (.laload, 1))
    (kk : W p l e R s m args below meth c H locs cells slots Q (F0 m (pc + 1) ls (.long (lN (f i)) :: rest))) : W p l e R s m args below meth c H locs cells slots Q (F0 m pc ls (.int (nI i) :: .ref a :: rest)) := by
  refine va_lald hexec hb hK hP q0 t0 ha ht (vp_in_nI hi hn) hdg ?_
  rw [nI_clamp (Nat.lt_trans hi hn)]
  exact kk
theorem bd_iast (hexec : p.tables.exec = Jvm.exec) (hb : c.code = cc) (hK : va_K D cl tys s) (hP : va_P D cl ws H) (hD : va_D A ws) (hS : va_S A H0 H locs) (q0 t0 : Nat) {cA : ClassId} {n : Nat} {f : Nat → Nat} (ha : ws[q0]? = some (a, .inl (cA, n, .inl (fun i => nI (f i))))) (ht : tys[t0]? = some (cA, .int)) {i v : Nat} (hi : i < n) (hn : n < 2 ^ 31) (hdg : decode cc pc = .ok (.iastore, 1))
    (kk : ∀ (H1 : Heap) (locs1 : List Loc), va_P D cl (ws.set q0 (bd_Ar a cA n (bd_up f i v))) H1 → va_D A (ws.set q0 (bd_Ar a cA n (bd_up f i v))) → va_S A H0 H1 locs1 → W p l e R s m args below meth c H1 locs1 cells slots Q (F0 m (pc + 1) ls rest)) : W p l e R s m args below meth c H locs cells slots Q (F0 m pc ls (.int (nI v) :: .int (nI i) :: .ref a :: rest)) := by
  refine va_iast hexec hb hK hP hD hS q0 t0 ha ht (vp_in_nI hi hn) hdg (fun H1 locs1 => ?_)
  rw [nI_clamp (Nat.lt_trans hi hn), bd_upI]
  exact kk H1 locs1
theorem bd_gast (hexec : p.tables.exec = Jvm.exec) (hb : c.code = cc) (hK : va_K D cl tys s) (hP : va_P D cl ws H) (hD : va_D A ws) (hS : va_S A H0 H locs) (q0 t0 : Nat) {cA : ClassId} {n : Nat} {g : Nat → Int32} (ha : ws[q0]? = some (a, .inl (cA, n, .inl g))) (ht : tys[t0]? = some (cA, .int)) {i : Nat} {v : Int32} (hi : i < n) (hn : n < 2 ^ 31) (hdg : decode cc pc = .ok (.iastore, 1))
    (kk : ∀ (H1 : Heap) (locs1 : List Loc), va_P D cl (ws.set q0 (a, .inl (cA, n, .inl (upd g i v)))) H1 → va_D A (ws.set q0 (a, .inl (cA, n, .inl (upd g i v)))) → va_S A H0 H1 locs1 → W p l e R s m args below meth c H1 locs1 cells slots Q (F0 m (pc + 1) ls rest)) : W p l e R s m args below meth c H locs cells slots Q (F0 m pc ls (.int v :: .int (nI i) :: .ref a :: rest)) := by
  refine va_iast hexec hb hK hP hD hS q0 t0 ha ht (vp_in_nI hi hn) hdg (fun H1 locs1 => ?_)
  rw [nI_clamp (Nat.lt_trans hi hn)]
  exact kk H1 locs1
theorem bd_last (hexec : p.tables.exec = Jvm.exec) (hb : c.code = cc) (hK : va_K D cl tys s) (hP : va_P D cl ws H) (hD : va_D A ws) (hS : va_S A H0 H locs) (q0 t0 : Nat) {cA : ClassId} {n : Nat} {f : Nat → Nat} (ha : ws[q0]? = some (a, .inl (cA, n, .inr (.inl (fun i => lN (f i)))))) (ht : tys[t0]? = some (cA, .long)) {i v : Nat} (hi : i < n) (hn : n < 2 ^ 31) (hdg : decode cc pc = .ok (.lastore, 1))
    (kk : ∀ (H1 : Heap) (locs1 : List Loc), va_P D cl (ws.set q0 (bd_Lr a cA n (bd_up f i v))) H1 → va_D A (ws.set q0 (bd_Lr a cA n (bd_up f i v))) → va_S A H0 H1 locs1 → W p l e R s m args below meth c H1 locs1 cells slots Q (F0 m (pc + 1) ls rest)) : W p l e R s m args below meth c H locs cells slots Q (F0 m pc ls (.long (lN v) :: .int (nI i) :: .ref a :: rest)) := by
  refine va_last hexec hb hK hP hD hS q0 t0 ha ht (vp_in_nI hi hn) hdg (fun H1 locs1 => ?_)
  rw [nI_clamp (Nat.lt_trans hi hn), bd_upL]
  exact kk H1 locs1
end OW
section OC
variable {p : Program} {l : Launch} {e : Env} {R : Room} {s : State} {m : MethodId} {args : Array Value} {below : List Frame} {meth : Method} {c : Code} {H : Heap} {locs : List Loc} {cells slots : Nat} {Q : State → Prop}
variable {cc : ByteArray} {pc : Nat} {ls : Array Slot} {rest st : List Value} {dC : Nat → ClassId} {dI : Nat → Nat → Nat} {A : Nat → Prop} {H0 : Heap} {ws wc wr : va_W} {tys tc : List (ClassId × FieldType)}
variable {S : Type} {w1 w2 : S → va_W} {y : MethodName} {bytes : ByteArray} {maxL nL n index ci q0 N b : Nat} {ret : Option FieldType} {wsy : List Cond} {rm : Room} {own C : String} {T : u_T} {As fs : List Value}
/-- a call through an object: the callee's cells cut out, what comes back put beside the rest, in the order w2 -/
theorem bd_callVi {post : Int32 → S → Prop} (Sx : CallFix p m c cc nL s args lw_all own)
    (hM : Met l y wsy rm (va_Pc (.ref b :: As) (bd_pW dC dI H.size wc tc)) (va_Qi post (fun u t => bd_bW dC dI (va_A wc H.size) (w1 u) tc t) (va_A wc H.size)) 0 0 (va_A wc H.size))
    (cw : CallW R s args own C index y bytes maxL ret wsy rm 0 0 n) (hK : va_K (dC, dI) vwCl tys s) (hP : va_P (dC, dI) vwCl ws H) (hD : va_D A ws) (hS : va_S A H0 H locs) (hA : ∀ q, H0.size ≤ q → A q)
    (isC isR isT isB : List Nat) (hC : isC.map (fun i => ws[i]?) = wc.map some) (hCn : va_nd isC = true) (hR : isR.map (fun i => ws[i]?) = wr.map some) (hn : va_nd isR = true) (hdis : ∀ i ∈ isR, i ∉ isC) (hT : isT.filterMap (fun i => tys[i]?) = tc)
    (hB : ∀ u, isB.map (fun i => (wr ++ w1 u)[i]?) = (w2 u).map some) (hBn : va_nd isB = true)
    (hcl : vwCl[ci]? = some (C, T, N)) (he : wc[q0]? = some (b, .inr (ci, fs)))
    (hlen : As.length = n) (hls : ls.size = nL) (hst : st = As.reverse ++ .ref b :: rest) (hro : (rest.map fun v => v.category).sum ≤ 8) (hdg : decode cc pc = .ok (.invokevirtual index, 3)) (hf : cells ≤ R.cells ∧ slots ≤ R.slots)
    (kk : ∀ (r : Int32) (u : S) (H1 : Heap) (locs1 : List Loc), post r u → va_P (dC, dI) vwCl (w2 u) H1 → va_D A (w2 u) → va_S A H0 H1 locs1 → W p l e R s m args below meth c H1 locs1 cells slots Q (F0 m (pc + 3) ls (.int r :: rest))) :
    W p l e R s m args below meth c H locs cells slots Q (F0 m pc ls st) := by
  have hPc := hP.sub isC (bd_fm hC)
  have hDc := hD.sub isC hCn hC
  have hKc := hK.sub isT hT
  have hFc := va_free hD hS hA isC hC
  refine va_calli (va_runV Sx hM cw ⟨bd_blind, va_recv hKc hPc hcl he, fun U hU hW => ⟨rfl, by rw [hU], by rw [hU]; exact hPc, va_K.moved hW.alike hKc, hDc.weaken (fun _ _ _ _ => trivial)⟩⟩ rfl hlen hls hst (lv_room hro) hdg hf) hS (fun q _ h => hFc q h) hFc (fun r u t H1 locs1 ht hvm hw hB1 hz1 hk1 hS1 => ?_)
  obtain ⟨hP1, hK1, hD1⟩ := hB1
  rw [ht] at hP1
  obtain ⟨hP2, hD2⟩ := va_join hP hD isC isR hC hR hn hdis hk1 hFc hP1 hD1
  exact kk r u H1 locs1 hw (hP2.sub isB (bd_fm (hB u))) (hD2.sub isB hBn (hB u)) hS1
theorem bd_callVl {post : Int64 → S → Prop} (Sx : CallFix p m c cc nL s args lw_all own)
    (hM : Met l y wsy rm (va_Pc (.ref b :: As) (bd_pW dC dI H.size wc tc)) (va_Ql post (fun u t => bd_bW dC dI (va_A wc H.size) (w1 u) tc t) (va_A wc H.size)) 0 0 (va_A wc H.size))
    (cw : CallW R s args own C index y bytes maxL ret wsy rm 0 0 n) (hK : va_K (dC, dI) vwCl tys s) (hP : va_P (dC, dI) vwCl ws H) (hD : va_D A ws) (hS : va_S A H0 H locs) (hA : ∀ q, H0.size ≤ q → A q)
    (isC isR isT isB : List Nat) (hC : isC.map (fun i => ws[i]?) = wc.map some) (hCn : va_nd isC = true) (hR : isR.map (fun i => ws[i]?) = wr.map some) (hn : va_nd isR = true) (hdis : ∀ i ∈ isR, i ∉ isC) (hT : isT.filterMap (fun i => tys[i]?) = tc)
    (hB : ∀ u, isB.map (fun i => (wr ++ w1 u)[i]?) = (w2 u).map some) (hBn : va_nd isB = true)
    (hcl : vwCl[ci]? = some (C, T, N)) (he : wc[q0]? = some (b, .inr (ci, fs)))
    (hlen : As.length = n) (hls : ls.size = nL) (hst : st = As.reverse ++ .ref b :: rest) (hro : (rest.map fun v => v.category).sum ≤ 8) (hdg : decode cc pc = .ok (.invokevirtual index, 3)) (hf : cells ≤ R.cells ∧ slots ≤ R.slots)
    (kk : ∀ (r : Int64) (u : S) (H1 : Heap) (locs1 : List Loc), post r u → va_P (dC, dI) vwCl (w2 u) H1 → va_D A (w2 u) → va_S A H0 H1 locs1 → W p l e R s m args below meth c H1 locs1 cells slots Q (F0 m (pc + 3) ls (.long r :: rest))) :
    W p l e R s m args below meth c H locs cells slots Q (F0 m pc ls st) := by
  have hPc := hP.sub isC (bd_fm hC)
  have hDc := hD.sub isC hCn hC
  have hKc := hK.sub isT hT
  have hFc := va_free hD hS hA isC hC
  refine va_calll (va_runV Sx hM cw ⟨bd_blind, va_recv hKc hPc hcl he, fun U hU hW => ⟨rfl, by rw [hU], by rw [hU]; exact hPc, va_K.moved hW.alike hKc, hDc.weaken (fun _ _ _ _ => trivial)⟩⟩ rfl hlen hls hst (lv_room hro) hdg hf) hS (fun q _ h => hFc q h) hFc (fun r u t H1 locs1 ht hvm hw hB1 hz1 hk1 hS1 => ?_)
  obtain ⟨hP1, hK1, hD1⟩ := hB1
  rw [ht] at hP1
  obtain ⟨hP2, hD2⟩ := va_join hP hD isC isR hC hR hn hdis hk1 hFc hP1 hD1
  exact kk r u H1 locs1 hw (hP2.sub isB (bd_fm (hB u))) (hD2.sub isB hBn (hB u)) hS1
theorem bd_callVv {post : S → Prop} (Sx : CallFix p m c cc nL s args lw_all own)
    (hM : Met l y wsy rm (va_Pc (.ref b :: As) (bd_pW dC dI H.size wc tc)) (va_Qv post (fun u t => bd_bW dC dI (va_A wc H.size) (w1 u) tc t) (va_A wc H.size)) 0 0 (va_A wc H.size))
    (cw : CallW R s args own C index y bytes maxL ret wsy rm 0 0 n) (hK : va_K (dC, dI) vwCl tys s) (hP : va_P (dC, dI) vwCl ws H) (hD : va_D A ws) (hS : va_S A H0 H locs) (hA : ∀ q, H0.size ≤ q → A q)
    (isC isR isT isB : List Nat) (hC : isC.map (fun i => ws[i]?) = wc.map some) (hCn : va_nd isC = true) (hR : isR.map (fun i => ws[i]?) = wr.map some) (hn : va_nd isR = true) (hdis : ∀ i ∈ isR, i ∉ isC) (hT : isT.filterMap (fun i => tys[i]?) = tc)
    (hB : ∀ u, isB.map (fun i => (wr ++ w1 u)[i]?) = (w2 u).map some) (hBn : va_nd isB = true)
    (hcl : vwCl[ci]? = some (C, T, N)) (he : wc[q0]? = some (b, .inr (ci, fs)))
    (hlen : As.length = n) (hls : ls.size = nL) (hst : st = As.reverse ++ .ref b :: rest) (hro : (rest.map fun v => v.category).sum ≤ 8) (hdg : decode cc pc = .ok (.invokevirtual index, 3)) (hf : cells ≤ R.cells ∧ slots ≤ R.slots)
    (kk : ∀ (u : S) (H1 : Heap) (locs1 : List Loc), post u → va_P (dC, dI) vwCl (w2 u) H1 → va_D A (w2 u) → va_S A H0 H1 locs1 → W p l e R s m args below meth c H1 locs1 cells slots Q (F0 m (pc + 3) ls rest)) :
    W p l e R s m args below meth c H locs cells slots Q (F0 m pc ls st) := by
  have hPc := hP.sub isC (bd_fm hC)
  have hDc := hD.sub isC hCn hC
  have hKc := hK.sub isT hT
  have hFc := va_free hD hS hA isC hC
  refine va_callv (va_runV Sx hM cw ⟨bd_blind, va_recv hKc hPc hcl he, fun U hU hW => ⟨rfl, by rw [hU], by rw [hU]; exact hPc, va_K.moved hW.alike hKc, hDc.weaken (fun _ _ _ _ => trivial)⟩⟩ rfl hlen hls hst (lv_room hro) hdg hf) hS (fun q _ h => hFc q h) hFc (fun u t H1 locs1 ht hvm hw hB1 hz1 hk1 hS1 => ?_)
  obtain ⟨hP1, hK1, hD1⟩ := hB1
  rw [ht] at hP1
  obtain ⟨hP2, hD2⟩ := va_join hP hD isC isR hC hR hn hdis hk1 hFc hP1 hD1
  exact kk u H1 locs1 hw (hP2.sub isB (bd_fm (hB u))) (hD2.sub isB hBn (hB u)) hS1
end OC
section OR
variable {p : Program} {l : Launch} {e : Env} {R : Room} {s : State} {m : MethodId} {args : Array Value} {below : List Frame} {meth : Method} {c : Code} {H : Heap} {locs : List Loc}
variable {cc : ByteArray} {pc : Nat} {ls : Array Slot} {dC : Nat → ClassId} {dI : Nat → Nat → Nat} {A : Nat → Prop} {tys : List (ClassId × FieldType)} {S : Type} {w1 : S → va_W}
theorem bd_iret {post : Int32 → S → Prop} {v : Int32} (hx : p.tables.exec = Jvm.exec) (hb : c.code = cc) (hr : meth.sig.returnType = some .int) (hlocks : meth.locks = false) (u : S) (hp : post v u) (hP : va_P (dC, dI) vwCl (w1 u) H) (hK : va_K (dC, dI) vwCl tys s) (hD : va_D A (w1 u)) (hS : va_S A s.heap H locs) (hdg : decode cc pc = .ok (.ireturn, 1)) :
    W p l e R s m args below meth c H locs 0 0 (MQ below (va_Qi post (fun u t => bd_bW dC dI A (w1 u) tys t) A) args s 0 0 A) (F0 m pc ls [.int v]) :=
  W.iret hx hb hr (fun t ht hW => ⟨⟨v, u, rfl, hp, by rw [ht]; exact hP, va_K.moved hW.alike hK, hD⟩, hS.F ht⟩) hS.2.2 hdg hlocks
theorem bd_zret {post : Int32 → S → Prop} {v : Int32} (hx : p.tables.exec = Jvm.exec) (hb : c.code = cc) (hr : meth.sig.returnType = some .boolean) (hlocks : meth.locks = false) (hv : narrow .boolean (.int v) = .int v) (u : S) (hp : post v u) (hP : va_P (dC, dI) vwCl (w1 u) H) (hK : va_K (dC, dI) vwCl tys s) (hD : va_D A (w1 u)) (hS : va_S A s.heap H locs) (hdg : decode cc pc = .ok (.ireturn, 1)) :
    W p l e R s m args below meth c H locs 0 0 (MQ below (va_Qi post (fun u t => bd_bW dC dI A (w1 u) tys t) A) args s 0 0 A) (F0 m pc ls [.int v]) :=
  W.zret hx hb hr hv (fun t ht hW => ⟨⟨v, u, rfl, hp, by rw [ht]; exact hP, va_K.moved hW.alike hK, hD⟩, hS.F ht⟩) hS.2.2 hdg hlocks
theorem bd_lret {post : Int64 → S → Prop} {v : Int64} (hx : p.tables.exec = Jvm.exec) (hb : c.code = cc) (hr : meth.sig.returnType = some .long) (hlocks : meth.locks = false) (u : S) (hp : post v u) (hP : va_P (dC, dI) vwCl (w1 u) H) (hK : va_K (dC, dI) vwCl tys s) (hD : va_D A (w1 u)) (hS : va_S A s.heap H locs) (hdg : decode cc pc = .ok (.lreturn, 1)) :
    W p l e R s m args below meth c H locs 0 0 (MQ below (va_Ql post (fun u t => bd_bW dC dI A (w1 u) tys t) A) args s 0 0 A) (F0 m pc ls [.long v]) :=
  W.lret hx hb hr (fun t ht hW => ⟨⟨v, u, rfl, hp, by rw [ht]; exact hP, va_K.moved hW.alike hK, hD⟩, hS.F ht⟩) hS.2.2 hdg hlocks
theorem bd_vret {post : S → Prop} (hx : p.tables.exec = Jvm.exec) (hb : c.code = cc) (hr : meth.sig.returnType = none) (hlocks : meth.locks = false) (u : S) (hp : post u) (hP : va_P (dC, dI) vwCl (w1 u) H) (hK : va_K (dC, dI) vwCl tys s) (hD : va_D A (w1 u)) (hS : va_S A s.heap H locs) (hdg : decode cc pc = .ok (.return_, 1)) :
    W p l e R s m args below meth c H locs 0 0 (MQ below (va_Qv post (fun u t => bd_bW dC dI A (w1 u) tys t) A) args s 0 0 A) (F0 m pc ls []) :=
  W.vret hx hb hr (fun t ht hW => ⟨⟨u, rfl, hp, by rw [ht]; exact hP, va_K.moved hW.alike hK, hD⟩, hS.F ht⟩) hS.2.2 hdg hlocks
end OR
/-- a contract out of the walk of its body: the beginning is the same for every method -/
theorem bd_met {l : Launch} {y : MethodName} {bytes : ByteArray} {maxL mc ms sz : Nat} {ret : Option FieldType} {rm : Room} {av : List Value} {dC : Nat → ClassId} {dI : Nat → Nat → Nat} {ws : va_W} {tys : List (ClassId × FieldType)} {Pe : State → Prop} {Qc : (Nat → Prop) → Array Value → State → Outcome → State → Prop} (hy : plainName y.cls = true) (hl0 : (lg_sl av).length ≤ maxL)
    (body : ∀ (p : Program) (e : Env) (s : State) (m : MethodId) (below : List Frame) (meth : Method) (c : Code) (ls : Array Slot) (A : Nat → Prop), p.tables.exec = Jvm.exec → c.code = bytes → meth.sig.returnType = ret → c.maxLocals = maxL → s.vm.findClass y.cls = some m.cls → meth.locks = false → meth.name = y.name → (∀ w ∈ lw_all, w.before av.toArray s = true) → (∀ q : Nat, s.heap.size ≤ q → A q) → va_P (dC, dI) vwCl ws s.heap → va_D A ws → va_S A s.heap s.heap [] → va_K (dC, dI) vwCl tys s → Pe s → lv_has ls maxL (lv_args 0 av) →
      W p l e rm s m av.toArray below meth c s.heap [] 0 0 (MQ below (Qc A) av.toArray s mc ms A) (F0 m 0 ls [])) :
    Met l y (ws_ y bytes maxL ret) rm (va_Pc av (fun U => bd_pW dC dI sz ws tys U ∧ Pe U)) (Qc (va_A ws sz)) mc ms (va_A ws sz) := by
  refine Met.ofW (cc := bytes) (maxL := maxL) (ret := ret) hy rfl ?_
  intro p e s m args below meth c s₁ B hml hv
  obtain ⟨rfl, ⟨hsz, hP, hK, hD0⟩, hPe⟩ := hv
  have hts := atoms_spec (ws := ws_ y bytes maxL ret) B.pre
  have hts : ∀ w ∈ lw_all, w.before _ s = true := fun w h => hts w (List.mem_cons_of_mem _ h)
  subst hsz
  have hl := lv_entry av (n := maxL) hl0
  rw [lg_entry_eq]
  exact body p e s m below meth c _ (va_A ws s.heap.size) B.exec B.bytes B.returns hml (findClass_of_methodNamed B.named) B.notSynchronized (name_of_methodNamed B.named B.method).1 hts (fun q h => Or.inr h) hP hD0.self va_S.rf hK hPe hl
theorem bd_met0 {l : Launch} {y : MethodName} {bytes : ByteArray} {maxL mc ms sz : Nat} {ret : Option FieldType} {rm : Room} {av : List Value} {dC : Nat → ClassId} {dI : Nat → Nat → Nat} {ws : va_W} {tys : List (ClassId × FieldType)} {Qc : (Nat → Prop) → Array Value → State → Outcome → State → Prop} (hy : plainName y.cls = true) (hl0 : (lg_sl av).length ≤ maxL)
    (body : ∀ (p : Program) (e : Env) (s : State) (m : MethodId) (below : List Frame) (meth : Method) (c : Code) (ls : Array Slot) (A : Nat → Prop), p.tables.exec = Jvm.exec → c.code = bytes → meth.sig.returnType = ret → c.maxLocals = maxL → s.vm.findClass y.cls = some m.cls → meth.locks = false → meth.name = y.name → (∀ w ∈ lw_all, w.before av.toArray s = true) → (∀ q : Nat, s.heap.size ≤ q → A q) → va_P (dC, dI) vwCl ws s.heap → va_D A ws → va_S A s.heap s.heap [] → va_K (dC, dI) vwCl tys s → lv_has ls maxL (lv_args 0 av) →
      W p l e rm s m av.toArray below meth c s.heap [] 0 0 (MQ below (Qc A) av.toArray s mc ms A) (F0 m 0 ls [])) :
    Met l y (ws_ y bytes maxL ret) rm (va_Pc av (bd_pW dC dI sz ws tys)) (Qc (va_A ws sz)) mc ms (va_A ws sz) := by
  refine Met.ofW (cc := bytes) (maxL := maxL) (ret := ret) hy rfl ?_
  intro p e s m args below meth c s₁ B hml hv
  obtain ⟨rfl, hsz, hP, hK, hD0⟩ := hv
  have hts := atoms_spec (ws := ws_ y bytes maxL ret) B.pre
  have hts : ∀ w ∈ lw_all, w.before _ s = true := fun w h => hts w (List.mem_cons_of_mem _ h)
  subst hsz
  have hl := lv_entry av (n := maxL) hl0
  rw [lg_entry_eq]
  exact body p e s m below meth c _ (va_A ws s.heap.size) B.exec B.bytes B.returns hml (findClass_of_methodNamed B.named) B.notSynchronized (name_of_methodNamed B.named B.method).1 hts (fun q h => Or.inr h) hP hD0.self va_S.rf hK hl
end
section
/-! PURE: numbers, shapes, what the methods compute; no program in sight -/
set_option maxRecDepth 100000
theorem bd_inc (x : Nat) : nI x + Int32.ofInt 1 = nI (x + 1) := nI_1 x
theorem bd_dec (x : Int32) : x + Int32.ofInt (-1) = x - 1 := by
  have h : Int32.ofInt (-1) = -1 := by decide
  rw [h]
  grind
def bd_m5 (x : Int32) : Nat := x.toBitVec.toNat % 2 ^ 31 % 5
theorem bd_m5_lt (x : Int32) : bd_m5 x < 5 := Nat.mod_lt _ (by decide)
theorem bd_and5 (x : Int32) : (x &&& 2147483647) - (x &&& 2147483647) / nI 5 * nI 5 = nI (bd_m5 x) := by
  rw [pk_and x (m := 2147483647) 31 (by decide)]
  exact pk_rem (Nat.mod_lt _ (by decide)) (by decide) (by decide)
/-- 1 if j < x -/
def bd_b (j x : Nat) : Nat := if j < x then 1 else 0
theorem bd_b1 {j x : Nat} (h : j < x) : bd_b j x = 1 := by simp [bd_b, h]
theorem bd_b0 {j x : Nat} (h : x ≤ j) : bd_b j x = 0 := by simp [bd_b, Nat.not_lt.mpr h]
theorem bd_b_le (j x : Nat) : bd_b j x ≤ 1 := by
  unfold bd_b
  split <;> omega
/-- the shape: the first n rows, then nothing -/
def bd_sh (n : Nat) (f : Nat → Nat) (i : Nat) : Nat := if i < n then f i else 0
theorem bd_sh1 {n : Nat} {f : Nat → Nat} {i : Nat} (h : i < n) : bd_sh n f i = f i := by simp [bd_sh, h]
theorem bd_sh0 {n : Nat} {f : Nat → Nat} {i : Nat} (h : n ≤ i) : bd_sh n f i = 0 := by simp [bd_sh, Nat.not_lt.mpr h]
def bd_V (n : Nat) (f : Nat → Nat) : Prop := n ≤ 5 ∧ (∀ i, i < n → 1 ≤ f i ∧ f i ≤ 5) ∧ ∀ i, i + 1 < n → f (i + 1) ≤ f i
theorem bd_V.sh5 {n : Nat} {f : Nat → Nat} (h : bd_V n f) (i : Nat) : bd_sh n f i ≤ 5 := by
  by_cases hi : i < n
  · rw [bd_sh1 hi]; exact (h.2.1 i hi).2
  · rw [bd_sh0 (Nat.le_of_not_lt hi)]; omega
theorem bd_V.mono {n : Nat} {f : Nat → Nat} (h : bd_V n f) (i : Nat) : bd_sh n f (i + 1) ≤ bd_sh n f i := by
  by_cases hi : i + 1 < n
  · rw [bd_sh1 hi, bd_sh1 (by omega)]; exact h.2.2 i hi
  · rw [bd_sh0 (Nat.le_of_not_lt hi)]; omega
theorem bd_V.anti {n : Nat} {f : Nat → Nat} (h : bd_V n f) (i d : Nat) : bd_sh n f (i + d) ≤ bd_sh n f i := by
  induction d with
  | zero => exact Nat.le_refl _
  | succ d ih => exact Nat.le_trans (h.mono (i + d)) ih
theorem bd_V.anti' {n : Nat} {f : Nat → Nat} (h : bd_V n f) {i k : Nat} (hk : i ≤ k) : bd_sh n f k ≤ bd_sh n f i := by
  have := h.anti i (k - i)
  rwa [Nat.add_sub_cancel' hk] at this
/-- how many of the first k rows are longer than j -/
def bd_cnt (a : Nat → Nat) (j : Nat) : Nat → Nat
  | 0 => 0
  | k + 1 => bd_cnt a j k + bd_b j (a k)
theorem bd_cnt_le (a : Nat → Nat) (j k : Nat) : bd_cnt a j k ≤ k := by
  induction k with
  | zero => exact Nat.le_refl _
  | succ k ih => have := bd_b_le j (a k); simp only [bd_cnt]; omega
theorem bd_cnt_all {a : Nat → Nat} {j k : Nat} (h : ∀ i, i < k → j < a i) : bd_cnt a j k = k := by
  induction k with
  | zero => rfl
  | succ k ih => simp only [bd_cnt]; rw [ih (fun i hi => h i (by omega)), bd_b1 (h k (by omega))]
theorem bd_cnt_off {a : Nat → Nat} {j k : Nat} (h : ∀ i, k ≤ i → a i ≤ j) (d : Nat) : bd_cnt a j (k + d) = bd_cnt a j k := by
  induction d with
  | zero => rfl
  | succ d ih =>
    show bd_cnt a j (k + d) + bd_b j (a (k + d)) = _
    rw [ih, bd_b0 (h _ (by omega))]; rfl
theorem bd_cnt_mono (a : Nat → Nat) (j k d : Nat) : bd_cnt a j k ≤ bd_cnt a j (k + d) := by
  induction d with
  | zero => exact Nat.le_refl _
  | succ d ih => exact Nat.le_trans ih (Nat.le_add_right _ _)
/-- the height of a column, as the class finds it -/
theorem bd_height {n : Nat} {f : Nat → Nat} (hV : bd_V n f) {j k : Nat} (hk : k ≤ n) (h1 : ∀ i, i < k → j < f i) (h2 : k < n → f k ≤ j) : bd_cnt (bd_sh n f) j 5 = k := by
  have h5 := hV.1
  have a1 : bd_cnt (bd_sh n f) j k = k := bd_cnt_all (fun i hi => by rw [bd_sh1 (by omega)]; exact h1 i hi)
  have hkj : bd_sh n f k ≤ j := by
    by_cases h : k < n
    · rw [bd_sh1 h]; exact h2 h
    · rw [bd_sh0 (Nat.le_of_not_lt h)]; omega
  have a2 := bd_cnt_off (a := bd_sh n f) (j := j) (k := k) (fun i hi => Nat.le_trans (hV.anti' hi) hkj) (5 - k)
  rw [Nat.add_sub_cancel' (by omega)] at a2
  rw [a2, a1]
/-- the hook of a box -/
def bd_hk (a : Nat → Nat) (i j : Nat) : Nat := a i - j + bd_cnt a j 5 - i - 1
theorem bd_cnt_row {n : Nat} {f : Nat → Nat} (hV : bd_V n f) {i j : Nat} (hj : j < bd_sh n f i) : bd_cnt (bd_sh n f) j (i + 1) = i + 1 := bd_cnt_all (fun q hq => Nat.lt_of_lt_of_le hj (hV.anti' (by omega)))
theorem bd_row_lt {n : Nat} {f : Nat → Nat} {i j : Nat} (hj : j < bd_sh n f i) : i < n := by
  by_cases h : i < n
  · exact h
  · rw [bd_sh0 (Nat.le_of_not_lt h)] at hj; omega
theorem bd_cnt_box {n : Nat} {f : Nat → Nat} (hV : bd_V n f) {i j : Nat} (hj : j < bd_sh n f i) : i + 1 ≤ bd_cnt (bd_sh n f) j 5 ∧ bd_cnt (bd_sh n f) j 5 ≤ 5 := by
  have h5 := hV.1
  have hi := bd_row_lt hj
  have h1 := bd_cnt_row hV hj
  have h2 := bd_cnt_mono (bd_sh n f) j (i + 1) (5 - (i + 1))
  rw [Nat.add_sub_cancel' (by omega)] at h2
  exact ⟨by omega, bd_cnt_le _ _ _⟩
theorem bd_hk_in {n : Nat} {f : Nat → Nat} (hV : bd_V n f) {i j : Nat} (hj : j < bd_sh n f i) : 1 ≤ bd_hk (bd_sh n f) i j ∧ bd_hk (bd_sh n f) i j ≤ 9 := by
  have h1 := bd_cnt_box hV hj
  have h2 := hV.sh5 i
  unfold bd_hk
  omega
/-- sums -/
def bd_sm (f : Nat → Nat) : Nat → Nat
  | 0 => 0
  | k + 1 => bd_sm f k + f k
def bd_bx (a : Nat → Nat) : Nat → Nat
  | 0 => 0
  | k + 1 => bd_bx a k + bd_cnt a k 5
theorem bd_b5 {x : Nat} (h : x ≤ 5) : bd_b 0 x + bd_b 1 x + bd_b 2 x + bd_b 3 x + bd_b 4 x = x := by
  have h1 : x = 0 ∨ x = 1 ∨ x = 2 ∨ x = 3 ∨ x = 4 ∨ x = 5 := by omega
  rcases h1 with rfl | rfl | rfl | rfl | rfl | rfl <;> decide
theorem bd_sm_cong {f g : Nat → Nat} {k : Nat} (h : ∀ i, i < k → f i = g i) : bd_sm f k = bd_sm g k := by
  induction k with
  | zero => rfl
  | succ k ih => simp only [bd_sm]; rw [ih (fun i hi => h i (by omega)), h k (by omega)]
theorem bd_sm_sh {n : Nat} {f : Nat → Nat} (d : Nat) : bd_sm (bd_sh n f) (n + d) = bd_sm f n := by
  induction d with
  | zero => exact bd_sm_cong (fun i hi => bd_sh1 hi)
  | succ d ih =>
    show bd_sm (bd_sh n f) (n + d) + bd_sh n f (n + d) = _
    rw [ih, bd_sh0 (by omega)]; rfl
theorem bd_sm5 {n : Nat} {f : Nat → Nat} (hn : n ≤ 5) : bd_sm (bd_sh n f) 5 = bd_sm f n := by
  have := bd_sm_sh (n := n) (f := f) (5 - n)
  rwa [Nat.add_sub_cancel' hn] at this
theorem bd_boxes {n : Nat} {f : Nat → Nat} (hV : bd_V n f) : bd_bx (bd_sh n f) 5 = bd_sm f n := by
  rw [← bd_sm5 hV.1]
  simp only [bd_bx, bd_sm, bd_cnt]
  have h0 := bd_b5 (hV.sh5 0)
  have h1 := bd_b5 (hV.sh5 1)
  have h2 := bd_b5 (hV.sh5 2)
  have h3 := bd_b5 (hV.sh5 3)
  have h4 := bd_b5 (hV.sh5 4)
  omega
/-- digits to the base 6 -/
def bd_dg (t i : Nat) : Nat := t / 6 ^ i % 6
theorem bd_dg_lt (t i : Nat) : bd_dg t i < 6 := Nat.mod_lt _ (by decide)
theorem bd_dg_next (t i : Nat) : t / 6 ^ i / 6 = t / 6 ^ (i + 1) := by rw [Nat.div_div_eq_div_mul, Nat.pow_succ]
def bd_part (t : Nat) : Bool := decide (bd_dg t 1 ≤ bd_dg t 0) && decide (bd_dg t 2 ≤ bd_dg t 1) && decide (bd_dg t 3 ≤ bd_dg t 2) && decide (bd_dg t 4 ≤ bd_dg t 3)
def bd_le (t : Nat) (a : Nat → Nat) : Bool := decide (bd_dg t 0 ≤ a 0) && decide (bd_dg t 1 ≤ a 1) && decide (bd_dg t 2 ≤ a 2) && decide (bd_dg t 3 ≤ a 3) && decide (bd_dg t 4 ≤ a 4)
/-- the reference's 'fits' behind i digits -/
def bd_ft (a : Nat → Nat) (t : Nat) : Nat → Bool
  | 0 => true
  | i + 1 => bd_ft a t i && decide (bd_dg t i ≤ a i) && (decide (i = 0) || decide (bd_dg t i ≤ bd_dg t (i - 1)))
theorem bd_ft5 (a : Nat → Nat) (t : Nat) : bd_ft a t 5 = (bd_part t && bd_le t a) := by
  rw [Bool.eq_iff_iff]
  simp [bd_ft, bd_part, bd_le]
  omega
/-- the number of a shape -/
def bd_cd (a : Nat → Nat) : Nat → Nat
  | 0 => 0
  | q + 1 => 6 * bd_cd a q + a (4 - q)
theorem bd_cd5 (a : Nat → Nat) : bd_cd a 5 = a 0 + 6 * a 1 + 36 * a 2 + 216 * a 3 + 1296 * a 4 := by
  show 6 * (6 * (6 * (6 * (6 * 0 + a 4) + a 3) + a 2) + a 1) + a 0 = _
  omega
theorem bd_cd_lt {a : Nat → Nat} (h : ∀ i, a i ≤ 5) : bd_cd a 5 < 7776 := by
  have h0 := h 0
  have h1 := h 1
  have h2 := h 2
  have h3 := h 3
  have h4 := h 4
  rw [bd_cd5]
  omega
theorem bd_cd_dg {n : Nat} {f : Nat → Nat} (hV : bd_V n f) : bd_dg (bd_cd (bd_sh n f) 5) = bd_sh n f := by
  funext i
  have h0 := hV.sh5 0
  have h1 := hV.sh5 1
  have h2 := hV.sh5 2
  have h3 := hV.sh5 3
  have h4 := hV.sh5 4
  have hlt := bd_cd_lt (a := bd_sh n f) hV.sh5
  by_cases hi : i < 5
  · rw [bd_cd5]
    unfold bd_dg
    have hc : i = 0 ∨ i = 1 ∨ i = 2 ∨ i = 3 ∨ i = 4 := by omega
    rcases hc with rfl | rfl | rfl | rfl | rfl
    · rw [show 6 ^ 0 = 1 from rfl]; omega
    · rw [show 6 ^ 1 = 6 from rfl]; omega
    · rw [show 6 ^ 2 = 36 from rfl]; omega
    · rw [show 6 ^ 3 = 216 from rfl]; omega
    · rw [show 6 ^ 4 = 1296 from rfl]; omega
  · have h5 := hV.1
    rw [bd_sh0 (by omega)]
    unfold bd_dg
    rw [Nat.div_eq_of_lt]
    exact Nat.lt_of_lt_of_le hlt (show 6 ^ 5 ≤ 6 ^ i from Nat.pow_le_pow_right (by decide) (by omega))
theorem bd_cd_part {n : Nat} {f : Nat → Nat} (hV : bd_V n f) : bd_part (bd_cd (bd_sh n f) 5) = true := by
  have h0 : bd_sh n f 1 ≤ bd_sh n f 0 := hV.mono 0
  have h1 : bd_sh n f 2 ≤ bd_sh n f 1 := hV.mono 1
  have h2 : bd_sh n f 3 ≤ bd_sh n f 2 := hV.mono 2
  have h3 : bd_sh n f 4 ≤ bd_sh n f 3 := hV.mono 3
  unfold bd_part
  rw [bd_cd_dg hV]
  simp
  omega
theorem bd_cd_fit {n : Nat} {f : Nat → Nat} (hV : bd_V n f) : bd_ft (bd_sh n f) (bd_cd (bd_sh n f) 5) 5 = true := by
  rw [bd_ft5, bd_cd_part hV]
  unfold bd_le
  rw [bd_cd_dg hV]
  simp
/-- numberings: all numbers over all hooks -/
def bd_fac : Nat → Nat
  | 0 => 1
  | k + 1 => bd_fac k * (k + 1)
def bd_pr (a : Nat → Nat) (i : Nat) : Nat → Nat
  | 0 => 1
  | j + 1 => bd_pr a i j * bd_hk a i j
def bd_pa (a : Nat → Nat) : Nat → Nat
  | 0 => 1
  | i + 1 => bd_pa a i * bd_pr a i (a i)
def bd_F (t : Nat) : Nat := bd_fac (bd_sm (bd_dg t) 5) / bd_pa (bd_dg t) 5
/-- is the last box of row q a corner -/
def bd_co (t q : Nat) : Bool := decide (0 < bd_dg t q) && (decide (q = 4) || decide (bd_dg t (q + 1) < bd_dg t q))
def bd_cs (g : Nat → Nat) (t : Nat) : Nat → Nat
  | 0 => 0
  | q + 1 => bd_cs g t q + (if bd_co t q then g (t - 6 ^ q) else 0)
def bd_w (a : Nat → Nat) (t : Nat) : Nat := if bd_ft a t 5 then bd_F t else 0
def bd_ck1 (t : Nat) : Bool := !bd_part t || (decide (t = 0) || decide (bd_cs bd_F t 5 = bd_F t)) && (List.range 5).all (fun q => !bd_co t q || (bd_part (t - 6 ^ q) && bd_le (t - 6 ^ q) (bd_dg t)))
theorem bd_all {P : Nat → Bool} {N : Nat} (h : (List.range N).all P = true) {i : Nat} (hi : i < N) : P i = true := List.all_eq_true.mp h i (List.mem_range.mpr hi)
theorem bd_ck1_all : (List.range 7776).all bd_ck1 = true := by decide +kernel
theorem bd_w_rec {a : Nat → Nat} {t : Nat} (ht : t < 7776) (h0 : 0 < t) (hf : bd_ft a t 5 = true) : bd_cs (bd_w a) t 5 = bd_F t := by
  have hc := bd_all bd_ck1_all ht
  rw [bd_ft5, Bool.and_eq_true] at hf
  have hc : bd_cs bd_F t 5 = bd_F t ∧ ∀ q, q < 5 → bd_co t q = true → bd_part (t - 6 ^ q) = true ∧ bd_le (t - 6 ^ q) (bd_dg t) = true := by
    unfold bd_ck1 at hc
    rw [hf.1] at hc
    simp only [Bool.not_true, Bool.false_or, Bool.and_eq_true, Bool.or_eq_true, decide_eq_true_eq] at hc
    refine ⟨by rcases hc.1 with h | h
               · omega
               · exact h, fun q hq hco => ?_⟩
    have h2 := bd_all hc.2 hq
    simpa [hco] using h2
  have key : ∀ k, k ≤ 5 → bd_cs (bd_w a) t k = bd_cs bd_F t k := by
    intro k
    induction k with
    | zero => intro _; rfl
    | succ k ih =>
      intro hk
      simp only [bd_cs]
      rw [ih (by omega)]
      by_cases hco : bd_co t k = true
      · have h2 := hc.2 k (by omega) hco
        have h3 : bd_w a (t - 6 ^ k) = bd_F (t - 6 ^ k) := by
          unfold bd_w
          rw [if_pos]
          rw [bd_ft5, h2.1]
          have h4 := h2.2
          have h5 := hf.2
          simp [bd_le] at h4 h5 ⊢
          omega
        rw [h3]
      · simp [hco]
  rw [key 5 (Nat.le_refl _), hc.1]
/-- how often the prime q is in a number, as the class takes it apart -/
def bd_er : Nat → Nat → Nat → Nat → Nat
  | 0, _, _, _ => 0
  | fu + 1, p, left, q => if left ≤ 1 then 0 else if left % p = 0 then (if q = p then 1 else 0) + bd_er fu p (left / p) q else bd_er fu (p + 1) left q
theorem bd_er_le {fu p left q : Nat} (h : left ≤ 1) : bd_er (fu + 1) p left q = 0 := by simp [bd_er, h]
theorem bd_er_ne {fu p left q : Nat} (h : 1 < left) (h2 : left % p ≠ 0) : bd_er (fu + 1) p left q = bd_er fu (p + 1) left q := by simp [bd_er, Nat.not_le.mpr h, h2]
theorem bd_er_eq {fu p left q : Nat} (h : 1 < left) (h2 : left % p = 0) : bd_er (fu + 1) p left q = (if q = p then 1 else 0) + bd_er fu p (left / p) q := by simp [bd_er, Nat.not_le.mpr h, h2]
/-- one more of a prime in the table -/
theorem bd_er_put {fin t : Nat → Int32} {hw : Int32} {fu p left : Nat} (h : 1 < left) (h2 : left % p = 0) (hf : ∀ q, fin q = t q + hw * nI (bd_er (fu + 1) p left q)) : ∀ q, fin q = upd t p (t p + hw) q + hw * nI (bd_er fu p (left / p) q) := by
  intro q
  rw [hf q, bd_er_eq h h2]
  by_cases hq : q = p
  · subst hq
    rw [pk_us, if_pos rfl, ← nI_add, show nI 1 = 1 from rfl]
    grind
  · rw [pk_un hq, if_neg hq, Nat.zero_add]
theorem bd_er_0 {fin t : Nat → Int32} {hw : Int32} {fu p left : Nat} (h : left ≤ 1) (hf : ∀ q, fin q = t q + hw * nI (bd_er (fu + 1) p left q)) : t = fin := by
  funext q
  rw [hf q, bd_er_le h, show nI 0 = 0 from rfl]
  grind
theorem bd_upd_lt {t : Nat → Int32} {k : Nat} {v : Int32} (h : ∀ q, q < k → t q = v) : ∀ q, q < k + 1 → upd t k v q = v := by
  intro q hq
  by_cases h1 : q = k
  · rw [h1, pk_us]
  · rw [pk_un h1]; exact h q (by omega)
theorem bd_up_lt {t : Nat → Nat} {k v : Nat} (h : ∀ q, q < k → t q = v) : ∀ q, q < k + 1 → bd_up t k v q = v := by
  intro q hq
  by_cases h1 : q = k
  · rw [h1, bd_up_s]
  · rw [bd_up_n _ _ h1]; exact h q (by omega)
theorem bd_div_free {left p : Nat} (h : left % p = 0) (hd : ∀ d, 2 ≤ d → d < p → left % d ≠ 0) : ∀ d, 2 ≤ d → d < p → left / p % d ≠ 0 := by
  intro d h1 h2 h3
  exact hd d h1 h2 (Nat.mod_eq_zero_of_dvd (Nat.dvd_trans (Nat.dvd_of_mod_eq_zero h3) (Nat.div_dvd_of_dvd (Nat.dvd_of_mod_eq_zero h))))
theorem bd_next_free {left p : Nat} (h1 : 1 < left) (h : left % p ≠ 0) (hd : ∀ d, 2 ≤ d → d < p → left % d ≠ 0) : p < left ∧ ∀ d, 2 ≤ d → d < p + 1 → left % d ≠ 0 := by
  have hn : ∀ d, 2 ≤ d → d < p + 1 → left % d ≠ 0 := by
    intro d hd1 hd2
    by_cases hq : d = p
    · rw [hq]; exact h
    · exact hd d hd1 (by omega)
  refine ⟨?_, hn⟩
  rcases Nat.lt_or_ge p left with q | q
  · exact q
  · exact absurd (Nat.mod_self left) (hn left (by omega) (by omega))
theorem bd_clamp {x : Int32} {k : Nat} (hk : k < 2 ^ 31) : x ≤ nI k ↔ x.toNatClampNeg ≤ k := by
  rw [Int32.le_iff_toInt_le, nI_toInt hk]
  show _ ↔ x.toInt.toNat ≤ k
  omega
theorem bd_clamp_lt (x : Int32) : x.toNatClampNeg < 2 ^ 31 := by
  show x.toInt.toNat < 2 ^ 31
  have := x.toInt_lt
  omega
def bd_ex (q k : Nat) : Nat := bd_er 60 2 k q
def bd_EA (p : Nat) : Nat → Nat
  | 0 => 0
  | k + 1 => bd_EA p k + bd_ex p (k + 1)
def bd_ER (a : Nat → Nat) (p i : Nat) : Nat → Nat
  | 0 => 0
  | j + 1 => bd_ER a p i j + bd_ex p (bd_hk a i j)
def bd_EB (a : Nat → Nat) (p : Nat) : Nat → Nat
  | 0 => 0
  | i + 1 => bd_EB a p i + bd_ER a p i (a i)
def bd_tm (a : Nat → Nat) (i j : Nat) : Nat → Int32 := fun p => nI (bd_EA p (bd_sm a i + j)) - nI (bd_EB a p i + bd_ER a p i j)
theorem bd_tm_0 (a : Nat → Nat) : bd_tm a 0 0 = fun _ => nI 0 := by
  funext p
  show nI 0 - nI 0 = nI 0
  decide
theorem bd_tm_row (a : Nat → Nat) (i : Nat) : bd_tm a (i + 1) 0 = bd_tm a i (a i) := rfl
theorem bd_tm_step (a : Nat → Nat) (i j p : Nat) : bd_tm a i j p + nI 1 * nI (bd_ex p (bd_sm a i + j + 1)) + (-1) * nI (bd_ex p (bd_hk a i j)) = bd_tm a i (j + 1) p := by
  show nI (bd_EA p (bd_sm a i + j)) - nI (bd_EB a p i + bd_ER a p i j) + nI 1 * nI (bd_ex p (bd_sm a i + j + 1)) + (-1) * nI (bd_ex p (bd_hk a i j)) = nI (bd_EA p (bd_sm a i + j) + bd_ex p (bd_sm a i + j + 1)) - nI (bd_EB a p i + (bd_ER a p i j + bd_ex p (bd_hk a i j)))
  rw [← nI_add, ← nI_add, ← nI_add, ← nI_add, show nI 1 = 1 from rfl]
  grind
theorem bd_EB_off {n : Nat} {f : Nat → Nat} (p d : Nat) : bd_EB (bd_sh n f) p (n + d) = bd_EB (bd_sh n f) p n := by
  induction d with
  | zero => rfl
  | succ d ih =>
    show bd_EB (bd_sh n f) p (n + d) + bd_ER (bd_sh n f) p (n + d) (bd_sh n f (n + d)) = _
    rw [ih, bd_sh0 (by omega)]; rfl
theorem bd_tm_end {n : Nat} {f : Nat → Nat} (hn : n ≤ 5) : bd_tm (bd_sh n f) n 0 = bd_tm (bd_sh n f) 5 0 := by
  funext p
  have h1 := bd_EB_off (n := n) (f := f) p (5 - n)
  have h2 := bd_sm_sh (n := n) (f := f) (5 - n)
  have h3 := bd_sm_sh (n := n) (f := f) 0
  rw [Nat.add_sub_cancel' hn] at h1 h2
  unfold bd_tm
  rw [h1, h2]
  rw [Nat.add_zero] at h3
  rw [h3]
  rfl
def bd_vp (t : Nat → Int32) : Nat → Nat
  | 0 => 1
  | k + 1 => bd_vp t k * (k + 2) ^ (t (k + 2)).toNatClampNeg
theorem bd_vp_cong {t u : Nat → Int32} {k : Nat} (h : ∀ q, q < k + 2 → t q = u q) : bd_vp t k = bd_vp u k := by
  induction k with
  | zero => rfl
  | succ k ih => simp only [bd_vp]; rw [ih (fun q hq => h q (by omega)), h (k + 2) (by omega)]
def bd_vn (a : Nat → Nat) : Nat → Nat
  | 0 => 1
  | k + 1 => bd_vn a k * (k + 2) ^ (bd_EA (k + 2) (bd_sm a 5) - bd_EB a (k + 2) 5)
def bd_ck2 (t : Nat) : Bool := !bd_part t || decide (bd_vn (bd_dg t) 24 = bd_F t) && (List.range 24).all (fun k => decide (bd_EB (bd_dg t) (k + 2) 5 ≤ bd_EA (k + 2) (bd_sm (bd_dg t) 5)) && decide (bd_EA (k + 2) (bd_sm (bd_dg t) 5) < 1000))
theorem bd_ck2_all : (List.range 7776).all bd_ck2 = true := by decide +kernel
theorem bd_value {t : Nat} (ht : t < 7776) (hp : bd_part t = true) : bd_vp (bd_tm (bd_dg t) 5 0) 24 = bd_F t := by
  have hc := bd_all bd_ck2_all ht
  unfold bd_ck2 at hc
  rw [hp] at hc
  simp only [Bool.not_true, Bool.false_or, Bool.and_eq_true, decide_eq_true_eq] at hc
  rw [← hc.1]
  have key : ∀ k, k ≤ 24 → bd_vp (bd_tm (bd_dg t) 5 0) k = bd_vn (bd_dg t) k := by
    intro k
    induction k with
    | zero => intro _; rfl
    | succ k ih =>
      intro hk
      have h2 := bd_all hc.2 (show k < 24 by omega)
      simp only [Bool.and_eq_true, decide_eq_true_eq] at h2
      simp only [bd_vp, bd_vn]
      rw [ih (by omega)]
      have h3 : bd_tm (bd_dg t) 5 0 (k + 2) = nI (bd_EA (k + 2) (bd_sm (bd_dg t) 5) - bd_EB (bd_dg t) (k + 2) 5) := pk_sub h2.1
      rw [h3, nI_clamp (by omega)]
  exact key 24 (Nat.le_refl _)
/-- the class's orders -/
theorem bd_orders {n : Nat} {f : Nat → Nat} (hV : bd_V n f) : bd_vp (bd_tm (bd_sh n f) n 0) 24 = bd_F (bd_cd (bd_sh n f) 5) := by
  rw [bd_tm_end hV.1]
  have h := bd_value (bd_cd_lt (a := bd_sh n f) hV.sh5) (bd_cd_part hV)
  rwa [bd_cd_dg hV] at h
/-- shapes inside: the class's sums -/
def bd_S (x : Nat) (w : Nat → Nat) : Nat → Nat
  | 0 => 0
  | k + 1 => bd_S x w k + (if k ≤ x then w k else 0)
def bd_R (x : Nat) (w : Nat → Nat) : Nat → Nat := fun q => bd_S x w (q + 1)
def bd_D (f : Nat → Nat) : Nat → (Nat → Nat) → (Nat → Nat)
  | 0, w => w
  | k + 1, w => bd_D f k (bd_R (f k) w)
theorem bd_S_cong {x : Nat} {v w : Nat → Nat} {k : Nat} (h : ∀ q, q < k → v q = w q) : bd_S x v k = bd_S x w k := by
  induction k with
  | zero => rfl
  | succ k ih => simp only [bd_S]; rw [ih (fun q hq => h q (by omega)), h k (by omega)]
theorem bd_D_cong {f g : Nat → Nat} {k : Nat} (h : ∀ q, q < k → f q = g q) (w : Nat → Nat) : bd_D f k w = bd_D g k w := by
  induction k generalizing w with
  | zero => rfl
  | succ k ih => simp only [bd_D]; rw [h k (by omega)]; exact ih (fun q hq => h q (by omega)) _
theorem bd_R0 : bd_R 0 (fun _ => 1) = fun _ => 1 := by
  funext q
  show bd_S 0 (fun _ => 1) (q + 1) = 1
  induction q with
  | zero => rfl
  | succ q ih =>
    show bd_S 0 (fun _ => 1) (q + 1) + (if q + 1 ≤ 0 then 1 else 0) = 1
    rw [ih]; simp
theorem bd_D_off {n : Nat} {f : Nat → Nat} (d : Nat) : bd_D (bd_sh n f) (n + d) (fun _ => 1) = bd_D (bd_sh n f) n (fun _ => 1) := by
  induction d with
  | zero => rfl
  | succ d ih =>
    show bd_D (bd_sh n f) (n + d) (bd_R (bd_sh n f (n + d)) (fun _ => 1)) = _
    rw [bd_sh0 (by omega), bd_R0]; exact ih
theorem bd_D5 {n : Nat} {f : Nat → Nat} (hn : n ≤ 5) : bd_D f n (fun _ => 1) = bd_D (bd_sh n f) 5 (fun _ => 1) := by
  have h := bd_D_off (n := n) (f := f) (5 - n)
  rw [Nat.add_sub_cancel' hn] at h
  rw [h]
  exact bd_D_cong (fun q hq => (bd_sh1 hq).symm) _
/-- the reference's count -/
def bd_ct (a : Nat → Nat) : Nat → Nat
  | 0 => 0
  | t + 1 => bd_ct a t + (bd_ft a t 5).toNat
theorem bd_ct_count (a : Nat → Nat) (k : Nat) : bd_ct a k = (List.range k).countP (fun t => bd_part t && bd_le t a) := by
  induction k with
  | zero => rfl
  | succ k ih =>
    rw [List.range_succ, List.countP_append, ← ih]
    show bd_ct a k + (bd_ft a k 5).toNat = _
    rw [bd_ft5]
    cases h : (bd_part k && bd_le k a) <;> simp [List.countP_cons, h]
def bd_LL : List Nat := [0, 1, 2, 3, 4, 5, 7, 8, 9, 10, 11, 14, 15, 16, 17, 21, 22, 23, 28, 29, 35, 43, 44, 45, 46, 47, 50, 51, 52, 53, 57, 58, 59, 64, 65, 71, 86, 87, 88, 89, 93, 94, 95, 100, 101, 107, 129, 130, 131, 136, 137, 143, 172, 173, 179, 215, 259, 260, 261, 262, 263, 266, 267, 268, 269, 273, 274, 275, 280, 281, 287, 302, 303, 304, 305, 309, 310, 311, 316, 317, 323, 345, 346, 347, 352, 353, 359, 388, 389, 395, 431, 518, 519, 520, 521, 525, 526, 527, 532, 533, 539, 561, 562, 563, 568, 569, 575, 604, 605, 611, 647, 777, 778, 779, 784, 785, 791, 820, 821, 827, 863, 1036, 1037, 1043, 1079, 1295, 1555, 1556, 1557, 1558, 1559, 1562, 1563, 1564, 1565, 1569, 1570, 1571, 1576, 1577, 1583, 1598, 1599, 1600, 1601, 1605, 1606, 1607, 1612, 1613, 1619, 1641, 1642, 1643, 1648, 1649, 1655, 1684, 1685, 1691, 1727, 1814, 1815, 1816, 1817, 1821, 1822, 1823, 1828, 1829, 1835, 1857, 1858, 1859, 1864, 1865, 1871, 1900, 1901, 1907, 1943, 2073, 2074, 2075, 2080, 2081, 2087, 2116, 2117, 2123, 2159, 2332, 2333, 2339, 2375, 2591, 3110, 3111, 3112, 3113, 3117, 3118, 3119, 3124, 3125, 3131, 3153, 3154, 3155, 3160, 3161, 3167, 3196, 3197, 3203, 3239, 3369, 3370, 3371, 3376, 3377, 3383, 3412, 3413, 3419, 3455, 3628, 3629, 3635, 3671, 3887, 4665, 4666, 4667, 4672, 4673, 4679, 4708, 4709, 4715, 4751, 4924, 4925, 4931, 4967, 5183, 6220, 6221, 6227, 6263, 6479, 7775]
theorem bd_LL_eq : (List.range 7776).filter bd_part = bd_LL := by decide +kernel
def bd_ck3 (t : Nat) : Bool := decide (bd_D (bd_dg t) 5 (fun _ => 1) 5 = bd_LL.countP (fun q => bd_le q (bd_dg t)))
theorem bd_ck3_all : bd_LL.all bd_ck3 = true := by decide +kernel
theorem bd_inner {n : Nat} {f : Nat → Nat} (hV : bd_V n f) : bd_D f n (fun _ => 1) 5 = bd_ct (bd_sh n f) 7776 := by
  rw [bd_D5 hV.1, bd_ct_count]
  have hlt := bd_cd_lt (a := bd_sh n f) hV.sh5
  have hm : bd_cd (bd_sh n f) 5 ∈ bd_LL := by
    rw [← bd_LL_eq]
    exact List.mem_filter.mpr ⟨List.mem_range.mpr hlt, bd_cd_part hV⟩
  have hc := List.all_eq_true.mp bd_ck3_all _ hm
  unfold bd_ck3 at hc
  rw [bd_cd_dg hV, decide_eq_true_eq] at hc
  rw [hc, ← bd_LL_eq, List.countP_filter]
  congr 1
  funext t
  exact Bool.and_comm _ _
/-- what add and drop answer and leave -/
def bd_bad (n : Nat) (f : Nat → Nat) (v : Nat) : Prop := n = 5 ∨ (0 < n ∧ f (n - 1) < v)
def bd_added (n : Nat) (f : Nat → Nat) (v : Nat) (r : Int32) (u : Nat × (Nat → Nat)) : Prop := (bd_bad n f v ∧ r = nI 0 ∧ u = (n, f)) ∨ (¬ bd_bad n f v ∧ r = nI 1 ∧ u = (n + 1, bd_up f n v))
def bd_dropped (n : Nat) (r : Int32) (u : Nat) : Prop := (n = 0 ∧ r = nI 0 ∧ u = n) ∨ (0 < n ∧ r = nI 1 ∧ u = n - 1)
theorem bd_added_one {n : Nat} {f : Nat → Nat} {v : Nat} {r1 r2 : Int32} {u1 u2 : Nat × (Nat → Nat)} (h1 : bd_added n f v r1 u1) (h2 : bd_added n f v r2 u2) : r1 = r2 ∧ u1 = u2 := by
  rcases h1 with ⟨a1, b1, c1⟩ | ⟨a1, b1, c1⟩ <;> rcases h2 with ⟨a2, b2, c2⟩ | ⟨a2, b2, c2⟩
  · exact ⟨by rw [b1, b2], by rw [c1, c2]⟩
  · exact absurd a1 a2
  · exact absurd a2 a1
  · exact ⟨by rw [b1, b2], by rw [c1, c2]⟩
theorem bd_dropped_one {n : Nat} {r1 r2 : Int32} {u1 u2 : Nat} (h1 : bd_dropped n r1 u1) (h2 : bd_dropped n r2 u2) : r1 = r2 ∧ u1 = u2 := by
  rcases h1 with ⟨a1, b1, c1⟩ | ⟨a1, b1, c1⟩ <;> rcases h2 with ⟨a2, b2, c2⟩ | ⟨a2, b2, c2⟩
  · exact ⟨by rw [b1, b2], by rw [c1, c2]⟩
  · omega
  · omega
  · exact ⟨by rw [b1, b2], by rw [c1, c2]⟩
theorem bd_added_V {n : Nat} {f : Nat → Nat} {v : Nat} {r : Int32} {u : Nat × (Nat → Nat)} (hV : bd_V n f) (hv1 : 1 ≤ v) (hv5 : v ≤ 5) (h : bd_added n f v r u) : bd_V u.1 u.2 := by
  rcases h with ⟨-, -, rfl⟩ | ⟨a, -, rfl⟩
  · exact hV
  · have h5 := hV.1
    have hnb : n ≠ 5 ∧ (0 < n → v ≤ f (n - 1)) := by
      refine ⟨fun z => a (Or.inl z), fun z => ?_⟩
      rcases Nat.lt_or_ge (f (n - 1)) v with q | q
      · exact absurd (Or.inr ⟨z, q⟩) a
      · exact q
    refine ⟨?_, fun i hi => ?_, fun i hi => ?_⟩
    · show n + 1 ≤ 5
      omega
    · have hi : i < n + 1 := hi
      show 1 ≤ bd_up f n v i ∧ bd_up f n v i ≤ 5
      by_cases hq : i = n
      · rw [hq, bd_up_s]; exact ⟨hv1, hv5⟩
      · rw [bd_up_n _ _ hq]; exact hV.2.1 i (by omega)
    · have hi : i + 1 < n + 1 := hi
      show bd_up f n v (i + 1) ≤ bd_up f n v i
      rw [bd_up_n f v (show i ≠ n by omega)]
      by_cases hq : i + 1 = n
      · rw [hq, bd_up_s]
        have := hnb.2 (by omega)
        rwa [show n - 1 = i by omega] at this
      · rw [bd_up_n _ _ hq]; exact hV.2.2 i (by omega)
theorem bd_dropped_V {n : Nat} {f : Nat → Nat} {r : Int32} {u : Nat} (hV : bd_V n f) (h : bd_dropped n r u) : bd_V u f := by
  have hu : u ≤ n := by
    rcases h with ⟨-, -, h⟩ | ⟨-, -, h⟩ <;> omega
  have h5 := hV.1
  exact ⟨by omega, fun i hi => hV.2.1 i (by omega), fun i hi => hV.2.2 i (by omega)⟩
theorem bd_sm_le {a : Nat → Nat} (h : ∀ i, a i ≤ 5) (i : Nat) : bd_sm a i ≤ 5 * i := by
  induction i with
  | zero => exact Nat.le_refl _
  | succ i ih => have := h i; simp only [bd_sm]; omega
/-- the reference's rows -/
theorem bd_ft_no1 {a : Nat → Nat} {t i ft : Nat} (h : ft = (bd_ft a t i).toNat) (h0 : ft = 0) : 0 = (bd_ft a t (i + 1)).toNat := by
  have h1 : bd_ft a t i = false := by
    cases hb : bd_ft a t i
    · rfl
    · rw [hb] at h; simp at h; omega
  simp [bd_ft, h1]
theorem bd_ft_no2 {a : Nat → Nat} {t i : Nat} (h : a i < bd_dg t i) : 0 = (bd_ft a t (i + 1)).toNat := by
  have h1 : ¬ bd_dg t i ≤ a i := by omega
  simp [bd_ft, h1]
theorem bd_ft_no3 {a : Nat → Nat} {t i : Nat} (h0 : 0 < i) (h : bd_dg t (i - 1) < bd_dg t i) : 0 = (bd_ft a t (i + 1)).toNat := by
  have h1 : ¬ bd_dg t i ≤ bd_dg t (i - 1) := by omega
  have h2 : ¬ i = 0 := by omega
  simp [bd_ft, h1, h2]
theorem bd_ft_yes {a : Nat → Nat} {t i ft : Nat} (h : ft = (bd_ft a t i).toNat) (h0 : 0 < ft) (h1 : bd_dg t i ≤ a i) (h2 : i = 0 ∨ bd_dg t i ≤ bd_dg t (i - 1)) : 1 = (bd_ft a t (i + 1)).toNat := by
  have h3 : bd_ft a t i = true := by
    cases hb : bd_ft a t i
    · rw [hb] at h; simp at h; omega
    · rfl
  have h4 : bd_ft a t (i + 1) = true := by
    simp only [bd_ft, Bool.and_eq_true, Bool.or_eq_true, decide_eq_true_eq]
    exact ⟨⟨h3, h1⟩, h2⟩
  rw [h4]; rfl
theorem bd_dg_zero (i : Nat) : bd_dg 0 i = 0 := by simp [bd_dg]
theorem bd_ft_zero {a : Nat → Nat} : bd_ft a 0 5 = true := by
  rw [bd_ft5]
  simp [bd_part, bd_le, bd_dg_zero]
theorem bd_w_no {a : Nat → Nat} {t ft : Nat} (h : ft = (bd_ft a t 5).toNat) (h0 : ft = 0) : bd_w a t = 0 := by
  have h1 : bd_ft a t 5 = false := by
    cases hb : bd_ft a t 5
    · rfl
    · rw [hb] at h; simp at h; omega
  simp [bd_w, h1]
theorem bd_w_yes {a : Nat → Nat} {t ft : Nat} (h : ft = (bd_ft a t 5).toNat) (h0 : 0 < ft) (ht : t < 7776) (hp : 0 < t) : bd_cs (bd_w a) t 5 = bd_w a t := by
  have h1 : bd_ft a t 5 = true := by
    cases hb : bd_ft a t 5
    · rw [hb] at h; simp at h; omega
    · rfl
  rw [bd_w_rec ht hp h1]
  simp [bd_w, h1]
theorem bd_w_zero {a : Nat → Nat} : bd_w a 0 = 1 := by
  unfold bd_w
  rw [if_pos bd_ft_zero]
  decide +kernel
theorem bd_co_no {t q : Nat} (h : bd_dg t q = 0 ∨ (q ≠ 4 ∧ bd_dg t q ≤ bd_dg t (q + 1))) : ¬ bd_co t q = true := by
  unfold bd_co
  simp only [Bool.and_eq_true, Bool.or_eq_true, decide_eq_true_eq]
  omega
theorem bd_co_yes {t q : Nat} (h0 : 0 < bd_dg t q) (h : q = 4 ∨ bd_dg t (q + 1) < bd_dg t q) : bd_co t q = true := by
  unfold bd_co
  simp only [Bool.and_eq_true, Bool.or_eq_true, decide_eq_true_eq]
  exact ⟨h0, h⟩
theorem bd_dg_pos {t i : Nat} (h : 0 < bd_dg t i) : 6 ^ i ≤ t := by
  rcases Nat.lt_or_ge t (6 ^ i) with q | q
  · unfold bd_dg at h
    rw [Nat.div_eq_of_lt q] at h
    omega
  · exact q
theorem bd_cd_step {a : Nat → Nat} {k v : Nat} (hk : k < 5) (hv : v = bd_cd a (5 - (k + 1))) : 6 * v + a k = bd_cd a (5 - k) := by
  rw [show 5 - k = (5 - (k + 1)) + 1 by omega, hv]
  show _ = 6 * bd_cd a (5 - (k + 1)) + a (4 - (5 - (k + 1)))
  rw [show 4 - (5 - (k + 1)) = k by omega]
end
section
/-! MODULE Product: times at h4, an int array of 26 -/
set_option maxRecDepth 100000
section PL
variable {p : Program} {l : Launch} {e : Env} {R : Room} {s : State} {m : MethodId} {args : Array Value} {below : List Frame} {meth : Method} {c : Code} {cells slots : Nat} {Q : State → Prop} {dC : Nat → ClassId} {dI : Nat → Nat → Nat} {A : Nat → Prop} {H0 : Heap}
set_option maxHeartbeats 4000000 in
set_option maxRecDepth 100000 in
theorem bd_begin_loop (hx : p.tables.exec = Jvm.exec) (hb : c.code = cX1_begin) (hown : s.vm.findClass RX1 = some m.cls) (hts : ∀ w ∈ lw_all, w.before args s = true) {h2 h4 : Nat} {d4 : ClassId} (hK : va_K (dC, dI) vwCl [(d4, .int)] s) (kk : ∀ (tm : Nat → Int32) (H : Heap) (locs : List Loc) (ls : Array Slot), (∀ q, q < 26 → tm q = nI 0) → va_P (dC, dI) vwCl [bd_Pr h2 h4, bd_Tm h4 d4 tm] H → va_D A [bd_Pr h2 h4, bd_Tm h4 d4 tm] → va_S A H0 H locs → W p l e R s m args below meth c H locs cells slots Q (F0 m 21 ls [])) : ∀ (r k : Nat) (tm : Nat → Int32) (H : Heap) (locs : List Loc) (ls : Array Slot), k ≤ 26 → 27 ≤ k + r → (∀ q, q < k → tm q = nI 0) → va_P (dC, dI) vwCl [bd_Pr h2 h4, bd_Tm h4 d4 tm] H → va_D A [bd_Pr h2 h4, bd_Tm h4 d4 tm] → va_S A H0 H locs → lv_has ls 2 [(1, .int (nI k)), (0, .ref h2)] → W p l e R s m args below meth c H locs cells slots Q (F0 m 2 ls []) := by
  intro r
  induction r with
  | zero => intro k tm H locs ls z1 z2; omega
  | succ r ih =>
    intro k tm H locs ls z1 z2 z0 hP hD hS hl
    refine lv_iload_n hx hb dX1_begin_2 rfl (lv_at hl 0 rfl) ?_
    refine lv_bipush (v := nI 26) hx hb dX1_begin_3 (by decide) ?_
    refine bd_icmp_ge (tgt := 21) hx hb dX1_begin_5 (by decide) (by omega) (by omega) (fun c1 => ?_) (fun c1 => ?_)
    · exact kk tm H locs ls (fun q hq => z0 q (by omega)) hP hD hS
    · refine lv_aload_n hx hb dX1_begin_8 rfl (lv_at hl 1 rfl) ?_
      refine va_get (D := (dC, dI)) (ci := 1) (v := .ref h4) (C := RX1) (T := TX1) (N := 1) hx hb hts in_X1 hown hK hP 0 rfl rfl 0 (by decide) (hts _ q21) (fun _ h9 => h9) rfl dX1_begin_9 ?_
      refine lv_iload_n hx hb dX1_begin_12 rfl (lv_at hl 0 rfl) ?_
      refine lv_iconst (v := nI 0) hx hb dX1_begin_13 (by decide) ?_
      refine bd_gast (g := tm) (i := k) (v := nI 0) hx hb hK hP hD hS 1 0 rfl rfl (by omega) (by decide) dX1_begin_14 (fun H locs hP hD hS => ?_)
      have hP : va_P (dC, dI) vwCl [bd_Pr h2 h4, bd_Tm h4 d4 (upd tm k (nI 0))] H := hP
      have hD : va_D A [bd_Pr h2 h4, bd_Tm h4 d4 (upd tm k (nI 0))] := hD
      refine lv_iinc (v := nI (k + 1)) (lv' := [(1, .int (nI (k + 1))), (0, .ref h2)]) hx hb dX1_begin_15 hl (k := 0) rfl (bd_inc _) (by decide) rfl (fun ls hl => ?_)
      refine lv_goto (tgt := 2) hx hb dX1_begin_18 (by decide) ?_
      exact ih (k + 1) _ H locs ls (by omega) (by omega) (bd_upd_lt z0) hP hD hS hl
set_option maxHeartbeats 4000000 in
set_option maxRecDepth 100000 in
theorem bd_take_loop (hx : p.tables.exec = Jvm.exec) (hb : c.code = cX1_take) (hown : s.vm.findClass RX1 = some m.cls) (hts : ∀ w ∈ lw_all, w.before args s = true) {h2 h4 m0 : Nat} {d4 : ClassId} {hw : Int32} {fin : Nat → Int32} (hK : va_K (dC, dI) vwCl [(d4, .int)] s) (kk : ∀ (tm : Nat → Int32) (H : Heap) (locs : List Loc) (ls : Array Slot), tm = fin → va_P (dC, dI) vwCl [bd_Pr h2 h4, bd_Tm h4 d4 tm] H → va_D A [bd_Pr h2 h4, bd_Tm h4 d4 tm] → va_S A H0 H locs → W p l e R s m args below meth c H locs cells slots Q (F0 m 42 ls [])) : ∀ (fu p0 left : Nat) (tm : Nat → Int32) (H : Heap) (locs : List Loc) (ls : Array Slot), left + (27 - p0) ≤ fu → 2 ≤ p0 → p0 ≤ 26 → 1 ≤ left → left ≤ 25 → (∀ d, 2 ≤ d → d < p0 → left % d ≠ 0) → (∀ q, fin q = tm q + hw * nI (bd_er fu p0 left q)) → va_P (dC, dI) vwCl [bd_Pr h2 h4, bd_Tm h4 d4 tm] H → va_D A [bd_Pr h2 h4, bd_Tm h4 d4 tm] → va_S A H0 H locs → lv_has ls 5 [(4, .int (nI p0)), (3, .int (nI left)), (0, .ref h2), (1, .int (nI m0)), (2, .int hw)] → W p l e R s m args below meth c H locs cells slots Q (F0 m 10 ls []) := by
  intro fu
  induction fu with
  | zero => intro p0 left tm H locs ls z1 z2 z3 z4; omega
  | succ fu ih =>
    intro p0 left tm H locs ls z1 z2 z2' z3 z4 hd hf hP hD hS hl
    refine lv_iload_n hx hb dX1_take_10 rfl (lv_at hl 1 rfl) ?_
    refine lv_iload hx hb dX1_take_11 (lv_at hl 0 rfl) ?_
    refine lv_irem hx hb dX1_take_13 (nI_ne0 (by omega) (by omega)) ?_
    refine bd_eqi (y := nI (left % p0)) (pk_rem (by omega) (by omega) (by omega)) ?_
    have hml : left % p0 < p0 := Nat.mod_lt _ (by omega)
    refine bd_if_ne (tgt := 36) hx hb dX1_take_14 (by decide) (by omega) (fun c1 => ?_) (fun c1 => ?_)
    · refine lv_iinc (v := nI (p0 + 1)) (lv' := [(4, .int (nI (p0 + 1))), (3, .int (nI left)), (0, .ref h2), (1, .int (nI m0)), (2, .int hw)]) hx hb dX1_take_36 hl (k := 0) rfl (bd_inc _) (by decide) rfl (fun ls hl => ?_)
      refine lv_goto (tgt := 5) hx hb dX1_take_39 (by decide) ?_
      refine lv_iload_n hx hb dX1_take_5 rfl (lv_at hl 1 rfl) ?_
      refine lv_iconst (v := nI 1) hx hb dX1_take_6 (by decide) ?_
      refine bd_icmp_le (tgt := 42) hx hb dX1_take_7 (by decide) (by omega) (by omega) (fun c2 => ?_) (fun c2 => ?_)
      · exact kk tm H locs ls (bd_er_0 c2 hf) hP hD hS
      · obtain ⟨hlt, hd'⟩ := bd_next_free c2 (Nat.ne_of_gt c1) hd
        exact ih (p0 + 1) left tm H locs ls (by omega) (by omega) (by omega) z3 z4 hd' (fun q => by rw [hf q, bd_er_ne c2 (Nat.ne_of_gt c1)]) hP hD hS hl
    · have hle : p0 ≤ left := Nat.le_of_dvd (by omega) (Nat.dvd_of_mod_eq_zero c1)
      refine lv_aload_n hx hb dX1_take_17 rfl (lv_at hl 2 rfl) ?_
      refine va_get (D := (dC, dI)) (ci := 1) (v := .ref h4) (C := RX1) (T := TX1) (N := 1) hx hb hts in_X1 hown hK hP 0 rfl rfl 0 (by decide) (hts _ q21) (fun _ h9 => h9) rfl dX1_take_18 ?_
      refine lv_iload hx hb dX1_take_21 (lv_at hl 0 rfl) ?_
      refine lv_dup2_11 hx hb dX1_take_23 rfl rfl ?_
      refine bd_gald (g := tm) (i := p0) hx hb hK hP 1 0 rfl rfl (by omega) (by decide) dX1_take_24 ?_
      refine lv_iload_n hx hb dX1_take_25 rfl (lv_at hl 4 rfl) ?_
      refine lv_iadd hx hb dX1_take_26 ?_
      refine bd_gast (g := tm) (i := p0) (v := (tm p0) + hw) hx hb hK hP hD hS 1 0 rfl rfl (by omega) (by decide) dX1_take_27 (fun H locs hP hD hS => ?_)
      have hP : va_P (dC, dI) vwCl [bd_Pr h2 h4, bd_Tm h4 d4 (upd tm p0 ((tm p0) + hw))] H := hP
      have hD : va_D A [bd_Pr h2 h4, bd_Tm h4 d4 (upd tm p0 ((tm p0) + hw))] := hD
      refine lv_iload_n hx hb dX1_take_28 rfl (lv_at hl 1 rfl) ?_
      refine lv_iload hx hb dX1_take_29 (lv_at hl 0 rfl) ?_
      refine lv_idiv hx hb dX1_take_31 (nI_ne0 (by omega) (by omega)) ?_
      refine bd_eqi (y := nI (left / p0)) (pk_div (by omega) (by omega) (by omega)) ?_
      refine lv_istore_n (lv' := [(3, .int (nI (left / p0))), (4, .int (nI p0)), (0, .ref h2), (1, .int (nI m0)), (2, .int hw)]) hx hb dX1_take_32 rfl hl (by decide) rfl (fun ls hl => ?_)
      refine lv_goto (tgt := 10) hx hb dX1_take_33 (by decide) ?_
      have hq1 : 0 < left / p0 := Nat.div_pos hle (by omega)
      have hq2 : left / p0 < left := Nat.div_lt_self (by omega) (by omega)
      exact ih p0 (left / p0) _ H locs ls (by omega) z2 z2' (by omega) (by omega) (bd_div_free c1 hd) (bd_er_put (by omega) c1 hf) hP hD hS (lv_sub hl [1, 0, 2, 3, 4] rfl)
variable {H : Heap} {locs : List Loc}
set_option maxHeartbeats 4000000 in
set_option maxRecDepth 100000 in
theorem bd_value_in (hx : p.tables.exec = Jvm.exec) (hb : c.code = cX1_value) (hown : s.vm.findClass RX1 = some m.cls) (hts : ∀ w ∈ lw_all, w.before args s = true) {h2 h4 k0 : Nat} {d4 : ClassId} {tm : Nat → Int32} (hk0 : k0 < 24) (hK : va_K (dC, dI) vwCl [(d4, .int)] s) (hP : va_P (dC, dI) vwCl [bd_Pr h2 h4, bd_Tm h4 d4 tm] H) (kk : ∀ (v k : Nat) (ls : Array Slot), v = bd_vp tm (k0 + 1) → lv_has ls 5 [(4, .int (nI k)), (3, .int (nI (k0 + 2))), (1, .long (lN v)), (0, .ref h2)] → W p l e R s m args below meth c H locs cells slots Q (F0 m 35 ls [])) : ∀ (r k v : Nat) (ls : Array Slot), k ≤ (tm (k0 + 2)).toNatClampNeg → (tm (k0 + 2)).toNatClampNeg + 1 ≤ k + r → v = bd_vp tm k0 * (k0 + 2) ^ k → lv_has ls 5 [(4, .int (nI k)), (3, .int (nI (k0 + 2))), (1, .long (lN v)), (0, .ref h2)] → W p l e R s m args below meth c H locs cells slots Q (F0 m 13 ls []) := by
  intro r
  induction r with
  | zero => intro k v ls z1 z2; omega
  | succ r ih =>
    intro k v ls z1 z2 hv hl
    have hcl := bd_clamp_lt (tm (k0 + 2))
    refine lv_iload hx hb dX1_value_13 (lv_at hl 0 rfl) ?_
    refine lv_aload_n hx hb dX1_value_15 rfl (lv_at hl 3 rfl) ?_
    refine va_get (D := (dC, dI)) (ci := 1) (v := .ref h4) (C := RX1) (T := TX1) (N := 1) hx hb hts in_X1 hown hK hP 0 rfl rfl 0 (by decide) (hts _ q21) (fun _ h9 => h9) rfl dX1_value_16 ?_
    refine lv_iload_n hx hb dX1_value_19 rfl (lv_at hl 1 rfl) ?_
    refine bd_gald (g := tm) (i := k0 + 2) hx hb hK hP 1 0 rfl rfl (by omega) (by decide) dX1_value_20 ?_
    refine lv_icmp_ge (tgt := 35) hx hb dX1_value_21 (by decide) (fun c1 => ?_) (fun c1 => ?_)
    · have he : k = (tm (k0 + 2)).toNatClampNeg := Nat.le_antisymm z1 ((bd_clamp (by omega)).mp c1)
      exact kk v k ls (by rw [hv, he]; rfl) hl
    · have hlt : k < (tm (k0 + 2)).toNatClampNeg := Nat.lt_of_not_le (fun z => c1 ((bd_clamp (by omega)).mpr z))
      refine lv_lload_n hx hb dX1_value_24 rfl (lv_at hl 2 rfl) ?_
      refine lv_iload_n hx hb dX1_value_25 rfl (lv_at hl 1 rfl) ?_
      refine lv_i2l (v := lN (k0 + 2)) hx hb dX1_value_26 (nI_l (by omega)) ?_
      refine lv_lmul hx hb dX1_value_27 ?_
      refine bd_eql (y := lN (v * (k0 + 2))) (lN_mul _ _) ?_
      refine lv_lstore_n (lv' := [(1, .long (lN (v * (k0 + 2)))), (4, .int (nI k)), (3, .int (nI (k0 + 2))), (0, .ref h2)]) hx hb dX1_value_28 rfl hl (by decide) rfl (fun ls hl => ?_)
      refine lv_iinc (v := nI (k + 1)) (lv' := [(4, .int (nI (k + 1))), (1, .long (lN (v * (k0 + 2)))), (3, .int (nI (k0 + 2))), (0, .ref h2)]) hx hb dX1_value_29 hl (k := 1) rfl (bd_inc _) (by decide) rfl (fun ls hl => ?_)
      refine lv_goto (tgt := 13) hx hb dX1_value_32 (by decide) ?_
      exact ih (k + 1) _ ls (by omega) (by omega) (by rw [hv, Nat.pow_succ, Nat.mul_assoc]) (lv_sub hl [0, 2, 1, 3] rfl)
set_option maxHeartbeats 4000000 in
set_option maxRecDepth 100000 in
theorem bd_value_out (hx : p.tables.exec = Jvm.exec) (hb : c.code = cX1_value) (hown : s.vm.findClass RX1 = some m.cls) (hts : ∀ w ∈ lw_all, w.before args s = true) {h2 h4 : Nat} {d4 : ClassId} {tm : Nat → Int32} (hK : va_K (dC, dI) vwCl [(d4, .int)] s) (hP : va_P (dC, dI) vwCl [bd_Pr h2 h4, bd_Tm h4 d4 tm] H) (kk : ∀ (v : Nat) (k0 : Nat) (ls : Array Slot), v = bd_vp tm 24 → lv_has ls 5 [(3, .int (nI (k0 + 2))), (1, .long (lN v)), (0, .ref h2)] → W p l e R s m args below meth c H locs cells slots Q (F0 m 41 ls [])) : ∀ (r k0 v : Nat) (ls : Array Slot), k0 ≤ 24 → 25 ≤ k0 + r → v = bd_vp tm k0 → lv_has ls 5 [(3, .int (nI (k0 + 2))), (1, .long (lN v)), (0, .ref h2)] → W p l e R s m args below meth c H locs cells slots Q (F0 m 4 ls []) := by
  intro r
  induction r with
  | zero => intro k0 v ls z1 z2; omega
  | succ r ih =>
    intro k0 v ls z1 z2 hv hl
    refine lv_iload_n hx hb dX1_value_4 rfl (lv_at hl 0 rfl) ?_
    refine lv_bipush (v := nI 26) hx hb dX1_value_5 (by decide) ?_
    refine bd_icmp_ge (tgt := 41) hx hb dX1_value_7 (by decide) (by omega) (by omega) (fun c1 => ?_) (fun c1 => ?_)
    · have he : k0 = 24 := by omega
      exact kk v k0 ls (by rw [hv, he]) hl
    · refine lv_iconst (v := nI 0) hx hb dX1_value_10 (by decide) ?_
      refine lv_istore (lv' := [(4, .int (nI 0)), (3, .int (nI (k0 + 2))), (1, .long (lN v)), (0, .ref h2)]) hx hb dX1_value_11 hl (by decide) rfl (fun ls hl => ?_)
      refine bd_value_in hx hb hown hts (by omega) hK hP (fun v2 k2 ls hv2 hl => ?_) ((tm (k0 + 2)).toNatClampNeg + 1) 0 v ls (Nat.zero_le _) (by omega) (by rw [hv, Nat.pow_zero, Nat.mul_one]) (lv_sub hl [0, 1, 2, 3] rfl)
      refine lv_iinc (v := nI (k0 + 2 + 1)) (lv' := [(3, .int (nI (k0 + 2 + 1))), (4, .int (nI k2)), (1, .long (lN v2)), (0, .ref h2)]) hx hb dX1_value_35 hl (k := 1) rfl (bd_inc _) (by decide) rfl (fun ls hl => ?_)
      refine lv_goto (tgt := 4) hx hb dX1_value_38 (by decide) ?_
      exact ih (k0 + 1) v2 ls (by omega) (by omega) hv2 (lv_sub hl [0, 2, 3] rfl)
end PL
set_option maxHeartbeats 4000000 in
set_option maxRecDepth 100000 in
/-- begin(): all is zero -/
theorem bd_c_begin (l : Launch) (dC : Nat → ClassId) (dI : Nat → Nat → Nat) (h2 h4 : Nat) (d4 : ClassId) (tm : Nat → Int32) (sz : Nat)  : Met l yX1_begin (ws_ yX1_begin cX1_begin 2 none) { frames := 0, cells := 0, slots := 0, locals := 0 } (va_Pc [.ref h2] (bd_pW dC dI sz [bd_Pr h2 h4, bd_Tm h4 d4 tm] [(d4, .int)])) (va_Qv (fun (u : Nat → Int32) => ∀ q, q < 26 → u q = nI 0) (fun (u : Nat → Int32) t => bd_bW dC dI (va_A [bd_Pr h2 h4, bd_Tm h4 d4 tm] sz) [bd_Pr h2 h4, bd_Tm h4 d4 u] [(d4, .int)] t) (va_A [bd_Pr h2 h4, bd_Tm h4 d4 tm] sz)) 0 0 (va_A [bd_Pr h2 h4, bd_Tm h4 d4 tm] sz) := by
  refine bd_met0 (Qc := fun A => va_Qv (fun (u : Nat → Int32) => ∀ q, q < 26 → u q = nI 0) (fun (u : Nat → Int32) t => bd_bW dC dI A [bd_Pr h2 h4, bd_Tm h4 d4 u] [(d4, .int)] t) A) (by decide) (Nat.le_of_ble_eq_true rfl) ?_
  intro p e s m below meth c ls A hx hb hr hml hown hlocks hnm hts hA hP hD hS hK hl
  have hl : lv_has ls 2 [(0, .ref h2)] := hl
  refine lv_iconst (v := nI 0) hx hb dX1_begin_0 (by decide) ?_
  refine lv_istore_n (lv' := [(1, .int (nI 0)), (0, .ref h2)]) hx hb dX1_begin_1 rfl hl (by decide) rfl (fun ls hl => ?_)
  refine bd_begin_loop hx hb hown hts hK (fun tm2 H locs ls z0 hP hD hS => ?_) 27 0 tm s.heap [] ls (Nat.zero_le _) (by omega) (fun q hq => absurd hq (by omega)) hP hD hS hl
  exact bd_vret hx hb hr hlocks tm2 z0 hP hK hD hS dX1_begin_21
set_option maxHeartbeats 4000000 in
set_option maxRecDepth 100000 in
/-- take(n, how): a number is taken in, or out -/
theorem bd_c_take (l : Launch) (dC : Nat → ClassId) (dI : Nat → Nat → Nat) (h2 h4 : Nat) (d4 : ClassId) (tm : Nat → Int32) (m0 : Nat) (hw : Int32) (sz : Nat) (hm1 : 1 ≤ m0) (hm2 : m0 ≤ 25) : Met l yX1_take (ws_ yX1_take cX1_take 5 none) { frames := 0, cells := 0, slots := 0, locals := 0 } (va_Pc [.ref h2, .int (nI m0), .int hw] (bd_pW dC dI sz [bd_Pr h2 h4, bd_Tm h4 d4 tm] [(d4, .int)])) (va_Qv (fun (u : Nat → Int32) => u = fun q => tm q + hw * nI (bd_ex q m0)) (fun (u : Nat → Int32) t => bd_bW dC dI (va_A [bd_Pr h2 h4, bd_Tm h4 d4 tm] sz) [bd_Pr h2 h4, bd_Tm h4 d4 u] [(d4, .int)] t) (va_A [bd_Pr h2 h4, bd_Tm h4 d4 tm] sz)) 0 0 (va_A [bd_Pr h2 h4, bd_Tm h4 d4 tm] sz) := by
  refine bd_met0 (Qc := fun A => va_Qv (fun (u : Nat → Int32) => u = fun q => tm q + hw * nI (bd_ex q m0)) (fun (u : Nat → Int32) t => bd_bW dC dI A [bd_Pr h2 h4, bd_Tm h4 d4 u] [(d4, .int)] t) A) (by decide) (Nat.le_of_ble_eq_true rfl) ?_
  intro p e s m below meth c ls A hx hb hr hml hown hlocks hnm hts hA hP hD hS hK hl
  have hl : lv_has ls 5 [(0, .ref h2), (1, .int (nI m0)), (2, .int hw)] := hl
  refine lv_iload_n hx hb dX1_take_0 rfl (lv_at hl 1 rfl) ?_
  refine lv_istore_n (lv' := [(3, .int (nI m0)), (0, .ref h2), (1, .int (nI m0)), (2, .int hw)]) hx hb dX1_take_1 rfl hl (by decide) rfl (fun ls hl => ?_)
  refine lv_iconst (v := nI 2) hx hb dX1_take_2 (by decide) ?_
  refine lv_istore (lv' := [(4, .int (nI 2)), (3, .int (nI m0)), (0, .ref h2), (1, .int (nI m0)), (2, .int hw)]) hx hb dX1_take_3 hl (by decide) rfl (fun ls hl => ?_)
  refine lv_iload_n hx hb dX1_take_5 rfl (lv_at hl 1 rfl) ?_
  refine lv_iconst (v := nI 1) hx hb dX1_take_6 (by decide) ?_
  refine bd_icmp_le (tgt := 42) hx hb dX1_take_7 (by decide) (by omega) (by omega) (fun c1 => ?_) (fun c1 => ?_)
  · exact bd_vret hx hb hr hlocks tm (bd_er_0 (fu := 59) (p := 2) c1 (fun q => rfl)) hP hK hD hS dX1_take_42
  · refine bd_take_loop hx hb hown hts (fin := fun q => tm q + hw * nI (bd_ex q m0)) hK (fun tm2 H locs ls z0 hP hD hS => ?_) 60 2 m0 tm s.heap [] ls (by omega) (by omega) (by omega) hm1 hm2 (fun d y1 y2 => absurd y2 (by omega)) (fun q => rfl) hP hD hS hl
    exact bd_vret hx hb hr hlocks tm2 z0 hP hK hD hS dX1_take_42
set_option maxHeartbeats 4000000 in
set_option maxRecDepth 100000 in
/-- value(): the product -/
theorem bd_c_value (l : Launch) (dC : Nat → ClassId) (dI : Nat → Nat → Nat) (h2 h4 : Nat) (d4 : ClassId) (tm : Nat → Int32) (sz : Nat)  : Met l yX1_value (ws_ yX1_value cX1_value 5 (some .long)) { frames := 0, cells := 0, slots := 0, locals := 0 } (va_Pc [.ref h2] (bd_pW dC dI sz [bd_Pr h2 h4, bd_Tm h4 d4 tm] [(d4, .int)])) (va_Ql (fun (r : Int64) (u : Unit) => r = lN (bd_vp tm 24)) (fun (u : Unit) t => bd_bW dC dI (va_A [bd_Pr h2 h4, bd_Tm h4 d4 tm] sz) [bd_Pr h2 h4, bd_Tm h4 d4 tm] [(d4, .int)] t) (va_A [bd_Pr h2 h4, bd_Tm h4 d4 tm] sz)) 0 0 (va_A [bd_Pr h2 h4, bd_Tm h4 d4 tm] sz) := by
  refine bd_met0 (Qc := fun A => va_Ql (fun (r : Int64) (u : Unit) => r = lN (bd_vp tm 24)) (fun (u : Unit) t => bd_bW dC dI A [bd_Pr h2 h4, bd_Tm h4 d4 tm] [(d4, .int)] t) A) (by decide) (Nat.le_of_ble_eq_true rfl) ?_
  intro p e s m below meth c ls A hx hb hr hml hown hlocks hnm hts hA hP hD hS hK hl
  have hl : lv_has ls 5 [(0, .ref h2)] := hl
  refine lv_lconst (v := lN 1) hx hb dX1_value_0 (by decide) ?_
  refine lv_lstore_n (lv' := [(1, .long (lN 1)), (0, .ref h2)]) hx hb dX1_value_1 rfl hl (by decide) rfl (fun ls hl => ?_)
  refine lv_iconst (v := nI 2) hx hb dX1_value_2 (by decide) ?_
  refine lv_istore_n (lv' := [(3, .int (nI 2)), (1, .long (lN 1)), (0, .ref h2)]) hx hb dX1_value_3 rfl hl (by decide) rfl (fun ls hl => ?_)
  refine bd_value_out hx hb hown hts hK hP (fun v k0 ls hv hl => ?_) 25 0 1 ls (Nat.zero_le _) (by omega) rfl hl
  refine lv_lload_n hx hb dX1_value_41 rfl (lv_at hl 1 rfl) ?_
  exact bd_lret hx hb hr hlocks () (by rw [hv]) hP hK hD hS dX1_value_42
end
section
/-! MODULE BoxDesk -/
set_option maxRecDepth 100000
section DL
variable {p : Program} {l : Launch} {e : Env} {R : Room} {s : State} {m : MethodId} {args : Array Value} {below : List Frame} {meth : Method} {c : Code} {cells slots : Nat} {Q : State → Prop} {dC : Nat → ClassId} {dI : Nat → Nat → Nat} {A : Nat → Prop} {H0 : Heap}
set_option maxHeartbeats 4000000 in
set_option maxRecDepth 100000 in
theorem bd_height_loop {H : Heap} {locs : List Loc} (hx : p.tables.exec = Jvm.exec) (hb : c.code = cX0_height) (hown : s.vm.findClass RX0 = some m.cls) (hts : ∀ w ∈ lw_all, w.before args s = true) {h0 h1 h2 h3 n : Nat} {d1 : ClassId} {f : Nat → Nat} {j : Nat} (hV : bd_V n f) (hj : j < 2 ^ 31) (hK : va_K (dC, dI) vwCl [(d1, .int)] s) (hP : va_P (dC, dI) vwCl [bd_Dk h0 h1 h2 h3 n, bd_Ar h1 d1 5 f] H) (kk : ∀ (k : Nat) (ls : Array Slot), k ≤ n → (∀ i, i < k → j < f i) → (k < n → f k ≤ j) → lv_has ls 3 [(2, .int (nI k)), (0, .ref h0), (1, .int (nI j))] → W p l e R s m args below meth c H locs cells slots Q (F0 m 26 ls [])) : ∀ (r k : Nat) (ls : Array Slot), k ≤ n → n + 1 ≤ k + r → (∀ i, i < k → j < f i) → lv_has ls 3 [(2, .int (nI k)), (0, .ref h0), (1, .int (nI j))] → W p l e R s m args below meth c H locs cells slots Q (F0 m 2 ls []) := by
  have hn5 := hV.1
  intro r
  induction r with
  | zero => intro k ls z1 z2; omega
  | succ r ih =>
    intro k ls z1 z2 z3 hl
    refine lv_iload_n hx hb dX0_height_2 rfl (lv_at hl 0 rfl) ?_
    refine lv_aload_n hx hb dX0_height_3 rfl (lv_at hl 1 rfl) ?_
    refine va_get (D := (dC, dI)) (ci := 0) (v := .int (nI n)) (C := RX0) (T := TX0) (N := 4) hx hb hts in_X0 hown hK hP 0 rfl rfl 1 (by decide) (hts _ q27) (fun _ h9 => h9) rfl dX0_height_4 ?_
    refine bd_icmp_ge (tgt := 26) hx hb dX0_height_7 (by decide) (by omega) (by omega) (fun c1 => ?_) (fun c1 => ?_)
    · exact kk k ls z1 z3 (fun z => absurd z (by omega)) hl
    · have hfk := hV.2.1 k c1
      refine lv_aload_n hx hb dX0_height_10 rfl (lv_at hl 1 rfl) ?_
      refine va_get (D := (dC, dI)) (ci := 0) (v := .ref h1) (C := RX0) (T := TX0) (N := 4) hx hb hts in_X0 hown hK hP 0 rfl rfl 0 (by decide) (hts _ q26) (fun _ h9 => h9) rfl dX0_height_11 ?_
      refine lv_iload_n hx hb dX0_height_14 rfl (lv_at hl 0 rfl) ?_
      refine bd_iald (f := f) (i := k) hx hb hK hP 1 0 rfl rfl (by omega) (by decide) dX0_height_15 ?_
      refine lv_iload_n hx hb dX0_height_16 rfl (lv_at hl 2 rfl) ?_
      refine bd_icmp_le (tgt := 26) hx hb dX0_height_17 (by decide) (by omega) (by omega) (fun c2 => ?_) (fun c2 => ?_)
      · exact kk k ls z1 z3 (fun _ => c2) hl
      · refine lv_iinc (v := nI (k + 1)) (lv' := [(2, .int (nI (k + 1))), (0, .ref h0), (1, .int (nI j))]) hx hb dX0_height_20 hl (k := 0) rfl (bd_inc _) (by decide) rfl (fun ls hl => ?_)
        refine lv_goto (tgt := 2) hx hb dX0_height_23 (by decide) ?_
        exact ih (k + 1) ls (by omega) (by omega) (fun i hi => by
            by_cases hq : i = k
            · rw [hq]; exact c2
            · exact z3 i (by omega)) hl
end DL
set_option maxHeartbeats 4000000 in
set_option maxRecDepth 100000 in
/-- height(j): the column -/
theorem bd_c_height (l : Launch) (dC : Nat → ClassId) (dI : Nat → Nat → Nat) (h0 h1 h2 h3 : Nat) (d1 : ClassId) (n : Nat) (f : Nat → Nat) (j : Nat) (sz : Nat) (hV : bd_V n f) (hj : j < 2 ^ 31) : Met l yX0_height (ws_ yX0_height cX0_height 3 (some .int)) { frames := 0, cells := 0, slots := 0, locals := 0 } (va_Pc [.ref h0, .int (nI j)] (bd_pW dC dI sz [bd_Dk h0 h1 h2 h3 n, bd_Ar h1 d1 5 f] [(d1, .int)])) (va_Qi (fun (r : Int32) (u : Unit) => r = nI (bd_cnt (bd_sh n f) j 5)) (fun (u : Unit) t => bd_bW dC dI (va_A [bd_Dk h0 h1 h2 h3 n, bd_Ar h1 d1 5 f] sz) [bd_Dk h0 h1 h2 h3 n, bd_Ar h1 d1 5 f] [(d1, .int)] t) (va_A [bd_Dk h0 h1 h2 h3 n, bd_Ar h1 d1 5 f] sz)) 0 0 (va_A [bd_Dk h0 h1 h2 h3 n, bd_Ar h1 d1 5 f] sz) := by
  refine bd_met0 (Qc := fun A => va_Qi (fun (r : Int32) (u : Unit) => r = nI (bd_cnt (bd_sh n f) j 5)) (fun (u : Unit) t => bd_bW dC dI A [bd_Dk h0 h1 h2 h3 n, bd_Ar h1 d1 5 f] [(d1, .int)] t) A) (by decide) (Nat.le_of_ble_eq_true rfl) ?_
  intro p e s m below meth c ls A hx hb hr hml hown hlocks hnm hts hA hP hD hS hK hl
  have hl : lv_has ls 3 [(0, .ref h0), (1, .int (nI j))] := hl
  refine lv_iconst (v := nI 0) hx hb dX0_height_0 (by decide) ?_
  refine lv_istore_n (lv' := [(2, .int (nI 0)), (0, .ref h0), (1, .int (nI j))]) hx hb dX0_height_1 rfl hl (by decide) rfl (fun ls hl => ?_)
  refine bd_height_loop hx hb hown hts hV hj hK hP (fun k ls z1 z2 z3 hl => ?_) (n + 1) 0 ls (Nat.zero_le _) (by omega) (fun i hi => absurd hi (by omega)) hl
  refine lv_iload_n hx hb dX0_height_26 rfl (lv_at hl 0 rfl) ?_
  exact bd_iret hx hb hr hlocks () (by rw [bd_height hV z1 z2 z3]) hP hK hD hS dX0_height_27
set_option maxHeartbeats 4000000 in
set_option maxRecDepth 100000 in
/-- hookAt(i, j): the hook of a box -/
theorem bd_c_hookAt (l : Launch) (dC : Nat → ClassId) (dI : Nat → Nat → Nat) (h0 h1 h2 h3 : Nat) (d1 : ClassId) (n : Nat) (f : Nat → Nat) (i j : Nat) (sz : Nat) (hV : bd_V n f) (hi : i < n) (hj : j < f i) : Met l yX0_hookAt (ws_ yX0_hookAt cX0_hookAt 3 (some .int)) { frames := 1, cells := 0, slots := 0, locals := 22 } (va_Pc [.ref h0, .int (nI i), .int (nI j)] (bd_pW dC dI sz [bd_Dk h0 h1 h2 h3 n, bd_Ar h1 d1 5 f] [(d1, .int)])) (va_Qi (fun (r : Int32) (u : Unit) => r = nI (bd_hk (bd_sh n f) i j)) (fun (u : Unit) t => bd_bW dC dI (va_A [bd_Dk h0 h1 h2 h3 n, bd_Ar h1 d1 5 f] sz) [bd_Dk h0 h1 h2 h3 n, bd_Ar h1 d1 5 f] [(d1, .int)] t) (va_A [bd_Dk h0 h1 h2 h3 n, bd_Ar h1 d1 5 f] sz)) 0 0 (va_A [bd_Dk h0 h1 h2 h3 n, bd_Ar h1 d1 5 f] sz) := by
  refine bd_met0 (Qc := fun A => va_Qi (fun (r : Int32) (u : Unit) => r = nI (bd_hk (bd_sh n f) i j)) (fun (u : Unit) t => bd_bW dC dI A [bd_Dk h0 h1 h2 h3 n, bd_Ar h1 d1 5 f] [(d1, .int)] t) A) (by decide) (Nat.le_of_ble_eq_true rfl) ?_
  intro p e s m below meth c ls A hx hb hr hml hown hlocks hnm hts hA hP hD hS hK hl
  have hl : lv_has ls 3 [(0, .ref h0), (1, .int (nI i)), (2, .int (nI j))] := hl
  have hn5 := hV.1
  have hfi := hV.2.1 i hi
  have hbx := bd_cnt_box hV (i := i) (j := j) (by rw [bd_sh1 hi]; exact hj)
  refine lv_aload_n hx hb dX0_hookAt_0 rfl (lv_at hl 0 rfl) ?_
  refine va_get (D := (dC, dI)) (ci := 0) (v := .ref h1) (C := RX0) (T := TX0) (N := 4) hx hb hts in_X0 hown hK hP 0 rfl rfl 0 (by decide) (hts _ q26) (fun _ h9 => h9) rfl dX0_hookAt_1 ?_
  refine lv_iload_n hx hb dX0_hookAt_4 rfl (lv_at hl 1 rfl) ?_
  refine bd_iald (f := f) (i := i) hx hb hK hP 1 0 rfl rfl (by omega) (by decide) dX0_hookAt_5 ?_
  refine lv_iload_n hx hb dX0_hookAt_6 rfl (lv_at hl 2 rfl) ?_
  refine lv_isub hx hb dX0_hookAt_7 ?_
  refine bd_eqi (y := nI ((f i) - j)) (pk_sub (by omega)) ?_
  refine lv_aload_n hx hb dX0_hookAt_8 rfl (lv_at hl 0 rfl) ?_
  refine lv_iload_n hx hb dX0_hookAt_9 rfl (lv_at hl 2 rfl) ?_
  refine bd_callVi (As := [.int (nI j)]) (rest := [.int (nI ((f i) - j))]) (wc := [bd_Dk h0 h1 h2 h3 n, bd_Ar h1 d1 5 f]) (wr := []) (w2 := fun _ => [bd_Dk h0 h1 h2 h3 n, bd_Ar h1 d1 5 f]) (ci := 0) (q0 := 0) (C := RX0) (T := TX0) (N := 4) ⟨hx, hb, hml, hown, hts⟩ (bd_c_height l dC dI h0 h1 h2 h3 d1 n f j _ hV (by omega)) (cwV 1 hts (lw_V q64 q66 qs1 q4 q67) rfl rfl rfl (by decide +kernel) ⟨Nat.le_of_ble_eq_true rfl, Nat.le_of_ble_eq_true rfl⟩) hK hP hD hS hA [0, 1] [] [0] [0, 1] rfl (by decide) rfl (by decide) (by decide) rfl (fun _ => rfl) (by decide) rfl rfl rfl hl.1 rfl (Nat.le_of_ble_eq_true rfl) dX0_hookAt_10 ⟨Nat.zero_le _, Nat.zero_le _⟩ (fun r u H locs hw hP hD hS => ?_)
  have hw : r = nI (bd_cnt (bd_sh n f) j 5) := hw
  subst hw
  refine lv_iadd hx hb dX0_hookAt_13 ?_
  refine bd_eqi (y := nI (((f i) - j) + (bd_cnt (bd_sh n f) j 5))) (nI_add _ _) ?_
  refine lv_iload_n hx hb dX0_hookAt_14 rfl (lv_at hl 1 rfl) ?_
  refine lv_isub hx hb dX0_hookAt_15 ?_
  refine bd_eqi (y := nI ((((f i) - j) + (bd_cnt (bd_sh n f) j 5)) - i)) (pk_sub (by omega)) ?_
  refine lv_iconst (v := nI 1) hx hb dX0_hookAt_16 (by decide) ?_
  refine lv_isub hx hb dX0_hookAt_17 ?_
  refine bd_eqi (y := nI (((((f i) - j) + (bd_cnt (bd_sh n f) j 5)) - i) - 1)) (pk_sub (by omega)) ?_
  exact bd_iret hx hb hr hlocks () (by show _ = nI (bd_sh n f i - j + bd_cnt (bd_sh n f) j 5 - i - 1); rw [bd_sh1 hi]) hP hK hD hS dX0_hookAt_18
section DB
variable {p : Program} {l : Launch} {e : Env} {R : Room} {s : State} {m : MethodId} {args : Array Value} {below : List Frame} {meth : Method} {c : Code} {cells slots : Nat} {Q : State → Prop} {dC : Nat → ClassId} {dI : Nat → Nat → Nat} {A : Nat → Prop} {H0 : Heap}
set_option maxHeartbeats 4000000 in
set_option maxRecDepth 100000 in
theorem bd_dboxes_loop (hx : p.tables.exec = Jvm.exec) (hb : c.code = cX0_boxes) (hown : s.vm.findClass RX0 = some m.cls) (hts : ∀ w ∈ lw_all, w.before args s = true) (hml : c.maxLocals = 3) (hA : ∀ q, H0.size ≤ q → A q) (hR : 1 ≤ R.frames ∧ 22 ≤ R.locals) (hf : cells ≤ R.cells ∧ slots ≤ R.slots) {h0 h1 h2 h3 n : Nat} {d1 : ClassId} {f : Nat → Nat} (hV : bd_V n f) (hK : va_K (dC, dI) vwCl [(d1, .int)] s) (kk : ∀ (H : Heap) (locs : List Loc) (ls : Array Slot), va_P (dC, dI) vwCl [bd_Dk h0 h1 h2 h3 n, bd_Ar h1 d1 5 f] H → va_D A [bd_Dk h0 h1 h2 h3 n, bd_Ar h1 d1 5 f] → va_S A H0 H locs → lv_has ls 3 [(2, .int (nI 5)), (1, .int (nI (bd_bx (bd_sh n f) 5))), (0, .ref h0)] → W p l e R s m args below meth c H locs cells slots Q (F0 m 23 ls [])) : ∀ (r j : Nat) (H : Heap) (locs : List Loc) (ls : Array Slot), j ≤ 5 → 6 ≤ j + r → va_P (dC, dI) vwCl [bd_Dk h0 h1 h2 h3 n, bd_Ar h1 d1 5 f] H → va_D A [bd_Dk h0 h1 h2 h3 n, bd_Ar h1 d1 5 f] → va_S A H0 H locs → lv_has ls 3 [(2, .int (nI j)), (1, .int (nI (bd_bx (bd_sh n f) j))), (0, .ref h0)] → W p l e R s m args below meth c H locs cells slots Q (F0 m 4 ls []) := by
  intro r
  induction r with
  | zero => intro j H locs ls z1 z2; omega
  | succ r ih =>
    intro j H locs ls z1 z2 hP hD hS hl
    refine lv_iload_n hx hb dX0_boxes_4 rfl (lv_at hl 0 rfl) ?_
    refine lv_iconst (v := nI 5) hx hb dX0_boxes_5 (by decide) ?_
    refine bd_icmp_ge (tgt := 23) hx hb dX0_boxes_6 (by decide) (by omega) (by omega) (fun c1 => ?_) (fun c1 => ?_)
    · have he : j = 5 := by omega
      subst he
      exact kk H locs ls hP hD hS hl
    · refine lv_iload_n hx hb dX0_boxes_9 rfl (lv_at hl 1 rfl) ?_
      refine lv_aload_n hx hb dX0_boxes_10 rfl (lv_at hl 2 rfl) ?_
      refine lv_iload_n hx hb dX0_boxes_11 rfl (lv_at hl 0 rfl) ?_
      refine bd_callVi (As := [.int (nI j)]) (rest := [.int (nI (bd_bx (bd_sh n f) j))]) (wc := [bd_Dk h0 h1 h2 h3 n, bd_Ar h1 d1 5 f]) (wr := []) (w2 := fun _ => [bd_Dk h0 h1 h2 h3 n, bd_Ar h1 d1 5 f]) (ci := 0) (q0 := 0) (C := RX0) (T := TX0) (N := 4) ⟨hx, hb, hml, hown, hts⟩ (bd_c_height l dC dI h0 h1 h2 h3 d1 n f j _ hV (by omega)) (cwV 1 hts (lw_V q64 q66 qs1 q4 q67) rfl rfl rfl (by decide +kernel) hR) hK hP hD hS hA [0, 1] [] [0] [0, 1] rfl (by decide) rfl (by decide) (by decide) rfl (fun _ => rfl) (by decide) rfl rfl rfl hl.1 rfl (Nat.le_of_ble_eq_true rfl) dX0_boxes_12 hf (fun r u H locs hw hP hD hS => ?_)
      have hw : r = nI (bd_cnt (bd_sh n f) j 5) := hw
      subst hw
      refine lv_iadd hx hb dX0_boxes_15 ?_
      refine bd_eqi (y := nI ((bd_bx (bd_sh n f) j) + (bd_cnt (bd_sh n f) j 5))) (nI_add _ _) ?_
      refine lv_istore_n (lv' := [(1, .int (nI ((bd_bx (bd_sh n f) j) + (bd_cnt (bd_sh n f) j 5)))), (2, .int (nI j)), (0, .ref h0)]) hx hb dX0_boxes_16 rfl hl (by decide) rfl (fun ls hl => ?_)
      refine lv_iinc (v := nI (j + 1)) (lv' := [(2, .int (nI (j + 1))), (1, .int (nI ((bd_bx (bd_sh n f) j) + (bd_cnt (bd_sh n f) j 5)))), (0, .ref h0)]) hx hb dX0_boxes_17 hl (k := 1) rfl (bd_inc _) (by decide) rfl (fun ls hl => ?_)
      refine lv_goto (tgt := 4) hx hb dX0_boxes_20 (by decide) ?_
      exact ih (j + 1) H locs ls (by omega) (by omega) hP hD hS hl
end DB
set_option maxHeartbeats 4000000 in
set_option maxRecDepth 100000 in
/-- boxes(): by the columns -/
theorem bd_c_dboxes (l : Launch) (dC : Nat → ClassId) (dI : Nat → Nat → Nat) (h0 h1 h2 h3 : Nat) (d1 : ClassId) (n : Nat) (f : Nat → Nat) (sz : Nat) (hV : bd_V n f) : Met l yX0_boxes (ws_ yX0_boxes cX0_boxes 3 (some .int)) { frames := 1, cells := 0, slots := 0, locals := 22 } (va_Pc [.ref h0] (bd_pW dC dI sz [bd_Dk h0 h1 h2 h3 n, bd_Ar h1 d1 5 f] [(d1, .int)])) (va_Qi (fun (r : Int32) (u : Unit) => r = nI (bd_sm f n)) (fun (u : Unit) t => bd_bW dC dI (va_A [bd_Dk h0 h1 h2 h3 n, bd_Ar h1 d1 5 f] sz) [bd_Dk h0 h1 h2 h3 n, bd_Ar h1 d1 5 f] [(d1, .int)] t) (va_A [bd_Dk h0 h1 h2 h3 n, bd_Ar h1 d1 5 f] sz)) 0 0 (va_A [bd_Dk h0 h1 h2 h3 n, bd_Ar h1 d1 5 f] sz) := by
  refine bd_met0 (Qc := fun A => va_Qi (fun (r : Int32) (u : Unit) => r = nI (bd_sm f n)) (fun (u : Unit) t => bd_bW dC dI A [bd_Dk h0 h1 h2 h3 n, bd_Ar h1 d1 5 f] [(d1, .int)] t) A) (by decide) (Nat.le_of_ble_eq_true rfl) ?_
  intro p e s m below meth c ls A hx hb hr hml hown hlocks hnm hts hA hP hD hS hK hl
  have hl : lv_has ls 3 [(0, .ref h0)] := hl
  refine lv_iconst (v := nI 0) hx hb dX0_boxes_0 (by decide) ?_
  refine lv_istore_n (lv' := [(1, .int (nI 0)), (0, .ref h0)]) hx hb dX0_boxes_1 rfl hl (by decide) rfl (fun ls hl => ?_)
  refine lv_iconst (v := nI 0) hx hb dX0_boxes_2 (by decide) ?_
  refine lv_istore_n (lv' := [(2, .int (nI 0)), (1, .int (nI 0)), (0, .ref h0)]) hx hb dX0_boxes_3 rfl hl (by decide) rfl (fun ls hl => ?_)
  refine bd_dboxes_loop hx hb hown hts hml hA ⟨Nat.le_of_ble_eq_true rfl, Nat.le_of_ble_eq_true rfl⟩ ⟨Nat.zero_le _, Nat.zero_le _⟩ hV hK (fun H locs ls hP hD hS hl => ?_) 6 0 s.heap [] ls (Nat.zero_le _) (by omega) hP hD hS hl
  refine lv_iload_n hx hb dX0_boxes_23 rfl (lv_at hl 1 rfl) ?_
  exact bd_iret hx hb hr hlocks () (by rw [bd_boxes hV]) hP hK hD hS dX0_boxes_24
set_option maxHeartbeats 4000000 in
set_option maxRecDepth 100000 in
/-- hook(a, b) -/
theorem bd_c_dhook (l : Launch) (dC : Nat → ClassId) (dI : Nat → Nat → Nat) (h0 h1 h2 h3 : Nat) (d1 : ClassId) (n : Nat) (f : Nat → Nat) (pa pb : Int32) (sz : Nat) (hV : bd_V n f) : Met l yX0_hook (ws_ yX0_hook cX0_hook 5 (some .int)) { frames := 2, cells := 0, slots := 0, locals := 44 } (va_Pc [.ref h0, .int pa, .int pb] (bd_pW dC dI sz [bd_Dk h0 h1 h2 h3 n, bd_Ar h1 d1 5 f] [(d1, .int)])) (va_Qi (fun (r : Int32) (u : Unit) => r = nI (if bd_m5 pb < bd_sh n f (bd_m5 pa) then bd_hk (bd_sh n f) (bd_m5 pa) (bd_m5 pb) else 0)) (fun (u : Unit) t => bd_bW dC dI (va_A [bd_Dk h0 h1 h2 h3 n, bd_Ar h1 d1 5 f] sz) [bd_Dk h0 h1 h2 h3 n, bd_Ar h1 d1 5 f] [(d1, .int)] t) (va_A [bd_Dk h0 h1 h2 h3 n, bd_Ar h1 d1 5 f] sz)) 0 0 (va_A [bd_Dk h0 h1 h2 h3 n, bd_Ar h1 d1 5 f] sz) := by
  refine bd_met0 (Qc := fun A => va_Qi (fun (r : Int32) (u : Unit) => r = nI (if bd_m5 pb < bd_sh n f (bd_m5 pa) then bd_hk (bd_sh n f) (bd_m5 pa) (bd_m5 pb) else 0)) (fun (u : Unit) t => bd_bW dC dI A [bd_Dk h0 h1 h2 h3 n, bd_Ar h1 d1 5 f] [(d1, .int)] t) A) (by decide) (Nat.le_of_ble_eq_true rfl) ?_
  intro p e s m below meth c ls A hx hb hr hml hown hlocks hnm hts hA hP hD hS hK hl
  have hl : lv_has ls 5 [(0, .ref h0), (1, .int pa), (2, .int pb)] := hl
  have hn5 := hV.1
  have hma := bd_m5_lt pa
  have hmb := bd_m5_lt pb
  refine lv_iload_n hx hb dX0_hook_0 rfl (lv_at hl 1 rfl) ?_
  refine lv_ldc (v := 2147483647) hx hb hown (hts _ q43) dX0_hook_1 ?_
  refine lv_iand hx hb dX0_hook_3 ?_
  refine lv_iconst (v := nI 5) hx hb dX0_hook_4 (by decide) ?_
  refine lv_irem hx hb dX0_hook_5 (by decide) ?_
  refine bd_eqi (y := nI (bd_m5 pa)) (bd_and5 _) ?_
  refine lv_istore_n (lv' := [(3, .int (nI (bd_m5 pa))), (0, .ref h0), (1, .int pa), (2, .int pb)]) hx hb dX0_hook_6 rfl hl (by decide) rfl (fun ls hl => ?_)
  refine lv_iload_n hx hb dX0_hook_7 rfl (lv_at hl 3 rfl) ?_
  refine lv_ldc (v := 2147483647) hx hb hown (hts _ q43) dX0_hook_8 ?_
  refine lv_iand hx hb dX0_hook_10 ?_
  refine lv_iconst (v := nI 5) hx hb dX0_hook_11 (by decide) ?_
  refine lv_irem hx hb dX0_hook_12 (by decide) ?_
  refine bd_eqi (y := nI (bd_m5 pb)) (bd_and5 _) ?_
  refine lv_istore (lv' := [(4, .int (nI (bd_m5 pb))), (3, .int (nI (bd_m5 pa))), (0, .ref h0), (1, .int pa), (2, .int pb)]) hx hb dX0_hook_13 hl (by decide) rfl (fun ls hl => ?_)
  refine lv_iload_n hx hb dX0_hook_15 rfl (lv_at hl 1 rfl) ?_
  refine lv_aload_n hx hb dX0_hook_16 rfl (lv_at hl 2 rfl) ?_
  refine va_get (D := (dC, dI)) (ci := 0) (v := .int (nI n)) (C := RX0) (T := TX0) (N := 4) hx hb hts in_X0 hown hK hP 0 rfl rfl 1 (by decide) (hts _ q27) (fun _ h9 => h9) rfl dX0_hook_17 ?_
  refine bd_icmp_ge (tgt := 44) hx hb dX0_hook_20 (by decide) (by omega) (by omega) (fun c1 => ?_) (fun c1 => ?_)
  · refine lv_iconst (v := nI 0) hx hb dX0_hook_44 (by decide) ?_
    exact bd_iret hx hb hr hlocks () (by rw [if_neg (by rw [bd_sh0 c1]; omega)]) hP hK hD hS dX0_hook_45
  · have hfi := hV.2.1 _ c1
    refine lv_iload hx hb dX0_hook_23 (lv_at hl 0 rfl) ?_
    refine lv_aload_n hx hb dX0_hook_25 rfl (lv_at hl 2 rfl) ?_
    refine va_get (D := (dC, dI)) (ci := 0) (v := .ref h1) (C := RX0) (T := TX0) (N := 4) hx hb hts in_X0 hown hK hP 0 rfl rfl 0 (by decide) (hts _ q26) (fun _ h9 => h9) rfl dX0_hook_26 ?_
    refine lv_iload_n hx hb dX0_hook_29 rfl (lv_at hl 1 rfl) ?_
    refine bd_iald (f := f) (i := bd_m5 pa) hx hb hK hP 1 0 rfl rfl (by omega) (by decide) dX0_hook_30 ?_
    refine bd_icmp_ge (tgt := 44) hx hb dX0_hook_31 (by decide) (by omega) (by omega) (fun c2 => ?_) (fun c2 => ?_)
    · refine lv_iconst (v := nI 0) hx hb dX0_hook_44 (by decide) ?_
      exact bd_iret hx hb hr hlocks () (by rw [if_neg (by rw [bd_sh1 c1]; omega)]) hP hK hD hS dX0_hook_45
    · refine lv_aload_n hx hb dX0_hook_34 rfl (lv_at hl 2 rfl) ?_
      refine lv_iload_n hx hb dX0_hook_35 rfl (lv_at hl 1 rfl) ?_
      refine lv_iload hx hb dX0_hook_36 (lv_at hl 0 rfl) ?_
      refine bd_callVi (As := [.int (nI (bd_m5 pa)), .int (nI (bd_m5 pb))]) (rest := []) (wc := [bd_Dk h0 h1 h2 h3 n, bd_Ar h1 d1 5 f]) (wr := []) (w2 := fun _ => [bd_Dk h0 h1 h2 h3 n, bd_Ar h1 d1 5 f]) (ci := 0) (q0 := 0) (C := RX0) (T := TX0) (N := 4) ⟨hx, hb, hml, hown, hts⟩ (bd_c_hookAt l dC dI h0 h1 h2 h3 d1 n f (bd_m5 pa) (bd_m5 pb) _ hV c1 c2) (cwV 2 hts (lw_V q60 q62 qs0 q4 q63) rfl rfl rfl (by decide +kernel) ⟨Nat.le_of_ble_eq_true rfl, Nat.le_of_ble_eq_true rfl⟩) hK hP hD hS hA [0, 1] [] [0] [0, 1] rfl (by decide) rfl (by decide) (by decide) rfl (fun _ => rfl) (by decide) rfl rfl rfl hl.1 rfl (Nat.le_of_ble_eq_true rfl) dX0_hook_38 ⟨Nat.zero_le _, Nat.zero_le _⟩ (fun r u H locs hw hP hD hS => ?_)
      refine lv_goto (tgt := 45) hx hb dX0_hook_41 (by decide) ?_
      exact bd_iret hx hb hr hlocks () (by rw [if_pos (by rw [bd_sh1 c1]; exact c2)]; exact hw) hP hK hD hS dX0_hook_45
set_option maxHeartbeats 4000000 in
set_option maxRecDepth 100000 in
/-- column(b) -/
theorem bd_c_dcolumn (l : Launch) (dC : Nat → ClassId) (dI : Nat → Nat → Nat) (h0 h1 h2 h3 : Nat) (d1 : ClassId) (n : Nat) (f : Nat → Nat) (pb : Int32) (sz : Nat) (hV : bd_V n f) : Met l yX0_column (ws_ yX0_column cX0_column 2 (some .int)) { frames := 1, cells := 0, slots := 0, locals := 22 } (va_Pc [.ref h0, .int pb] (bd_pW dC dI sz [bd_Dk h0 h1 h2 h3 n, bd_Ar h1 d1 5 f] [(d1, .int)])) (va_Qi (fun (r : Int32) (u : Unit) => r = nI (bd_cnt (bd_sh n f) (bd_m5 pb) 5)) (fun (u : Unit) t => bd_bW dC dI (va_A [bd_Dk h0 h1 h2 h3 n, bd_Ar h1 d1 5 f] sz) [bd_Dk h0 h1 h2 h3 n, bd_Ar h1 d1 5 f] [(d1, .int)] t) (va_A [bd_Dk h0 h1 h2 h3 n, bd_Ar h1 d1 5 f] sz)) 0 0 (va_A [bd_Dk h0 h1 h2 h3 n, bd_Ar h1 d1 5 f] sz) := by
  refine bd_met0 (Qc := fun A => va_Qi (fun (r : Int32) (u : Unit) => r = nI (bd_cnt (bd_sh n f) (bd_m5 pb) 5)) (fun (u : Unit) t => bd_bW dC dI A [bd_Dk h0 h1 h2 h3 n, bd_Ar h1 d1 5 f] [(d1, .int)] t) A) (by decide) (Nat.le_of_ble_eq_true rfl) ?_
  intro p e s m below meth c ls A hx hb hr hml hown hlocks hnm hts hA hP hD hS hK hl
  have hl : lv_has ls 2 [(0, .ref h0), (1, .int pb)] := hl
  have hmb := bd_m5_lt pb
  refine lv_aload_n hx hb dX0_column_0 rfl (lv_at hl 0 rfl) ?_
  refine lv_iload_n hx hb dX0_column_1 rfl (lv_at hl 1 rfl) ?_
  refine lv_ldc (v := 2147483647) hx hb hown (hts _ q43) dX0_column_2 ?_
  refine lv_iand hx hb dX0_column_4 ?_
  refine lv_iconst (v := nI 5) hx hb dX0_column_5 (by decide) ?_
  refine lv_irem hx hb dX0_column_6 (by decide) ?_
  refine bd_eqi (y := nI (bd_m5 pb)) (bd_and5 _) ?_
  refine bd_callVi (As := [.int (nI (bd_m5 pb))]) (rest := []) (wc := [bd_Dk h0 h1 h2 h3 n, bd_Ar h1 d1 5 f]) (wr := []) (w2 := fun _ => [bd_Dk h0 h1 h2 h3 n, bd_Ar h1 d1 5 f]) (ci := 0) (q0 := 0) (C := RX0) (T := TX0) (N := 4) ⟨hx, hb, hml, hown, hts⟩ (bd_c_height l dC dI h0 h1 h2 h3 d1 n f (bd_m5 pb) _ hV (by omega)) (cwV 1 hts (lw_V q64 q66 qs1 q4 q67) rfl rfl rfl (by decide +kernel) ⟨Nat.le_of_ble_eq_true rfl, Nat.le_of_ble_eq_true rfl⟩) hK hP hD hS hA [0, 1] [] [0] [0, 1] rfl (by decide) rfl (by decide) (by decide) rfl (fun _ => rfl) (by decide) rfl rfl rfl hl.1 rfl (Nat.le_of_ble_eq_true rfl) dX0_column_7 ⟨Nat.zero_le _, Nat.zero_le _⟩ (fun r u H locs hw hP hD hS => ?_)
  have hw : r = nI (bd_cnt (bd_sh n f) (bd_m5 pb) 5) := hw
  subst hw
  exact bd_iret hx hb hr hlocks () rfl hP hK hD hS dX0_column_10
set_option maxHeartbeats 4000000 in
set_option maxRecDepth 100000 in
/-- add(k) -/
theorem bd_c_dadd (l : Launch) (dC : Nat → ClassId) (dI : Nat → Nat → Nat) (h0 h1 h2 h3 : Nat) (d1 : ClassId) (n : Nat) (f : Nat → Nat) (pk : Int32) (sz : Nat) (hV : bd_V n f) : Met l yX0_add (ws_ yX0_add cX0_add 3 (some .boolean)) { frames := 0, cells := 0, slots := 0, locals := 0 } (va_Pc [.ref h0, .int pk] (bd_pW dC dI sz [bd_Dk h0 h1 h2 h3 n, bd_Ar h1 d1 5 f] [(d1, .int)])) (va_Qi (fun (r : Int32) (u : Nat × (Nat → Nat)) => bd_added n f (1 + bd_m5 pk) r u) (fun (u : Nat × (Nat → Nat)) t => bd_bW dC dI (va_A [bd_Dk h0 h1 h2 h3 n, bd_Ar h1 d1 5 f] sz) [bd_Dk h0 h1 h2 h3 u.1, bd_Ar h1 d1 5 u.2] [(d1, .int)] t) (va_A [bd_Dk h0 h1 h2 h3 n, bd_Ar h1 d1 5 f] sz)) 0 0 (va_A [bd_Dk h0 h1 h2 h3 n, bd_Ar h1 d1 5 f] sz) := by
  refine bd_met0 (Qc := fun A => va_Qi (fun (r : Int32) (u : Nat × (Nat → Nat)) => bd_added n f (1 + bd_m5 pk) r u) (fun (u : Nat × (Nat → Nat)) t => bd_bW dC dI A [bd_Dk h0 h1 h2 h3 u.1, bd_Ar h1 d1 5 u.2] [(d1, .int)] t) A) (by decide) (Nat.le_of_ble_eq_true rfl) ?_
  intro p e s m below meth c ls A hx hb hr hml hown hlocks hnm hts hA hP hD hS hK hl
  have hl : lv_has ls 3 [(0, .ref h0), (1, .int pk)] := hl
  have hn5 := hV.1
  have hmb := bd_m5_lt pk
  refine lv_iconst (v := nI 1) hx hb dX0_add_0 (by decide) ?_
  refine lv_iload_n hx hb dX0_add_1 rfl (lv_at hl 1 rfl) ?_
  refine lv_ldc (v := 2147483647) hx hb hown (hts _ q43) dX0_add_2 ?_
  refine lv_iand hx hb dX0_add_4 ?_
  refine lv_iconst (v := nI 5) hx hb dX0_add_5 (by decide) ?_
  refine lv_irem hx hb dX0_add_6 (by decide) ?_
  refine bd_eqi (y := nI (bd_m5 pk)) (bd_and5 _) ?_
  refine lv_iadd hx hb dX0_add_7 ?_
  refine bd_eqi (y := nI (1 + (bd_m5 pk))) (nI_add _ _) ?_
  refine lv_istore_n (lv' := [(2, .int (nI (1 + (bd_m5 pk)))), (0, .ref h0), (1, .int pk)]) hx hb dX0_add_8 rfl hl (by decide) rfl (fun ls hl => ?_)
  refine lv_aload_n hx hb dX0_add_9 rfl (lv_at hl 1 rfl) ?_
  refine va_get (D := (dC, dI)) (ci := 0) (v := .int (nI n)) (C := RX0) (T := TX0) (N := 4) hx hb hts in_X0 hown hK hP 0 rfl rfl 1 (by decide) (hts _ q27) (fun _ h9 => h9) rfl dX0_add_10 ?_
  refine lv_iconst (v := nI 5) hx hb dX0_add_13 (by decide) ?_
  refine bd_icmp_eq (tgt := 39) hx hb dX0_add_14 (by decide) (by omega) (by omega) (fun c1 => ?_) (fun c1 => ?_)
  · refine lv_iconst (v := nI 0) hx hb dX0_add_39 (by decide) ?_
    exact bd_zret hx hb hr hlocks rfl (n, f) (Or.inl ⟨Or.inl c1, rfl, rfl⟩) hP hK hD hS dX0_add_40
  · refine lv_aload_n hx hb dX0_add_17 rfl (lv_at hl 1 rfl) ?_
    refine va_get (D := (dC, dI)) (ci := 0) (v := .int (nI n)) (C := RX0) (T := TX0) (N := 4) hx hb hts in_X0 hown hK hP 0 rfl rfl 1 (by decide) (hts _ q27) (fun _ h9 => h9) rfl dX0_add_18 ?_
    refine bd_if_le (tgt := 41) hx hb dX0_add_21 (by decide) (by omega) (fun c2 => ?_) (fun c2 => ?_)
    · refine lv_aload_n hx hb dX0_add_41 rfl (lv_at hl 1 rfl) ?_
      refine va_get (D := (dC, dI)) (ci := 0) (v := .ref h1) (C := RX0) (T := TX0) (N := 4) hx hb hts in_X0 hown hK hP 0 rfl rfl 0 (by decide) (hts _ q26) (fun _ h9 => h9) rfl dX0_add_42 ?_
      refine lv_aload_n hx hb dX0_add_45 rfl (lv_at hl 1 rfl) ?_
      refine va_get (D := (dC, dI)) (ci := 0) (v := .int (nI n)) (C := RX0) (T := TX0) (N := 4) hx hb hts in_X0 hown hK hP 0 rfl rfl 1 (by decide) (hts _ q27) (fun _ h9 => h9) rfl dX0_add_46 ?_
      refine lv_iload_n hx hb dX0_add_49 rfl (lv_at hl 0 rfl) ?_
      refine bd_iast (f := f) (i := n) (v := 1 + (bd_m5 pk)) hx hb hK hP hD hS 1 0 rfl rfl (by omega) (by decide) dX0_add_50 (fun H locs hP hD hS => ?_)
      have hP : va_P (dC, dI) vwCl [bd_Dk h0 h1 h2 h3 n, bd_Ar h1 d1 5 (bd_up f n (1 + (bd_m5 pk)))] H := hP
      have hD : va_D A [bd_Dk h0 h1 h2 h3 n, bd_Ar h1 d1 5 (bd_up f n (1 + (bd_m5 pk)))] := hD
      refine lv_aload_n hx hb dX0_add_51 rfl (lv_at hl 1 rfl) ?_
      refine lv_dup hx hb dX0_add_52 rfl ?_
      refine va_get (D := (dC, dI)) (ci := 0) (v := .int (nI n)) (C := RX0) (T := TX0) (N := 4) hx hb hts in_X0 hown hK hP 0 rfl rfl 1 (by decide) (hts _ q27) (fun _ h9 => h9) rfl dX0_add_53 ?_
      refine lv_iconst (v := nI 1) hx hb dX0_add_56 (by decide) ?_
      refine lv_iadd hx hb dX0_add_57 ?_
      refine bd_eqi (y := nI (n + 1)) (nI_add _ _) ?_
      refine va_put (D := (dC, dI)) (ci := 0) (v := .int (nI (n + 1))) (ty := .int) (C := RX0) (T := TX0) (N := 4) hx hb hts in_X0 tyX0 tyX0_ok nmX0 hown hK hP hD hS 0 rfl rfl 1 (by decide) (hts _ q27) (fun _ h9 => h9) rfl (by decide +kernel) rfl rfl (Nat.le_of_ble_eq_true rfl) dX0_add_58 (fun H locs hP hD hS => ?_)
      have hP : va_P (dC, dI) vwCl [bd_Dk h0 h1 h2 h3 (n + 1), bd_Ar h1 d1 5 (bd_up f n (1 + (bd_m5 pk)))] H := hP
      have hD : va_D A [bd_Dk h0 h1 h2 h3 (n + 1), bd_Ar h1 d1 5 (bd_up f n (1 + (bd_m5 pk)))] := hD
      refine lv_iconst (v := nI 1) hx hb dX0_add_61 (by decide) ?_
      exact bd_zret hx hb hr hlocks rfl (n + 1, bd_up f n (1 + bd_m5 pk)) (Or.inr ⟨by unfold bd_bad; omega, rfl, rfl⟩) hP hK hD hS dX0_add_62
    · have hfi := hV.2.1 (n - 1) (by omega)
      refine lv_iload_n hx hb dX0_add_24 rfl (lv_at hl 0 rfl) ?_
      refine lv_aload_n hx hb dX0_add_25 rfl (lv_at hl 1 rfl) ?_
      refine va_get (D := (dC, dI)) (ci := 0) (v := .ref h1) (C := RX0) (T := TX0) (N := 4) hx hb hts in_X0 hown hK hP 0 rfl rfl 0 (by decide) (hts _ q26) (fun _ h9 => h9) rfl dX0_add_26 ?_
      refine lv_aload_n hx hb dX0_add_29 rfl (lv_at hl 1 rfl) ?_
      refine va_get (D := (dC, dI)) (ci := 0) (v := .int (nI n)) (C := RX0) (T := TX0) (N := 4) hx hb hts in_X0 hown hK hP 0 rfl rfl 1 (by decide) (hts _ q27) (fun _ h9 => h9) rfl dX0_add_30 ?_
      refine lv_iconst (v := nI 1) hx hb dX0_add_33 (by decide) ?_
      refine lv_isub hx hb dX0_add_34 ?_
      refine bd_eqi (y := nI (n - 1)) (pk_sub (by omega)) ?_
      refine bd_iald (f := f) (i := n - 1) hx hb hK hP 1 0 rfl rfl (by omega) (by decide) dX0_add_35 ?_
      refine bd_icmp_le (tgt := 41) hx hb dX0_add_36 (by decide) (by omega) (by omega) (fun c3 => ?_) (fun c3 => ?_)
      · refine lv_aload_n hx hb dX0_add_41 rfl (lv_at hl 1 rfl) ?_
        refine va_get (D := (dC, dI)) (ci := 0) (v := .ref h1) (C := RX0) (T := TX0) (N := 4) hx hb hts in_X0 hown hK hP 0 rfl rfl 0 (by decide) (hts _ q26) (fun _ h9 => h9) rfl dX0_add_42 ?_
        refine lv_aload_n hx hb dX0_add_45 rfl (lv_at hl 1 rfl) ?_
        refine va_get (D := (dC, dI)) (ci := 0) (v := .int (nI n)) (C := RX0) (T := TX0) (N := 4) hx hb hts in_X0 hown hK hP 0 rfl rfl 1 (by decide) (hts _ q27) (fun _ h9 => h9) rfl dX0_add_46 ?_
        refine lv_iload_n hx hb dX0_add_49 rfl (lv_at hl 0 rfl) ?_
        refine bd_iast (f := f) (i := n) (v := 1 + (bd_m5 pk)) hx hb hK hP hD hS 1 0 rfl rfl (by omega) (by decide) dX0_add_50 (fun H locs hP hD hS => ?_)
        have hP : va_P (dC, dI) vwCl [bd_Dk h0 h1 h2 h3 n, bd_Ar h1 d1 5 (bd_up f n (1 + (bd_m5 pk)))] H := hP
        have hD : va_D A [bd_Dk h0 h1 h2 h3 n, bd_Ar h1 d1 5 (bd_up f n (1 + (bd_m5 pk)))] := hD
        refine lv_aload_n hx hb dX0_add_51 rfl (lv_at hl 1 rfl) ?_
        refine lv_dup hx hb dX0_add_52 rfl ?_
        refine va_get (D := (dC, dI)) (ci := 0) (v := .int (nI n)) (C := RX0) (T := TX0) (N := 4) hx hb hts in_X0 hown hK hP 0 rfl rfl 1 (by decide) (hts _ q27) (fun _ h9 => h9) rfl dX0_add_53 ?_
        refine lv_iconst (v := nI 1) hx hb dX0_add_56 (by decide) ?_
        refine lv_iadd hx hb dX0_add_57 ?_
        refine bd_eqi (y := nI (n + 1)) (nI_add _ _) ?_
        refine va_put (D := (dC, dI)) (ci := 0) (v := .int (nI (n + 1))) (ty := .int) (C := RX0) (T := TX0) (N := 4) hx hb hts in_X0 tyX0 tyX0_ok nmX0 hown hK hP hD hS 0 rfl rfl 1 (by decide) (hts _ q27) (fun _ h9 => h9) rfl (by decide +kernel) rfl rfl (Nat.le_of_ble_eq_true rfl) dX0_add_58 (fun H locs hP hD hS => ?_)
        have hP : va_P (dC, dI) vwCl [bd_Dk h0 h1 h2 h3 (n + 1), bd_Ar h1 d1 5 (bd_up f n (1 + (bd_m5 pk)))] H := hP
        have hD : va_D A [bd_Dk h0 h1 h2 h3 (n + 1), bd_Ar h1 d1 5 (bd_up f n (1 + (bd_m5 pk)))] := hD
        refine lv_iconst (v := nI 1) hx hb dX0_add_61 (by decide) ?_
        exact bd_zret hx hb hr hlocks rfl (n + 1, bd_up f n (1 + bd_m5 pk)) (Or.inr ⟨by unfold bd_bad; omega, rfl, rfl⟩) hP hK hD hS dX0_add_62
      · refine lv_iconst (v := nI 0) hx hb dX0_add_39 (by decide) ?_
        exact bd_zret hx hb hr hlocks rfl (n, f) (Or.inl ⟨Or.inr ⟨c2, c3⟩, rfl, rfl⟩) hP hK hD hS dX0_add_40
set_option maxHeartbeats 4000000 in
set_option maxRecDepth 100000 in
/-- drop() -/
theorem bd_c_ddrop (l : Launch) (dC : Nat → ClassId) (dI : Nat → Nat → Nat) (h0 h1 h2 h3 n : Nat) (sz : Nat) (hn5 : n ≤ 5) : Met l yX0_drop (ws_ yX0_drop cX0_drop 1 (some .boolean)) { frames := 0, cells := 0, slots := 0, locals := 0 } (va_Pc [.ref h0] (bd_pW dC dI sz [bd_Dk h0 h1 h2 h3 n] [])) (va_Qi (fun (r : Int32) (u : Nat) => bd_dropped n r u) (fun (u : Nat) t => bd_bW dC dI (va_A [bd_Dk h0 h1 h2 h3 n] sz) [bd_Dk h0 h1 h2 h3 u] [] t) (va_A [bd_Dk h0 h1 h2 h3 n] sz)) 0 0 (va_A [bd_Dk h0 h1 h2 h3 n] sz) := by
  refine bd_met0 (Qc := fun A => va_Qi (fun (r : Int32) (u : Nat) => bd_dropped n r u) (fun (u : Nat) t => bd_bW dC dI A [bd_Dk h0 h1 h2 h3 u] [] t) A) (by decide) (Nat.le_of_ble_eq_true rfl) ?_
  intro p e s m below meth c ls A hx hb hr hml hown hlocks hnm hts hA hP hD hS hK hl
  have hl : lv_has ls 1 [(0, .ref h0)] := hl
  refine lv_aload_n hx hb dX0_drop_0 rfl (lv_at hl 0 rfl) ?_
  refine va_get (D := (dC, dI)) (ci := 0) (v := .int (nI n)) (C := RX0) (T := TX0) (N := 4) hx hb hts in_X0 hown hK hP 0 rfl rfl 1 (by decide) (hts _ q27) (fun _ h9 => h9) rfl dX0_drop_1 ?_
  refine bd_if_ne (tgt := 9) hx hb dX0_drop_4 (by decide) (by omega) (fun c1 => ?_) (fun c1 => ?_)
  · refine lv_aload_n hx hb dX0_drop_9 rfl (lv_at hl 0 rfl) ?_
    refine lv_dup hx hb dX0_drop_10 rfl ?_
    refine va_get (D := (dC, dI)) (ci := 0) (v := .int (nI n)) (C := RX0) (T := TX0) (N := 4) hx hb hts in_X0 hown hK hP 0 rfl rfl 1 (by decide) (hts _ q27) (fun _ h9 => h9) rfl dX0_drop_11 ?_
    refine lv_iconst (v := nI 1) hx hb dX0_drop_14 (by decide) ?_
    refine lv_isub hx hb dX0_drop_15 ?_
    refine bd_eqi (y := nI (n - 1)) (pk_sub (by omega)) ?_
    refine va_put (D := (dC, dI)) (ci := 0) (v := .int (nI (n - 1))) (ty := .int) (C := RX0) (T := TX0) (N := 4) hx hb hts in_X0 tyX0 tyX0_ok nmX0 hown hK hP hD hS 0 rfl rfl 1 (by decide) (hts _ q27) (fun _ h9 => h9) rfl (by decide +kernel) rfl rfl (Nat.le_of_ble_eq_true rfl) dX0_drop_16 (fun H locs hP hD hS => ?_)
    have hP : va_P (dC, dI) vwCl [bd_Dk h0 h1 h2 h3 (n - 1)] H := hP
    have hD : va_D A [bd_Dk h0 h1 h2 h3 (n - 1)] := hD
    refine lv_iconst (v := nI 1) hx hb dX0_drop_19 (by decide) ?_
    exact bd_zret hx hb hr hlocks rfl (n - 1) (Or.inr ⟨c1, rfl, rfl⟩) hP hK hD hS dX0_drop_20
  · refine lv_iconst (v := nI 0) hx hb dX0_drop_7 (by decide) ?_
    exact bd_zret hx hb hr hlocks rfl n (Or.inl ⟨c1, rfl, rfl⟩) hP hK hD hS dX0_drop_8
section DI
variable {p : Program} {l : Launch} {e : Env} {R : Room} {s : State} {m : MethodId} {args : Array Value} {below : List Frame} {meth : Method} {c : Code} {cells slots : Nat} {Q : State → Prop} {dC : Nat → ClassId} {dI : Nat → Nat → Nat} {A : Nat → Prop} {H0 : Heap}
set_option maxHeartbeats 4000000 in
set_option maxRecDepth 100000 in
theorem bd_dinner_1 (hx : p.tables.exec = Jvm.exec) (hb : c.code = cX0_inner) (hown : s.vm.findClass RX0 = some m.cls) (hts : ∀ w ∈ lw_all, w.before args s = true) {h0 h1 h2 h3 n : Nat} {d1 : ClassId} {f : Nat → Nat} {d3 : ClassId} (hK : va_K (dC, dI) vwCl [(d1, .int), (d3, .int)] s) (kk : ∀ (w : Nat → Nat) (H : Heap) (locs : List Loc) (ls : Array Slot) (k : Nat), (∀ q, q < 6 → w q = 1) → va_P (dC, dI) vwCl [bd_Dk h0 h1 h2 h3 n, bd_Ar h1 d1 5 f, bd_Ar h3 d3 6 w] H → va_D A [bd_Dk h0 h1 h2 h3 n, bd_Ar h1 d1 5 f, bd_Ar h3 d3 6 w] → va_S A H0 H locs → lv_has ls 4 [(1, .int (nI k)), (0, .ref h0)] → W p l e R s m args below meth c H locs cells slots Q (F0 m 20 ls [])) : ∀ (r k : Nat) (w : Nat → Nat) (H : Heap) (locs : List Loc) (ls : Array Slot), k ≤ 6 → 7 ≤ k + r → (∀ q, q < k → w q = 1) → va_P (dC, dI) vwCl [bd_Dk h0 h1 h2 h3 n, bd_Ar h1 d1 5 f, bd_Ar h3 d3 6 w] H → va_D A [bd_Dk h0 h1 h2 h3 n, bd_Ar h1 d1 5 f, bd_Ar h3 d3 6 w] → va_S A H0 H locs → lv_has ls 4 [(1, .int (nI k)), (0, .ref h0)] → W p l e R s m args below meth c H locs cells slots Q (F0 m 2 ls []) := by
  intro r
  induction r with
  | zero => intro k w H locs ls z1 z2; omega
  | succ r ih =>
    intro k w H locs ls z1 z2 z0 hP hD hS hl
    refine lv_iload_n hx hb dX0_inner_2 rfl (lv_at hl 0 rfl) ?_
    refine lv_iconst (v := nI 5) hx hb dX0_inner_3 (by decide) ?_
    refine bd_icmp_gt (tgt := 20) hx hb dX0_inner_4 (by decide) (by omega) (by omega) (fun c1 => ?_) (fun c1 => ?_)
    · exact kk w H locs ls k (fun q hq => z0 q (by omega)) hP hD hS hl
    · refine lv_aload_n hx hb dX0_inner_7 rfl (lv_at hl 1 rfl) ?_
      refine va_get (D := (dC, dI)) (ci := 0) (v := .ref h3) (C := RX0) (T := TX0) (N := 4) hx hb hts in_X0 hown hK hP 0 rfl rfl 3 (by decide) (hts _ q29) (fun _ h9 => h9) rfl dX0_inner_8 ?_
      refine lv_iload_n hx hb dX0_inner_11 rfl (lv_at hl 0 rfl) ?_
      refine lv_iconst (v := nI 1) hx hb dX0_inner_12 (by decide) ?_
      refine bd_iast (f := w) (i := k) (v := 1) hx hb hK hP hD hS 2 1 rfl rfl (by omega) (by decide) dX0_inner_13 (fun H locs hP hD hS => ?_)
      have hP : va_P (dC, dI) vwCl [bd_Dk h0 h1 h2 h3 n, bd_Ar h1 d1 5 f, bd_Ar h3 d3 6 (bd_up w k 1)] H := hP
      have hD : va_D A [bd_Dk h0 h1 h2 h3 n, bd_Ar h1 d1 5 f, bd_Ar h3 d3 6 (bd_up w k 1)] := hD
      refine lv_iinc (v := nI (k + 1)) (lv' := [(1, .int (nI (k + 1))), (0, .ref h0)]) hx hb dX0_inner_14 hl (k := 0) rfl (bd_inc _) (by decide) rfl (fun ls hl => ?_)
      refine lv_goto (tgt := 2) hx hb dX0_inner_17 (by decide) ?_
      exact ih (k + 1) _ H locs ls (by omega) (by omega) (bd_up_lt z0) hP hD hS hl
set_option maxHeartbeats 4000000 in
set_option maxRecDepth 100000 in
theorem bd_dinner_3 (hx : p.tables.exec = Jvm.exec) (hb : c.code = cX0_inner) (hown : s.vm.findClass RX0 = some m.cls) (hts : ∀ w ∈ lw_all, w.before args s = true) {h0 h1 h2 h3 n : Nat} {d1 : ClassId} {f : Nat → Nat} {d3 : ClassId} {k : Nat} {v : Nat → Nat} (hV : bd_V n f) (hk : k < n) (hK : va_K (dC, dI) vwCl [(d1, .int), (d3, .int)] s) (kk : ∀ (w : Nat → Nat) (H : Heap) (locs : List Loc) (ls : Array Slot) (q sm : Nat), (∀ q, q < 6 → w q = bd_R (f k) v q) → va_P (dC, dI) vwCl [bd_Dk h0 h1 h2 h3 n, bd_Ar h1 d1 5 f, bd_Ar h3 d3 6 w] H → va_D A [bd_Dk h0 h1 h2 h3 n, bd_Ar h1 d1 5 f, bd_Ar h3 d3 6 w] → va_S A H0 H locs → lv_has ls 4 [(3, .int (nI q)), (2, .int (nI sm)), (1, .int (nI k)), (0, .ref h0)] → W p l e R s m args below meth c H locs cells slots Q (F0 m 72 ls [])) : ∀ (r q0 sm : Nat) (w : Nat → Nat) (H : Heap) (locs : List Loc) (ls : Array Slot), q0 ≤ 6 → 7 ≤ q0 + r → sm = bd_S (f k) v q0 → (∀ q, q < q0 → w q = bd_R (f k) v q) → (∀ q, q0 ≤ q → q < 6 → w q = v q) → va_P (dC, dI) vwCl [bd_Dk h0 h1 h2 h3 n, bd_Ar h1 d1 5 f, bd_Ar h3 d3 6 w] H → va_D A [bd_Dk h0 h1 h2 h3 n, bd_Ar h1 d1 5 f, bd_Ar h3 d3 6 w] → va_S A H0 H locs → lv_has ls 4 [(3, .int (nI q0)), (2, .int (nI sm)), (1, .int (nI k)), (0, .ref h0)] → W p l e R s m args below meth c H locs cells slots Q (F0 m 35 ls []) := by
  have hn5 := hV.1
  have hfk := hV.2.1 k hk
  intro r
  induction r with
  | zero => intro q0 sm w H locs ls z1 z2; omega
  | succ r ih =>
    intro q0 sm w H locs ls z1 z2 hsm z3 z4 hP hD hS hl
    refine lv_iload_n hx hb dX0_inner_35 rfl (lv_at hl 0 rfl) ?_
    refine lv_iconst (v := nI 5) hx hb dX0_inner_36 (by decide) ?_
    refine bd_icmp_gt (tgt := 72) hx hb dX0_inner_37 (by decide) (by omega) (by omega) (fun c1 => ?_) (fun c1 => ?_)
    · exact kk w H locs ls q0 sm (fun q hq => z3 q (by omega)) hP hD hS hl
    · have hS1 : bd_S (f k) v (q0 + 1) = bd_S (f k) v q0 + (if q0 ≤ f k then v q0 else 0) := rfl
      refine lv_iload_n hx hb dX0_inner_40 rfl (lv_at hl 0 rfl) ?_
      refine lv_aload_n hx hb dX0_inner_41 rfl (lv_at hl 3 rfl) ?_
      refine va_get (D := (dC, dI)) (ci := 0) (v := .ref h1) (C := RX0) (T := TX0) (N := 4) hx hb hts in_X0 hown hK hP 0 rfl rfl 0 (by decide) (hts _ q26) (fun _ h9 => h9) rfl dX0_inner_42 ?_
      refine lv_iload_n hx hb dX0_inner_45 rfl (lv_at hl 2 rfl) ?_
      refine bd_iald (f := f) (i := k) hx hb hK hP 1 0 rfl rfl (by omega) (by decide) dX0_inner_46 ?_
      refine bd_icmp_gt (tgt := 59) hx hb dX0_inner_47 (by decide) (by omega) (by omega) (fun c2 => ?_) (fun c2 => ?_)
      · refine lv_aload_n hx hb dX0_inner_59 rfl (lv_at hl 3 rfl) ?_
        refine va_get (D := (dC, dI)) (ci := 0) (v := .ref h3) (C := RX0) (T := TX0) (N := 4) hx hb hts in_X0 hown hK hP 0 rfl rfl 3 (by decide) (hts _ q29) (fun _ h9 => h9) rfl dX0_inner_60 ?_
        refine lv_iload_n hx hb dX0_inner_63 rfl (lv_at hl 0 rfl) ?_
        refine lv_iload_n hx hb dX0_inner_64 rfl (lv_at hl 1 rfl) ?_
        refine bd_iast (f := w) (i := q0) (v := sm) hx hb hK hP hD hS 2 1 rfl rfl (by omega) (by decide) dX0_inner_65 (fun H locs hP hD hS => ?_)
        have hP : va_P (dC, dI) vwCl [bd_Dk h0 h1 h2 h3 n, bd_Ar h1 d1 5 f, bd_Ar h3 d3 6 (bd_up w q0 sm)] H := hP
        have hD : va_D A [bd_Dk h0 h1 h2 h3 n, bd_Ar h1 d1 5 f, bd_Ar h3 d3 6 (bd_up w q0 sm)] := hD
        refine lv_iinc (v := nI (q0 + 1)) (lv' := [(3, .int (nI (q0 + 1))), (2, .int (nI sm)), (1, .int (nI k)), (0, .ref h0)]) hx hb dX0_inner_66 hl (k := 0) rfl (bd_inc _) (by decide) rfl (fun ls hl => ?_)
        refine lv_goto (tgt := 35) hx hb dX0_inner_69 (by decide) ?_
        have hnew : sm = bd_S (f k) v (q0 + 1) := by rw [hS1, if_neg (by omega), hsm]; rfl
        refine ih (q0 + 1) (sm) _ H locs ls (by omega) (by omega) hnew (fun q hq => ?_) (fun q y1 y2 => ?_) hP hD hS (lv_sub hl [0, 1, 2, 3] rfl)
        · by_cases hq0 : q = q0
          · rw [hq0, bd_up_s]; exact hnew
          · rw [bd_up_n _ _ hq0]; exact z3 q (by omega)
        · rw [bd_up_n _ _ (by omega)]; exact z4 q (by omega) y2
      · refine lv_iload_n hx hb dX0_inner_50 rfl (lv_at hl 1 rfl) ?_
        refine lv_aload_n hx hb dX0_inner_51 rfl (lv_at hl 3 rfl) ?_
        refine va_get (D := (dC, dI)) (ci := 0) (v := .ref h3) (C := RX0) (T := TX0) (N := 4) hx hb hts in_X0 hown hK hP 0 rfl rfl 3 (by decide) (hts _ q29) (fun _ h9 => h9) rfl dX0_inner_52 ?_
        refine lv_iload_n hx hb dX0_inner_55 rfl (lv_at hl 0 rfl) ?_
        refine bd_iald (f := w) (i := q0) hx hb hK hP 2 1 rfl rfl (by omega) (by decide) dX0_inner_56 ?_
        refine lv_iadd hx hb dX0_inner_57 ?_
        refine bd_eqi (y := nI (sm + (w q0))) (nI_add _ _) ?_
        refine lv_istore_n (lv' := [(2, .int (nI (sm + (w q0)))), (3, .int (nI q0)), (1, .int (nI k)), (0, .ref h0)]) hx hb dX0_inner_58 rfl hl (by decide) rfl (fun ls hl => ?_)
        refine lv_aload_n hx hb dX0_inner_59 rfl (lv_at hl 3 rfl) ?_
        refine va_get (D := (dC, dI)) (ci := 0) (v := .ref h3) (C := RX0) (T := TX0) (N := 4) hx hb hts in_X0 hown hK hP 0 rfl rfl 3 (by decide) (hts _ q29) (fun _ h9 => h9) rfl dX0_inner_60 ?_
        refine lv_iload_n hx hb dX0_inner_63 rfl (lv_at hl 1 rfl) ?_
        refine lv_iload_n hx hb dX0_inner_64 rfl (lv_at hl 0 rfl) ?_
        refine bd_iast (f := w) (i := q0) (v := sm + (w q0)) hx hb hK hP hD hS 2 1 rfl rfl (by omega) (by decide) dX0_inner_65 (fun H locs hP hD hS => ?_)
        have hP : va_P (dC, dI) vwCl [bd_Dk h0 h1 h2 h3 n, bd_Ar h1 d1 5 f, bd_Ar h3 d3 6 (bd_up w q0 (sm + (w q0)))] H := hP
        have hD : va_D A [bd_Dk h0 h1 h2 h3 n, bd_Ar h1 d1 5 f, bd_Ar h3 d3 6 (bd_up w q0 (sm + (w q0)))] := hD
        refine lv_iinc (v := nI (q0 + 1)) (lv' := [(3, .int (nI (q0 + 1))), (2, .int (nI (sm + (w q0)))), (1, .int (nI k)), (0, .ref h0)]) hx hb dX0_inner_66 hl (k := 1) rfl (bd_inc _) (by decide) rfl (fun ls hl => ?_)
        refine lv_goto (tgt := 35) hx hb dX0_inner_69 (by decide) ?_
        have hnew : sm + w q0 = bd_S (f k) v (q0 + 1) := by rw [hS1, if_pos c2, hsm, z4 q0 (Nat.le_refl _) (by omega)]
        refine ih (q0 + 1) (sm + w q0) _ H locs ls (by omega) (by omega) hnew (fun q hq => ?_) (fun q y1 y2 => ?_) hP hD hS (lv_sub hl [0, 1, 2, 3] rfl)
        · by_cases hq0 : q = q0
          · rw [hq0, bd_up_s]; exact hnew
          · rw [bd_up_n _ _ hq0]; exact z3 q (by omega)
        · rw [bd_up_n _ _ (by omega)]; exact z4 q (by omega) y2
set_option maxHeartbeats 4000000 in
set_option maxRecDepth 100000 in
theorem bd_dinner_2 (hx : p.tables.exec = Jvm.exec) (hb : c.code = cX0_inner) (hown : s.vm.findClass RX0 = some m.cls) (hts : ∀ w ∈ lw_all, w.before args s = true) {h0 h1 h2 h3 n : Nat} {d1 : ClassId} {f : Nat → Nat} {d3 : ClassId} {res : Nat} (hV : bd_V n f) (hK : va_K (dC, dI) vwCl [(d1, .int), (d3, .int)] s) (kk : ∀ (w : Nat → Nat) (H : Heap) (locs : List Loc) (ls : Array Slot), w 5 = res → va_P (dC, dI) vwCl [bd_Dk h0 h1 h2 h3 n, bd_Ar h1 d1 5 f, bd_Ar h3 d3 6 w] H → va_D A [bd_Dk h0 h1 h2 h3 n, bd_Ar h1 d1 5 f, bd_Ar h3 d3 6 w] → va_S A H0 H locs → lv_has ls 4 [(0, .ref h0)] → W p l e R s m args below meth c H locs cells slots Q (F0 m 78 ls [])) : ∀ (k : Nat) (v w : Nat → Nat) (H : Heap) (locs : List Loc) (ls : Array Slot), k ≤ n → (∀ q, q < 6 → w q = v q) → bd_D f k v 5 = res → va_P (dC, dI) vwCl [bd_Dk h0 h1 h2 h3 n, bd_Ar h1 d1 5 f, bd_Ar h3 d3 6 w] H → va_D A [bd_Dk h0 h1 h2 h3 n, bd_Ar h1 d1 5 f, bd_Ar h3 d3 6 w] → va_S A H0 H locs → lv_has ls 4 [(1, .int (nI k - 1)), (0, .ref h0)] → W p l e R s m args below meth c H locs cells slots Q (F0 m 27 ls []) := by
  have hn5 := hV.1
  intro k
  induction k with
  | zero =>
    intro v w H locs ls z1 z2 z3 hP hD hS hl
    refine lv_iload_n hx hb dX0_inner_27 rfl (lv_at hl 0 rfl) ?_
    refine lv_if_lt (tgt := 78) hx hb dX0_inner_28 (by decide) (fun c1 => ?_) (fun c1 => ?_)
    · exact kk w H locs ls (by rw [z2 5 (by omega)]; exact z3) hP hD hS (lv_sub hl [1] rfl)
    · exact absurd (by decide) c1
  | succ k ih =>
    intro v w H locs ls z1 z2 z3 hP hD hS hl
    have hl : lv_has ls 4 [(1, .int (nI k)), (0, .ref h0)] := by rw [nI_pred] at hl; exact hl
    refine lv_iload_n hx hb dX0_inner_27 rfl (lv_at hl 0 rfl) ?_
    refine lv_if_lt (tgt := 78) hx hb dX0_inner_28 (by decide) (fun c1 => ?_) (fun c1 => ?_)
    · exact absurd c1 (nI_pos (by omega))
    · refine lv_iconst (v := nI 0) hx hb dX0_inner_31 (by decide) ?_
      refine lv_istore_n (lv' := [(2, .int (nI 0)), (1, .int (nI k)), (0, .ref h0)]) hx hb dX0_inner_32 rfl hl (by decide) rfl (fun ls hl => ?_)
      refine lv_iconst (v := nI 0) hx hb dX0_inner_33 (by decide) ?_
      refine lv_istore_n (lv' := [(3, .int (nI 0)), (2, .int (nI 0)), (1, .int (nI k)), (0, .ref h0)]) hx hb dX0_inner_34 rfl hl (by decide) rfl (fun ls hl => ?_)
      refine bd_dinner_3 hx hb hown hts hV (show k < n by omega) (v := v) hK (fun w H locs ls q sm z4 hP hD hS hl => ?_) 7 0 0 w H locs ls (Nat.zero_le _) (by omega) rfl (fun q hq => absurd hq (by omega)) (fun q _ hq => z2 q hq) hP hD hS hl
      refine lv_iinc (v := nI k - 1) (lv' := [(1, .int (nI k - 1)), (3, .int (nI q)), (2, .int (nI sm)), (0, .ref h0)]) hx hb dX0_inner_72 hl (k := 2) rfl (bd_dec _) (by decide) rfl (fun ls hl => ?_)
      refine lv_goto (tgt := 27) hx hb dX0_inner_75 (by decide) ?_
      exact ih (bd_R (f k) v) w H locs ls (by omega) z4 z3 hP hD hS (lv_sub hl [0, 3] rfl)
end DI
set_option maxHeartbeats 4000000 in
set_option maxRecDepth 100000 in
/-- inner() -/
theorem bd_c_dinner (l : Launch) (dC : Nat → ClassId) (dI : Nat → Nat → Nat) (h0 h1 h2 h3 : Nat) (d1 d3 : ClassId) (n : Nat) (f w : Nat → Nat) (sz : Nat) (hV : bd_V n f) : Met l yX0_inner (ws_ yX0_inner cX0_inner 4 (some .int)) { frames := 0, cells := 0, slots := 0, locals := 0 } (va_Pc [.ref h0] (bd_pW dC dI sz [bd_Dk h0 h1 h2 h3 n, bd_Ar h1 d1 5 f, bd_Ar h3 d3 6 w] [(d1, .int), (d3, .int)])) (va_Qi (fun (r : Int32) (u : Nat → Nat) => r = nI (bd_ct (bd_sh n f) 7776)) (fun (u : Nat → Nat) t => bd_bW dC dI (va_A [bd_Dk h0 h1 h2 h3 n, bd_Ar h1 d1 5 f, bd_Ar h3 d3 6 w] sz) [bd_Dk h0 h1 h2 h3 n, bd_Ar h1 d1 5 f, bd_Ar h3 d3 6 u] [(d1, .int), (d3, .int)] t) (va_A [bd_Dk h0 h1 h2 h3 n, bd_Ar h1 d1 5 f, bd_Ar h3 d3 6 w] sz)) 0 0 (va_A [bd_Dk h0 h1 h2 h3 n, bd_Ar h1 d1 5 f, bd_Ar h3 d3 6 w] sz) := by
  refine bd_met0 (Qc := fun A => va_Qi (fun (r : Int32) (u : Nat → Nat) => r = nI (bd_ct (bd_sh n f) 7776)) (fun (u : Nat → Nat) t => bd_bW dC dI A [bd_Dk h0 h1 h2 h3 n, bd_Ar h1 d1 5 f, bd_Ar h3 d3 6 u] [(d1, .int), (d3, .int)] t) A) (by decide) (Nat.le_of_ble_eq_true rfl) ?_
  intro p e s m below meth c ls A hx hb hr hml hown hlocks hnm hts hA hP hD hS hK hl
  have hl : lv_has ls 4 [(0, .ref h0)] := hl
  have hn5 := hV.1
  refine lv_iconst (v := nI 0) hx hb dX0_inner_0 (by decide) ?_
  refine lv_istore_n (lv' := [(1, .int (nI 0)), (0, .ref h0)]) hx hb dX0_inner_1 rfl hl (by decide) rfl (fun ls hl => ?_)
  refine bd_dinner_1 hx hb hown hts hK (fun w H locs ls k z0 hP hD hS hl => ?_) 7 0 w s.heap [] ls (Nat.zero_le _) (by omega) (fun q hq => absurd hq (by omega)) hP hD hS hl
  refine lv_aload_n hx hb dX0_inner_20 rfl (lv_at hl 1 rfl) ?_
  refine va_get (D := (dC, dI)) (ci := 0) (v := .int (nI n)) (C := RX0) (T := TX0) (N := 4) hx hb hts in_X0 hown hK hP 0 rfl rfl 1 (by decide) (hts _ q27) (fun _ h9 => h9) rfl dX0_inner_21 ?_
  refine lv_iconst (v := nI 1) hx hb dX0_inner_24 (by decide) ?_
  refine lv_isub hx hb dX0_inner_25 ?_
  refine lv_istore_n (lv' := [(1, .int ((nI n) - (nI 1))), (0, .ref h0)]) hx hb dX0_inner_26 rfl hl (by decide) rfl (fun ls hl => ?_)
  refine bd_dinner_2 hx hb hown hts hV hK (fun w H locs ls z1 hP hD hS hl => ?_) n (fun _ => 1) w H locs ls (Nat.le_refl _) z0 (bd_inner hV) hP hD hS hl
  refine lv_aload_n hx hb dX0_inner_78 rfl (lv_at hl 0 rfl) ?_
  refine va_get (D := (dC, dI)) (ci := 0) (v := .ref h3) (C := RX0) (T := TX0) (N := 4) hx hb hts in_X0 hown hK hP 0 rfl rfl 3 (by decide) (hts _ q29) (fun _ h9 => h9) rfl dX0_inner_79 ?_
  refine lv_iconst (v := nI 5) hx hb dX0_inner_82 (by decide) ?_
  refine bd_iald (f := w) (i := 5) hx hb hK hP 2 1 rfl rfl (by omega) (by decide) dX0_inner_83 ?_
  exact bd_iret hx hb hr hlocks w (by rw [z1]) hP hK hD hS dX0_inner_84
section DO
variable {p : Program} {l : Launch} {e : Env} {R : Room} {s : State} {m : MethodId} {args : Array Value} {below : List Frame} {meth : Method} {c : Code} {cells slots : Nat} {Q : State → Prop} {dC : Nat → ClassId} {dI : Nat → Nat → Nat} {A : Nat → Prop} {H0 : Heap}
set_option maxHeartbeats 4000000 in
set_option maxRecDepth 100000 in
theorem bd_dorders_in (hx : p.tables.exec = Jvm.exec) (hb : c.code = cX0_orders) (hown : s.vm.findClass RX0 = some m.cls) (hts : ∀ w ∈ lw_all, w.before args s = true) (hml : c.maxLocals = 4) (hA : ∀ q, H0.size ≤ q → A q) (hR : 2 ≤ R.frames ∧ 44 ≤ R.locals) (hf : cells ≤ R.cells ∧ slots ≤ R.slots) {h0 h1 h2 h3 n : Nat} {d1 : ClassId} {f : Nat → Nat} {h4 : Nat} {d4 : ClassId} {i : Nat} (hV : bd_V n f) (hi : i < n) (hK : va_K (dC, dI) vwCl [(d1, .int), (d4, .int)] s) (kk : ∀ (tm : Nat → Int32) (H : Heap) (locs : List Loc) (ls : Array Slot), (∀ q, q < 26 → tm q = bd_tm (bd_sh n f) i (f i) q) → va_P (dC, dI) vwCl [bd_Dk h0 h1 h2 h3 n, bd_Ar h1 d1 5 f, bd_Pr h2 h4, bd_Tm h4 d4 tm] H → va_D A [bd_Dk h0 h1 h2 h3 n, bd_Ar h1 d1 5 f, bd_Pr h2 h4, bd_Tm h4 d4 tm] → va_S A H0 H locs → lv_has ls 4 [(3, .int (nI (f i))), (2, .int (nI i)), (1, .int (nI (bd_sm (bd_sh n f) i + (f i)))), (0, .ref h0)] → W p l e R s m args below meth c H locs cells slots Q (F0 m 63 ls [])) : ∀ (r j : Nat) (tm : Nat → Int32) (H : Heap) (locs : List Loc) (ls : Array Slot), j ≤ f i → f i + 1 ≤ j + r → (∀ q, q < 26 → tm q = bd_tm (bd_sh n f) i j q) → va_P (dC, dI) vwCl [bd_Dk h0 h1 h2 h3 n, bd_Ar h1 d1 5 f, bd_Pr h2 h4, bd_Tm h4 d4 tm] H → va_D A [bd_Dk h0 h1 h2 h3 n, bd_Ar h1 d1 5 f, bd_Pr h2 h4, bd_Tm h4 d4 tm] → va_S A H0 H locs → lv_has ls 4 [(3, .int (nI j)), (2, .int (nI i)), (1, .int (nI (bd_sm (bd_sh n f) i + j))), (0, .ref h0)] → W p l e R s m args below meth c H locs cells slots Q (F0 m 21 ls []) := by
  have hn5 := hV.1
  have hfi := hV.2.1 i hi
  have hsm := bd_sm_le (a := bd_sh n f) hV.sh5 i
  intro r
  induction r with
  | zero => intro j tm H locs ls z1 z2; omega
  | succ r ih =>
    intro j tm H locs ls z1 z2 z3 hP hD hS hl
    refine lv_iload_n hx hb dX0_orders_21 rfl (lv_at hl 0 rfl) ?_
    refine lv_aload_n hx hb dX0_orders_22 rfl (lv_at hl 3 rfl) ?_
    refine va_get (D := (dC, dI)) (ci := 0) (v := .ref h1) (C := RX0) (T := TX0) (N := 4) hx hb hts in_X0 hown hK hP 0 rfl rfl 0 (by decide) (hts _ q26) (fun _ h9 => h9) rfl dX0_orders_23 ?_
    refine lv_iload_n hx hb dX0_orders_26 rfl (lv_at hl 1 rfl) ?_
    refine bd_iald (f := f) (i := i) hx hb hK hP 1 0 rfl rfl (by omega) (by decide) dX0_orders_27 ?_
    refine bd_icmp_ge (tgt := 63) hx hb dX0_orders_28 (by decide) (by omega) (by omega) (fun c1 => ?_) (fun c1 => ?_)
    · have he : j = f i := by omega
      subst he
      exact kk tm H locs ls z3 hP hD hS hl
    · refine lv_iinc (v := nI (bd_sm (bd_sh n f) i + j + 1)) (lv' := [(1, .int (nI (bd_sm (bd_sh n f) i + j + 1))), (3, .int (nI j)), (2, .int (nI i)), (0, .ref h0)]) hx hb dX0_orders_31 hl (k := 2) rfl (bd_inc _) (by decide) rfl (fun ls hl => ?_)
      refine lv_aload_n hx hb dX0_orders_34 rfl (lv_at hl 3 rfl) ?_
      refine va_get (D := (dC, dI)) (ci := 0) (v := .ref h2) (C := RX0) (T := TX0) (N := 4) hx hb hts in_X0 hown hK hP 0 rfl rfl 2 (by decide) (hts _ q28) (fun _ h9 => h9) rfl dX0_orders_35 ?_
      refine lv_iload_n hx hb dX0_orders_38 rfl (lv_at hl 0 rfl) ?_
      refine lv_iconst (v := nI 1) hx hb dX0_orders_39 (by decide) ?_
      refine bd_callVv (As := [.int (nI (bd_sm (bd_sh n f) i + j + 1)), .int (nI 1)]) (rest := []) (wc := [bd_Pr h2 h4, bd_Tm h4 d4 tm]) (wr := [bd_Dk h0 h1 h2 h3 n, bd_Ar h1 d1 5 f]) (w2 := fun u => [bd_Dk h0 h1 h2 h3 n, bd_Ar h1 d1 5 f, bd_Pr h2 h4, bd_Tm h4 d4 u]) (ci := 1) (q0 := 0) (C := RX1) (T := TX1) (N := 1) ⟨hx, hb, hml, hown, hts⟩ (bd_c_take l dC dI h2 h4 d4 tm (bd_sm (bd_sh n f) i + j + 1) (nI 1) _ (by omega) (by omega)) (cwV 2 hts (lw_V q56 q57 q58 q5 q59) rfl rfl rfl (by decide +kernel) ⟨by have := hR.1; show 0 + 1 ≤ _; omega, by have := hR.2; show 8 + (5 + 11) + 0 ≤ _; omega⟩) hK hP hD hS hA [2, 3] [0, 1] [1] [0, 1, 2, 3] rfl (by decide) rfl (by decide) (by decide) rfl (fun _ => rfl) (by decide) rfl rfl rfl hl.1 rfl (Nat.le_of_ble_eq_true rfl) dX0_orders_40 hf (fun u H locs hw1 hP hD hS => ?_)
      obtain ⟨tm1, rfl⟩ : ∃ z, z = u := ⟨_, rfl⟩
      have hw1 : tm1 = fun q => tm q + nI 1 * nI (bd_ex q (bd_sm (bd_sh n f) i + j + 1)) := hw1
      have hP : va_P (dC, dI) vwCl [bd_Dk h0 h1 h2 h3 n, bd_Ar h1 d1 5 f, bd_Pr h2 h4, bd_Tm h4 d4 tm1] H := hP
      have hD : va_D A [bd_Dk h0 h1 h2 h3 n, bd_Ar h1 d1 5 f, bd_Pr h2 h4, bd_Tm h4 d4 tm1] := hD
      refine lv_aload_n hx hb dX0_orders_43 rfl (lv_at hl 3 rfl) ?_
      refine va_get (D := (dC, dI)) (ci := 0) (v := .ref h2) (C := RX0) (T := TX0) (N := 4) hx hb hts in_X0 hown hK hP 0 rfl rfl 2 (by decide) (hts _ q28) (fun _ h9 => h9) rfl dX0_orders_44 ?_
      refine lv_aload_n hx hb dX0_orders_47 rfl (lv_at hl 3 rfl) ?_
      refine lv_iload_n hx hb dX0_orders_48 rfl (lv_at hl 2 rfl) ?_
      refine lv_iload_n hx hb dX0_orders_49 rfl (lv_at hl 1 rfl) ?_
      refine bd_callVi (As := [.int (nI i), .int (nI j)]) (rest := [.ref h2]) (wc := [bd_Dk h0 h1 h2 h3 n, bd_Ar h1 d1 5 f]) (wr := [bd_Pr h2 h4, bd_Tm h4 d4 tm1]) (w2 := fun _ => [bd_Dk h0 h1 h2 h3 n, bd_Ar h1 d1 5 f, bd_Pr h2 h4, bd_Tm h4 d4 tm1]) (ci := 0) (q0 := 0) (C := RX0) (T := TX0) (N := 4) ⟨hx, hb, hml, hown, hts⟩ (bd_c_hookAt l dC dI h0 h1 h2 h3 d1 n f i j _ hV hi c1) (cwV 2 hts (lw_V q60 q62 qs0 q4 q63) rfl rfl rfl (by decide +kernel) hR) hK hP hD hS hA [0, 1] [2, 3] [0] [2, 3, 0, 1] rfl (by decide) rfl (by decide) (by decide) rfl (fun _ => rfl) (by decide) rfl rfl rfl hl.1 rfl (Nat.le_of_ble_eq_true rfl) dX0_orders_50 hf (fun r u H locs hw hP hD hS => ?_)
      have hw : r = nI (bd_hk (bd_sh n f) i j) := hw
      subst hw
      have hhk := bd_hk_in hV (i := i) (j := j) (by rw [bd_sh1 hi]; exact c1)
      refine lv_iconst (v := -1) hx hb dX0_orders_53 (by decide) ?_
      refine bd_callVv (As := [.int (nI (bd_hk (bd_sh n f) i j)), .int (-1)]) (rest := []) (wc := [bd_Pr h2 h4, bd_Tm h4 d4 tm1]) (wr := [bd_Dk h0 h1 h2 h3 n, bd_Ar h1 d1 5 f]) (w2 := fun u => [bd_Dk h0 h1 h2 h3 n, bd_Ar h1 d1 5 f, bd_Pr h2 h4, bd_Tm h4 d4 u]) (ci := 1) (q0 := 0) (C := RX1) (T := TX1) (N := 1) ⟨hx, hb, hml, hown, hts⟩ (bd_c_take l dC dI h2 h4 d4 tm1 (bd_hk (bd_sh n f) i j) (-1) _ hhk.1 (by omega)) (cwV 2 hts (lw_V q56 q57 q58 q5 q59) rfl rfl rfl (by decide +kernel) ⟨by have := hR.1; show 0 + 1 ≤ _; omega, by have := hR.2; show 8 + (5 + 11) + 0 ≤ _; omega⟩) hK hP hD hS hA [2, 3] [0, 1] [1] [0, 1, 2, 3] rfl (by decide) rfl (by decide) (by decide) rfl (fun _ => rfl) (by decide) rfl rfl rfl hl.1 rfl (Nat.le_of_ble_eq_true rfl) dX0_orders_54 hf (fun u H locs hw2 hP hD hS => ?_)
      obtain ⟨tm2, rfl⟩ : ∃ z, z = u := ⟨_, rfl⟩
      have hw2 : tm2 = fun q => tm1 q + (-1) * nI (bd_ex q (bd_hk (bd_sh n f) i j)) := hw2
      have hP : va_P (dC, dI) vwCl [bd_Dk h0 h1 h2 h3 n, bd_Ar h1 d1 5 f, bd_Pr h2 h4, bd_Tm h4 d4 tm2] H := hP
      have hD : va_D A [bd_Dk h0 h1 h2 h3 n, bd_Ar h1 d1 5 f, bd_Pr h2 h4, bd_Tm h4 d4 tm2] := hD
      refine lv_iinc (v := nI (j + 1)) (lv' := [(3, .int (nI (j + 1))), (1, .int (nI (bd_sm (bd_sh n f) i + j + 1))), (2, .int (nI i)), (0, .ref h0)]) hx hb dX0_orders_57 hl (k := 1) rfl (bd_inc _) (by decide) rfl (fun ls hl => ?_)
      refine lv_goto (tgt := 21) hx hb dX0_orders_60 (by decide) ?_
      exact ih (j + 1) tm2 H locs ls (by omega) (by omega) (fun q hq => by rw [hw2, hw1]; show tm q + _ + _ = _; rw [z3 q hq]; exact bd_tm_step _ i j q) hP hD hS (lv_sub hl [0, 2, 1, 3] rfl)
set_option maxHeartbeats 4000000 in
set_option maxRecDepth 100000 in
theorem bd_dorders_out (hx : p.tables.exec = Jvm.exec) (hb : c.code = cX0_orders) (hown : s.vm.findClass RX0 = some m.cls) (hts : ∀ w ∈ lw_all, w.before args s = true) (hml : c.maxLocals = 4) (hA : ∀ q, H0.size ≤ q → A q) (hR : 2 ≤ R.frames ∧ 44 ≤ R.locals) (hf : cells ≤ R.cells ∧ slots ≤ R.slots) {h0 h1 h2 h3 n : Nat} {d1 : ClassId} {f : Nat → Nat} {h4 : Nat} {d4 : ClassId} (hV : bd_V n f) (hK : va_K (dC, dI) vwCl [(d1, .int), (d4, .int)] s) (kk : ∀ (tm : Nat → Int32) (H : Heap) (locs : List Loc) (ls : Array Slot), (∀ q, q < 26 → tm q = bd_tm (bd_sh n f) n 0 q) → va_P (dC, dI) vwCl [bd_Dk h0 h1 h2 h3 n, bd_Ar h1 d1 5 f, bd_Pr h2 h4, bd_Tm h4 d4 tm] H → va_D A [bd_Dk h0 h1 h2 h3 n, bd_Ar h1 d1 5 f, bd_Pr h2 h4, bd_Tm h4 d4 tm] → va_S A H0 H locs → lv_has ls 4 [(2, .int (nI n)), (1, .int (nI (bd_sm (bd_sh n f) n))), (0, .ref h0)] → W p l e R s m args below meth c H locs cells slots Q (F0 m 69 ls [])) : ∀ (r i : Nat) (tm : Nat → Int32) (H : Heap) (locs : List Loc) (ls : Array Slot), i ≤ n → n + 1 ≤ i + r → (∀ q, q < 26 → tm q = bd_tm (bd_sh n f) i 0 q) → va_P (dC, dI) vwCl [bd_Dk h0 h1 h2 h3 n, bd_Ar h1 d1 5 f, bd_Pr h2 h4, bd_Tm h4 d4 tm] H → va_D A [bd_Dk h0 h1 h2 h3 n, bd_Ar h1 d1 5 f, bd_Pr h2 h4, bd_Tm h4 d4 tm] → va_S A H0 H locs → lv_has ls 4 [(2, .int (nI i)), (1, .int (nI (bd_sm (bd_sh n f) i))), (0, .ref h0)] → W p l e R s m args below meth c H locs cells slots Q (F0 m 11 ls []) := by
  have hn5 := hV.1
  intro r
  induction r with
  | zero => intro i tm H locs ls z1 z2; omega
  | succ r ih =>
    intro i tm H locs ls z1 z2 z3 hP hD hS hl
    refine lv_iload_n hx hb dX0_orders_11 rfl (lv_at hl 0 rfl) ?_
    refine lv_aload_n hx hb dX0_orders_12 rfl (lv_at hl 2 rfl) ?_
    refine va_get (D := (dC, dI)) (ci := 0) (v := .int (nI n)) (C := RX0) (T := TX0) (N := 4) hx hb hts in_X0 hown hK hP 0 rfl rfl 1 (by decide) (hts _ q27) (fun _ h9 => h9) rfl dX0_orders_13 ?_
    refine bd_icmp_ge (tgt := 69) hx hb dX0_orders_16 (by decide) (by omega) (by omega) (fun c1 => ?_) (fun c1 => ?_)
    · have he : i = n := by omega
      subst he
      exact kk tm H locs ls z3 hP hD hS hl
    · refine lv_iconst (v := nI 0) hx hb dX0_orders_19 (by decide) ?_
      refine lv_istore_n (lv' := [(3, .int (nI 0)), (2, .int (nI i)), (1, .int (nI (bd_sm (bd_sh n f) i))), (0, .ref h0)]) hx hb dX0_orders_20 rfl hl (by decide) rfl (fun ls hl => ?_)
      refine bd_dorders_in hx hb hown hts hml hA hR hf hV c1 hK (fun tm H locs ls z4 hP hD hS hl => ?_) (f i + 1) 0 tm H locs ls (Nat.zero_le _) (by omega) z3 hP hD hS hl
      refine lv_iinc (v := nI (i + 1)) (lv' := [(2, .int (nI (i + 1))), (3, .int (nI (f i))), (1, .int (nI (bd_sm (bd_sh n f) i + f i))), (0, .ref h0)]) hx hb dX0_orders_63 hl (k := 1) rfl (bd_inc _) (by decide) rfl (fun ls hl => ?_)
      refine lv_goto (tgt := 11) hx hb dX0_orders_66 (by decide) ?_
      have hsi : bd_sm (bd_sh n f) (i + 1) = bd_sm (bd_sh n f) i + f i := by show bd_sm (bd_sh n f) i + bd_sh n f i = _; rw [bd_sh1 c1]
      refine ih (i + 1) tm H locs ls (by omega) (by omega) (fun q hq => ?_) hP hD hS ?_
      · rw [z4 q hq, bd_tm_row, bd_sh1 c1]
      · rw [hsi]; exact lv_sub hl [0, 2, 3] rfl
end DO
set_option maxHeartbeats 4000000 in
set_option maxRecDepth 100000 in
/-- orders(): numberings by hooks -/
theorem bd_c_dorders (l : Launch) (dC : Nat → ClassId) (dI : Nat → Nat → Nat) (h0 h1 h2 h3 h4 : Nat) (d1 d4 : ClassId) (n : Nat) (f : Nat → Nat) (tm : Nat → Int32) (sz : Nat) (hV : bd_V n f) : Met l yX0_orders (ws_ yX0_orders cX0_orders 4 (some .long)) { frames := 2, cells := 0, slots := 0, locals := 44 } (va_Pc [.ref h0] (bd_pW dC dI sz [bd_Dk h0 h1 h2 h3 n, bd_Ar h1 d1 5 f, bd_Pr h2 h4, bd_Tm h4 d4 tm] [(d1, .int), (d4, .int)])) (va_Ql (fun (r : Int64) (u : Nat → Int32) => r = lN (bd_F (bd_cd (bd_sh n f) 5))) (fun (u : Nat → Int32) t => bd_bW dC dI (va_A [bd_Dk h0 h1 h2 h3 n, bd_Ar h1 d1 5 f, bd_Pr h2 h4, bd_Tm h4 d4 tm] sz) [bd_Dk h0 h1 h2 h3 n, bd_Ar h1 d1 5 f, bd_Pr h2 h4, bd_Tm h4 d4 u] [(d1, .int), (d4, .int)] t) (va_A [bd_Dk h0 h1 h2 h3 n, bd_Ar h1 d1 5 f, bd_Pr h2 h4, bd_Tm h4 d4 tm] sz)) 0 0 (va_A [bd_Dk h0 h1 h2 h3 n, bd_Ar h1 d1 5 f, bd_Pr h2 h4, bd_Tm h4 d4 tm] sz) := by
  refine bd_met0 (Qc := fun A => va_Ql (fun (r : Int64) (u : Nat → Int32) => r = lN (bd_F (bd_cd (bd_sh n f) 5))) (fun (u : Nat → Int32) t => bd_bW dC dI A [bd_Dk h0 h1 h2 h3 n, bd_Ar h1 d1 5 f, bd_Pr h2 h4, bd_Tm h4 d4 u] [(d1, .int), (d4, .int)] t) A) (by decide) (Nat.le_of_ble_eq_true rfl) ?_
  intro p e s m below meth c ls A hx hb hr hml hown hlocks hnm hts hA hP hD hS hK hl
  have hl : lv_has ls 4 [(0, .ref h0)] := hl
  refine lv_aload_n hx hb dX0_orders_0 rfl (lv_at hl 0 rfl) ?_
  refine va_get (D := (dC, dI)) (ci := 0) (v := .ref h2) (C := RX0) (T := TX0) (N := 4) hx hb hts in_X0 hown hK hP 0 rfl rfl 2 (by decide) (hts _ q28) (fun _ h9 => h9) rfl dX0_orders_1 ?_
  refine bd_callVv (As := []) (rest := []) (wc := [bd_Pr h2 h4, bd_Tm h4 d4 tm]) (wr := [bd_Dk h0 h1 h2 h3 n, bd_Ar h1 d1 5 f]) (w2 := fun u => [bd_Dk h0 h1 h2 h3 n, bd_Ar h1 d1 5 f, bd_Pr h2 h4, bd_Tm h4 d4 u]) (ci := 1) (q0 := 0) (C := RX1) (T := TX1) (N := 1) ⟨hx, hb, hml, hown, hts⟩ (bd_c_begin l dC dI h2 h4 d4 tm _) (cwV 0 hts (lw_V q52 q53 q54 q5 q55) rfl rfl rfl (by decide +kernel) ⟨Nat.le_of_ble_eq_true rfl, Nat.le_of_ble_eq_true rfl⟩) hK hP hD hS hA [2, 3] [0, 1] [1] [0, 1, 2, 3] rfl (by decide) rfl (by decide) (by decide) rfl (fun _ => rfl) (by decide) rfl rfl rfl hl.1 rfl (Nat.le_of_ble_eq_true rfl) dX0_orders_4 ⟨Nat.zero_le _, Nat.zero_le _⟩ (fun u H locs hw1 hP hD hS => ?_)
  obtain ⟨tm1, rfl⟩ : ∃ z, z = u := ⟨_, rfl⟩
  have hw1 : ∀ q, q < 26 → tm1 q = nI 0 := hw1
  have hP : va_P (dC, dI) vwCl [bd_Dk h0 h1 h2 h3 n, bd_Ar h1 d1 5 f, bd_Pr h2 h4, bd_Tm h4 d4 tm1] H := hP
  have hD : va_D A [bd_Dk h0 h1 h2 h3 n, bd_Ar h1 d1 5 f, bd_Pr h2 h4, bd_Tm h4 d4 tm1] := hD
  refine lv_iconst (v := nI 0) hx hb dX0_orders_7 (by decide) ?_
  refine lv_istore_n (lv' := [(1, .int (nI 0)), (0, .ref h0)]) hx hb dX0_orders_8 rfl hl (by decide) rfl (fun ls hl => ?_)
  refine lv_iconst (v := nI 0) hx hb dX0_orders_9 (by decide) ?_
  refine lv_istore_n (lv' := [(2, .int (nI 0)), (1, .int (nI 0)), (0, .ref h0)]) hx hb dX0_orders_10 rfl hl (by decide) rfl (fun ls hl => ?_)
  refine bd_dorders_out hx hb hown hts hml hA ⟨Nat.le_of_ble_eq_true rfl, Nat.le_of_ble_eq_true rfl⟩ ⟨Nat.zero_le _, Nat.zero_le _⟩ hV hK (fun tm2 H locs ls z3 hP hD hS hl => ?_) (n + 1) 0 tm1 H locs ls (Nat.zero_le _) (by omega) (fun q hq => by rw [hw1 q hq, bd_tm_0]) hP hD hS hl
  refine lv_aload_n hx hb dX0_orders_69 rfl (lv_at hl 2 rfl) ?_
  refine va_get (D := (dC, dI)) (ci := 0) (v := .ref h2) (C := RX0) (T := TX0) (N := 4) hx hb hts in_X0 hown hK hP 0 rfl rfl 2 (by decide) (hts _ q28) (fun _ h9 => h9) rfl dX0_orders_70 ?_
  refine bd_callVl (As := []) (rest := []) (wc := [bd_Pr h2 h4, bd_Tm h4 d4 tm2]) (wr := [bd_Dk h0 h1 h2 h3 n, bd_Ar h1 d1 5 f]) (w2 := fun _ => [bd_Dk h0 h1 h2 h3 n, bd_Ar h1 d1 5 f, bd_Pr h2 h4, bd_Tm h4 d4 tm2]) (ci := 1) (q0 := 0) (C := RX1) (T := TX1) (N := 1) ⟨hx, hb, hml, hown, hts⟩ (bd_c_value l dC dI h2 h4 d4 tm2 _) (cwV 0 hts (lw_V q68 q69 q70 q5 q71) rfl rfl rfl (by decide +kernel) ⟨Nat.le_of_ble_eq_true rfl, Nat.le_of_ble_eq_true rfl⟩) hK hP hD hS hA [2, 3] [0, 1] [1] [0, 1, 2, 3] rfl (by decide) rfl (by decide) (by decide) rfl (fun _ => rfl) (by decide) rfl rfl rfl hl.1 rfl (Nat.le_of_ble_eq_true rfl) dX0_orders_73 ⟨Nat.zero_le _, Nat.zero_le _⟩ (fun r u H locs hw hP hD hS => ?_)
  exact bd_lret hx hb hr hlocks tm2 (by rw [hw, bd_vp_cong z3, bd_orders hV]) hP hK hD hS dX0_orders_76
end
section
/-! MODULE BoxDeskModel -/
set_option maxRecDepth 100000
set_option maxHeartbeats 4000000 in
set_option maxRecDepth 100000 in
/-- shape(i) -/
theorem bd_c_shape (l : Launch) (dC : Nat → ClassId) (dI : Nat → Nat → Nat) (h0 h1 h2 h3 : Nat) (d1 : ClassId) (n : Nat) (f : Nat → Nat) (i : Nat) (sz : Nat) (hn5 : n ≤ 5) (hi : i < 2 ^ 31) : Met l yX2_shape (ws_ yX2_shape cX2_shape 2 (some .int)) { frames := 0, cells := 0, slots := 0, locals := 0 } (va_Pc [.ref h0, .int (nI i)] (bd_pW dC dI sz [bd_Md h0 h1 h2 h3 n, bd_Ar h1 d1 5 f] [(d1, .int)])) (va_Qi (fun (r : Int32) (u : Unit) => r = nI (bd_sh n f i)) (fun (u : Unit) t => bd_bW dC dI (va_A [bd_Md h0 h1 h2 h3 n, bd_Ar h1 d1 5 f] sz) [bd_Md h0 h1 h2 h3 n, bd_Ar h1 d1 5 f] [(d1, .int)] t) (va_A [bd_Md h0 h1 h2 h3 n, bd_Ar h1 d1 5 f] sz)) 0 0 (va_A [bd_Md h0 h1 h2 h3 n, bd_Ar h1 d1 5 f] sz) := by
  refine bd_met0 (Qc := fun A => va_Qi (fun (r : Int32) (u : Unit) => r = nI (bd_sh n f i)) (fun (u : Unit) t => bd_bW dC dI A [bd_Md h0 h1 h2 h3 n, bd_Ar h1 d1 5 f] [(d1, .int)] t) A) (by decide) (Nat.le_of_ble_eq_true rfl) ?_
  intro p e s m below meth c ls A hx hb hr hml hown hlocks hnm hts hA hP hD hS hK hl
  have hl : lv_has ls 2 [(0, .ref h0), (1, .int (nI i))] := hl
  refine lv_iload_n hx hb dX2_shape_0 rfl (lv_at hl 1 rfl) ?_
  refine lv_aload_n hx hb dX2_shape_1 rfl (lv_at hl 0 rfl) ?_
  refine va_get (D := (dC, dI)) (ci := 2) (v := .int (nI n)) (C := RX2) (T := TX2) (N := 4) hx hb hts in_X2 hown hK hP 0 rfl rfl 1 (by decide) (hts _ q95) (fun _ h9 => h9) rfl dX2_shape_2 ?_
  refine bd_icmp_ge (tgt := 17) hx hb dX2_shape_5 (by decide) (by omega) (by omega) (fun c1 => ?_) (fun c1 => ?_)
  · refine lv_iconst (v := nI 0) hx hb dX2_shape_17 (by decide) ?_
    exact bd_iret hx hb hr hlocks () (by rw [bd_sh0 c1]) hP hK hD hS dX2_shape_18
  · refine lv_aload_n hx hb dX2_shape_8 rfl (lv_at hl 0 rfl) ?_
    refine va_get (D := (dC, dI)) (ci := 2) (v := .ref h1) (C := RX2) (T := TX2) (N := 4) hx hb hts in_X2 hown hK hP 0 rfl rfl 0 (by decide) (hts _ q94) (fun _ h9 => h9) rfl dX2_shape_9 ?_
    refine lv_iload_n hx hb dX2_shape_12 rfl (lv_at hl 1 rfl) ?_
    refine bd_iald (f := f) (i := i) hx hb hK hP 1 0 rfl rfl (by omega) (by decide) dX2_shape_13 ?_
    refine lv_goto (tgt := 18) hx hb dX2_shape_14 (by decide) ?_
    exact bd_iret hx hb hr hlocks () (by rw [bd_sh1 c1]) hP hK hD hS dX2_shape_18
section MB
variable {p : Program} {l : Launch} {e : Env} {R : Room} {s : State} {m : MethodId} {args : Array Value} {below : List Frame} {meth : Method} {c : Code} {cells slots : Nat} {Q : State → Prop} {dC : Nat → ClassId} {dI : Nat → Nat → Nat} {A : Nat → Prop} {H0 : Heap}
set_option maxHeartbeats 4000000 in
set_option maxRecDepth 100000 in
theorem bd_mboxes_loop {H : Heap} {locs : List Loc} (hx : p.tables.exec = Jvm.exec) (hb : c.code = cX2_boxes) (hown : s.vm.findClass RX2 = some m.cls) (hts : ∀ w ∈ lw_all, w.before args s = true) {h0 h1 h2 h3 n : Nat} {d1 : ClassId} {f : Nat → Nat} (hn5 : n ≤ 5) (hK : va_K (dC, dI) vwCl [(d1, .int)] s) (hP : va_P (dC, dI) vwCl [bd_Md h0 h1 h2 h3 n, bd_Ar h1 d1 5 f] H) (kk : ∀ (ls : Array Slot), lv_has ls 3 [(2, .int (nI n)), (1, .int (nI (bd_sm f n))), (0, .ref h0)] → W p l e R s m args below meth c H locs cells slots Q (F0 m 27 ls [])) : ∀ (r i : Nat) (ls : Array Slot), i ≤ n → n + 1 ≤ i + r → lv_has ls 3 [(2, .int (nI i)), (1, .int (nI (bd_sm f i))), (0, .ref h0)] → W p l e R s m args below meth c H locs cells slots Q (F0 m 4 ls []) := by
  intro r
  induction r with
  | zero => intro i ls z1 z2; omega
  | succ r ih =>
    intro i ls z1 z2 hl
    refine lv_iload_n hx hb dX2_boxes_4 rfl (lv_at hl 0 rfl) ?_
    refine lv_aload_n hx hb dX2_boxes_5 rfl (lv_at hl 2 rfl) ?_
    refine va_get (D := (dC, dI)) (ci := 2) (v := .int (nI n)) (C := RX2) (T := TX2) (N := 4) hx hb hts in_X2 hown hK hP 0 rfl rfl 1 (by decide) (hts _ q95) (fun _ h9 => h9) rfl dX2_boxes_6 ?_
    refine bd_icmp_ge (tgt := 27) hx hb dX2_boxes_9 (by decide) (by omega) (by omega) (fun c1 => ?_) (fun c1 => ?_)
    · have he : i = n := by omega
      rw [he] at hl
      exact kk ls hl
    · refine lv_iload_n hx hb dX2_boxes_12 rfl (lv_at hl 1 rfl) ?_
      refine lv_aload_n hx hb dX2_boxes_13 rfl (lv_at hl 2 rfl) ?_
      refine va_get (D := (dC, dI)) (ci := 2) (v := .ref h1) (C := RX2) (T := TX2) (N := 4) hx hb hts in_X2 hown hK hP 0 rfl rfl 0 (by decide) (hts _ q94) (fun _ h9 => h9) rfl dX2_boxes_14 ?_
      refine lv_iload_n hx hb dX2_boxes_17 rfl (lv_at hl 0 rfl) ?_
      refine bd_iald (f := f) (i := i) hx hb hK hP 1 0 rfl rfl (by omega) (by decide) dX2_boxes_18 ?_
      refine lv_iadd hx hb dX2_boxes_19 ?_
      refine bd_eqi (y := nI ((bd_sm f i) + (f i))) (nI_add _ _) ?_
      refine lv_istore_n (lv' := [(1, .int (nI ((bd_sm f i) + (f i)))), (2, .int (nI i)), (0, .ref h0)]) hx hb dX2_boxes_20 rfl hl (by decide) rfl (fun ls hl => ?_)
      refine lv_iinc (v := nI (i + 1)) (lv' := [(2, .int (nI (i + 1))), (1, .int (nI ((bd_sm f i) + (f i)))), (0, .ref h0)]) hx hb dX2_boxes_21 hl (k := 1) rfl (bd_inc _) (by decide) rfl (fun ls hl => ?_)
      refine lv_goto (tgt := 4) hx hb dX2_boxes_24 (by decide) ?_
      exact ih (i + 1) ls (by omega) (by omega) hl
end MB
set_option maxHeartbeats 4000000 in
set_option maxRecDepth 100000 in
/-- boxes() -/
theorem bd_c_mboxes (l : Launch) (dC : Nat → ClassId) (dI : Nat → Nat → Nat) (h0 h1 h2 h3 : Nat) (d1 : ClassId) (n : Nat) (f : Nat → Nat) (sz : Nat) (hn5 : n ≤ 5) : Met l yX2_boxes (ws_ yX2_boxes cX2_boxes 3 (some .int)) { frames := 0, cells := 0, slots := 0, locals := 0 } (va_Pc [.ref h0] (bd_pW dC dI sz [bd_Md h0 h1 h2 h3 n, bd_Ar h1 d1 5 f] [(d1, .int)])) (va_Qi (fun (r : Int32) (u : Unit) => r = nI (bd_sm f n)) (fun (u : Unit) t => bd_bW dC dI (va_A [bd_Md h0 h1 h2 h3 n, bd_Ar h1 d1 5 f] sz) [bd_Md h0 h1 h2 h3 n, bd_Ar h1 d1 5 f] [(d1, .int)] t) (va_A [bd_Md h0 h1 h2 h3 n, bd_Ar h1 d1 5 f] sz)) 0 0 (va_A [bd_Md h0 h1 h2 h3 n, bd_Ar h1 d1 5 f] sz) := by
  refine bd_met0 (Qc := fun A => va_Qi (fun (r : Int32) (u : Unit) => r = nI (bd_sm f n)) (fun (u : Unit) t => bd_bW dC dI A [bd_Md h0 h1 h2 h3 n, bd_Ar h1 d1 5 f] [(d1, .int)] t) A) (by decide) (Nat.le_of_ble_eq_true rfl) ?_
  intro p e s m below meth c ls A hx hb hr hml hown hlocks hnm hts hA hP hD hS hK hl
  have hl : lv_has ls 3 [(0, .ref h0)] := hl
  refine lv_iconst (v := nI 0) hx hb dX2_boxes_0 (by decide) ?_
  refine lv_istore_n (lv' := [(1, .int (nI 0)), (0, .ref h0)]) hx hb dX2_boxes_1 rfl hl (by decide) rfl (fun ls hl => ?_)
  refine lv_iconst (v := nI 0) hx hb dX2_boxes_2 (by decide) ?_
  refine lv_istore_n (lv' := [(2, .int (nI 0)), (1, .int (nI 0)), (0, .ref h0)]) hx hb dX2_boxes_3 rfl hl (by decide) rfl (fun ls hl => ?_)
  refine bd_mboxes_loop hx hb hown hts hn5 hK hP (fun ls hl => ?_) (n + 1) 0 ls (Nat.zero_le _) (by omega) hl
  refine lv_iload_n hx hb dX2_boxes_27 rfl (lv_at hl 1 rfl) ?_
  exact bd_iret hx hb hr hlocks () rfl hP hK hD hS dX2_boxes_28
section MH
variable {p : Program} {l : Launch} {e : Env} {R : Room} {s : State} {m : MethodId} {args : Array Value} {below : List Frame} {meth : Method} {c : Code} {cells slots : Nat} {Q : State → Prop} {dC : Nat → ClassId} {dI : Nat → Nat → Nat} {A : Nat → Prop} {H0 : Heap}
set_option maxHeartbeats 4000000 in
set_option maxRecDepth 100000 in
theorem bd_mhook_loop (hx : p.tables.exec = Jvm.exec) (hb : c.code = cX2_hook) (hown : s.vm.findClass RX2 = some m.cls) (hts : ∀ w ∈ lw_all, w.before args s = true) (hml : c.maxLocals = 7) (hA : ∀ q, H0.size ≤ q → A q) (hR : 1 ≤ R.frames ∧ 21 ≤ R.locals) (hf : cells ≤ R.cells ∧ slots ≤ R.slots) {h0 h1 h2 h3 n : Nat} {d1 : ClassId} {f : Nat → Nat} {i j : Nat} (hV : bd_V n f) (hj : j < 5) (hK : va_K (dC, dI) vwCl [(d1, .int)] s) (kk : ∀ (q v : Nat) (H : Heap) (locs : List Loc) (ls : Array Slot), v + bd_cnt (bd_sh n f) j (i + 1) = bd_sh n f i - j + bd_cnt (bd_sh n f) j 5 → va_P (dC, dI) vwCl [bd_Md h0 h1 h2 h3 n, bd_Ar h1 d1 5 f] H → va_D A [bd_Md h0 h1 h2 h3 n, bd_Ar h1 d1 5 f] → va_S A H0 H locs → lv_has ls 7 [(6, .int (nI q)), (5, .int (nI v)), (3, .int (nI i)), (4, .int (nI j)), (0, .ref h0)] → W p l e R s m args below meth c H locs cells slots Q (F0 m 71 ls [])) : ∀ (r q v : Nat) (H : Heap) (locs : List Loc) (ls : Array Slot), q ≤ 5 → 6 ≤ q + r → v + bd_cnt (bd_sh n f) j (i + 1) = bd_sh n f i - j + bd_cnt (bd_sh n f) j q → va_P (dC, dI) vwCl [bd_Md h0 h1 h2 h3 n, bd_Ar h1 d1 5 f] H → va_D A [bd_Md h0 h1 h2 h3 n, bd_Ar h1 d1 5 f] → va_S A H0 H locs → lv_has ls 7 [(6, .int (nI q)), (5, .int (nI v)), (3, .int (nI i)), (4, .int (nI j)), (0, .ref h0)] → W p l e R s m args below meth c H locs cells slots Q (F0 m 42 ls []) := by
  have hn5 := hV.1
  intro r
  induction r with
  | zero => intro q v H locs ls z1 z2; omega
  | succ r ih =>
    intro q v H locs ls z1 z2 z3 hP hD hS hl
    refine lv_iload hx hb dX2_hook_42 (lv_at hl 0 rfl) ?_
    refine lv_iconst (v := nI 5) hx hb dX2_hook_44 (by decide) ?_
    refine bd_icmp_ge (tgt := 71) hx hb dX2_hook_45 (by decide) (by omega) (by omega) (fun c1 => ?_) (fun c1 => ?_)
    · have he : q = 5 := by omega
      rw [he] at z3
      exact kk q v H locs ls z3 hP hD hS hl
    · have hq5 := hV.sh5 q
      have hct : bd_cnt (bd_sh n f) j (q + 1) = bd_cnt (bd_sh n f) j q + bd_b j (bd_sh n f q) := rfl
      refine lv_aload_n hx hb dX2_hook_48 rfl (lv_at hl 4 rfl) ?_
      refine lv_iload hx hb dX2_hook_49 (lv_at hl 0 rfl) ?_
      refine bd_callVi (As := [.int (nI q)]) (rest := []) (wc := [bd_Md h0 h1 h2 h3 n, bd_Ar h1 d1 5 f]) (wr := []) (w2 := fun _ => [bd_Md h0 h1 h2 h3 n, bd_Ar h1 d1 5 f]) (ci := 2) (q0 := 0) (C := RX2) (T := TX2) (N := 4) ⟨hx, hb, hml, hown, hts⟩ (bd_c_shape l dC dI h0 h1 h2 h3 d1 n f q _ hn5 (by omega)) (cwV 1 hts (lw_V q121 q123 qs2 q6 q124) rfl rfl rfl (by decide +kernel) hR) hK hP hD hS hA [0, 1] [] [0] [0, 1] rfl (by decide) rfl (by decide) (by decide) rfl (fun _ => rfl) (by decide) rfl rfl rfl hl.1 rfl (Nat.le_of_ble_eq_true rfl) dX2_hook_51 hf (fun r u H locs hw hP hD hS => ?_)
      have hw : r = nI (bd_sh n f q) := hw
      subst hw
      refine lv_iload hx hb dX2_hook_54 (lv_at hl 3 rfl) ?_
      refine bd_icmp_le (tgt := 65) hx hb dX2_hook_56 (by decide) (by omega) (by omega) (fun c2 => ?_) (fun c2 => ?_)
      · refine lv_iinc (v := nI (q + 1)) (lv' := [(6, .int (nI (q + 1))), (5, .int (nI v)), (3, .int (nI i)), (4, .int (nI j)), (0, .ref h0)]) hx hb dX2_hook_65 hl (k := 0) rfl (bd_inc _) (by decide) rfl (fun ls hl => ?_)
        refine lv_goto (tgt := 42) hx hb dX2_hook_68 (by decide) ?_
        exact ih (q + 1) v H locs ls (by omega) (by omega) (by rw [hct, bd_b0 c2]; exact z3) hP hD hS (lv_sub hl [0, 1, 2, 3, 4] rfl)
      · refine lv_iload hx hb dX2_hook_59 (lv_at hl 1 rfl) ?_
        refine lv_iconst (v := nI 1) hx hb dX2_hook_61 (by decide) ?_
        refine lv_iadd hx hb dX2_hook_62 ?_
        refine bd_eqi (y := nI (v + 1)) (nI_add _ _) ?_
        refine lv_istore (lv' := [(5, .int (nI (v + 1))), (6, .int (nI q)), (3, .int (nI i)), (4, .int (nI j)), (0, .ref h0)]) hx hb dX2_hook_63 hl (by decide) rfl (fun ls hl => ?_)
        refine lv_iinc (v := nI (q + 1)) (lv' := [(6, .int (nI (q + 1))), (5, .int (nI (v + 1))), (3, .int (nI i)), (4, .int (nI j)), (0, .ref h0)]) hx hb dX2_hook_65 hl (k := 1) rfl (bd_inc _) (by decide) rfl (fun ls hl => ?_)
        refine lv_goto (tgt := 42) hx hb dX2_hook_68 (by decide) ?_
        exact ih (q + 1) (v + 1) H locs ls (by omega) (by omega) (by rw [hct, bd_b1 c2]; omega) hP hD hS (lv_sub hl [0, 1, 2, 3, 4] rfl)
end MH
set_option maxHeartbeats 4000000 in
set_option maxRecDepth 100000 in
/-- hook(a, b) -/
theorem bd_c_mhook (l : Launch) (dC : Nat → ClassId) (dI : Nat → Nat → Nat) (h0 h1 h2 h3 : Nat) (d1 : ClassId) (n : Nat) (f : Nat → Nat) (pa pb : Int32) (sz : Nat) (hV : bd_V n f) : Met l yX2_hook (ws_ yX2_hook cX2_hook 7 (some .int)) { frames := 1, cells := 0, slots := 0, locals := 21 } (va_Pc [.ref h0, .int pa, .int pb] (bd_pW dC dI sz [bd_Md h0 h1 h2 h3 n, bd_Ar h1 d1 5 f] [(d1, .int)])) (va_Qi (fun (r : Int32) (u : Unit) => r = nI (if bd_m5 pb < bd_sh n f (bd_m5 pa) then bd_hk (bd_sh n f) (bd_m5 pa) (bd_m5 pb) else 0)) (fun (u : Unit) t => bd_bW dC dI (va_A [bd_Md h0 h1 h2 h3 n, bd_Ar h1 d1 5 f] sz) [bd_Md h0 h1 h2 h3 n, bd_Ar h1 d1 5 f] [(d1, .int)] t) (va_A [bd_Md h0 h1 h2 h3 n, bd_Ar h1 d1 5 f] sz)) 0 0 (va_A [bd_Md h0 h1 h2 h3 n, bd_Ar h1 d1 5 f] sz) := by
  refine bd_met0 (Qc := fun A => va_Qi (fun (r : Int32) (u : Unit) => r = nI (if bd_m5 pb < bd_sh n f (bd_m5 pa) then bd_hk (bd_sh n f) (bd_m5 pa) (bd_m5 pb) else 0)) (fun (u : Unit) t => bd_bW dC dI A [bd_Md h0 h1 h2 h3 n, bd_Ar h1 d1 5 f] [(d1, .int)] t) A) (by decide) (Nat.le_of_ble_eq_true rfl) ?_
  intro p e s m below meth c ls A hx hb hr hml hown hlocks hnm hts hA hP hD hS hK hl
  have hl : lv_has ls 7 [(0, .ref h0), (1, .int pa), (2, .int pb)] := hl
  have hn5 := hV.1
  have hma := bd_m5_lt pa
  have hmb := bd_m5_lt pb
  have hs5 := hV.sh5 (bd_m5 pa)
  refine lv_iload_n hx hb dX2_hook_0 rfl (lv_at hl 1 rfl) ?_
  refine lv_ldc (v := 2147483647) hx hb hown (hts _ q112) dX2_hook_1 ?_
  refine lv_iand hx hb dX2_hook_3 ?_
  refine lv_iconst (v := nI 5) hx hb dX2_hook_4 (by decide) ?_
  refine lv_irem hx hb dX2_hook_5 (by decide) ?_
  refine bd_eqi (y := nI (bd_m5 pa)) (bd_and5 _) ?_
  refine lv_istore_n (lv' := [(3, .int (nI (bd_m5 pa))), (0, .ref h0), (1, .int pa), (2, .int pb)]) hx hb dX2_hook_6 rfl hl (by decide) rfl (fun ls hl => ?_)
  refine lv_iload_n hx hb dX2_hook_7 rfl (lv_at hl 3 rfl) ?_
  refine lv_ldc (v := 2147483647) hx hb hown (hts _ q112) dX2_hook_8 ?_
  refine lv_iand hx hb dX2_hook_10 ?_
  refine lv_iconst (v := nI 5) hx hb dX2_hook_11 (by decide) ?_
  refine lv_irem hx hb dX2_hook_12 (by decide) ?_
  refine bd_eqi (y := nI (bd_m5 pb)) (bd_and5 _) ?_
  refine lv_istore (lv' := [(4, .int (nI (bd_m5 pb))), (3, .int (nI (bd_m5 pa))), (0, .ref h0), (1, .int pa), (2, .int pb)]) hx hb dX2_hook_13 hl (by decide) rfl (fun ls hl => ?_)
  refine lv_iload hx hb dX2_hook_15 (lv_at hl 0 rfl) ?_
  refine lv_aload_n hx hb dX2_hook_17 rfl (lv_at hl 2 rfl) ?_
  refine lv_iload_n hx hb dX2_hook_18 rfl (lv_at hl 1 rfl) ?_
  refine bd_callVi (As := [.int (nI (bd_m5 pa))]) (rest := [.int (nI (bd_m5 pb))]) (wc := [bd_Md h0 h1 h2 h3 n, bd_Ar h1 d1 5 f]) (wr := []) (w2 := fun _ => [bd_Md h0 h1 h2 h3 n, bd_Ar h1 d1 5 f]) (ci := 2) (q0 := 0) (C := RX2) (T := TX2) (N := 4) ⟨hx, hb, hml, hown, hts⟩ (bd_c_shape l dC dI h0 h1 h2 h3 d1 n f (bd_m5 pa) _ hn5 (by omega)) (cwV 1 hts (lw_V q121 q123 qs2 q6 q124) rfl rfl rfl (by decide +kernel) ⟨Nat.le_of_ble_eq_true rfl, Nat.le_of_ble_eq_true rfl⟩) hK hP hD hS hA [0, 1] [] [0] [0, 1] rfl (by decide) rfl (by decide) (by decide) rfl (fun _ => rfl) (by decide) rfl rfl rfl hl.1 rfl (Nat.le_of_ble_eq_true rfl) dX2_hook_19 ⟨Nat.zero_le _, Nat.zero_le _⟩ (fun r u H locs hw hP hD hS => ?_)
  have hw : r = nI (bd_sh n f (bd_m5 pa)) := hw
  subst hw
  refine bd_icmp_lt (tgt := 27) hx hb dX2_hook_22 (by decide) (by omega) (by omega) (fun c1 => ?_) (fun c1 => ?_)
  · refine lv_aload_n hx hb dX2_hook_27 rfl (lv_at hl 2 rfl) ?_
    refine lv_iload_n hx hb dX2_hook_28 rfl (lv_at hl 1 rfl) ?_
    refine bd_callVi (As := [.int (nI (bd_m5 pa))]) (rest := []) (wc := [bd_Md h0 h1 h2 h3 n, bd_Ar h1 d1 5 f]) (wr := []) (w2 := fun _ => [bd_Md h0 h1 h2 h3 n, bd_Ar h1 d1 5 f]) (ci := 2) (q0 := 0) (C := RX2) (T := TX2) (N := 4) ⟨hx, hb, hml, hown, hts⟩ (bd_c_shape l dC dI h0 h1 h2 h3 d1 n f (bd_m5 pa) _ hn5 (by omega)) (cwV 1 hts (lw_V q121 q123 qs2 q6 q124) rfl rfl rfl (by decide +kernel) ⟨Nat.le_of_ble_eq_true rfl, Nat.le_of_ble_eq_true rfl⟩) hK hP hD hS hA [0, 1] [] [0] [0, 1] rfl (by decide) rfl (by decide) (by decide) rfl (fun _ => rfl) (by decide) rfl rfl rfl hl.1 rfl (Nat.le_of_ble_eq_true rfl) dX2_hook_29 ⟨Nat.zero_le _, Nat.zero_le _⟩ (fun r u H locs hw hP hD hS => ?_)
    have hw : r = nI (bd_sh n f (bd_m5 pa)) := hw
    subst hw
    refine lv_iload hx hb dX2_hook_32 (lv_at hl 0 rfl) ?_
    refine lv_isub hx hb dX2_hook_34 ?_
    refine bd_eqi (y := nI ((bd_sh n f (bd_m5 pa)) - (bd_m5 pb))) (pk_sub (by omega)) ?_
    refine lv_istore (lv' := [(5, .int (nI ((bd_sh n f (bd_m5 pa)) - (bd_m5 pb)))), (4, .int (nI (bd_m5 pb))), (3, .int (nI (bd_m5 pa))), (0, .ref h0), (1, .int pa), (2, .int pb)]) hx hb dX2_hook_35 hl (by decide) rfl (fun ls hl => ?_)
    refine lv_iload_n hx hb dX2_hook_37 rfl (lv_at hl 2 rfl) ?_
    refine lv_iconst (v := nI 1) hx hb dX2_hook_38 (by decide) ?_
    refine lv_iadd hx hb dX2_hook_39 ?_
    refine bd_eqi (y := nI ((bd_m5 pa) + 1)) (nI_add _ _) ?_
    refine lv_istore (lv' := [(6, .int (nI ((bd_m5 pa) + 1))), (5, .int (nI ((bd_sh n f (bd_m5 pa)) - (bd_m5 pb)))), (4, .int (nI (bd_m5 pb))), (3, .int (nI (bd_m5 pa))), (0, .ref h0), (1, .int pa), (2, .int pb)]) hx hb dX2_hook_40 hl (by decide) rfl (fun ls hl => ?_)
    have hrow := bd_cnt_row hV c1
    refine bd_mhook_loop hx hb hown hts hml hA ⟨Nat.le_of_ble_eq_true rfl, Nat.le_of_ble_eq_true rfl⟩ ⟨Nat.zero_le _, Nat.zero_le _⟩ hV hmb (i := bd_m5 pa) hK (fun q v H locs ls z3 hP hD hS hl => ?_) 6 (bd_m5 pa + 1) (bd_sh n f (bd_m5 pa) - bd_m5 pb) H locs ls (by omega) (by omega) rfl hP hD hS (lv_sub hl [0, 1, 3, 2, 4] rfl)
    refine lv_iload hx hb dX2_hook_71 (lv_at hl 1 rfl) ?_
    exact bd_iret hx hb hr hlocks () (by rw [if_pos c1]; congr 1; unfold bd_hk; omega) hP hK hD hS dX2_hook_73
  · refine lv_iconst (v := nI 0) hx hb dX2_hook_25 (by decide) ?_
    exact bd_iret hx hb hr hlocks () (by rw [if_neg (by omega)]) hP hK hD hS dX2_hook_26
section MC
variable {p : Program} {l : Launch} {e : Env} {R : Room} {s : State} {m : MethodId} {args : Array Value} {below : List Frame} {meth : Method} {c : Code} {cells slots : Nat} {Q : State → Prop} {dC : Nat → ClassId} {dI : Nat → Nat → Nat} {A : Nat → Prop} {H0 : Heap}
set_option maxHeartbeats 4000000 in
set_option maxRecDepth 100000 in
theorem bd_mcolumn_loop (hx : p.tables.exec = Jvm.exec) (hb : c.code = cX2_column) (hown : s.vm.findClass RX2 = some m.cls) (hts : ∀ w ∈ lw_all, w.before args s = true) (hml : c.maxLocals = 5) (hA : ∀ q, H0.size ≤ q → A q) (hR : 1 ≤ R.frames ∧ 21 ≤ R.locals) (hf : cells ≤ R.cells ∧ slots ≤ R.slots) {h0 h1 h2 h3 n : Nat} {d1 : ClassId} {f : Nat → Nat} {j : Nat} (hV : bd_V n f) (hj : j < 5) (hK : va_K (dC, dI) vwCl [(d1, .int)] s) (kk : ∀ (q v : Nat) (H : Heap) (locs : List Loc) (ls : Array Slot), v = bd_cnt (bd_sh n f) j 5 → va_P (dC, dI) vwCl [bd_Md h0 h1 h2 h3 n, bd_Ar h1 d1 5 f] H → va_D A [bd_Md h0 h1 h2 h3 n, bd_Ar h1 d1 5 f] → va_S A H0 H locs → lv_has ls 5 [(4, .int (nI q)), (3, .int (nI v)), (2, .int (nI j)), (0, .ref h0)] → W p l e R s m args below meth c H locs cells slots Q (F0 m 38 ls [])) : ∀ (r q v : Nat) (H : Heap) (locs : List Loc) (ls : Array Slot), q ≤ 5 → 6 ≤ q + r → v = bd_cnt (bd_sh n f) j q → va_P (dC, dI) vwCl [bd_Md h0 h1 h2 h3 n, bd_Ar h1 d1 5 f] H → va_D A [bd_Md h0 h1 h2 h3 n, bd_Ar h1 d1 5 f] → va_S A H0 H locs → lv_has ls 5 [(4, .int (nI q)), (3, .int (nI v)), (2, .int (nI j)), (0, .ref h0)] → W p l e R s m args below meth c H locs cells slots Q (F0 m 12 ls []) := by
  have hn5 := hV.1
  intro r
  induction r with
  | zero => intro q v H locs ls z1 z2; omega
  | succ r ih =>
    intro q v H locs ls z1 z2 z3 hP hD hS hl
    refine lv_iload hx hb dX2_column_12 (lv_at hl 0 rfl) ?_
    refine lv_iconst (v := nI 5) hx hb dX2_column_14 (by decide) ?_
    refine bd_icmp_ge (tgt := 38) hx hb dX2_column_15 (by decide) (by omega) (by omega) (fun c1 => ?_) (fun c1 => ?_)
    · have he : q = 5 := by omega
      rw [he] at z3
      exact kk q v H locs ls z3 hP hD hS hl
    · have hq5 := hV.sh5 q
      have hct : bd_cnt (bd_sh n f) j (q + 1) = bd_cnt (bd_sh n f) j q + bd_b j (bd_sh n f q) := rfl
      refine lv_aload_n hx hb dX2_column_18 rfl (lv_at hl 3 rfl) ?_
      refine lv_iload hx hb dX2_column_19 (lv_at hl 0 rfl) ?_
      refine bd_callVi (As := [.int (nI q)]) (rest := []) (wc := [bd_Md h0 h1 h2 h3 n, bd_Ar h1 d1 5 f]) (wr := []) (w2 := fun _ => [bd_Md h0 h1 h2 h3 n, bd_Ar h1 d1 5 f]) (ci := 2) (q0 := 0) (C := RX2) (T := TX2) (N := 4) ⟨hx, hb, hml, hown, hts⟩ (bd_c_shape l dC dI h0 h1 h2 h3 d1 n f q _ hn5 (by omega)) (cwV 1 hts (lw_V q121 q123 qs2 q6 q124) rfl rfl rfl (by decide +kernel) hR) hK hP hD hS hA [0, 1] [] [0] [0, 1] rfl (by decide) rfl (by decide) (by decide) rfl (fun _ => rfl) (by decide) rfl rfl rfl hl.1 rfl (Nat.le_of_ble_eq_true rfl) dX2_column_21 hf (fun r u H locs hw hP hD hS => ?_)
      have hw : r = nI (bd_sh n f q) := hw
      subst hw
      refine lv_iload_n hx hb dX2_column_24 rfl (lv_at hl 2 rfl) ?_
      refine bd_icmp_le (tgt := 32) hx hb dX2_column_25 (by decide) (by omega) (by omega) (fun c2 => ?_) (fun c2 => ?_)
      · refine lv_iinc (v := nI (q + 1)) (lv' := [(4, .int (nI (q + 1))), (3, .int (nI v)), (2, .int (nI j)), (0, .ref h0)]) hx hb dX2_column_32 hl (k := 0) rfl (bd_inc _) (by decide) rfl (fun ls hl => ?_)
        refine lv_goto (tgt := 12) hx hb dX2_column_35 (by decide) ?_
        exact ih (q + 1) v H locs ls (by omega) (by omega) (by rw [hct, bd_b0 c2]; exact z3) hP hD hS (lv_sub hl [0, 1, 2, 3] rfl)
      · refine lv_iload_n hx hb dX2_column_28 rfl (lv_at hl 1 rfl) ?_
        refine lv_iconst (v := nI 1) hx hb dX2_column_29 (by decide) ?_
        refine lv_iadd hx hb dX2_column_30 ?_
        refine bd_eqi (y := nI (v + 1)) (nI_add _ _) ?_
        refine lv_istore_n (lv' := [(3, .int (nI (v + 1))), (4, .int (nI q)), (2, .int (nI j)), (0, .ref h0)]) hx hb dX2_column_31 rfl hl (by decide) rfl (fun ls hl => ?_)
        refine lv_iinc (v := nI (q + 1)) (lv' := [(4, .int (nI (q + 1))), (3, .int (nI (v + 1))), (2, .int (nI j)), (0, .ref h0)]) hx hb dX2_column_32 hl (k := 1) rfl (bd_inc _) (by decide) rfl (fun ls hl => ?_)
        refine lv_goto (tgt := 12) hx hb dX2_column_35 (by decide) ?_
        exact ih (q + 1) (v + 1) H locs ls (by omega) (by omega) (by rw [hct, bd_b1 c2]; omega) hP hD hS (lv_sub hl [0, 1, 2, 3] rfl)
end MC
set_option maxHeartbeats 4000000 in
set_option maxRecDepth 100000 in
/-- column(b) -/
theorem bd_c_mcolumn (l : Launch) (dC : Nat → ClassId) (dI : Nat → Nat → Nat) (h0 h1 h2 h3 : Nat) (d1 : ClassId) (n : Nat) (f : Nat → Nat) (pb : Int32) (sz : Nat) (hV : bd_V n f) : Met l yX2_column (ws_ yX2_column cX2_column 5 (some .int)) { frames := 1, cells := 0, slots := 0, locals := 21 } (va_Pc [.ref h0, .int pb] (bd_pW dC dI sz [bd_Md h0 h1 h2 h3 n, bd_Ar h1 d1 5 f] [(d1, .int)])) (va_Qi (fun (r : Int32) (u : Unit) => r = nI (bd_cnt (bd_sh n f) (bd_m5 pb) 5)) (fun (u : Unit) t => bd_bW dC dI (va_A [bd_Md h0 h1 h2 h3 n, bd_Ar h1 d1 5 f] sz) [bd_Md h0 h1 h2 h3 n, bd_Ar h1 d1 5 f] [(d1, .int)] t) (va_A [bd_Md h0 h1 h2 h3 n, bd_Ar h1 d1 5 f] sz)) 0 0 (va_A [bd_Md h0 h1 h2 h3 n, bd_Ar h1 d1 5 f] sz) := by
  refine bd_met0 (Qc := fun A => va_Qi (fun (r : Int32) (u : Unit) => r = nI (bd_cnt (bd_sh n f) (bd_m5 pb) 5)) (fun (u : Unit) t => bd_bW dC dI A [bd_Md h0 h1 h2 h3 n, bd_Ar h1 d1 5 f] [(d1, .int)] t) A) (by decide) (Nat.le_of_ble_eq_true rfl) ?_
  intro p e s m below meth c ls A hx hb hr hml hown hlocks hnm hts hA hP hD hS hK hl
  have hl : lv_has ls 5 [(0, .ref h0), (1, .int pb)] := hl
  have hmb := bd_m5_lt pb
  refine lv_iload_n hx hb dX2_column_0 rfl (lv_at hl 1 rfl) ?_
  refine lv_ldc (v := 2147483647) hx hb hown (hts _ q112) dX2_column_1 ?_
  refine lv_iand hx hb dX2_column_3 ?_
  refine lv_iconst (v := nI 5) hx hb dX2_column_4 (by decide) ?_
  refine lv_irem hx hb dX2_column_5 (by decide) ?_
  refine bd_eqi (y := nI (bd_m5 pb)) (bd_and5 _) ?_
  refine lv_istore_n (lv' := [(2, .int (nI (bd_m5 pb))), (0, .ref h0), (1, .int pb)]) hx hb dX2_column_6 rfl hl (by decide) rfl (fun ls hl => ?_)
  refine lv_iconst (v := nI 0) hx hb dX2_column_7 (by decide) ?_
  refine lv_istore_n (lv' := [(3, .int (nI 0)), (2, .int (nI (bd_m5 pb))), (0, .ref h0), (1, .int pb)]) hx hb dX2_column_8 rfl hl (by decide) rfl (fun ls hl => ?_)
  refine lv_iconst (v := nI 0) hx hb dX2_column_9 (by decide) ?_
  refine lv_istore (lv' := [(4, .int (nI 0)), (3, .int (nI 0)), (2, .int (nI (bd_m5 pb))), (0, .ref h0), (1, .int pb)]) hx hb dX2_column_10 hl (by decide) rfl (fun ls hl => ?_)
  refine bd_mcolumn_loop hx hb hown hts hml hA ⟨Nat.le_of_ble_eq_true rfl, Nat.le_of_ble_eq_true rfl⟩ ⟨Nat.zero_le _, Nat.zero_le _⟩ hV hmb hK (fun q v H locs ls z3 hP hD hS hl => ?_) 6 0 0 s.heap [] ls (by omega) (by omega) rfl hP hD hS (lv_sub hl [0, 1, 2, 3] rfl)
  refine lv_iload_n hx hb dX2_column_38 rfl (lv_at hl 1 rfl) ?_
  exact bd_iret hx hb hr hlocks () (by rw [z3]) hP hK hD hS dX2_column_39
set_option maxHeartbeats 4000000 in
set_option maxRecDepth 100000 in
/-- add(k) -/
theorem bd_c_madd (l : Launch) (dC : Nat → ClassId) (dI : Nat → Nat → Nat) (h0 h1 h2 h3 : Nat) (d1 : ClassId) (n : Nat) (f : Nat → Nat) (pk : Int32) (sz : Nat) (hV : bd_V n f) : Met l yX2_add (ws_ yX2_add cX2_add 3 (some .boolean)) { frames := 0, cells := 0, slots := 0, locals := 0 } (va_Pc [.ref h0, .int pk] (bd_pW dC dI sz [bd_Md h0 h1 h2 h3 n, bd_Ar h1 d1 5 f] [(d1, .int)])) (va_Qi (fun (r : Int32) (u : Nat × (Nat → Nat)) => bd_added n f (1 + bd_m5 pk) r u) (fun (u : Nat × (Nat → Nat)) t => bd_bW dC dI (va_A [bd_Md h0 h1 h2 h3 n, bd_Ar h1 d1 5 f] sz) [bd_Md h0 h1 h2 h3 u.1, bd_Ar h1 d1 5 u.2] [(d1, .int)] t) (va_A [bd_Md h0 h1 h2 h3 n, bd_Ar h1 d1 5 f] sz)) 0 0 (va_A [bd_Md h0 h1 h2 h3 n, bd_Ar h1 d1 5 f] sz) := by
  refine bd_met0 (Qc := fun A => va_Qi (fun (r : Int32) (u : Nat × (Nat → Nat)) => bd_added n f (1 + bd_m5 pk) r u) (fun (u : Nat × (Nat → Nat)) t => bd_bW dC dI A [bd_Md h0 h1 h2 h3 u.1, bd_Ar h1 d1 5 u.2] [(d1, .int)] t) A) (by decide) (Nat.le_of_ble_eq_true rfl) ?_
  intro p e s m below meth c ls A hx hb hr hml hown hlocks hnm hts hA hP hD hS hK hl
  have hl : lv_has ls 3 [(0, .ref h0), (1, .int pk)] := hl
  have hn5 := hV.1
  have hmb := bd_m5_lt pk
  refine lv_iconst (v := nI 1) hx hb dX2_add_0 (by decide) ?_
  refine lv_iload_n hx hb dX2_add_1 rfl (lv_at hl 1 rfl) ?_
  refine lv_ldc (v := 2147483647) hx hb hown (hts _ q112) dX2_add_2 ?_
  refine lv_iand hx hb dX2_add_4 ?_
  refine lv_iconst (v := nI 5) hx hb dX2_add_5 (by decide) ?_
  refine lv_irem hx hb dX2_add_6 (by decide) ?_
  refine bd_eqi (y := nI (bd_m5 pk)) (bd_and5 _) ?_
  refine lv_iadd hx hb dX2_add_7 ?_
  refine bd_eqi (y := nI (1 + (bd_m5 pk))) (nI_add _ _) ?_
  refine lv_istore_n (lv' := [(2, .int (nI (1 + (bd_m5 pk)))), (0, .ref h0), (1, .int pk)]) hx hb dX2_add_8 rfl hl (by decide) rfl (fun ls hl => ?_)
  refine lv_aload_n hx hb dX2_add_9 rfl (lv_at hl 1 rfl) ?_
  refine va_get (D := (dC, dI)) (ci := 2) (v := .int (nI n)) (C := RX2) (T := TX2) (N := 4) hx hb hts in_X2 hown hK hP 0 rfl rfl 1 (by decide) (hts _ q95) (fun _ h9 => h9) rfl dX2_add_10 ?_
  refine lv_iconst (v := nI 5) hx hb dX2_add_13 (by decide) ?_
  refine bd_icmp_eq (tgt := 39) hx hb dX2_add_14 (by decide) (by omega) (by omega) (fun c1 => ?_) (fun c1 => ?_)
  · refine lv_iconst (v := nI 0) hx hb dX2_add_39 (by decide) ?_
    exact bd_zret hx hb hr hlocks rfl (n, f) (Or.inl ⟨Or.inl c1, rfl, rfl⟩) hP hK hD hS dX2_add_40
  · refine lv_aload_n hx hb dX2_add_17 rfl (lv_at hl 1 rfl) ?_
    refine va_get (D := (dC, dI)) (ci := 2) (v := .int (nI n)) (C := RX2) (T := TX2) (N := 4) hx hb hts in_X2 hown hK hP 0 rfl rfl 1 (by decide) (hts _ q95) (fun _ h9 => h9) rfl dX2_add_18 ?_
    refine bd_if_le (tgt := 41) hx hb dX2_add_21 (by decide) (by omega) (fun c2 => ?_) (fun c2 => ?_)
    · refine lv_aload_n hx hb dX2_add_41 rfl (lv_at hl 1 rfl) ?_
      refine va_get (D := (dC, dI)) (ci := 2) (v := .ref h1) (C := RX2) (T := TX2) (N := 4) hx hb hts in_X2 hown hK hP 0 rfl rfl 0 (by decide) (hts _ q94) (fun _ h9 => h9) rfl dX2_add_42 ?_
      refine lv_aload_n hx hb dX2_add_45 rfl (lv_at hl 1 rfl) ?_
      refine va_get (D := (dC, dI)) (ci := 2) (v := .int (nI n)) (C := RX2) (T := TX2) (N := 4) hx hb hts in_X2 hown hK hP 0 rfl rfl 1 (by decide) (hts _ q95) (fun _ h9 => h9) rfl dX2_add_46 ?_
      refine lv_iload_n hx hb dX2_add_49 rfl (lv_at hl 0 rfl) ?_
      refine bd_iast (f := f) (i := n) (v := 1 + (bd_m5 pk)) hx hb hK hP hD hS 1 0 rfl rfl (by omega) (by decide) dX2_add_50 (fun H locs hP hD hS => ?_)
      have hP : va_P (dC, dI) vwCl [bd_Md h0 h1 h2 h3 n, bd_Ar h1 d1 5 (bd_up f n (1 + (bd_m5 pk)))] H := hP
      have hD : va_D A [bd_Md h0 h1 h2 h3 n, bd_Ar h1 d1 5 (bd_up f n (1 + (bd_m5 pk)))] := hD
      refine lv_aload_n hx hb dX2_add_51 rfl (lv_at hl 1 rfl) ?_
      refine lv_aload_n hx hb dX2_add_52 rfl (lv_at hl 1 rfl) ?_
      refine va_get (D := (dC, dI)) (ci := 2) (v := .int (nI n)) (C := RX2) (T := TX2) (N := 4) hx hb hts in_X2 hown hK hP 0 rfl rfl 1 (by decide) (hts _ q95) (fun _ h9 => h9) rfl dX2_add_53 ?_
      refine lv_iconst (v := nI 1) hx hb dX2_add_56 (by decide) ?_
      refine lv_iadd hx hb dX2_add_57 ?_
      refine bd_eqi (y := nI (n + 1)) (nI_add _ _) ?_
      refine va_put (D := (dC, dI)) (ci := 2) (v := .int (nI (n + 1))) (ty := .int) (C := RX2) (T := TX2) (N := 4) hx hb hts in_X2 tyX2 tyX2_ok nmX2 hown hK hP hD hS 0 rfl rfl 1 (by decide) (hts _ q95) (fun _ h9 => h9) rfl (by decide +kernel) rfl rfl (Nat.le_of_ble_eq_true rfl) dX2_add_58 (fun H locs hP hD hS => ?_)
      have hP : va_P (dC, dI) vwCl [bd_Md h0 h1 h2 h3 (n + 1), bd_Ar h1 d1 5 (bd_up f n (1 + (bd_m5 pk)))] H := hP
      have hD : va_D A [bd_Md h0 h1 h2 h3 (n + 1), bd_Ar h1 d1 5 (bd_up f n (1 + (bd_m5 pk)))] := hD
      refine lv_iconst (v := nI 1) hx hb dX2_add_61 (by decide) ?_
      exact bd_zret hx hb hr hlocks rfl (n + 1, bd_up f n (1 + bd_m5 pk)) (Or.inr ⟨by unfold bd_bad; omega, rfl, rfl⟩) hP hK hD hS dX2_add_62
    · have hfi := hV.2.1 (n - 1) (by omega)
      refine lv_aload_n hx hb dX2_add_24 rfl (lv_at hl 1 rfl) ?_
      refine va_get (D := (dC, dI)) (ci := 2) (v := .ref h1) (C := RX2) (T := TX2) (N := 4) hx hb hts in_X2 hown hK hP 0 rfl rfl 0 (by decide) (hts _ q94) (fun _ h9 => h9) rfl dX2_add_25 ?_
      refine lv_aload_n hx hb dX2_add_28 rfl (lv_at hl 1 rfl) ?_
      refine va_get (D := (dC, dI)) (ci := 2) (v := .int (nI n)) (C := RX2) (T := TX2) (N := 4) hx hb hts in_X2 hown hK hP 0 rfl rfl 1 (by decide) (hts _ q95) (fun _ h9 => h9) rfl dX2_add_29 ?_
      refine lv_iconst (v := nI 1) hx hb dX2_add_32 (by decide) ?_
      refine lv_isub hx hb dX2_add_33 ?_
      refine bd_eqi (y := nI (n - 1)) (pk_sub (by omega)) ?_
      refine bd_iald (f := f) (i := n - 1) hx hb hK hP 1 0 rfl rfl (by omega) (by decide) dX2_add_34 ?_
      refine lv_iload_n hx hb dX2_add_35 rfl (lv_at hl 0 rfl) ?_
      refine bd_icmp_ge (tgt := 41) hx hb dX2_add_36 (by decide) (by omega) (by omega) (fun c3 => ?_) (fun c3 => ?_)
      · refine lv_aload_n hx hb dX2_add_41 rfl (lv_at hl 1 rfl) ?_
        refine va_get (D := (dC, dI)) (ci := 2) (v := .ref h1) (C := RX2) (T := TX2) (N := 4) hx hb hts in_X2 hown hK hP 0 rfl rfl 0 (by decide) (hts _ q94) (fun _ h9 => h9) rfl dX2_add_42 ?_
        refine lv_aload_n hx hb dX2_add_45 rfl (lv_at hl 1 rfl) ?_
        refine va_get (D := (dC, dI)) (ci := 2) (v := .int (nI n)) (C := RX2) (T := TX2) (N := 4) hx hb hts in_X2 hown hK hP 0 rfl rfl 1 (by decide) (hts _ q95) (fun _ h9 => h9) rfl dX2_add_46 ?_
        refine lv_iload_n hx hb dX2_add_49 rfl (lv_at hl 0 rfl) ?_
        refine bd_iast (f := f) (i := n) (v := 1 + (bd_m5 pk)) hx hb hK hP hD hS 1 0 rfl rfl (by omega) (by decide) dX2_add_50 (fun H locs hP hD hS => ?_)
        have hP : va_P (dC, dI) vwCl [bd_Md h0 h1 h2 h3 n, bd_Ar h1 d1 5 (bd_up f n (1 + (bd_m5 pk)))] H := hP
        have hD : va_D A [bd_Md h0 h1 h2 h3 n, bd_Ar h1 d1 5 (bd_up f n (1 + (bd_m5 pk)))] := hD
        refine lv_aload_n hx hb dX2_add_51 rfl (lv_at hl 1 rfl) ?_
        refine lv_aload_n hx hb dX2_add_52 rfl (lv_at hl 1 rfl) ?_
        refine va_get (D := (dC, dI)) (ci := 2) (v := .int (nI n)) (C := RX2) (T := TX2) (N := 4) hx hb hts in_X2 hown hK hP 0 rfl rfl 1 (by decide) (hts _ q95) (fun _ h9 => h9) rfl dX2_add_53 ?_
        refine lv_iconst (v := nI 1) hx hb dX2_add_56 (by decide) ?_
        refine lv_iadd hx hb dX2_add_57 ?_
        refine bd_eqi (y := nI (n + 1)) (nI_add _ _) ?_
        refine va_put (D := (dC, dI)) (ci := 2) (v := .int (nI (n + 1))) (ty := .int) (C := RX2) (T := TX2) (N := 4) hx hb hts in_X2 tyX2 tyX2_ok nmX2 hown hK hP hD hS 0 rfl rfl 1 (by decide) (hts _ q95) (fun _ h9 => h9) rfl (by decide +kernel) rfl rfl (Nat.le_of_ble_eq_true rfl) dX2_add_58 (fun H locs hP hD hS => ?_)
        have hP : va_P (dC, dI) vwCl [bd_Md h0 h1 h2 h3 (n + 1), bd_Ar h1 d1 5 (bd_up f n (1 + (bd_m5 pk)))] H := hP
        have hD : va_D A [bd_Md h0 h1 h2 h3 (n + 1), bd_Ar h1 d1 5 (bd_up f n (1 + (bd_m5 pk)))] := hD
        refine lv_iconst (v := nI 1) hx hb dX2_add_61 (by decide) ?_
        exact bd_zret hx hb hr hlocks rfl (n + 1, bd_up f n (1 + bd_m5 pk)) (Or.inr ⟨by unfold bd_bad; omega, rfl, rfl⟩) hP hK hD hS dX2_add_62
      · refine lv_iconst (v := nI 0) hx hb dX2_add_39 (by decide) ?_
        exact bd_zret hx hb hr hlocks rfl (n, f) (Or.inl ⟨Or.inr ⟨c2, c3⟩, rfl, rfl⟩) hP hK hD hS dX2_add_40
set_option maxHeartbeats 4000000 in
set_option maxRecDepth 100000 in
/-- drop() -/
theorem bd_c_mdrop (l : Launch) (dC : Nat → ClassId) (dI : Nat → Nat → Nat) (h0 h1 h2 h3 n : Nat) (sz : Nat) (hn5 : n ≤ 5) : Met l yX2_drop (ws_ yX2_drop cX2_drop 1 (some .boolean)) { frames := 0, cells := 0, slots := 0, locals := 0 } (va_Pc [.ref h0] (bd_pW dC dI sz [bd_Md h0 h1 h2 h3 n] [])) (va_Qi (fun (r : Int32) (u : Nat) => bd_dropped n r u) (fun (u : Nat) t => bd_bW dC dI (va_A [bd_Md h0 h1 h2 h3 n] sz) [bd_Md h0 h1 h2 h3 u] [] t) (va_A [bd_Md h0 h1 h2 h3 n] sz)) 0 0 (va_A [bd_Md h0 h1 h2 h3 n] sz) := by
  refine bd_met0 (Qc := fun A => va_Qi (fun (r : Int32) (u : Nat) => bd_dropped n r u) (fun (u : Nat) t => bd_bW dC dI A [bd_Md h0 h1 h2 h3 u] [] t) A) (by decide) (Nat.le_of_ble_eq_true rfl) ?_
  intro p e s m below meth c ls A hx hb hr hml hown hlocks hnm hts hA hP hD hS hK hl
  have hl : lv_has ls 1 [(0, .ref h0)] := hl
  refine lv_aload_n hx hb dX2_drop_0 rfl (lv_at hl 0 rfl) ?_
  refine va_get (D := (dC, dI)) (ci := 2) (v := .int (nI n)) (C := RX2) (T := TX2) (N := 4) hx hb hts in_X2 hown hK hP 0 rfl rfl 1 (by decide) (hts _ q95) (fun _ h9 => h9) rfl dX2_drop_1 ?_
  refine bd_if_ne (tgt := 9) hx hb dX2_drop_4 (by decide) (by omega) (fun c1 => ?_) (fun c1 => ?_)
  · refine lv_aload_n hx hb dX2_drop_9 rfl (lv_at hl 0 rfl) ?_
    refine lv_aload_n hx hb dX2_drop_10 rfl (lv_at hl 0 rfl) ?_
    refine va_get (D := (dC, dI)) (ci := 2) (v := .int (nI n)) (C := RX2) (T := TX2) (N := 4) hx hb hts in_X2 hown hK hP 0 rfl rfl 1 (by decide) (hts _ q95) (fun _ h9 => h9) rfl dX2_drop_11 ?_
    refine lv_iconst (v := nI 1) hx hb dX2_drop_14 (by decide) ?_
    refine lv_isub hx hb dX2_drop_15 ?_
    refine bd_eqi (y := nI (n - 1)) (pk_sub (by omega)) ?_
    refine va_put (D := (dC, dI)) (ci := 2) (v := .int (nI (n - 1))) (ty := .int) (C := RX2) (T := TX2) (N := 4) hx hb hts in_X2 tyX2 tyX2_ok nmX2 hown hK hP hD hS 0 rfl rfl 1 (by decide) (hts _ q95) (fun _ h9 => h9) rfl (by decide +kernel) rfl rfl (Nat.le_of_ble_eq_true rfl) dX2_drop_16 (fun H locs hP hD hS => ?_)
    have hP : va_P (dC, dI) vwCl [bd_Md h0 h1 h2 h3 (n - 1)] H := hP
    have hD : va_D A [bd_Md h0 h1 h2 h3 (n - 1)] := hD
    refine lv_iconst (v := nI 1) hx hb dX2_drop_19 (by decide) ?_
    exact bd_zret hx hb hr hlocks rfl (n - 1) (Or.inr ⟨c1, rfl, rfl⟩) hP hK hD hS dX2_drop_20
  · refine lv_iconst (v := nI 0) hx hb dX2_drop_7 (by decide) ?_
    exact bd_zret hx hb hr hlocks rfl n (Or.inl ⟨c1, rfl, rfl⟩) hP hK hD hS dX2_drop_8
section MI
variable {p : Program} {l : Launch} {e : Env} {R : Room} {s : State} {m : MethodId} {args : Array Value} {below : List Frame} {meth : Method} {c : Code} {cells slots : Nat} {Q : State → Prop} {dC : Nat → ClassId} {dI : Nat → Nat → Nat} {A : Nat → Prop} {H0 : Heap}
set_option maxHeartbeats 4000000 in
set_option maxRecDepth 100000 in
theorem bd_idig (hx : p.tables.exec = Jvm.exec) (hb : c.code = cX2_inner) (hown : s.vm.findClass RX2 = some m.cls) (hts : ∀ w ∈ lw_all, w.before args s = true) (hml : c.maxLocals = 6) (hA : ∀ q, H0.size ≤ q → A q) (hR : 1 ≤ R.frames ∧ 21 ≤ R.locals) (hf : cells ≤ R.cells ∧ slots ≤ R.slots) {h0 h1 h2 h3 n : Nat} {d1 : ClassId} {f : Nat → Nat} {d2 : ClassId} {t : Nat} {c0 : Nat} (hV : bd_V n f) (ht : t < 7776) (hK : va_K (dC, dI) vwCl [(d1, .int), (d2, .int)] s) (kk : ∀ (i x ft : Nat) (g : Nat → Nat) (H : Heap) (locs : List Loc) (ls : Array Slot), ft = (bd_ft (bd_sh n f) t 5).toNat → (∀ q, q < 5 → g q = bd_dg t q) → va_P (dC, dI) vwCl [bd_Md h0 h1 h2 h3 n, bd_Ar h1 d1 5 f, bd_Ar h2 d2 5 g] H → va_D A [bd_Md h0 h1 h2 h3 n, bd_Ar h1 d1 5 f, bd_Ar h2 d2 5 g] → va_S A H0 H locs → lv_has ls 6 [(5, .int (nI i)), (4, .int (nI ft)), (3, .int (nI x)), (2, .int (nI t)), (1, .int (nI c0)), (0, .ref h0)] → W p l e R s m args below meth c H locs cells slots Q (F0 m 99 ls [])) : ∀ (r i x ft : Nat) (g : Nat → Nat) (H : Heap) (locs : List Loc) (ls : Array Slot), i ≤ 5 → 6 ≤ i + r → x = t / 6 ^ i → ft = (bd_ft (bd_sh n f) t i).toNat → (∀ q, q < i → g q = bd_dg t q) → va_P (dC, dI) vwCl [bd_Md h0 h1 h2 h3 n, bd_Ar h1 d1 5 f, bd_Ar h2 d2 5 g] H → va_D A [bd_Md h0 h1 h2 h3 n, bd_Ar h1 d1 5 f, bd_Ar h2 d2 5 g] → va_S A H0 H locs → lv_has ls 6 [(5, .int (nI i)), (4, .int (nI ft)), (3, .int (nI x)), (2, .int (nI t)), (1, .int (nI c0)), (0, .ref h0)] → W p l e R s m args below meth c H locs cells slots Q (F0 m 19 ls []) := by
  have hn5 := hV.1
  intro r
  induction r with
  | zero => intro i x ft g H locs ls z1 z2; omega
  | succ r ih =>
    intro i x ft g H locs ls z1 z2 hx0 hft z3 hP hD hS hl
    have hxt : x ≤ t := by rw [hx0]; exact Nat.div_le_self _ _
    have hx6 : x % 6 < 6 := Nat.mod_lt _ (by decide)
    have hft1 : ft ≤ 1 := by rw [hft]; exact Bool.toNat_le _
    refine lv_iload hx hb dX2_inner_19 (lv_at hl 0 rfl) ?_
    refine lv_iconst (v := nI 5) hx hb dX2_inner_21 (by decide) ?_
    refine bd_icmp_ge (tgt := 99) hx hb dX2_inner_22 (by decide) (by omega) (by omega) (fun c1 => ?_) (fun c1 => ?_)
    · have he : i = 5 := by omega
      rw [he] at hft z3
      exact kk i x ft g H locs ls hft z3 hP hD hS hl
    · have hs5 := hV.sh5 i
      have hdg := bd_dg_lt t i
      have hdg1 := bd_dg_lt t (i - 1)
      refine lv_aload_n hx hb dX2_inner_25 rfl (lv_at hl 5 rfl) ?_
      refine va_get (D := (dC, dI)) (ci := 2) (v := .ref h2) (C := RX2) (T := TX2) (N := 4) hx hb hts in_X2 hown hK hP 0 rfl rfl 2 (by decide) (hts _ q96) (fun _ h9 => h9) rfl dX2_inner_26 ?_
      refine lv_iload hx hb dX2_inner_29 (lv_at hl 0 rfl) ?_
      refine lv_iload_n hx hb dX2_inner_31 rfl (lv_at hl 2 rfl) ?_
      refine lv_bipush (v := nI 6) hx hb dX2_inner_32 (by decide) ?_
      refine lv_irem hx hb dX2_inner_34 (by decide) ?_
      refine bd_eqi (y := nI (x % 6)) (pk_rem (by omega) (by omega) (by omega)) ?_
      refine bd_iast (f := g) (i := i) (v := x % 6) hx hb hK hP hD hS 2 1 rfl rfl (by omega) (by decide) dX2_inner_35 (fun H locs hP hD hS => ?_)
      have hP : va_P (dC, dI) vwCl [bd_Md h0 h1 h2 h3 n, bd_Ar h1 d1 5 f, bd_Ar h2 d2 5 (bd_up g i (x % 6))] H := hP
      have hD : va_D A [bd_Md h0 h1 h2 h3 n, bd_Ar h1 d1 5 f, bd_Ar h2 d2 5 (bd_up g i (x % 6))] := hD
      generalize hg2 : bd_up g i (x % 6) = g2 at hP hD
      have hgq : ∀ q, q < i + 1 → g2 q = bd_dg t q := by
        intro q hq
        rw [← hg2]
        by_cases hqi : q = i
        · rw [hqi, bd_up_s, hx0]; rfl
        · rw [bd_up_n _ _ hqi]; exact z3 q (by omega)
      have hgi := hgq i (by omega)
      refine lv_iload_n hx hb dX2_inner_36 rfl (lv_at hl 2 rfl) ?_
      refine lv_bipush (v := nI 6) hx hb dX2_inner_37 (by decide) ?_
      refine lv_idiv hx hb dX2_inner_39 (by decide) ?_
      refine bd_eqi (y := nI (x / 6)) (pk_div (by omega) (by omega) (by omega)) ?_
      refine lv_istore_n (lv' := [(3, .int (nI (x / 6))), (5, .int (nI i)), (4, .int (nI ft)), (2, .int (nI t)), (1, .int (nI c0)), (0, .ref h0)]) hx hb dX2_inner_40 rfl hl (by decide) rfl (fun ls hl => ?_)
      refine lv_iload hx hb dX2_inner_41 (lv_at hl 2 rfl) ?_
      refine bd_if_eq (tgt := 90) hx hb dX2_inner_43 (by decide) (by omega) (fun c2 => ?_) (fun c2 => ?_)
      · refine lv_iconst (v := nI 0) hx hb dX2_inner_90 (by decide) ?_
        refine lv_istore (lv' := [(4, .int (nI 0)), (3, .int (nI (x / 6))), (5, .int (nI i)), (2, .int (nI t)), (1, .int (nI c0)), (0, .ref h0)]) hx hb dX2_inner_91 hl (by decide) rfl (fun ls hl => ?_)
        refine lv_iinc (v := nI (i + 1)) (lv' := [(5, .int (nI (i + 1))), (4, .int (nI 0)), (3, .int (nI (x / 6))), (2, .int (nI t)), (1, .int (nI c0)), (0, .ref h0)]) hx hb dX2_inner_93 hl (k := 2) rfl (bd_inc _) (by decide) rfl (fun ls hl => ?_)
        refine lv_goto (tgt := 19) hx hb dX2_inner_96 (by decide) ?_
        exact ih (i + 1) (x / 6) (0) g2 H locs ls (by omega) (by omega) (by rw [hx0]; exact bd_dg_next t i) (bd_ft_no1 hft c2) hgq hP hD hS (lv_sub hl [0, 1, 2, 3, 4, 5] rfl)
      · refine lv_aload_n hx hb dX2_inner_46 rfl (lv_at hl 5 rfl) ?_
        refine va_get (D := (dC, dI)) (ci := 2) (v := .ref h2) (C := RX2) (T := TX2) (N := 4) hx hb hts in_X2 hown hK hP 0 rfl rfl 2 (by decide) (hts _ q96) (fun _ h9 => h9) rfl dX2_inner_47 ?_
        refine lv_iload hx hb dX2_inner_50 (lv_at hl 1 rfl) ?_
        refine bd_iald (f := g2) (i := i) hx hb hK hP 2 1 rfl rfl (by omega) (by decide) dX2_inner_52 ?_
        refine lv_aload_n hx hb dX2_inner_53 rfl (lv_at hl 5 rfl) ?_
        refine lv_iload hx hb dX2_inner_54 (lv_at hl 1 rfl) ?_
        refine bd_callVi (As := [.int (nI i)]) (rest := [.int (nI (g2 i))]) (wc := [bd_Md h0 h1 h2 h3 n, bd_Ar h1 d1 5 f]) (wr := [bd_Ar h2 d2 5 g2]) (w2 := fun _ => [bd_Md h0 h1 h2 h3 n, bd_Ar h1 d1 5 f, bd_Ar h2 d2 5 g2]) (ci := 2) (q0 := 0) (C := RX2) (T := TX2) (N := 4) ⟨hx, hb, hml, hown, hts⟩ (bd_c_shape l dC dI h0 h1 h2 h3 d1 n f i _ hn5 (by omega)) (cwV 1 hts (lw_V q121 q123 qs2 q6 q124) rfl rfl rfl (by decide +kernel) hR) hK hP hD hS hA [0, 1] [2] [0] [1, 2, 0] rfl (by decide) rfl (by decide) (by decide) rfl (fun _ => rfl) (by decide) rfl rfl rfl hl.1 rfl (Nat.le_of_ble_eq_true rfl) dX2_inner_56 hf (fun r u H locs hw hP hD hS => ?_)
        have hw : r = nI (bd_sh n f i) := hw
        subst hw
        refine bd_icmp_gt (tgt := 90) hx hb dX2_inner_59 (by decide) (by omega) (by omega) (fun c3 => ?_) (fun c3 => ?_)
        · refine lv_iconst (v := nI 0) hx hb dX2_inner_90 (by decide) ?_
          refine lv_istore (lv' := [(4, .int (nI 0)), (3, .int (nI (x / 6))), (5, .int (nI i)), (2, .int (nI t)), (1, .int (nI c0)), (0, .ref h0)]) hx hb dX2_inner_91 hl (by decide) rfl (fun ls hl => ?_)
          refine lv_iinc (v := nI (i + 1)) (lv' := [(5, .int (nI (i + 1))), (4, .int (nI 0)), (3, .int (nI (x / 6))), (2, .int (nI t)), (1, .int (nI c0)), (0, .ref h0)]) hx hb dX2_inner_93 hl (k := 2) rfl (bd_inc _) (by decide) rfl (fun ls hl => ?_)
          refine lv_goto (tgt := 19) hx hb dX2_inner_96 (by decide) ?_
          exact ih (i + 1) (x / 6) (0) g2 H locs ls (by omega) (by omega) (by rw [hx0]; exact bd_dg_next t i) (bd_ft_no2 (by omega)) hgq hP hD hS (lv_sub hl [0, 1, 2, 3, 4, 5] rfl)
        · refine lv_iload hx hb dX2_inner_62 (lv_at hl 1 rfl) ?_
          refine bd_if_eq (tgt := 86) hx hb dX2_inner_64 (by decide) (by omega) (fun c4 => ?_) (fun c4 => ?_)
          · refine lv_iconst (v := nI 1) hx hb dX2_inner_86 (by decide) ?_
            refine lv_goto (tgt := 91) hx hb dX2_inner_87 (by decide) ?_
            refine lv_istore (lv' := [(4, .int (nI 1)), (3, .int (nI (x / 6))), (5, .int (nI i)), (2, .int (nI t)), (1, .int (nI c0)), (0, .ref h0)]) hx hb dX2_inner_91 hl (by decide) rfl (fun ls hl => ?_)
            refine lv_iinc (v := nI (i + 1)) (lv' := [(5, .int (nI (i + 1))), (4, .int (nI 1)), (3, .int (nI (x / 6))), (2, .int (nI t)), (1, .int (nI c0)), (0, .ref h0)]) hx hb dX2_inner_93 hl (k := 2) rfl (bd_inc _) (by decide) rfl (fun ls hl => ?_)
            refine lv_goto (tgt := 19) hx hb dX2_inner_96 (by decide) ?_
            exact ih (i + 1) (x / 6) (1) g2 H locs ls (by omega) (by omega) (by rw [hx0]; exact bd_dg_next t i) (bd_ft_yes hft c2 (by omega) (Or.inl c4)) hgq hP hD hS (lv_sub hl [0, 1, 2, 3, 4, 5] rfl)
          · have hgj := hgq (i - 1) (by omega)
            refine lv_aload_n hx hb dX2_inner_67 rfl (lv_at hl 5 rfl) ?_
            refine va_get (D := (dC, dI)) (ci := 2) (v := .ref h2) (C := RX2) (T := TX2) (N := 4) hx hb hts in_X2 hown hK hP 0 rfl rfl 2 (by decide) (hts _ q96) (fun _ h9 => h9) rfl dX2_inner_68 ?_
            refine lv_iload hx hb dX2_inner_71 (lv_at hl 1 rfl) ?_
            refine bd_iald (f := g2) (i := i) hx hb hK hP 2 1 rfl rfl (by omega) (by decide) dX2_inner_73 ?_
            refine lv_aload_n hx hb dX2_inner_74 rfl (lv_at hl 5 rfl) ?_
            refine va_get (D := (dC, dI)) (ci := 2) (v := .ref h2) (C := RX2) (T := TX2) (N := 4) hx hb hts in_X2 hown hK hP 0 rfl rfl 2 (by decide) (hts _ q96) (fun _ h9 => h9) rfl dX2_inner_75 ?_
            refine lv_iload hx hb dX2_inner_78 (lv_at hl 1 rfl) ?_
            refine lv_iconst (v := nI 1) hx hb dX2_inner_80 (by decide) ?_
            refine lv_isub hx hb dX2_inner_81 ?_
            refine bd_eqi (y := nI (i - 1)) (pk_sub (by omega)) ?_
            refine bd_iald (f := g2) (i := i - 1) hx hb hK hP 2 1 rfl rfl (by omega) (by decide) dX2_inner_82 ?_
            refine bd_icmp_gt (tgt := 90) hx hb dX2_inner_83 (by decide) (by omega) (by omega) (fun c5 => ?_) (fun c5 => ?_)
            · refine lv_iconst (v := nI 0) hx hb dX2_inner_90 (by decide) ?_
              refine lv_istore (lv' := [(4, .int (nI 0)), (3, .int (nI (x / 6))), (5, .int (nI i)), (2, .int (nI t)), (1, .int (nI c0)), (0, .ref h0)]) hx hb dX2_inner_91 hl (by decide) rfl (fun ls hl => ?_)
              refine lv_iinc (v := nI (i + 1)) (lv' := [(5, .int (nI (i + 1))), (4, .int (nI 0)), (3, .int (nI (x / 6))), (2, .int (nI t)), (1, .int (nI c0)), (0, .ref h0)]) hx hb dX2_inner_93 hl (k := 2) rfl (bd_inc _) (by decide) rfl (fun ls hl => ?_)
              refine lv_goto (tgt := 19) hx hb dX2_inner_96 (by decide) ?_
              exact ih (i + 1) (x / 6) (0) g2 H locs ls (by omega) (by omega) (by rw [hx0]; exact bd_dg_next t i) (bd_ft_no3 c4 (by omega)) hgq hP hD hS (lv_sub hl [0, 1, 2, 3, 4, 5] rfl)
            · refine lv_iconst (v := nI 1) hx hb dX2_inner_86 (by decide) ?_
              refine lv_goto (tgt := 91) hx hb dX2_inner_87 (by decide) ?_
              refine lv_istore (lv' := [(4, .int (nI 1)), (3, .int (nI (x / 6))), (5, .int (nI i)), (2, .int (nI t)), (1, .int (nI c0)), (0, .ref h0)]) hx hb dX2_inner_91 hl (by decide) rfl (fun ls hl => ?_)
              refine lv_iinc (v := nI (i + 1)) (lv' := [(5, .int (nI (i + 1))), (4, .int (nI 1)), (3, .int (nI (x / 6))), (2, .int (nI t)), (1, .int (nI c0)), (0, .ref h0)]) hx hb dX2_inner_93 hl (k := 2) rfl (bd_inc _) (by decide) rfl (fun ls hl => ?_)
              refine lv_goto (tgt := 19) hx hb dX2_inner_96 (by decide) ?_
              exact ih (i + 1) (x / 6) (1) g2 H locs ls (by omega) (by omega) (by rw [hx0]; exact bd_dg_next t i) (bd_ft_yes hft c2 (by omega) (Or.inr (by omega))) hgq hP hD hS (lv_sub hl [0, 1, 2, 3, 4, 5] rfl)
set_option maxHeartbeats 4000000 in
set_option maxRecDepth 100000 in
theorem bd_minner_loop (hx : p.tables.exec = Jvm.exec) (hb : c.code = cX2_inner) (hown : s.vm.findClass RX2 = some m.cls) (hts : ∀ w ∈ lw_all, w.before args s = true) (hml : c.maxLocals = 6) (hA : ∀ q, H0.size ≤ q → A q) (hR : 1 ≤ R.frames ∧ 21 ≤ R.locals) (hf : cells ≤ R.cells ∧ slots ≤ R.slots) {h0 h1 h2 h3 n : Nat} {d1 : ClassId} {f : Nat → Nat} {d2 : ClassId} (hV : bd_V n f) (hK : va_K (dC, dI) vwCl [(d1, .int), (d2, .int)] s) (kk : ∀ (t c0 : Nat) (g : Nat → Nat) (H : Heap) (locs : List Loc) (ls : Array Slot), c0 = bd_ct (bd_sh n f) 7776 → va_P (dC, dI) vwCl [bd_Md h0 h1 h2 h3 n, bd_Ar h1 d1 5 f, bd_Ar h2 d2 5 g] H → va_D A [bd_Md h0 h1 h2 h3 n, bd_Ar h1 d1 5 f, bd_Ar h2 d2 5 g] → va_S A H0 H locs → lv_has ls 6 [(2, .int (nI t)), (1, .int (nI c0)), (0, .ref h0)] → W p l e R s m args below meth c H locs cells slots Q (F0 m 114 ls [])) : ∀ (r t c0 : Nat) (g : Nat → Nat) (H : Heap) (locs : List Loc) (ls : Array Slot), t ≤ 7776 → 7777 ≤ t + r → c0 = bd_ct (bd_sh n f) t → va_P (dC, dI) vwCl [bd_Md h0 h1 h2 h3 n, bd_Ar h1 d1 5 f, bd_Ar h2 d2 5 g] H → va_D A [bd_Md h0 h1 h2 h3 n, bd_Ar h1 d1 5 f, bd_Ar h2 d2 5 g] → va_S A H0 H locs → lv_has ls 6 [(2, .int (nI t)), (1, .int (nI c0)), (0, .ref h0)] → W p l e R s m args below meth c H locs cells slots Q (F0 m 4 ls []) := by
  intro r
  induction r with
  | zero => intro t c0 g H locs ls z1 z2; omega
  | succ r ih =>
    intro t c0 g H locs ls z1 z2 z3 hP hD hS hl
    refine lv_iload_n hx hb dX2_inner_4 rfl (lv_at hl 0 rfl) ?_
    refine lv_sipush (v := nI 7776) hx hb dX2_inner_5 (by decide) ?_
    refine bd_icmp_ge (tgt := 114) hx hb dX2_inner_8 (by decide) (by omega) (by omega) (fun c1 => ?_) (fun c1 => ?_)
    · have he : t = 7776 := by omega
      rw [he] at z3
      exact kk t c0 g H locs ls z3 hP hD hS hl
    · have hct : bd_ct (bd_sh n f) (t + 1) = bd_ct (bd_sh n f) t + (bd_ft (bd_sh n f) t 5).toNat := rfl
      refine lv_iload_n hx hb dX2_inner_11 rfl (lv_at hl 0 rfl) ?_
      refine lv_istore_n (lv' := [(3, .int (nI t)), (2, .int (nI t)), (1, .int (nI c0)), (0, .ref h0)]) hx hb dX2_inner_12 rfl hl (by decide) rfl (fun ls hl => ?_)
      refine lv_iconst (v := nI 1) hx hb dX2_inner_13 (by decide) ?_
      refine lv_istore (lv' := [(4, .int (nI 1)), (3, .int (nI t)), (2, .int (nI t)), (1, .int (nI c0)), (0, .ref h0)]) hx hb dX2_inner_14 hl (by decide) rfl (fun ls hl => ?_)
      refine lv_iconst (v := nI 0) hx hb dX2_inner_16 (by decide) ?_
      refine lv_istore (lv' := [(5, .int (nI 0)), (4, .int (nI 1)), (3, .int (nI t)), (2, .int (nI t)), (1, .int (nI c0)), (0, .ref h0)]) hx hb dX2_inner_17 hl (by decide) rfl (fun ls hl => ?_)
      refine bd_idig hx hb hown hts hml hA hR hf hV c1 hK (fun i x ft g H locs ls hft z4 hP hD hS hl => ?_) 6 0 t 1 g H locs ls (Nat.zero_le _) (by omega) (by rw [Nat.pow_zero, Nat.div_one]) rfl (fun q hq => absurd hq (by omega)) hP hD hS (lv_sub hl [0, 1, 2, 3, 4, 5] rfl)
      have hft1 : ft ≤ 1 := by rw [hft]; exact Bool.toNat_le _
      refine lv_iload hx hb dX2_inner_99 (lv_at hl 1 rfl) ?_
      refine bd_if_eq (tgt := 108) hx hb dX2_inner_101 (by decide) (by omega) (fun c2 => ?_) (fun c2 => ?_)
      · refine lv_iinc (v := nI (t + 1)) (lv' := [(2, .int (nI (t + 1))), (5, .int (nI i)), (4, .int (nI ft)), (3, .int (nI x)), (1, .int (nI c0)), (0, .ref h0)]) hx hb dX2_inner_108 hl (k := 3) rfl (bd_inc _) (by decide) rfl (fun ls hl => ?_)
        refine lv_goto (tgt := 4) hx hb dX2_inner_111 (by decide) ?_
        exact ih (t + 1) c0 g H locs ls (by omega) (by omega) (by rw [hct, ← hft, c2]; exact z3) hP hD hS (lv_sub hl [0, 4, 5] rfl)
      · refine lv_iload_n hx hb dX2_inner_104 rfl (lv_at hl 4 rfl) ?_
        refine lv_iconst (v := nI 1) hx hb dX2_inner_105 (by decide) ?_
        refine lv_iadd hx hb dX2_inner_106 ?_
        refine bd_eqi (y := nI (c0 + 1)) (nI_add _ _) ?_
        refine lv_istore_n (lv' := [(1, .int (nI (c0 + 1))), (5, .int (nI i)), (4, .int (nI ft)), (3, .int (nI x)), (2, .int (nI t)), (0, .ref h0)]) hx hb dX2_inner_107 rfl hl (by decide) rfl (fun ls hl => ?_)
        refine lv_iinc (v := nI (t + 1)) (lv' := [(2, .int (nI (t + 1))), (1, .int (nI (c0 + 1))), (5, .int (nI i)), (4, .int (nI ft)), (3, .int (nI x)), (0, .ref h0)]) hx hb dX2_inner_108 hl (k := 4) rfl (bd_inc _) (by decide) rfl (fun ls hl => ?_)
        refine lv_goto (tgt := 4) hx hb dX2_inner_111 (by decide) ?_
        exact ih (t + 1) (c0 + 1) g H locs ls (by omega) (by omega) (by rw [hct, ← hft]; omega) hP hD hS (lv_sub hl [0, 1, 5] rfl)
end MI
set_option maxHeartbeats 4000000 in
set_option maxRecDepth 100000 in
/-- inner() -/
theorem bd_c_minner (l : Launch) (dC : Nat → ClassId) (dI : Nat → Nat → Nat) (h0 h1 h2 h3 : Nat) (d1 d2 : ClassId) (n : Nat) (f g : Nat → Nat) (sz : Nat) (hV : bd_V n f) : Met l yX2_inner (ws_ yX2_inner cX2_inner 6 (some .int)) { frames := 1, cells := 0, slots := 0, locals := 21 } (va_Pc [.ref h0] (bd_pW dC dI sz [bd_Md h0 h1 h2 h3 n, bd_Ar h1 d1 5 f, bd_Ar h2 d2 5 g] [(d1, .int), (d2, .int)])) (va_Qi (fun (r : Int32) (u : Nat → Nat) => r = nI (bd_ct (bd_sh n f) 7776)) (fun (u : Nat → Nat) t => bd_bW dC dI (va_A [bd_Md h0 h1 h2 h3 n, bd_Ar h1 d1 5 f, bd_Ar h2 d2 5 g] sz) [bd_Md h0 h1 h2 h3 n, bd_Ar h1 d1 5 f, bd_Ar h2 d2 5 u] [(d1, .int), (d2, .int)] t) (va_A [bd_Md h0 h1 h2 h3 n, bd_Ar h1 d1 5 f, bd_Ar h2 d2 5 g] sz)) 0 0 (va_A [bd_Md h0 h1 h2 h3 n, bd_Ar h1 d1 5 f, bd_Ar h2 d2 5 g] sz) := by
  refine bd_met0 (Qc := fun A => va_Qi (fun (r : Int32) (u : Nat → Nat) => r = nI (bd_ct (bd_sh n f) 7776)) (fun (u : Nat → Nat) t => bd_bW dC dI A [bd_Md h0 h1 h2 h3 n, bd_Ar h1 d1 5 f, bd_Ar h2 d2 5 u] [(d1, .int), (d2, .int)] t) A) (by decide) (Nat.le_of_ble_eq_true rfl) ?_
  intro p e s m below meth c ls A hx hb hr hml hown hlocks hnm hts hA hP hD hS hK hl
  have hl : lv_has ls 6 [(0, .ref h0)] := hl
  refine lv_iconst (v := nI 0) hx hb dX2_inner_0 (by decide) ?_
  refine lv_istore_n (lv' := [(1, .int (nI 0)), (0, .ref h0)]) hx hb dX2_inner_1 rfl hl (by decide) rfl (fun ls hl => ?_)
  refine lv_iconst (v := nI 0) hx hb dX2_inner_2 (by decide) ?_
  refine lv_istore_n (lv' := [(2, .int (nI 0)), (1, .int (nI 0)), (0, .ref h0)]) hx hb dX2_inner_3 rfl hl (by decide) rfl (fun ls hl => ?_)
  refine bd_minner_loop hx hb hown hts hml hA ⟨Nat.le_of_ble_eq_true rfl, Nat.le_of_ble_eq_true rfl⟩ ⟨Nat.zero_le _, Nat.zero_le _⟩ hV hK (fun t c0 g H locs ls z3 hP hD hS hl => ?_) 7777 0 0 g s.heap [] ls (Nat.zero_le _) (by omega) rfl hP hD hS hl
  refine lv_iload_n hx hb dX2_inner_114 rfl (lv_at hl 1 rfl) ?_
  exact bd_iret hx hb hr hlocks g (by rw [z3]) hP hK hD hS dX2_inner_115
section MO
variable {p : Program} {l : Launch} {e : Env} {R : Room} {s : State} {m : MethodId} {args : Array Value} {below : List Frame} {meth : Method} {c : Code} {cells slots : Nat} {Q : State → Prop} {dC : Nat → ClassId} {dI : Nat → Nat → Nat} {A : Nat → Prop} {H0 : Heap}
set_option maxHeartbeats 4000000 in
set_option maxRecDepth 100000 in
theorem bd_odig (hx : p.tables.exec = Jvm.exec) (hb : c.code = cX2_orders) (hown : s.vm.findClass RX2 = some m.cls) (hts : ∀ w ∈ lw_all, w.before args s = true) (hml : c.maxLocals = 6) (hA : ∀ q, H0.size ≤ q → A q) (hR : 1 ≤ R.frames ∧ 21 ≤ R.locals) (hf : cells ≤ R.cells ∧ slots ≤ R.slots) {h0 h1 h2 h3 n : Nat} {d1 : ClassId} {f : Nat → Nat} {d2 : ClassId} {d3 : ClassId} {w : Nat → Nat} {t : Nat} (hV : bd_V n f) (ht : t < 7776) (hK : va_K (dC, dI) vwCl [(d1, .int), (d2, .int), (d3, .long)] s) (kk : ∀ (i x ft : Nat) (g : Nat → Nat) (H : Heap) (locs : List Loc) (ls : Array Slot), ft = (bd_ft (bd_sh n f) t 5).toNat → (∀ q, q < 5 → g q = bd_dg t q) → va_P (dC, dI) vwCl [bd_Md h0 h1 h2 h3 n, bd_Ar h1 d1 5 f, bd_Ar h2 d2 5 g, bd_Lr h3 d3 7776 w] H → va_D A [bd_Md h0 h1 h2 h3 n, bd_Ar h1 d1 5 f, bd_Ar h2 d2 5 g, bd_Lr h3 d3 7776 w] → va_S A H0 H locs → lv_has ls 6 [(4, .int (nI i)), (3, .int (nI ft)), (2, .int (nI x)), (1, .int (nI t)), (0, .ref h0)] → W p l e R s m args below meth c H locs cells slots Q (F0 m 94 ls [])) : ∀ (r i x ft : Nat) (g : Nat → Nat) (H : Heap) (locs : List Loc) (ls : Array Slot), i ≤ 5 → 6 ≤ i + r → x = t / 6 ^ i → ft = (bd_ft (bd_sh n f) t i).toNat → (∀ q, q < i → g q = bd_dg t q) → va_P (dC, dI) vwCl [bd_Md h0 h1 h2 h3 n, bd_Ar h1 d1 5 f, bd_Ar h2 d2 5 g, bd_Lr h3 d3 7776 w] H → va_D A [bd_Md h0 h1 h2 h3 n, bd_Ar h1 d1 5 f, bd_Ar h2 d2 5 g, bd_Lr h3 d3 7776 w] → va_S A H0 H locs → lv_has ls 6 [(4, .int (nI i)), (3, .int (nI ft)), (2, .int (nI x)), (1, .int (nI t)), (0, .ref h0)] → W p l e R s m args below meth c H locs cells slots Q (F0 m 16 ls []) := by
  have hn5 := hV.1
  intro r
  induction r with
  | zero => intro i x ft g H locs ls z1 z2; omega
  | succ r ih =>
    intro i x ft g H locs ls z1 z2 hx0 hft z3 hP hD hS hl
    have hxt : x ≤ t := by rw [hx0]; exact Nat.div_le_self _ _
    have hx6 : x % 6 < 6 := Nat.mod_lt _ (by decide)
    have hft1 : ft ≤ 1 := by rw [hft]; exact Bool.toNat_le _
    refine lv_iload hx hb dX2_orders_16 (lv_at hl 0 rfl) ?_
    refine lv_iconst (v := nI 5) hx hb dX2_orders_18 (by decide) ?_
    refine bd_icmp_ge (tgt := 94) hx hb dX2_orders_19 (by decide) (by omega) (by omega) (fun c1 => ?_) (fun c1 => ?_)
    · have he : i = 5 := by omega
      rw [he] at hft z3
      exact kk i x ft g H locs ls hft z3 hP hD hS hl
    · have hs5 := hV.sh5 i
      have hdg := bd_dg_lt t i
      have hdg1 := bd_dg_lt t (i - 1)
      refine lv_aload_n hx hb dX2_orders_22 rfl (lv_at hl 4 rfl) ?_
      refine va_get (D := (dC, dI)) (ci := 2) (v := .ref h2) (C := RX2) (T := TX2) (N := 4) hx hb hts in_X2 hown hK hP 0 rfl rfl 2 (by decide) (hts _ q96) (fun _ h9 => h9) rfl dX2_orders_23 ?_
      refine lv_iload hx hb dX2_orders_26 (lv_at hl 0 rfl) ?_
      refine lv_iload_n hx hb dX2_orders_28 rfl (lv_at hl 2 rfl) ?_
      refine lv_bipush (v := nI 6) hx hb dX2_orders_29 (by decide) ?_
      refine lv_irem hx hb dX2_orders_31 (by decide) ?_
      refine bd_eqi (y := nI (x % 6)) (pk_rem (by omega) (by omega) (by omega)) ?_
      refine bd_iast (f := g) (i := i) (v := x % 6) hx hb hK hP hD hS 2 1 rfl rfl (by omega) (by decide) dX2_orders_32 (fun H locs hP hD hS => ?_)
      have hP : va_P (dC, dI) vwCl [bd_Md h0 h1 h2 h3 n, bd_Ar h1 d1 5 f, bd_Ar h2 d2 5 (bd_up g i (x % 6)), bd_Lr h3 d3 7776 w] H := hP
      have hD : va_D A [bd_Md h0 h1 h2 h3 n, bd_Ar h1 d1 5 f, bd_Ar h2 d2 5 (bd_up g i (x % 6)), bd_Lr h3 d3 7776 w] := hD
      generalize hg2 : bd_up g i (x % 6) = g2 at hP hD
      have hgq : ∀ q, q < i + 1 → g2 q = bd_dg t q := by
        intro q hq
        rw [← hg2]
        by_cases hqi : q = i
        · rw [hqi, bd_up_s, hx0]; rfl
        · rw [bd_up_n _ _ hqi]; exact z3 q (by omega)
      have hgi := hgq i (by omega)
      refine lv_iload_n hx hb dX2_orders_33 rfl (lv_at hl 2 rfl) ?_
      refine lv_bipush (v := nI 6) hx hb dX2_orders_34 (by decide) ?_
      refine lv_idiv hx hb dX2_orders_36 (by decide) ?_
      refine bd_eqi (y := nI (x / 6)) (pk_div (by omega) (by omega) (by omega)) ?_
      refine lv_istore_n (lv' := [(2, .int (nI (x / 6))), (4, .int (nI i)), (3, .int (nI ft)), (1, .int (nI t)), (0, .ref h0)]) hx hb dX2_orders_37 rfl hl (by decide) rfl (fun ls hl => ?_)
      refine lv_iload_n hx hb dX2_orders_38 rfl (lv_at hl 2 rfl) ?_
      refine bd_if_eq (tgt := 86) hx hb dX2_orders_39 (by decide) (by omega) (fun c2 => ?_) (fun c2 => ?_)
      · refine lv_iconst (v := nI 0) hx hb dX2_orders_86 (by decide) ?_
        refine lv_istore_n (lv' := [(3, .int (nI 0)), (2, .int (nI (x / 6))), (4, .int (nI i)), (1, .int (nI t)), (0, .ref h0)]) hx hb dX2_orders_87 rfl hl (by decide) rfl (fun ls hl => ?_)
        refine lv_iinc (v := nI (i + 1)) (lv' := [(4, .int (nI (i + 1))), (3, .int (nI 0)), (2, .int (nI (x / 6))), (1, .int (nI t)), (0, .ref h0)]) hx hb dX2_orders_88 hl (k := 2) rfl (bd_inc _) (by decide) rfl (fun ls hl => ?_)
        refine lv_goto (tgt := 16) hx hb dX2_orders_91 (by decide) ?_
        exact ih (i + 1) (x / 6) (0) g2 H locs ls (by omega) (by omega) (by rw [hx0]; exact bd_dg_next t i) (bd_ft_no1 hft c2) hgq hP hD hS (lv_sub hl [0, 1, 2, 3, 4] rfl)
      · refine lv_aload_n hx hb dX2_orders_42 rfl (lv_at hl 4 rfl) ?_
        refine va_get (D := (dC, dI)) (ci := 2) (v := .ref h2) (C := RX2) (T := TX2) (N := 4) hx hb hts in_X2 hown hK hP 0 rfl rfl 2 (by decide) (hts _ q96) (fun _ h9 => h9) rfl dX2_orders_43 ?_
        refine lv_iload hx hb dX2_orders_46 (lv_at hl 1 rfl) ?_
        refine bd_iald (f := g2) (i := i) hx hb hK hP 2 1 rfl rfl (by omega) (by decide) dX2_orders_48 ?_
        refine lv_aload_n hx hb dX2_orders_49 rfl (lv_at hl 4 rfl) ?_
        refine lv_iload hx hb dX2_orders_50 (lv_at hl 1 rfl) ?_
        refine bd_callVi (As := [.int (nI i)]) (rest := [.int (nI (g2 i))]) (wc := [bd_Md h0 h1 h2 h3 n, bd_Ar h1 d1 5 f]) (wr := [bd_Ar h2 d2 5 g2, bd_Lr h3 d3 7776 w]) (w2 := fun _ => [bd_Md h0 h1 h2 h3 n, bd_Ar h1 d1 5 f, bd_Ar h2 d2 5 g2, bd_Lr h3 d3 7776 w]) (ci := 2) (q0 := 0) (C := RX2) (T := TX2) (N := 4) ⟨hx, hb, hml, hown, hts⟩ (bd_c_shape l dC dI h0 h1 h2 h3 d1 n f i _ hn5 (by omega)) (cwV 1 hts (lw_V q121 q123 qs2 q6 q124) rfl rfl rfl (by decide +kernel) hR) hK hP hD hS hA [0, 1] [2, 3] [0] [2, 3, 0, 1] rfl (by decide) rfl (by decide) (by decide) rfl (fun _ => rfl) (by decide) rfl rfl rfl hl.1 rfl (Nat.le_of_ble_eq_true rfl) dX2_orders_52 hf (fun r u H locs hw hP hD hS => ?_)
        have hw : r = nI (bd_sh n f i) := hw
        subst hw
        refine bd_icmp_gt (tgt := 86) hx hb dX2_orders_55 (by decide) (by omega) (by omega) (fun c3 => ?_) (fun c3 => ?_)
        · refine lv_iconst (v := nI 0) hx hb dX2_orders_86 (by decide) ?_
          refine lv_istore_n (lv' := [(3, .int (nI 0)), (2, .int (nI (x / 6))), (4, .int (nI i)), (1, .int (nI t)), (0, .ref h0)]) hx hb dX2_orders_87 rfl hl (by decide) rfl (fun ls hl => ?_)
          refine lv_iinc (v := nI (i + 1)) (lv' := [(4, .int (nI (i + 1))), (3, .int (nI 0)), (2, .int (nI (x / 6))), (1, .int (nI t)), (0, .ref h0)]) hx hb dX2_orders_88 hl (k := 2) rfl (bd_inc _) (by decide) rfl (fun ls hl => ?_)
          refine lv_goto (tgt := 16) hx hb dX2_orders_91 (by decide) ?_
          exact ih (i + 1) (x / 6) (0) g2 H locs ls (by omega) (by omega) (by rw [hx0]; exact bd_dg_next t i) (bd_ft_no2 (by omega)) hgq hP hD hS (lv_sub hl [0, 1, 2, 3, 4] rfl)
        · refine lv_iload hx hb dX2_orders_58 (lv_at hl 1 rfl) ?_
          refine bd_if_eq (tgt := 82) hx hb dX2_orders_60 (by decide) (by omega) (fun c4 => ?_) (fun c4 => ?_)
          · refine lv_iconst (v := nI 1) hx hb dX2_orders_82 (by decide) ?_
            refine lv_goto (tgt := 87) hx hb dX2_orders_83 (by decide) ?_
            refine lv_istore_n (lv' := [(3, .int (nI 1)), (2, .int (nI (x / 6))), (4, .int (nI i)), (1, .int (nI t)), (0, .ref h0)]) hx hb dX2_orders_87 rfl hl (by decide) rfl (fun ls hl => ?_)
            refine lv_iinc (v := nI (i + 1)) (lv' := [(4, .int (nI (i + 1))), (3, .int (nI 1)), (2, .int (nI (x / 6))), (1, .int (nI t)), (0, .ref h0)]) hx hb dX2_orders_88 hl (k := 2) rfl (bd_inc _) (by decide) rfl (fun ls hl => ?_)
            refine lv_goto (tgt := 16) hx hb dX2_orders_91 (by decide) ?_
            exact ih (i + 1) (x / 6) (1) g2 H locs ls (by omega) (by omega) (by rw [hx0]; exact bd_dg_next t i) (bd_ft_yes hft c2 (by omega) (Or.inl c4)) hgq hP hD hS (lv_sub hl [0, 1, 2, 3, 4] rfl)
          · have hgj := hgq (i - 1) (by omega)
            refine lv_aload_n hx hb dX2_orders_63 rfl (lv_at hl 4 rfl) ?_
            refine va_get (D := (dC, dI)) (ci := 2) (v := .ref h2) (C := RX2) (T := TX2) (N := 4) hx hb hts in_X2 hown hK hP 0 rfl rfl 2 (by decide) (hts _ q96) (fun _ h9 => h9) rfl dX2_orders_64 ?_
            refine lv_iload hx hb dX2_orders_67 (lv_at hl 1 rfl) ?_
            refine bd_iald (f := g2) (i := i) hx hb hK hP 2 1 rfl rfl (by omega) (by decide) dX2_orders_69 ?_
            refine lv_aload_n hx hb dX2_orders_70 rfl (lv_at hl 4 rfl) ?_
            refine va_get (D := (dC, dI)) (ci := 2) (v := .ref h2) (C := RX2) (T := TX2) (N := 4) hx hb hts in_X2 hown hK hP 0 rfl rfl 2 (by decide) (hts _ q96) (fun _ h9 => h9) rfl dX2_orders_71 ?_
            refine lv_iload hx hb dX2_orders_74 (lv_at hl 1 rfl) ?_
            refine lv_iconst (v := nI 1) hx hb dX2_orders_76 (by decide) ?_
            refine lv_isub hx hb dX2_orders_77 ?_
            refine bd_eqi (y := nI (i - 1)) (pk_sub (by omega)) ?_
            refine bd_iald (f := g2) (i := i - 1) hx hb hK hP 2 1 rfl rfl (by omega) (by decide) dX2_orders_78 ?_
            refine bd_icmp_gt (tgt := 86) hx hb dX2_orders_79 (by decide) (by omega) (by omega) (fun c5 => ?_) (fun c5 => ?_)
            · refine lv_iconst (v := nI 0) hx hb dX2_orders_86 (by decide) ?_
              refine lv_istore_n (lv' := [(3, .int (nI 0)), (2, .int (nI (x / 6))), (4, .int (nI i)), (1, .int (nI t)), (0, .ref h0)]) hx hb dX2_orders_87 rfl hl (by decide) rfl (fun ls hl => ?_)
              refine lv_iinc (v := nI (i + 1)) (lv' := [(4, .int (nI (i + 1))), (3, .int (nI 0)), (2, .int (nI (x / 6))), (1, .int (nI t)), (0, .ref h0)]) hx hb dX2_orders_88 hl (k := 2) rfl (bd_inc _) (by decide) rfl (fun ls hl => ?_)
              refine lv_goto (tgt := 16) hx hb dX2_orders_91 (by decide) ?_
              exact ih (i + 1) (x / 6) (0) g2 H locs ls (by omega) (by omega) (by rw [hx0]; exact bd_dg_next t i) (bd_ft_no3 c4 (by omega)) hgq hP hD hS (lv_sub hl [0, 1, 2, 3, 4] rfl)
            · refine lv_iconst (v := nI 1) hx hb dX2_orders_82 (by decide) ?_
              refine lv_goto (tgt := 87) hx hb dX2_orders_83 (by decide) ?_
              refine lv_istore_n (lv' := [(3, .int (nI 1)), (2, .int (nI (x / 6))), (4, .int (nI i)), (1, .int (nI t)), (0, .ref h0)]) hx hb dX2_orders_87 rfl hl (by decide) rfl (fun ls hl => ?_)
              refine lv_iinc (v := nI (i + 1)) (lv' := [(4, .int (nI (i + 1))), (3, .int (nI 1)), (2, .int (nI (x / 6))), (1, .int (nI t)), (0, .ref h0)]) hx hb dX2_orders_88 hl (k := 2) rfl (bd_inc _) (by decide) rfl (fun ls hl => ?_)
              refine lv_goto (tgt := 16) hx hb dX2_orders_91 (by decide) ?_
              exact ih (i + 1) (x / 6) (1) g2 H locs ls (by omega) (by omega) (by rw [hx0]; exact bd_dg_next t i) (bd_ft_yes hft c2 (by omega) (Or.inr (by omega))) hgq hP hD hS (lv_sub hl [0, 1, 2, 3, 4] rfl)
set_option maxHeartbeats 4000000 in
set_option maxRecDepth 100000 in
theorem bd_ocor (hx : p.tables.exec = Jvm.exec) (hb : c.code = cX2_orders) (hown : s.vm.findClass RX2 = some m.cls) (hts : ∀ w ∈ lw_all, w.before args s = true) {h0 h1 h2 h3 n : Nat} {d1 : ClassId} {f : Nat → Nat} {d2 : ClassId} {d3 : ClassId} {t : Nat} {g : Nat → Nat} (hV : bd_V n f) (ht : t < 7776) (hg : ∀ q, q < 5 → g q = bd_dg t q) (hK : va_K (dC, dI) vwCl [(d1, .int), (d2, .int), (d3, .long)] s) (kk : ∀ (i p6 : Nat) (w : Nat → Nat) (H : Heap) (locs : List Loc) (ls : Array Slot), (∀ q, q < t → w q = bd_w (bd_sh n f) q) → w t = bd_cs (bd_w (bd_sh n f)) t 5 → va_P (dC, dI) vwCl [bd_Md h0 h1 h2 h3 n, bd_Ar h1 d1 5 f, bd_Ar h2 d2 5 g, bd_Lr h3 d3 7776 w] H → va_D A [bd_Md h0 h1 h2 h3 n, bd_Ar h1 d1 5 f, bd_Ar h2 d2 5 g, bd_Lr h3 d3 7776 w] → va_S A H0 H locs → lv_has ls 6 [(5, .int (nI i)), (4, .int (nI p6)), (1, .int (nI t)), (0, .ref h0)] → W p l e R s m args below meth c H locs cells slots Q (F0 m 199 ls [])) : ∀ (r i p6 : Nat) (w : Nat → Nat) (H : Heap) (locs : List Loc) (ls : Array Slot), i ≤ 5 → 6 ≤ i + r → p6 = 6 ^ i → (∀ q, q < t → w q = bd_w (bd_sh n f) q) → w t = bd_cs (bd_w (bd_sh n f)) t i → va_P (dC, dI) vwCl [bd_Md h0 h1 h2 h3 n, bd_Ar h1 d1 5 f, bd_Ar h2 d2 5 g, bd_Lr h3 d3 7776 w] H → va_D A [bd_Md h0 h1 h2 h3 n, bd_Ar h1 d1 5 f, bd_Ar h2 d2 5 g, bd_Lr h3 d3 7776 w] → va_S A H0 H locs → lv_has ls 6 [(5, .int (nI i)), (4, .int (nI p6)), (1, .int (nI t)), (0, .ref h0)] → W p l e R s m args below meth c H locs cells slots Q (F0 m 123 ls []) := by
  intro r
  induction r with
  | zero => intro i p6 w H locs ls z1 z2; omega
  | succ r ih =>
    intro i p6 w H locs ls z1 z2 hp6 z3 z4 hP hD hS hl
    refine lv_iload hx hb dX2_orders_123 (lv_at hl 0 rfl) ?_
    refine lv_iconst (v := nI 5) hx hb dX2_orders_125 (by decide) ?_
    refine bd_icmp_ge (tgt := 199) hx hb dX2_orders_126 (by decide) (by omega) (by omega) (fun c1 => ?_) (fun c1 => ?_)
    · have he : i = 5 := by omega
      rw [he] at z4
      exact kk i p6 w H locs ls z3 z4 hP hD hS hl
    · have hgi := hg i (by omega)
      have hdg := bd_dg_lt t i
      have hdg1 := bd_dg_lt t (i + 1)
      have hcs : bd_cs (bd_w (bd_sh n f)) t (i + 1) = bd_cs (bd_w (bd_sh n f)) t i + (if bd_co t i then bd_w (bd_sh n f) (t - 6 ^ i) else 0) := rfl
      have hp7 : p6 * 6 = 6 ^ (i + 1) := by rw [hp6, Nat.pow_succ]
      refine lv_aload_n hx hb dX2_orders_129 rfl (lv_at hl 3 rfl) ?_
      refine va_get (D := (dC, dI)) (ci := 2) (v := .ref h2) (C := RX2) (T := TX2) (N := 4) hx hb hts in_X2 hown hK hP 0 rfl rfl 2 (by decide) (hts _ q96) (fun _ h9 => h9) rfl dX2_orders_130 ?_
      refine lv_iload hx hb dX2_orders_133 (lv_at hl 0 rfl) ?_
      refine bd_iald (f := g) (i := i) hx hb hK hP 2 1 rfl rfl (by omega) (by decide) dX2_orders_135 ?_
      refine bd_if_le (tgt := 186) hx hb dX2_orders_136 (by decide) (by omega) (fun c2 => ?_) (fun c2 => ?_)
      · refine lv_iload hx hb dX2_orders_186 (lv_at hl 1 rfl) ?_
        refine lv_bipush (v := nI 6) hx hb dX2_orders_188 (by decide) ?_
        refine lv_imul hx hb dX2_orders_190 ?_
        refine bd_eqi (y := nI (p6 * 6)) (pk_mul _ _) ?_
        refine lv_istore (lv' := [(4, .int (nI (p6 * 6))), (5, .int (nI i)), (1, .int (nI t)), (0, .ref h0)]) hx hb dX2_orders_191 hl (by decide) rfl (fun ls hl => ?_)
        refine lv_iinc (v := nI (i + 1)) (lv' := [(5, .int (nI (i + 1))), (4, .int (nI (p6 * 6))), (1, .int (nI t)), (0, .ref h0)]) hx hb dX2_orders_193 hl (k := 1) rfl (bd_inc _) (by decide) rfl (fun ls hl => ?_)
        refine lv_goto (tgt := 123) hx hb dX2_orders_196 (by decide) ?_
        exact ih (i + 1) (p6 * 6) w H locs ls (by omega) (by omega) hp7 z3 (by rw [hcs, z4, if_neg (bd_co_no (Or.inl (by omega)))]; rfl) hP hD hS (lv_sub hl [0, 1, 2, 3] rfl)
      · refine lv_iload hx hb dX2_orders_139 (lv_at hl 0 rfl) ?_
        refine lv_iconst (v := nI 4) hx hb dX2_orders_141 (by decide) ?_
        refine bd_icmp_eq (tgt := 164) hx hb dX2_orders_142 (by decide) (by omega) (by omega) (fun c3 => ?_) (fun c3 => ?_)
        · have hpt : p6 ≤ t := by rw [hp6]; exact bd_dg_pos (by omega)
          have hp1 : 0 < p6 := by rw [hp6]; exact Nat.pow_pos (by decide)
          refine lv_aload_n hx hb dX2_orders_164 rfl (lv_at hl 3 rfl) ?_
          refine va_get (D := (dC, dI)) (ci := 2) (v := .ref h3) (C := RX2) (T := TX2) (N := 4) hx hb hts in_X2 hown hK hP 0 rfl rfl 3 (by decide) (hts _ q97) (fun _ h9 => h9) rfl dX2_orders_165 ?_
          refine lv_iload_n hx hb dX2_orders_168 rfl (lv_at hl 2 rfl) ?_
          refine lv_aload_n hx hb dX2_orders_169 rfl (lv_at hl 3 rfl) ?_
          refine va_get (D := (dC, dI)) (ci := 2) (v := .ref h3) (C := RX2) (T := TX2) (N := 4) hx hb hts in_X2 hown hK hP 0 rfl rfl 3 (by decide) (hts _ q97) (fun _ h9 => h9) rfl dX2_orders_170 ?_
          refine lv_iload_n hx hb dX2_orders_173 rfl (lv_at hl 2 rfl) ?_
          refine bd_lald (f := w) (i := t) hx hb hK hP 3 2 rfl rfl (by omega) (by decide) dX2_orders_174 ?_
          refine lv_aload_n hx hb dX2_orders_175 rfl (lv_at hl 3 rfl) ?_
          refine va_get (D := (dC, dI)) (ci := 2) (v := .ref h3) (C := RX2) (T := TX2) (N := 4) hx hb hts in_X2 hown hK hP 0 rfl rfl 3 (by decide) (hts _ q97) (fun _ h9 => h9) rfl dX2_orders_176 ?_
          refine lv_iload_n hx hb dX2_orders_179 rfl (lv_at hl 2 rfl) ?_
          refine lv_iload hx hb dX2_orders_180 (lv_at hl 1 rfl) ?_
          refine lv_isub hx hb dX2_orders_182 ?_
          refine bd_eqi (y := nI (t - p6)) (pk_sub (by omega)) ?_
          refine bd_lald (f := w) (i := t - p6) hx hb hK hP 3 2 rfl rfl (by omega) (by decide) dX2_orders_183 ?_
          refine lv_ladd hx hb dX2_orders_184 ?_
          refine bd_eql (y := lN ((w t) + (w (t - p6)))) (lN_add _ _) ?_
          refine bd_last (f := w) (i := t) (v := (w t) + (w (t - p6))) hx hb hK hP hD hS 3 2 rfl rfl (by omega) (by decide) dX2_orders_185 (fun H locs hP hD hS => ?_)
          have hP : va_P (dC, dI) vwCl [bd_Md h0 h1 h2 h3 n, bd_Ar h1 d1 5 f, bd_Ar h2 d2 5 g, bd_Lr h3 d3 7776 (bd_up w t ((w t) + (w (t - p6))))] H := hP
          have hD : va_D A [bd_Md h0 h1 h2 h3 n, bd_Ar h1 d1 5 f, bd_Ar h2 d2 5 g, bd_Lr h3 d3 7776 (bd_up w t ((w t) + (w (t - p6))))] := hD
          refine lv_iload hx hb dX2_orders_186 (lv_at hl 1 rfl) ?_
          refine lv_bipush (v := nI 6) hx hb dX2_orders_188 (by decide) ?_
          refine lv_imul hx hb dX2_orders_190 ?_
          refine bd_eqi (y := nI (p6 * 6)) (pk_mul _ _) ?_
          refine lv_istore (lv' := [(4, .int (nI (p6 * 6))), (5, .int (nI i)), (1, .int (nI t)), (0, .ref h0)]) hx hb dX2_orders_191 hl (by decide) rfl (fun ls hl => ?_)
          refine lv_iinc (v := nI (i + 1)) (lv' := [(5, .int (nI (i + 1))), (4, .int (nI (p6 * 6))), (1, .int (nI t)), (0, .ref h0)]) hx hb dX2_orders_193 hl (k := 1) rfl (bd_inc _) (by decide) rfl (fun ls hl => ?_)
          refine lv_goto (tgt := 123) hx hb dX2_orders_196 (by decide) ?_
          exact ih (i + 1) (p6 * 6) _ H locs ls (by omega) (by omega) hp7 (fun q hq => by rw [bd_up_n _ _ (by omega)]; exact z3 q hq) (by rw [bd_up_s, hcs, z4, z3 (t - p6) (by omega), if_pos (bd_co_yes (by omega) (Or.inl c3)), hp6]) hP hD hS (lv_sub hl [0, 1, 2, 3] rfl)
        · have hgj := hg (i + 1) (by omega)
          refine lv_aload_n hx hb dX2_orders_145 rfl (lv_at hl 3 rfl) ?_
          refine va_get (D := (dC, dI)) (ci := 2) (v := .ref h2) (C := RX2) (T := TX2) (N := 4) hx hb hts in_X2 hown hK hP 0 rfl rfl 2 (by decide) (hts _ q96) (fun _ h9 => h9) rfl dX2_orders_146 ?_
          refine lv_iload hx hb dX2_orders_149 (lv_at hl 0 rfl) ?_
          refine lv_iconst (v := nI 1) hx hb dX2_orders_151 (by decide) ?_
          refine lv_iadd hx hb dX2_orders_152 ?_
          refine bd_eqi (y := nI (i + 1)) (nI_add _ _) ?_
          refine bd_iald (f := g) (i := i + 1) hx hb hK hP 2 1 rfl rfl (by omega) (by decide) dX2_orders_153 ?_
          refine lv_aload_n hx hb dX2_orders_154 rfl (lv_at hl 3 rfl) ?_
          refine va_get (D := (dC, dI)) (ci := 2) (v := .ref h2) (C := RX2) (T := TX2) (N := 4) hx hb hts in_X2 hown hK hP 0 rfl rfl 2 (by decide) (hts _ q96) (fun _ h9 => h9) rfl dX2_orders_155 ?_
          refine lv_iload hx hb dX2_orders_158 (lv_at hl 0 rfl) ?_
          refine bd_iald (f := g) (i := i) hx hb hK hP 2 1 rfl rfl (by omega) (by decide) dX2_orders_160 ?_
          refine bd_icmp_ge (tgt := 186) hx hb dX2_orders_161 (by decide) (by omega) (by omega) (fun c4 => ?_) (fun c4 => ?_)
          · refine lv_iload hx hb dX2_orders_186 (lv_at hl 1 rfl) ?_
            refine lv_bipush (v := nI 6) hx hb dX2_orders_188 (by decide) ?_
            refine lv_imul hx hb dX2_orders_190 ?_
            refine bd_eqi (y := nI (p6 * 6)) (pk_mul _ _) ?_
            refine lv_istore (lv' := [(4, .int (nI (p6 * 6))), (5, .int (nI i)), (1, .int (nI t)), (0, .ref h0)]) hx hb dX2_orders_191 hl (by decide) rfl (fun ls hl => ?_)
            refine lv_iinc (v := nI (i + 1)) (lv' := [(5, .int (nI (i + 1))), (4, .int (nI (p6 * 6))), (1, .int (nI t)), (0, .ref h0)]) hx hb dX2_orders_193 hl (k := 1) rfl (bd_inc _) (by decide) rfl (fun ls hl => ?_)
            refine lv_goto (tgt := 123) hx hb dX2_orders_196 (by decide) ?_
            exact ih (i + 1) (p6 * 6) w H locs ls (by omega) (by omega) hp7 z3 (by rw [hcs, z4, if_neg (bd_co_no (Or.inr ⟨c3, by omega⟩))]; rfl) hP hD hS (lv_sub hl [0, 1, 2, 3] rfl)
          · have hpt : p6 ≤ t := by rw [hp6]; exact bd_dg_pos (by omega)
            have hp1 : 0 < p6 := by rw [hp6]; exact Nat.pow_pos (by decide)
            refine lv_aload_n hx hb dX2_orders_164 rfl (lv_at hl 3 rfl) ?_
            refine va_get (D := (dC, dI)) (ci := 2) (v := .ref h3) (C := RX2) (T := TX2) (N := 4) hx hb hts in_X2 hown hK hP 0 rfl rfl 3 (by decide) (hts _ q97) (fun _ h9 => h9) rfl dX2_orders_165 ?_
            refine lv_iload_n hx hb dX2_orders_168 rfl (lv_at hl 2 rfl) ?_
            refine lv_aload_n hx hb dX2_orders_169 rfl (lv_at hl 3 rfl) ?_
            refine va_get (D := (dC, dI)) (ci := 2) (v := .ref h3) (C := RX2) (T := TX2) (N := 4) hx hb hts in_X2 hown hK hP 0 rfl rfl 3 (by decide) (hts _ q97) (fun _ h9 => h9) rfl dX2_orders_170 ?_
            refine lv_iload_n hx hb dX2_orders_173 rfl (lv_at hl 2 rfl) ?_
            refine bd_lald (f := w) (i := t) hx hb hK hP 3 2 rfl rfl (by omega) (by decide) dX2_orders_174 ?_
            refine lv_aload_n hx hb dX2_orders_175 rfl (lv_at hl 3 rfl) ?_
            refine va_get (D := (dC, dI)) (ci := 2) (v := .ref h3) (C := RX2) (T := TX2) (N := 4) hx hb hts in_X2 hown hK hP 0 rfl rfl 3 (by decide) (hts _ q97) (fun _ h9 => h9) rfl dX2_orders_176 ?_
            refine lv_iload_n hx hb dX2_orders_179 rfl (lv_at hl 2 rfl) ?_
            refine lv_iload hx hb dX2_orders_180 (lv_at hl 1 rfl) ?_
            refine lv_isub hx hb dX2_orders_182 ?_
            refine bd_eqi (y := nI (t - p6)) (pk_sub (by omega)) ?_
            refine bd_lald (f := w) (i := t - p6) hx hb hK hP 3 2 rfl rfl (by omega) (by decide) dX2_orders_183 ?_
            refine lv_ladd hx hb dX2_orders_184 ?_
            refine bd_eql (y := lN ((w t) + (w (t - p6)))) (lN_add _ _) ?_
            refine bd_last (f := w) (i := t) (v := (w t) + (w (t - p6))) hx hb hK hP hD hS 3 2 rfl rfl (by omega) (by decide) dX2_orders_185 (fun H locs hP hD hS => ?_)
            have hP : va_P (dC, dI) vwCl [bd_Md h0 h1 h2 h3 n, bd_Ar h1 d1 5 f, bd_Ar h2 d2 5 g, bd_Lr h3 d3 7776 (bd_up w t ((w t) + (w (t - p6))))] H := hP
            have hD : va_D A [bd_Md h0 h1 h2 h3 n, bd_Ar h1 d1 5 f, bd_Ar h2 d2 5 g, bd_Lr h3 d3 7776 (bd_up w t ((w t) + (w (t - p6))))] := hD
            refine lv_iload hx hb dX2_orders_186 (lv_at hl 1 rfl) ?_
            refine lv_bipush (v := nI 6) hx hb dX2_orders_188 (by decide) ?_
            refine lv_imul hx hb dX2_orders_190 ?_
            refine bd_eqi (y := nI (p6 * 6)) (pk_mul _ _) ?_
            refine lv_istore (lv' := [(4, .int (nI (p6 * 6))), (5, .int (nI i)), (1, .int (nI t)), (0, .ref h0)]) hx hb dX2_orders_191 hl (by decide) rfl (fun ls hl => ?_)
            refine lv_iinc (v := nI (i + 1)) (lv' := [(5, .int (nI (i + 1))), (4, .int (nI (p6 * 6))), (1, .int (nI t)), (0, .ref h0)]) hx hb dX2_orders_193 hl (k := 1) rfl (bd_inc _) (by decide) rfl (fun ls hl => ?_)
            refine lv_goto (tgt := 123) hx hb dX2_orders_196 (by decide) ?_
            exact ih (i + 1) (p6 * 6) _ H locs ls (by omega) (by omega) hp7 (fun q hq => by rw [bd_up_n _ _ (by omega)]; exact z3 q hq) (by rw [bd_up_s, hcs, z4, z3 (t - p6) (by omega), if_pos (bd_co_yes (by omega) (Or.inr (by omega))), hp6]) hP hD hS (lv_sub hl [0, 1, 2, 3] rfl)
set_option maxHeartbeats 4000000 in
set_option maxRecDepth 100000 in
theorem bd_mord_loop (hx : p.tables.exec = Jvm.exec) (hb : c.code = cX2_orders) (hown : s.vm.findClass RX2 = some m.cls) (hts : ∀ w ∈ lw_all, w.before args s = true) (hml : c.maxLocals = 6) (hA : ∀ q, H0.size ≤ q → A q) (hR : 1 ≤ R.frames ∧ 21 ≤ R.locals) (hf : cells ≤ R.cells ∧ slots ≤ R.slots) {h0 h1 h2 h3 n : Nat} {d1 : ClassId} {f : Nat → Nat} {d2 : ClassId} {d3 : ClassId} (hV : bd_V n f) (hK : va_K (dC, dI) vwCl [(d1, .int), (d2, .int), (d3, .long)] s) (kk : ∀ (t : Nat) (g w : Nat → Nat) (H : Heap) (locs : List Loc) (ls : Array Slot), (∀ q, q < 7776 → w q = bd_w (bd_sh n f) q) → va_P (dC, dI) vwCl [bd_Md h0 h1 h2 h3 n, bd_Ar h1 d1 5 f, bd_Ar h2 d2 5 g, bd_Lr h3 d3 7776 w] H → va_D A [bd_Md h0 h1 h2 h3 n, bd_Ar h1 d1 5 f, bd_Ar h2 d2 5 g, bd_Lr h3 d3 7776 w] → va_S A H0 H locs → lv_has ls 6 [(1, .int (nI t)), (0, .ref h0)] → W p l e R s m args below meth c H locs cells slots Q (F0 m 205 ls [])) : ∀ (r t : Nat) (g w : Nat → Nat) (H : Heap) (locs : List Loc) (ls : Array Slot), t ≤ 7776 → 7777 ≤ t + r → (∀ q, q < t → w q = bd_w (bd_sh n f) q) → va_P (dC, dI) vwCl [bd_Md h0 h1 h2 h3 n, bd_Ar h1 d1 5 f, bd_Ar h2 d2 5 g, bd_Lr h3 d3 7776 w] H → va_D A [bd_Md h0 h1 h2 h3 n, bd_Ar h1 d1 5 f, bd_Ar h2 d2 5 g, bd_Lr h3 d3 7776 w] → va_S A H0 H locs → lv_has ls 6 [(1, .int (nI t)), (0, .ref h0)] → W p l e R s m args below meth c H locs cells slots Q (F0 m 2 ls []) := by
  intro r
  induction r with
  | zero => intro t g w H locs ls z1 z2; omega
  | succ r ih =>
    intro t g w H locs ls z1 z2 z3 hP hD hS hl
    refine lv_iload_n hx hb dX2_orders_2 rfl (lv_at hl 0 rfl) ?_
    refine lv_sipush (v := nI 7776) hx hb dX2_orders_3 (by decide) ?_
    refine bd_icmp_ge (tgt := 205) hx hb dX2_orders_6 (by decide) (by omega) (by omega) (fun c1 => ?_) (fun c1 => ?_)
    · have he : t = 7776 := by omega
      rw [he] at z3
      exact kk t g w H locs ls z3 hP hD hS hl
    · have K199 : ∀ (g w : Nat → Nat) (H : Heap) (locs : List Loc) (ls : Array Slot), (∀ q, q < t → w q = bd_w (bd_sh n f) q) → w t = bd_w (bd_sh n f) t → va_P (dC, dI) vwCl [bd_Md h0 h1 h2 h3 n, bd_Ar h1 d1 5 f, bd_Ar h2 d2 5 g, bd_Lr h3 d3 7776 w] H → va_D A [bd_Md h0 h1 h2 h3 n, bd_Ar h1 d1 5 f, bd_Ar h2 d2 5 g, bd_Lr h3 d3 7776 w] → va_S A H0 H locs → lv_has ls 6 [(1, .int (nI t)), (0, .ref h0)] → W p l e R s m args below meth c H locs cells slots Q (F0 m 199 ls []) := by
        intro g w H locs ls y1 y2 hP hD hS hl
        refine lv_iinc (v := nI (t + 1)) (lv' := [(1, .int (nI (t + 1))), (0, .ref h0)]) hx hb dX2_orders_199 hl (k := 0) rfl (bd_inc _) (by decide) rfl (fun ls hl => ?_)
        refine lv_goto (tgt := 2) hx hb dX2_orders_202 (by decide) ?_
        exact ih (t + 1) g w H locs ls (by omega) (by omega) (fun q hq => by
          by_cases hqt : q = t
          · rw [hqt]; exact y2
          · exact y1 q (by omega)) hP hD hS hl
      refine lv_iload_n hx hb dX2_orders_9 rfl (lv_at hl 0 rfl) ?_
      refine lv_istore_n (lv' := [(2, .int (nI t)), (1, .int (nI t)), (0, .ref h0)]) hx hb dX2_orders_10 rfl hl (by decide) rfl (fun ls hl => ?_)
      refine lv_iconst (v := nI 1) hx hb dX2_orders_11 (by decide) ?_
      refine lv_istore_n (lv' := [(3, .int (nI 1)), (2, .int (nI t)), (1, .int (nI t)), (0, .ref h0)]) hx hb dX2_orders_12 rfl hl (by decide) rfl (fun ls hl => ?_)
      refine lv_iconst (v := nI 0) hx hb dX2_orders_13 (by decide) ?_
      refine lv_istore (lv' := [(4, .int (nI 0)), (3, .int (nI 1)), (2, .int (nI t)), (1, .int (nI t)), (0, .ref h0)]) hx hb dX2_orders_14 hl (by decide) rfl (fun ls hl => ?_)
      refine bd_odig hx hb hown hts hml hA hR hf hV c1 hK (fun i x ft g H locs ls hft z4 hP hD hS hl => ?_) 6 0 t 1 g H locs ls (Nat.zero_le _) (by omega) (by rw [Nat.pow_zero, Nat.div_one]) rfl (fun q hq => absurd hq (by omega)) hP hD hS (lv_sub hl [0, 1, 2, 3, 4] rfl)
      have hft1 : ft ≤ 1 := by rw [hft]; exact Bool.toNat_le _
      refine lv_aload_n hx hb dX2_orders_94 rfl (lv_at hl 4 rfl) ?_
      refine va_get (D := (dC, dI)) (ci := 2) (v := .ref h3) (C := RX2) (T := TX2) (N := 4) hx hb hts in_X2 hown hK hP 0 rfl rfl 3 (by decide) (hts _ q97) (fun _ h9 => h9) rfl dX2_orders_95 ?_
      refine lv_iload_n hx hb dX2_orders_98 rfl (lv_at hl 3 rfl) ?_
      refine lv_iload_n hx hb dX2_orders_99 rfl (lv_at hl 3 rfl) ?_
      refine bd_if_ne (tgt := 107) hx hb dX2_orders_100 (by decide) (by omega) (fun c2 => ?_) (fun c2 => ?_)
      · refine lv_lconst (v := lN 0) hx hb dX2_orders_107 (by decide) ?_
        refine bd_last (f := w) (i := t) (v := 0) hx hb hK hP hD hS 3 2 rfl rfl (by omega) (by decide) dX2_orders_108 (fun H locs hP hD hS => ?_)
        have hP : va_P (dC, dI) vwCl [bd_Md h0 h1 h2 h3 n, bd_Ar h1 d1 5 f, bd_Ar h2 d2 5 g, bd_Lr h3 d3 7776 (bd_up w t 0)] H := hP
        have hD : va_D A [bd_Md h0 h1 h2 h3 n, bd_Ar h1 d1 5 f, bd_Ar h2 d2 5 g, bd_Lr h3 d3 7776 (bd_up w t 0)] := hD
        refine lv_iload_n hx hb dX2_orders_109 rfl (lv_at hl 1 rfl) ?_
        refine bd_if_eq (tgt := 199) hx hb dX2_orders_110 (by decide) (by omega) (fun c3 => ?_) (fun c3 => ?_)
        · exact K199 g _ H locs ls (fun q hq => by rw [bd_up_n _ _ (by omega)]; exact z3 q hq) (by rw [bd_up_s]; exact (bd_w_no hft c3).symm) hP hD hS (lv_sub hl [3, 4] rfl)
        · refine lv_iload_n hx hb dX2_orders_113 rfl (lv_at hl 3 rfl) ?_
          refine bd_if_le (tgt := 199) hx hb dX2_orders_114 (by decide) (by omega) (fun c4 => ?_) (fun c4 => ?_)
          · omega
          · refine lv_iconst (v := nI 1) hx hb dX2_orders_117 (by decide) ?_
            refine lv_istore (lv' := [(4, .int (nI 1)), (3, .int (nI ft)), (2, .int (nI x)), (1, .int (nI t)), (0, .ref h0)]) hx hb dX2_orders_118 hl (by decide) rfl (fun ls hl => ?_)
            refine lv_iconst (v := nI 0) hx hb dX2_orders_120 (by decide) ?_
            refine lv_istore (lv' := [(5, .int (nI 0)), (4, .int (nI 1)), (3, .int (nI ft)), (2, .int (nI x)), (1, .int (nI t)), (0, .ref h0)]) hx hb dX2_orders_121 hl (by decide) rfl (fun ls hl => ?_)
            refine bd_ocor hx hb hown hts hV c1 z4 hK (fun i p6 w H locs ls y1 y2 hP hD hS hl => ?_) 6 0 1 _ H locs ls (Nat.zero_le _) (by omega) rfl (fun q hq => by rw [bd_up_n _ _ (by omega)]; exact z3 q hq) (by rw [bd_up_s]; rfl) hP hD hS (lv_sub hl [0, 1, 4, 5] rfl)
            exact K199 g w H locs ls y1 (by rw [y2]; exact bd_w_yes hft c3 c1 c4) hP hD hS (lv_sub hl [2, 3] rfl)
      · refine lv_lconst (v := lN 1) hx hb dX2_orders_103 (by decide) ?_
        refine lv_goto (tgt := 108) hx hb dX2_orders_104 (by decide) ?_
        refine bd_last (f := w) (i := t) (v := 1) hx hb hK hP hD hS 3 2 rfl rfl (by omega) (by decide) dX2_orders_108 (fun H locs hP hD hS => ?_)
        have hP : va_P (dC, dI) vwCl [bd_Md h0 h1 h2 h3 n, bd_Ar h1 d1 5 f, bd_Ar h2 d2 5 g, bd_Lr h3 d3 7776 (bd_up w t 1)] H := hP
        have hD : va_D A [bd_Md h0 h1 h2 h3 n, bd_Ar h1 d1 5 f, bd_Ar h2 d2 5 g, bd_Lr h3 d3 7776 (bd_up w t 1)] := hD
        refine lv_iload_n hx hb dX2_orders_109 rfl (lv_at hl 1 rfl) ?_
        refine bd_if_eq (tgt := 199) hx hb dX2_orders_110 (by decide) (by omega) (fun c3 => ?_) (fun c3 => ?_)
        · exact absurd c3 (by rw [hft, c2, bd_ft_zero]; decide)
        · refine lv_iload_n hx hb dX2_orders_113 rfl (lv_at hl 3 rfl) ?_
          refine bd_if_le (tgt := 199) hx hb dX2_orders_114 (by decide) (by omega) (fun c4 => ?_) (fun c4 => ?_)
          · exact K199 g _ H locs ls (fun q hq => by rw [bd_up_n _ _ (by omega)]; exact z3 q hq) (by rw [bd_up_s, c2]; exact bd_w_zero.symm) hP hD hS (lv_sub hl [3, 4] rfl)
          · omega
set_option maxHeartbeats 4000000 in
set_option maxRecDepth 100000 in
theorem bd_mord_cd (hx : p.tables.exec = Jvm.exec) (hb : c.code = cX2_orders) (hown : s.vm.findClass RX2 = some m.cls) (hts : ∀ w ∈ lw_all, w.before args s = true) (hml : c.maxLocals = 6) (hA : ∀ q, H0.size ≤ q → A q) (hR : 1 ≤ R.frames ∧ 21 ≤ R.locals) (hf : cells ≤ R.cells ∧ slots ≤ R.slots) {h0 h1 h2 h3 n : Nat} {d1 : ClassId} {f : Nat → Nat} {d2 : ClassId} {d3 : ClassId} {g w : Nat → Nat} (hV : bd_V n f) (hK : va_K (dC, dI) vwCl [(d1, .int), (d2, .int), (d3, .long)] s) (kk : ∀ (v : Nat) (H : Heap) (locs : List Loc) (ls : Array Slot), v = bd_cd (bd_sh n f) 5 → va_P (dC, dI) vwCl [bd_Md h0 h1 h2 h3 n, bd_Ar h1 d1 5 f, bd_Ar h2 d2 5 g, bd_Lr h3 d3 7776 w] H → va_D A [bd_Md h0 h1 h2 h3 n, bd_Ar h1 d1 5 f, bd_Ar h2 d2 5 g, bd_Lr h3 d3 7776 w] → va_S A H0 H locs → lv_has ls 6 [(1, .int (nI v)), (0, .ref h0)] → W p l e R s m args below meth c H locs cells slots Q (F0 m 230 ls [])) : ∀ (k v : Nat) (H : Heap) (locs : List Loc) (ls : Array Slot), k ≤ 5 → v = bd_cd (bd_sh n f) (5 - k) → va_P (dC, dI) vwCl [bd_Md h0 h1 h2 h3 n, bd_Ar h1 d1 5 f, bd_Ar h2 d2 5 g, bd_Lr h3 d3 7776 w] H → va_D A [bd_Md h0 h1 h2 h3 n, bd_Ar h1 d1 5 f, bd_Ar h2 d2 5 g, bd_Lr h3 d3 7776 w] → va_S A H0 H locs → lv_has ls 6 [(2, .int (nI k - 1)), (1, .int (nI v)), (0, .ref h0)] → W p l e R s m args below meth c H locs cells slots Q (F0 m 209 ls []) := by
  have hn5 := hV.1
  intro k
  induction k with
  | zero =>
    intro v H locs ls z1 z2 hP hD hS hl
    refine lv_iload_n hx hb dX2_orders_209 rfl (lv_at hl 0 rfl) ?_
    refine lv_if_lt (tgt := 230) hx hb dX2_orders_210 (by decide) (fun c1 => ?_) (fun c1 => ?_)
    · exact kk v H locs ls z2 hP hD hS (lv_sub hl [1, 2] rfl)
    · exact absurd (by decide) c1
  | succ k ih =>
    intro v H locs ls z1 z2 hP hD hS hl
    have hl : lv_has ls 6 [(2, .int (nI k)), (1, .int (nI v)), (0, .ref h0)] := by rw [nI_pred] at hl; exact hl
    refine lv_iload_n hx hb dX2_orders_209 rfl (lv_at hl 0 rfl) ?_
    refine lv_if_lt (tgt := 230) hx hb dX2_orders_210 (by decide) (fun c1 => ?_) (fun c1 => ?_)
    · exact absurd c1 (nI_pos (by omega))
    · refine lv_bipush (v := nI 6) hx hb dX2_orders_213 (by decide) ?_
      refine lv_iload_n hx hb dX2_orders_215 rfl (lv_at hl 1 rfl) ?_
      refine lv_imul hx hb dX2_orders_216 ?_
      refine bd_eqi (y := nI (6 * v)) (pk_mul _ _) ?_
      refine lv_aload_n hx hb dX2_orders_217 rfl (lv_at hl 2 rfl) ?_
      refine lv_iload_n hx hb dX2_orders_218 rfl (lv_at hl 0 rfl) ?_
      refine bd_callVi (As := [.int (nI k)]) (rest := [.int (nI (6 * v))]) (wc := [bd_Md h0 h1 h2 h3 n, bd_Ar h1 d1 5 f]) (wr := [bd_Ar h2 d2 5 g, bd_Lr h3 d3 7776 w]) (w2 := fun _ => [bd_Md h0 h1 h2 h3 n, bd_Ar h1 d1 5 f, bd_Ar h2 d2 5 g, bd_Lr h3 d3 7776 w]) (ci := 2) (q0 := 0) (C := RX2) (T := TX2) (N := 4) ⟨hx, hb, hml, hown, hts⟩ (bd_c_shape l dC dI h0 h1 h2 h3 d1 n f k _ hn5 (by omega)) (cwV 1 hts (lw_V q121 q123 qs2 q6 q124) rfl rfl rfl (by decide +kernel) hR) hK hP hD hS hA [0, 1] [2, 3] [0] [2, 3, 0, 1] rfl (by decide) rfl (by decide) (by decide) rfl (fun _ => rfl) (by decide) rfl rfl rfl hl.1 rfl (Nat.le_of_ble_eq_true rfl) dX2_orders_219 hf (fun r u H locs hw hP hD hS => ?_)
      have hw : r = nI (bd_sh n f k) := hw
      subst hw
      refine lv_iadd hx hb dX2_orders_222 ?_
      refine bd_eqi (y := nI ((6 * v) + (bd_sh n f k))) (nI_add _ _) ?_
      refine lv_istore_n (lv' := [(1, .int (nI ((6 * v) + (bd_sh n f k)))), (2, .int (nI k)), (0, .ref h0)]) hx hb dX2_orders_223 rfl hl (by decide) rfl (fun ls hl => ?_)
      refine lv_iinc (v := nI k - 1) (lv' := [(2, .int (nI k - 1)), (1, .int (nI ((6 * v) + (bd_sh n f k)))), (0, .ref h0)]) hx hb dX2_orders_224 hl (k := 1) rfl (bd_dec _) (by decide) rfl (fun ls hl => ?_)
      refine lv_goto (tgt := 209) hx hb dX2_orders_227 (by decide) ?_
      exact ih (6 * v + bd_sh n f k) H locs ls (by omega) (bd_cd_step (by omega) z2) hP hD hS (lv_sub hl [0, 1, 2] rfl)
end MO
set_option maxHeartbeats 4000000 in
set_option maxRecDepth 100000 in
/-- orders() -/
theorem bd_c_morders (l : Launch) (dC : Nat → ClassId) (dI : Nat → Nat → Nat) (h0 h1 h2 h3 : Nat) (d1 d2 d3 : ClassId) (n : Nat) (f g w : Nat → Nat) (sz : Nat) (hV : bd_V n f) : Met l yX2_orders (ws_ yX2_orders cX2_orders 6 (some .long)) { frames := 1, cells := 0, slots := 0, locals := 21 } (va_Pc [.ref h0] (bd_pW dC dI sz [bd_Md h0 h1 h2 h3 n, bd_Ar h1 d1 5 f, bd_Ar h2 d2 5 g, bd_Lr h3 d3 7776 w] [(d1, .int), (d2, .int), (d3, .long)])) (va_Ql (fun (r : Int64) (u : (Nat → Nat) × (Nat → Nat)) => r = lN (bd_F (bd_cd (bd_sh n f) 5))) (fun (u : (Nat → Nat) × (Nat → Nat)) t => bd_bW dC dI (va_A [bd_Md h0 h1 h2 h3 n, bd_Ar h1 d1 5 f, bd_Ar h2 d2 5 g, bd_Lr h3 d3 7776 w] sz) [bd_Md h0 h1 h2 h3 n, bd_Ar h1 d1 5 f, bd_Ar h2 d2 5 u.1, bd_Lr h3 d3 7776 u.2] [(d1, .int), (d2, .int), (d3, .long)] t) (va_A [bd_Md h0 h1 h2 h3 n, bd_Ar h1 d1 5 f, bd_Ar h2 d2 5 g, bd_Lr h3 d3 7776 w] sz)) 0 0 (va_A [bd_Md h0 h1 h2 h3 n, bd_Ar h1 d1 5 f, bd_Ar h2 d2 5 g, bd_Lr h3 d3 7776 w] sz) := by
  refine bd_met0 (Qc := fun A => va_Ql (fun (r : Int64) (u : (Nat → Nat) × (Nat → Nat)) => r = lN (bd_F (bd_cd (bd_sh n f) 5))) (fun (u : (Nat → Nat) × (Nat → Nat)) t => bd_bW dC dI A [bd_Md h0 h1 h2 h3 n, bd_Ar h1 d1 5 f, bd_Ar h2 d2 5 u.1, bd_Lr h3 d3 7776 u.2] [(d1, .int), (d2, .int), (d3, .long)] t) A) (by decide) (Nat.le_of_ble_eq_true rfl) ?_
  intro p e s m below meth c ls A hx hb hr hml hown hlocks hnm hts hA hP hD hS hK hl
  have hl : lv_has ls 6 [(0, .ref h0)] := hl
  refine lv_iconst (v := nI 0) hx hb dX2_orders_0 (by decide) ?_
  refine lv_istore_n (lv' := [(1, .int (nI 0)), (0, .ref h0)]) hx hb dX2_orders_1 rfl hl (by decide) rfl (fun ls hl => ?_)
  refine bd_mord_loop hx hb hown hts hml hA ⟨Nat.le_of_ble_eq_true rfl, Nat.le_of_ble_eq_true rfl⟩ ⟨Nat.zero_le _, Nat.zero_le _⟩ hV hK (fun t g w H locs ls z3 hP hD hS hl => ?_) 7777 0 g w s.heap [] ls (Nat.zero_le _) (by omega) (fun q hq => absurd hq (by omega)) hP hD hS hl
  refine lv_iconst (v := nI 0) hx hb dX2_orders_205 (by decide) ?_
  refine lv_istore_n (lv' := [(1, .int (nI 0)), (0, .ref h0)]) hx hb dX2_orders_206 rfl hl (by decide) rfl (fun ls hl => ?_)
  refine lv_iconst (v := nI 4) hx hb dX2_orders_207 (by decide) ?_
  refine lv_istore_n (lv' := [(2, .int (nI 4)), (1, .int (nI 0)), (0, .ref h0)]) hx hb dX2_orders_208 rfl hl (by decide) rfl (fun ls hl => ?_)
  have hl : lv_has ls 6 [(2, .int (nI 5 - 1)), (1, .int (nI 0)), (0, .ref h0)] := by rw [show nI 5 - 1 = nI 4 from by decide]; exact hl
  refine bd_mord_cd hx hb hown hts hml hA ⟨Nat.le_of_ble_eq_true rfl, Nat.le_of_ble_eq_true rfl⟩ ⟨Nat.zero_le _, Nat.zero_le _⟩ hV hK (fun v H locs ls hv hP hD hS hl => ?_) 5 0 H locs ls (Nat.le_refl _) rfl hP hD hS (lv_sub hl [0, 1, 2] rfl)
  have hlt : v < 7776 := by rw [hv]; exact bd_cd_lt (a := bd_sh n f) hV.sh5
  refine lv_aload_n hx hb dX2_orders_230 rfl (lv_at hl 1 rfl) ?_
  refine va_get (D := (dC, dI)) (ci := 2) (v := .ref h3) (C := RX2) (T := TX2) (N := 4) hx hb hts in_X2 hown hK hP 0 rfl rfl 3 (by decide) (hts _ q97) (fun _ h9 => h9) rfl dX2_orders_231 ?_
  refine lv_iload_n hx hb dX2_orders_234 rfl (lv_at hl 0 rfl) ?_
  refine bd_lald (f := w) (i := v) hx hb hK hP 3 2 rfl rfl (by omega) (by decide) dX2_orders_235 ?_
  exact bd_lret hx hb hr hlocks (g, w) (by rw [z3 v hlt, hv]; unfold bd_w; rw [if_pos (bd_cd_fit hV)]) hP hK hD hS dX2_orders_236
end
section
/-! CONSTRUCTORS -/
set_option maxRecDepth 100000
set_option maxHeartbeats 4000000 in
set_option maxRecDepth 100000 in
/-- Product(): 26 zeros -/
theorem bd_c_pinit (l : Launch) (dC : Nat → ClassId) (dI : Nat → Nat → Nat) (h2 sz : Nat) : Met l yX1_init (ws_ yX1_init cX1_init 1 none) { frames := 1, cells := 1, slots := 26, locals := 12 } (va_Pc [.ref h2] (bd_pW dC dI sz [(h2, .inr (1, [.null]))] [])) (va_Qv (fun _ : Unit => True) (fun (_ : Unit) t => ∃ (h4 : Nat) (d4 : ClassId), bd_bW dC dI (va_A [(h2, .inr (1, [.null]))] sz) [bd_Pr h2 h4, bd_Tm h4 d4 (fun _ => nI 0)] [(d4, .int)] t) (va_A [(h2, .inr (1, [.null]))] sz)) 1 26 (va_A [(h2, .inr (1, [.null]))] sz) := by
  refine bd_met0 (Qc := fun A => va_Qv (fun _ : Unit => True) (fun (_ : Unit) t => ∃ (h4 : Nat) (d4 : ClassId), bd_bW dC dI A [bd_Pr h2 h4, bd_Tm h4 d4 (fun _ => nI 0)] [(d4, .int)] t) A) (by decide) (Nat.le_of_ble_eq_true rfl) ?_
  intro p e s m below meth c ls A hx hb hr hml hown hlocks hnm hts hA hP hD hS hK hl
  have hl : lv_has ls 1 [(0, .ref h2)] := hl
  have hin : meth.name = "<init>" := hnm
  refine lv_aload_n hx hb dX1_init_0 rfl (lv_at hl 0 rfl) ?_
  refine W.objInit hx hb hown (hts _ q20) (hts _ q13) (hts _ q14) rfl (by rw [hml]; exact hl.1) rfl dX1_init_1 (Nat.le_of_ble_eq_true rfl) (Nat.le_of_ble_eq_true rfl) ?_
  refine W.eq (g2 := F0 m 4 ls []) rfl ?_
  refine lv_aload_n hx hb dX1_init_4 rfl (lv_at hl 0 rfl) ?_
  refine lv_bipush (v := nI 26) hx hb dX1_init_5 (by decide) ?_
  refine va_newa (atype := .int) (ty := .int) (n := nI 26) (N' := 26) (a0 := (26, .inl (fun _ => nI 0))) hx hb (hts _ q25) rfl hK hP hD hS hA (fun _ => rfl) (by decide) (by decide) (by decide) (Nat.le_of_ble_eq_true rfl) (Nat.le_of_ble_eq_true rfl) dX1_init_7 (fun h4 d4 H hK hP hD hS => ?_)
  have hP : va_P (dC, dI) vwCl [(h2, .inr (1, [.null])), bd_Tm h4 d4 (fun _ => nI 0)] H := hP
  have hD : va_D A [(h2, .inr (1, [.null])), bd_Tm h4 d4 (fun _ => nI 0)] := hD
  have hK : va_K (dC, dI) vwCl [(d4, .int)] s := hK
  refine va_putF (D := (dC, dI)) (ci := 1) (v := .ref h4) (ty := .array .int) (C := RX1) (T := TX1) (N := 1) hx hb hts in_X1 tyX1 tyX1_ok nmX1 hown hK hP hD hS 0 rfl rfl 0 (by decide) (hts _ q21) (fun _ h9 => h9) rfl hin rfl (by decide +kernel) rfl rfl (Nat.le_of_ble_eq_true rfl) dX1_init_9 (fun H locs hP hD hS => ?_)
  have hP : va_P (dC, dI) vwCl [bd_Pr h2 h4, bd_Tm h4 d4 (fun _ => nI 0)] H := hP
  have hD : va_D A [bd_Pr h2 h4, bd_Tm h4 d4 (fun _ => nI 0)] := hD
  refine W.widen (k := 1) (n := 26) (by decide) (by decide) ?_
  exact W.vret hx hb hr (fun t ht hW => ⟨⟨(), rfl, trivial, h4, d4, by rw [ht]; exact hP, va_K.moved hW.alike hK, hD⟩, hS.F ht⟩) hS.2.2 dX1_init_12 hlocks
set_option maxHeartbeats 4000000 in
set_option maxRecDepth 100000 in
/-- BoxDesk(): no rows -/
theorem bd_c_dinit (l : Launch) (dC : Nat → ClassId) (dI : Nat → Nat → Nat) (h0 sz : Nat) : Met l yX0_init (ws_ yX0_init cX0_init 1 none) { frames := 2, cells := 4, slots := 38, locals := 32 } (va_Pc [.ref h0] (fun U => bd_pW dC dI sz [(h0, .inr (0, [.null, .int (nI 0), .null, .null]))] [] U ∧ (va_Nw (Cond.methodLinkNest RX0 15 yX1_init RX0)) U)) (va_Qv (fun _ : Unit => True) (fun (_ : Unit) t => ∃ (h1 h2 h3 h4 : Nat) (d1 d3 d4 : ClassId), bd_bW dC dI (va_A [(h0, .inr (0, [.null, .int (nI 0), .null, .null]))] sz) [bd_Dk h0 h1 h2 h3 0, bd_Ar h1 d1 5 (fun _ => 0), bd_Ar h3 d3 6 (fun _ => 0), bd_Pr h2 h4, bd_Tm h4 d4 (fun _ => nI 0)] [(d1, .int), (d3, .int), (d4, .int)] t) (va_A [(h0, .inr (0, [.null, .int (nI 0), .null, .null]))] sz)) 4 38 (va_A [(h0, .inr (0, [.null, .int (nI 0), .null, .null]))] sz) := by
  refine bd_met (Pe := (va_Nw (Cond.methodLinkNest RX0 15 yX1_init RX0))) (Qc := fun A => va_Qv (fun _ : Unit => True) (fun (_ : Unit) t => ∃ (h1 h2 h3 h4 : Nat) (d1 d3 d4 : ClassId), bd_bW dC dI A [bd_Dk h0 h1 h2 h3 0, bd_Ar h1 d1 5 (fun _ => 0), bd_Ar h3 d3 6 (fun _ => 0), bd_Pr h2 h4, bd_Tm h4 d4 (fun _ => nI 0)] [(d1, .int), (d3, .int), (d4, .int)] t) A) (by decide) (Nat.le_of_ble_eq_true rfl) ?_
  intro p e s m below meth c ls A hx hb hr hml hown hlocks hnm hts hA hP hD hS hK hNw hl
  have hl : lv_has ls 1 [(0, .ref h0)] := hl
  have hin : meth.name = "<init>" := hnm
  refine lv_aload_n hx hb dX0_init_0 rfl (lv_at hl 0 rfl) ?_
  refine W.objInit hx hb hown (hts _ q12) (hts _ q13) (hts _ q14) rfl (by rw [hml]; exact hl.1) rfl dX0_init_1 (Nat.le_of_ble_eq_true rfl) (Nat.le_of_ble_eq_true rfl) ?_
  refine W.eq (g2 := F0 m 4 ls []) rfl ?_
  refine lv_aload_n hx hb dX0_init_4 rfl (lv_at hl 0 rfl) ?_
  refine lv_iconst (v := nI 5) hx hb dX0_init_5 (by decide) ?_
  refine va_newa (atype := .int) (ty := .int) (n := nI 5) (N' := 5) (a0 := (5, .inl (fun _ => nI 0))) hx hb (hts _ q25) rfl hK hP hD hS hA (fun _ => rfl) (by decide) (by decide) (by decide) (Nat.le_of_ble_eq_true rfl) (Nat.le_of_ble_eq_true rfl) dX0_init_6 (fun h1 d1 H hK hP hD hS => ?_)
  have hP : va_P (dC, dI) vwCl [(h0, .inr (0, [.null, .int (nI 0), .null, .null])), bd_Ar h1 d1 5 (fun _ => 0)] H := hP
  have hD : va_D A [(h0, .inr (0, [.null, .int (nI 0), .null, .null])), bd_Ar h1 d1 5 (fun _ => 0)] := hD
  have hK : va_K (dC, dI) vwCl [(d1, .int)] s := hK
  refine va_putF (D := (dC, dI)) (ci := 0) (v := .ref h1) (ty := .array .int) (C := RX0) (T := TX0) (N := 4) hx hb hts in_X0 tyX0 tyX0_ok nmX0 hown hK hP hD hS 0 rfl rfl 0 (by decide) (hts _ q26) (fun _ h9 => h9) rfl hin rfl (by decide +kernel) rfl rfl (Nat.le_of_ble_eq_true rfl) dX0_init_8 (fun H locs hP hD hS => ?_)
  have hP : va_P (dC, dI) vwCl [(h0, .inr (0, [.ref h1, .int (nI 0), .null, .null])), bd_Ar h1 d1 5 (fun _ => 0)] H := hP
  have hD : va_D A [(h0, .inr (0, [.ref h1, .int (nI 0), .null, .null])), bd_Ar h1 d1 5 (fun _ => 0)] := hD
  refine lv_aload_n hx hb dX0_init_11 rfl (lv_at hl 0 rfl) ?_
  refine va_new (ci := 1) (fs := [.null]) (C := RX1) (T := TX1) (N := 1) hx hb hts in_X1 tyX1 tyX1_ok hown (hts _ q15) (hts _ q16) (hts _ q5) hK hP hD hS hA rfl (fun j hj => by rcases (show j = 0 by omega) with rfl <;> rfl) (Nat.le_of_ble_eq_true rfl) (Nat.le_of_ble_eq_true rfl) dX0_init_12 (fun h2 H hP hD hS => ?_)
  have hP : va_P (dC, dI) vwCl [(h0, .inr (0, [.ref h1, .int (nI 0), .null, .null])), bd_Ar h1 d1 5 (fun _ => 0), (h2, .inr (1, [.null]))] H := hP
  have hD : va_D A [(h0, .inr (0, [.ref h1, .int (nI 0), .null, .null])), bd_Ar h1 d1 5 (fun _ => 0), (h2, .inr (1, [.null]))] := hD
  refine lv_dup hx hb dX0_init_15 rfl ?_
  have hPc := hP.sub (ws' := [(h2, .inr (1, [.null]))]) [2] rfl
  have hDc := hD.sub (ws' := [(h2, .inr (1, [.null]))]) [2] (by decide) rfl
  have hKc := hK.sub (tys' := []) [] rfl
  have hFc := va_free (wc := [(h2, .inr (1, [.null]))]) hD hS hA [2] rfl
  refine va_callv (va_runIN (As := []) (rest := [.ref h2, .ref h0]) ⟨hx, hb, hml, hown, hts⟩ (bd_c_pinit l dC dI h2 H.size) ⟨va_cnB 0 hts (lw_meth q19) rfl rfl rfl hNw (hts _ q5) (by decide +kernel) ⟨Nat.le_of_ble_eq_true rfl, Nat.le_of_ble_eq_true rfl⟩, rfl, hts _ q18⟩ ⟨bd_blind, fun U hU hW => ⟨rfl, by rw [hU], by rw [hU]; exact hPc, va_K.moved hW.alike hKc, hDc.weaken (fun _ _ _ _ => trivial)⟩⟩ rfl rfl hl.1 rfl (lv_room (Nat.le_of_ble_eq_true rfl)) dX0_init_16 ⟨Nat.le_of_ble_eq_true rfl, Nat.le_of_ble_eq_true rfl⟩) hS (fun q _ h => hFc q h) hFc (fun u t H1 locs ht hvm hw hB hz1 hk1 hS => ?_)
  obtain ⟨h4, d4, hP1, hK1, hD1⟩ := hB
  rw [ht] at hP1
  have hK1 := va_K.moved hvm.symm hK1
  obtain ⟨hP, hD⟩ := va_join (wr := [(h0, .inr (0, [.ref h1, .int (nI 0), .null, .null])), bd_Ar h1 d1 5 (fun _ => 0)]) (w1 := [bd_Pr h2 h4, bd_Tm h4 d4 (fun _ => nI 0)]) hP hD [2] [0, 1] rfl rfl (by decide) (by decide) hk1 hFc hP1 hD1
  have hK : va_K (dC, dI) vwCl [(d1, .int), (d4, .int)] s := hK.app hK1
  generalize H1 = H at hP hS ⊢
  have hP : va_P (dC, dI) vwCl [(h0, .inr (0, [.ref h1, .int (nI 0), .null, .null])), bd_Ar h1 d1 5 (fun _ => 0), bd_Pr h2 h4, bd_Tm h4 d4 (fun _ => nI 0)] H := hP
  have hD : va_D A [(h0, .inr (0, [.ref h1, .int (nI 0), .null, .null])), bd_Ar h1 d1 5 (fun _ => 0), bd_Pr h2 h4, bd_Tm h4 d4 (fun _ => nI 0)] := hD
  refine va_putF (D := (dC, dI)) (ci := 0) (v := .ref h2) (ty := .object "BoxDesk$Product") (C := RX0) (T := TX0) (N := 4) hx hb hts in_X0 tyX0 tyX0_ok nmX0 hown hK hP hD hS 0 rfl rfl 2 (by decide) (hts _ q28) (fun _ h9 => h9) rfl hin rfl (by decide +kernel) rfl rfl (Nat.le_of_ble_eq_true rfl) dX0_init_19 (fun H locs hP hD hS => ?_)
  have hP : va_P (dC, dI) vwCl [(h0, .inr (0, [.ref h1, .int (nI 0), .ref h2, .null])), bd_Ar h1 d1 5 (fun _ => 0), bd_Pr h2 h4, bd_Tm h4 d4 (fun _ => nI 0)] H := hP
  have hD : va_D A [(h0, .inr (0, [.ref h1, .int (nI 0), .ref h2, .null])), bd_Ar h1 d1 5 (fun _ => 0), bd_Pr h2 h4, bd_Tm h4 d4 (fun _ => nI 0)] := hD
  refine lv_aload_n hx hb dX0_init_22 rfl (lv_at hl 0 rfl) ?_
  refine lv_bipush (v := nI 6) hx hb dX0_init_23 (by decide) ?_
  refine va_newa (atype := .int) (ty := .int) (n := nI 6) (N' := 6) (a0 := (6, .inl (fun _ => nI 0))) hx hb (hts _ q25) rfl hK hP hD hS hA (fun _ => rfl) (by decide) (by decide) (by decide) (Nat.le_of_ble_eq_true rfl) (Nat.le_of_ble_eq_true rfl) dX0_init_25 (fun h3 d3 H hK hP hD hS => ?_)
  have hP : va_P (dC, dI) vwCl [(h0, .inr (0, [.ref h1, .int (nI 0), .ref h2, .null])), bd_Ar h1 d1 5 (fun _ => 0), bd_Pr h2 h4, bd_Tm h4 d4 (fun _ => nI 0), bd_Ar h3 d3 6 (fun _ => 0)] H := hP
  have hD : va_D A [(h0, .inr (0, [.ref h1, .int (nI 0), .ref h2, .null])), bd_Ar h1 d1 5 (fun _ => 0), bd_Pr h2 h4, bd_Tm h4 d4 (fun _ => nI 0), bd_Ar h3 d3 6 (fun _ => 0)] := hD
  have hK : va_K (dC, dI) vwCl [(d1, .int), (d4, .int), (d3, .int)] s := hK
  refine va_putF (D := (dC, dI)) (ci := 0) (v := .ref h3) (ty := .array .int) (C := RX0) (T := TX0) (N := 4) hx hb hts in_X0 tyX0 tyX0_ok nmX0 hown hK hP hD hS 0 rfl rfl 3 (by decide) (hts _ q29) (fun _ h9 => h9) rfl hin rfl (by decide +kernel) rfl rfl (Nat.le_of_ble_eq_true rfl) dX0_init_27 (fun H locs hP hD hS => ?_)
  have hP : va_P (dC, dI) vwCl [bd_Dk h0 h1 h2 h3 0, bd_Ar h1 d1 5 (fun _ => 0), bd_Pr h2 h4, bd_Tm h4 d4 (fun _ => nI 0), bd_Ar h3 d3 6 (fun _ => 0)] H := hP
  have hD : va_D A [bd_Dk h0 h1 h2 h3 0, bd_Ar h1 d1 5 (fun _ => 0), bd_Pr h2 h4, bd_Tm h4 d4 (fun _ => nI 0), bd_Ar h3 d3 6 (fun _ => 0)] := hD
  have hP := hP.sub (ws' := [bd_Dk h0 h1 h2 h3 0, bd_Ar h1 d1 5 (fun _ => 0), bd_Ar h3 d3 6 (fun _ => 0), bd_Pr h2 h4, bd_Tm h4 d4 (fun _ => nI 0)]) [0, 1, 4, 2, 3] rfl
  have hD := hD.sub (ws' := [bd_Dk h0 h1 h2 h3 0, bd_Ar h1 d1 5 (fun _ => 0), bd_Ar h3 d3 6 (fun _ => 0), bd_Pr h2 h4, bd_Tm h4 d4 (fun _ => nI 0)]) [0, 1, 4, 2, 3] (by decide) rfl
  have hK := hK.sub (tys' := [(d1, .int), (d3, .int), (d4, .int)]) [0, 2, 1] rfl
  refine W.widen (k := 4) (n := 38) (by decide) (by decide) ?_
  exact W.vret hx hb hr (fun t ht hW => ⟨⟨(), rfl, trivial, h1, h2, h3, h4, d1, d3, d4, by rw [ht]; exact hP, va_K.moved hW.alike hK, hD⟩, hS.F ht⟩) hS.2.2 dX0_init_30 hlocks
set_option maxHeartbeats 4000000 in
set_option maxRecDepth 100000 in
/-- BoxDeskModel(): no rows -/
theorem bd_c_minit (l : Launch) (dC : Nat → ClassId) (dI : Nat → Nat → Nat) (h0 sz : Nat) : Met l yX2_init (ws_ yX2_init cX2_init 1 none) { frames := 1, cells := 3, slots := 7786, locals := 12 } (va_Pc [.ref h0] (bd_pW dC dI sz [(h0, .inr (2, [.null, .int (nI 0), .null, .null]))] [])) (va_Qv (fun _ : Unit => True) (fun (_ : Unit) t => ∃ (h1 h2 h3 : Nat) (d1 d2 d3 : ClassId), bd_bW dC dI (va_A [(h0, .inr (2, [.null, .int (nI 0), .null, .null]))] sz) [bd_Md h0 h1 h2 h3 0, bd_Ar h1 d1 5 (fun _ => 0), bd_Ar h2 d2 5 (fun _ => 0), bd_Lr h3 d3 7776 (fun _ => 0)] [(d1, .int), (d2, .int), (d3, .long)] t) (va_A [(h0, .inr (2, [.null, .int (nI 0), .null, .null]))] sz)) 3 7786 (va_A [(h0, .inr (2, [.null, .int (nI 0), .null, .null]))] sz) := by
  refine bd_met0 (Qc := fun A => va_Qv (fun _ : Unit => True) (fun (_ : Unit) t => ∃ (h1 h2 h3 : Nat) (d1 d2 d3 : ClassId), bd_bW dC dI A [bd_Md h0 h1 h2 h3 0, bd_Ar h1 d1 5 (fun _ => 0), bd_Ar h2 d2 5 (fun _ => 0), bd_Lr h3 d3 7776 (fun _ => 0)] [(d1, .int), (d2, .int), (d3, .long)] t) A) (by decide) (Nat.le_of_ble_eq_true rfl) ?_
  intro p e s m below meth c ls A hx hb hr hml hown hlocks hnm hts hA hP hD hS hK hl
  have hl : lv_has ls 1 [(0, .ref h0)] := hl
  have hin : meth.name = "<init>" := hnm
  refine lv_aload_n hx hb dX2_init_0 rfl (lv_at hl 0 rfl) ?_
  refine W.objInit hx hb hown (hts _ q93) (hts _ q13) (hts _ q14) rfl (by rw [hml]; exact hl.1) rfl dX2_init_1 (Nat.le_of_ble_eq_true rfl) (Nat.le_of_ble_eq_true rfl) ?_
  refine W.eq (g2 := F0 m 4 ls []) rfl ?_
  refine lv_aload_n hx hb dX2_init_4 rfl (lv_at hl 0 rfl) ?_
  refine lv_iconst (v := nI 5) hx hb dX2_init_5 (by decide) ?_
  refine va_newa (atype := .int) (ty := .int) (n := nI 5) (N' := 5) (a0 := (5, .inl (fun _ => nI 0))) hx hb (hts _ q25) rfl hK hP hD hS hA (fun _ => rfl) (by decide) (by decide) (by decide) (Nat.le_of_ble_eq_true rfl) (Nat.le_of_ble_eq_true rfl) dX2_init_6 (fun h1 d1 H hK hP hD hS => ?_)
  have hP : va_P (dC, dI) vwCl [(h0, .inr (2, [.null, .int (nI 0), .null, .null])), bd_Ar h1 d1 5 (fun _ => 0)] H := hP
  have hD : va_D A [(h0, .inr (2, [.null, .int (nI 0), .null, .null])), bd_Ar h1 d1 5 (fun _ => 0)] := hD
  have hK : va_K (dC, dI) vwCl [(d1, .int)] s := hK
  refine va_putF (D := (dC, dI)) (ci := 2) (v := .ref h1) (ty := .array .int) (C := RX2) (T := TX2) (N := 4) hx hb hts in_X2 tyX2 tyX2_ok nmX2 hown hK hP hD hS 0 rfl rfl 0 (by decide) (hts _ q94) (fun _ h9 => h9) rfl hin rfl (by decide +kernel) rfl rfl (Nat.le_of_ble_eq_true rfl) dX2_init_8 (fun H locs hP hD hS => ?_)
  have hP : va_P (dC, dI) vwCl [(h0, .inr (2, [.ref h1, .int (nI 0), .null, .null])), bd_Ar h1 d1 5 (fun _ => 0)] H := hP
  have hD : va_D A [(h0, .inr (2, [.ref h1, .int (nI 0), .null, .null])), bd_Ar h1 d1 5 (fun _ => 0)] := hD
  refine lv_aload_n hx hb dX2_init_11 rfl (lv_at hl 0 rfl) ?_
  refine lv_iconst (v := nI 5) hx hb dX2_init_12 (by decide) ?_
  refine va_newa (atype := .int) (ty := .int) (n := nI 5) (N' := 5) (a0 := (5, .inl (fun _ => nI 0))) hx hb (hts _ q25) rfl hK hP hD hS hA (fun _ => rfl) (by decide) (by decide) (by decide) (Nat.le_of_ble_eq_true rfl) (Nat.le_of_ble_eq_true rfl) dX2_init_13 (fun h2 d2 H hK hP hD hS => ?_)
  have hP : va_P (dC, dI) vwCl [(h0, .inr (2, [.ref h1, .int (nI 0), .null, .null])), bd_Ar h1 d1 5 (fun _ => 0), bd_Ar h2 d2 5 (fun _ => 0)] H := hP
  have hD : va_D A [(h0, .inr (2, [.ref h1, .int (nI 0), .null, .null])), bd_Ar h1 d1 5 (fun _ => 0), bd_Ar h2 d2 5 (fun _ => 0)] := hD
  have hK : va_K (dC, dI) vwCl [(d1, .int), (d2, .int)] s := hK
  refine va_putF (D := (dC, dI)) (ci := 2) (v := .ref h2) (ty := .array .int) (C := RX2) (T := TX2) (N := 4) hx hb hts in_X2 tyX2 tyX2_ok nmX2 hown hK hP hD hS 0 rfl rfl 2 (by decide) (hts _ q96) (fun _ h9 => h9) rfl hin rfl (by decide +kernel) rfl rfl (Nat.le_of_ble_eq_true rfl) dX2_init_15 (fun H locs hP hD hS => ?_)
  have hP : va_P (dC, dI) vwCl [(h0, .inr (2, [.ref h1, .int (nI 0), .ref h2, .null])), bd_Ar h1 d1 5 (fun _ => 0), bd_Ar h2 d2 5 (fun _ => 0)] H := hP
  have hD : va_D A [(h0, .inr (2, [.ref h1, .int (nI 0), .ref h2, .null])), bd_Ar h1 d1 5 (fun _ => 0), bd_Ar h2 d2 5 (fun _ => 0)] := hD
  refine lv_aload_n hx hb dX2_init_18 rfl (lv_at hl 0 rfl) ?_
  refine lv_sipush (v := nI 7776) hx hb dX2_init_19 (by decide) ?_
  refine va_newa (atype := .long) (ty := .long) (n := nI 7776) (N' := 7776) (a0 := (7776, .inr (.inl (fun _ => lN 0)))) hx hb (hts _ q107) rfl hK hP hD hS hA (fun _ => rfl) (by decide) (by decide) (by decide) (Nat.le_of_ble_eq_true rfl) (Nat.le_of_ble_eq_true rfl) dX2_init_22 (fun h3 d3 H hK hP hD hS => ?_)
  have hP : va_P (dC, dI) vwCl [(h0, .inr (2, [.ref h1, .int (nI 0), .ref h2, .null])), bd_Ar h1 d1 5 (fun _ => 0), bd_Ar h2 d2 5 (fun _ => 0), bd_Lr h3 d3 7776 (fun _ => 0)] H := hP
  have hD : va_D A [(h0, .inr (2, [.ref h1, .int (nI 0), .ref h2, .null])), bd_Ar h1 d1 5 (fun _ => 0), bd_Ar h2 d2 5 (fun _ => 0), bd_Lr h3 d3 7776 (fun _ => 0)] := hD
  have hK : va_K (dC, dI) vwCl [(d1, .int), (d2, .int), (d3, .long)] s := hK
  refine va_putF (D := (dC, dI)) (ci := 2) (v := .ref h3) (ty := .array .long) (C := RX2) (T := TX2) (N := 4) hx hb hts in_X2 tyX2 tyX2_ok nmX2 hown hK hP hD hS 0 rfl rfl 3 (by decide) (hts _ q97) (fun _ h9 => h9) rfl hin rfl (by decide +kernel) rfl rfl (Nat.le_of_ble_eq_true rfl) dX2_init_24 (fun H locs hP hD hS => ?_)
  have hP : va_P (dC, dI) vwCl [bd_Md h0 h1 h2 h3 0, bd_Ar h1 d1 5 (fun _ => 0), bd_Ar h2 d2 5 (fun _ => 0), bd_Lr h3 d3 7776 (fun _ => 0)] H := hP
  have hD : va_D A [bd_Md h0 h1 h2 h3 0, bd_Ar h1 d1 5 (fun _ => 0), bd_Ar h2 d2 5 (fun _ => 0), bd_Lr h3 d3 7776 (fun _ => 0)] := hD
  refine W.widen (k := 3) (n := 7786) (by decide) (by decide) ?_
  exact W.vret hx hb hr (fun t ht hW => ⟨⟨(), rfl, trivial, h1, h2, h3, d1, d2, d3, by rw [ht]; exact hP, va_K.moved hW.alike hK, hD⟩, hS.F ht⟩) hS.2.2 dX2_init_27 hlocks
end
section
/-! THE CLAIM OUT OF ONE WALK OF THE LAW'S BODY. Your part is whole_start (and what it stands on); all else here is the same for every law, but numbers. -/
def R_law : String := "BoxDeskLaw"
def lw_P (b : Addr) (xs : List Int32) (args : Array Value) (s : State) : Prop := args = #[.ref b] ∧ s.IntsAt b xs ∧ xs.length ≤ 192 ∧ (Jvm.Cond.and given_1 narrow_1).before args s = true
def lw_Q (_ : Array Value) (s : State) (o : Outcome) (t : State) : Prop := o = .returned (some (.int 1)) ∧ Framed s o t [] 600000 7290000
def lw_Z (below : List Frame) (a : Array Value) (s : State) : State → Prop := fun t => ∃ o, t.status = .running ∧ Ended t below o ∧ lw_Q a s o t
/-- the law's own end, with 1 on the stack, nothing written that was there before, its room as the claim has it -/
theorem lw_ret {p : Program} {l : Launch} {e : Env} {s : State} {m : MethodId} {below : List Frame} {meth : Method} {c : Code} {b : Nat} (hx : p.tables.exec = Jvm.exec) (hb : c.code = code) (hr : meth.sig.returnType = ret) (hlocks : meth.locks = false) {pc : Nat} {H : Heap} {ls : Array Slot} (hdg : decode code pc = .ok (.ireturn, 1)) : W p l e room_1 s m #[Value.ref b] below meth c H [] 600000 7290000 (lw_Z below #[Value.ref b] s) (F0 m pc ls [.int 1]) := by
  intro T hT X
  obtain ⟨fs, hret, hrun, hended, hW, hframe⟩ := X.leave (v := some (.int 1)) (hlocks := hlocks) (fun h => by rw [hr] at h; cases h)
  have hmeth' : T.vm.method? m = some meth := X.method'
  refine ⟨T.setFrames fs, ?_, .returned (some (.int 1)), hrun, hended, rfl, ⟨_, rfl⟩, hW, hframe⟩
  jvm_step X.here [X.here.top, hx, hb, hdg, hmeth', hr, ret, narrow_b1]
  (try refine ⟨rfl, ?_⟩); (try refine ⟨rfl, ?_⟩)
  first | (intro acts; rw [hret _ acts rfl rfl rfl]) | rw [hret _ _ rfl rfl rfl]
  exact Steps.refl _
/-- what holds at the law's entry: the machine, the code, the tables' words (any of lw_tbl by 'hts w (by decide +kernel)'), the script of L ints xs at the cell b, what the Statement gives of the start (any of its parts by flat_of_before) -/
def lw_At (p : Program) (s : State) (m : MethodId) (meth : Method) (c : Code) (b L : Nat) (xs : Nat → Int32) : Prop :=
  p.tables.exec = Jvm.exec ∧ c.code = code ∧ meth.sig.returnType = ret ∧ c.maxLocals = 4 ∧ s.vm.findClass R_law = some m.cls ∧ (∀ w ∈ lw_tbl, w.before #[Value.ref b] s = true) ∧ va_X b L xs s s.heap ∧ b < s.heap.size ∧ meth.locks = false ∧ (Jvm.Cond.and given_1 narrow_1).before #[Value.ref b] s = true
end
section
/-! THE LAW -/
set_option maxRecDepth 100000
theorem bd_sld {p : Program} {l : Launch} {e : Env} {R : Room} {s : State} {m : MethodId} {args : Array Value} {below : List Frame} {meth : Method} {c : Code} {H : Heap} {locs : List Loc} {cells slots : Nat} {Q : State → Prop} {cc : ByteArray} {pc : Nat} {ls : Array Slot} {rest : List Value} {A : Nat → Prop} {H0 : Heap} (hexec : p.tables.exec = Jvm.exec) (hb : c.code = cc) {b L : Nat} {xs : Nat → Int32} (hX : va_X b L xs s H0) (hbl : b < H0.size) (hbA : ¬ A b) (hS : va_S A H0 H locs) {i : Nat} (hi : i < L) (hL : L < 2 ^ 31) (hdg : decode cc pc = .ok (.iaload, 1))
    (kk : W p l e R s m args below meth c H locs cells slots Q (F0 m (pc + 1) ls (.int (xs i) :: rest))) : W p l e R s m args below meth c H locs cells slots Q (F0 m pc ls (.int (nI i) :: .ref b :: rest)) := by
  refine va_sld hexec hb hX hbl hbA hS (vp_in_nI hi hL) hdg ?_
  rw [nI_clamp (Nat.lt_trans hi hL)]
  exact kk
theorem bd_lawcmp {i L : Nat} (hi : i < 2 ^ 30) (hL : L < 2 ^ 30) (h : ¬ Int32.ofNat L - nI 3 < nI i) : i + 3 ≤ L := by
  have h1 : (Int32.ofNat L - nI 3).toInt = (L : Int) - 3 := pk_sub_toInt (a := L) (b := 3) hL (by decide)
  rw [Int32.lt_iff_toInt_lt, h1, nI_toInt (by omega)] at h
  omega
theorem bd_cmp0 (x : Int64) : lg_cmp x x = nI 0 := by
  simp [lg_cmp]
  decide
set_option maxHeartbeats 4000000 in
set_option maxRecDepth 100000 in
/-- the law's loop at its head: both hold the same rows -/
theorem bd_law_loop {p : Program} {e : Env} {s : State} {m : MethodId} {below : List Frame} {meth : Method} {c : Code} (l : Launch) {b L : Nat} {xs : Nat → Int32} (hL : L ≤ 192) (C0 : lw_At p s m meth c b L xs) {dC : Nat → ClassId} {dI : Nat → Nat → Nat} {h0 h1 h2 h3 h4 g0 g1 g2 g3 : Nat} {d1 d3 d4 e1 e2 e3 : ClassId} (hK : va_K (dC, dI) vwCl [(d1, .int), (d3, .int), (d4, .int), (e1, .int), (e2, .int), (e3, .long)] s) : ∀ (r i n : Nat) (f w : Nat → Nat) (tm : Nat → Int32) (g v : Nat → Nat) (H : Heap) (locs : List Loc) (ls : Array Slot), i ≤ L + 2 → L + 1 ≤ i + r → bd_V n f → va_P (dC, dI) vwCl [bd_Dk h0 h1 h2 h3 n, bd_Ar h1 d1 5 f, bd_Ar h3 d3 6 w, bd_Pr h2 h4, bd_Tm h4 d4 tm, bd_Md g0 g1 g2 g3 n, bd_Ar g1 e1 5 f, bd_Ar g2 e2 5 g, bd_Lr g3 e3 7776 v] H → va_D (fun q : Nat => s.heap.size ≤ q) [bd_Dk h0 h1 h2 h3 n, bd_Ar h1 d1 5 f, bd_Ar h3 d3 6 w, bd_Pr h2 h4, bd_Tm h4 d4 tm, bd_Md g0 g1 g2 g3 n, bd_Ar g1 e1 5 f, bd_Ar g2 e2 5 g, bd_Lr g3 e3 7776 v] → va_S (fun q : Nat => s.heap.size ≤ q) s.heap H locs → lv_has ls 4 [(3, .int (nI i)), (2, .ref g0), (1, .ref h0), (0, .ref b)] → W p l e room_1 s m #[Value.ref b] below meth c H locs 9 7832 (lw_Z below #[Value.ref b] s) (F0 m 18 ls []) := by
  obtain ⟨hx, hb, hr, hml, hown, hts0, hX, hbl, hlocks, hgv⟩ := id C0
  have hts : ∀ w ∈ lw_all, w.before #[Value.ref b] s = true := fun w h => hts0 w (lw_all_tbl h)
  have hA : ∀ q : Nat, s.heap.size ≤ q → (fun q : Nat => s.heap.size ≤ q) q := fun _ h => h
  have hbA : ¬ (fun q : Nat => s.heap.size ≤ q) b := Nat.not_le.mpr hbl
  intro r
  induction r with
  | zero =>
    intro i n f w tm g v H locs ls z1 z2 hV hP hD hS hl
    refine lv_iload_n hx hb dL_law_18 rfl (lv_at hl 0 rfl) ?_
    refine lv_aload_n hx hb dL_law_19 rfl (lv_at hl 3 rfl) ?_
    refine va_slen hx hb hX hbl hbA hS dL_law_20 ?_
    refine lv_iconst (v := nI 3) hx hb dL_law_21 (by decide) ?_
    refine lv_isub hx hb dL_law_22 ?_
    refine lv_icmp_gt (tgt := 214) hx hb dL_law_23 (by decide) (fun c1 => ?_) (fun c1 => ?_)
    · refine lv_iconst (v := 1) hx hb dL_law_214 (by decide) ?_
      refine va_forget (fun q hq => hS.2.2 q hq) ?_
      refine W.widen (k := 600000) (n := 7290000) (by decide) (by decide) ?_
      exact lw_ret hx hb hr hlocks dL_law_215
    · have := bd_lawcmp (i := i) (L := L) (by omega) (by omega) c1
      omega
  | succ r ih =>
    intro i n f w tm g v H locs ls z1 z2 hV hP hD hS hl
    refine lv_iload_n hx hb dL_law_18 rfl (lv_at hl 0 rfl) ?_
    refine lv_aload_n hx hb dL_law_19 rfl (lv_at hl 3 rfl) ?_
    refine va_slen hx hb hX hbl hbA hS dL_law_20 ?_
    refine lv_iconst (v := nI 3) hx hb dL_law_21 (by decide) ?_
    refine lv_isub hx hb dL_law_22 ?_
    refine lv_icmp_gt (tgt := 214) hx hb dL_law_23 (by decide) (fun c1 => ?_) (fun c1 => ?_)
    · refine lv_iconst (v := 1) hx hb dL_law_214 (by decide) ?_
      refine va_forget (fun q hq => hS.2.2 q hq) ?_
      refine W.widen (k := 600000) (n := 7290000) (by decide) (by decide) ?_
      exact lw_ret hx hb hr hlocks dL_law_215
    · have hi3 := bd_lawcmp (i := i) (L := L) (by omega) (by omega) c1
      have hn5 := hV.1
      have K208 : ∀ (n : Nat) (f w : Nat → Nat) (tm : Nat → Int32) (g v : Nat → Nat) (H : Heap) (locs : List Loc) (ls : Array Slot), bd_V n f → va_P (dC, dI) vwCl [bd_Dk h0 h1 h2 h3 n, bd_Ar h1 d1 5 f, bd_Ar h3 d3 6 w, bd_Pr h2 h4, bd_Tm h4 d4 tm, bd_Md g0 g1 g2 g3 n, bd_Ar g1 e1 5 f, bd_Ar g2 e2 5 g, bd_Lr g3 e3 7776 v] H → va_D (fun q : Nat => s.heap.size ≤ q) [bd_Dk h0 h1 h2 h3 n, bd_Ar h1 d1 5 f, bd_Ar h3 d3 6 w, bd_Pr h2 h4, bd_Tm h4 d4 tm, bd_Md g0 g1 g2 g3 n, bd_Ar g1 e1 5 f, bd_Ar g2 e2 5 g, bd_Lr g3 e3 7776 v] → va_S (fun q : Nat => s.heap.size ≤ q) s.heap H locs → lv_has ls 4 [(3, .int (nI i)), (2, .ref g0), (1, .ref h0), (0, .ref b)] → W p l e room_1 s m #[Value.ref b] below meth c H locs 9 7832 (lw_Z below #[Value.ref b] s) (F0 m 208 ls []) := by
        intro n f w tm g v H locs ls hV hP hD hS hl
        refine lv_iinc (v := nI (i + 3)) (lv' := [(3, .int (nI (i + 3))), (2, .ref g0), (1, .ref h0), (0, .ref b)]) hx hb dL_law_208 hl (k := 0) rfl (nI_add _ _) (by decide) rfl (fun ls hl => ?_)
        refine lv_goto (tgt := 18) hx hb dL_law_211 (by decide) ?_
        exact ih (i + 3) n f w tm g v H locs ls (by omega) (by omega) hV hP hD hS hl
      refine lv_aload_n hx hb dL_law_26 rfl (lv_at hl 3 rfl) ?_
      refine lv_iload_n hx hb dL_law_27 rfl (lv_at hl 0 rfl) ?_
      refine bd_sld (i := i) hx hb hX hbl hbA hS (by omega) (by omega) dL_law_28 ?_
      refine lv_bipush (v := nI 7) hx hb dL_law_29 (by decide) ?_
      obtain ⟨k, hk, hke⟩ := pk_andE (xs i) (m := nI 7) 3 (by decide)
      refine lv_iand hx hb dL_law_31 ?_
      refine bd_eqi hke ?_
      have hk8 : k = 0 ∨ k = 1 ∨ k = 2 ∨ k = 3 ∨ k = 4 ∨ k = 5 ∨ k = 6 ∨ k = 7 := by omega
      rcases hk8 with rfl | rfl | rfl | rfl | rfl | rfl | rfl | rfl
      · refine lv_tableIn (off := 44) (tgt := 76) hx hb dL_law_32 (by decide) (by decide) rfl (by decide) ?_
        refine lv_aload_n hx hb dL_law_76 rfl (lv_at hl 2 rfl) ?_
        refine lv_aload_n hx hb dL_law_77 rfl (lv_at hl 3 rfl) ?_
        refine lv_iload_n hx hb dL_law_78 rfl (lv_at hl 0 rfl) ?_
        refine lv_iconst (v := nI 1) hx hb dL_law_79 (by decide) ?_
        refine lv_iadd hx hb dL_law_80 ?_
        refine bd_eqi (y := nI (i + 1)) (nI_add _ _) ?_
        refine bd_sld (i := i + 1) hx hb hX hbl hbA hS (by omega) (by omega) dL_law_81 ?_
        refine bd_callVi (As := [.int (xs (i + 1))]) (rest := []) (wc := [bd_Dk h0 h1 h2 h3 n, bd_Ar h1 d1 5 f]) (wr := [bd_Ar h3 d3 6 w, bd_Pr h2 h4, bd_Tm h4 d4 tm, bd_Md g0 g1 g2 g3 n, bd_Ar g1 e1 5 f, bd_Ar g2 e2 5 g, bd_Lr g3 e3 7776 v]) (w2 := fun u => [bd_Dk h0 h1 h2 h3 u.1, bd_Ar h1 d1 5 u.2, bd_Ar h3 d3 6 w, bd_Pr h2 h4, bd_Tm h4 d4 tm, bd_Md g0 g1 g2 g3 n, bd_Ar g1 e1 5 f, bd_Ar g2 e2 5 g, bd_Lr g3 e3 7776 v]) (ci := 0) (q0 := 0) (C := RX0) (T := TX0) (N := 4) ⟨hx, hb, hml, hown, hts⟩ (bd_c_dadd l dC dI h0 h1 h2 h3 d1 n f (xs (i + 1)) _ hV) (cwV 1 hts (lw_V q39 q40 q41 q4 q42) rfl rfl rfl (by decide +kernel) ⟨Nat.le_of_ble_eq_true rfl, Nat.le_of_ble_eq_true rfl⟩) hK hP hD hS hA [0, 1] [2, 3, 4, 5, 6, 7, 8] [0] [7, 8, 0, 1, 2, 3, 4, 5, 6] rfl (by decide) rfl (by decide) (by decide) rfl (fun _ => rfl) (by decide) rfl rfl rfl hl.1 rfl (Nat.le_of_ble_eq_true rfl) dL_law_82 ⟨Nat.le_of_ble_eq_true rfl, Nat.le_of_ble_eq_true rfl⟩ (fun r u H locs hw1 hP hD hS => ?_)
        obtain ⟨r1, rfl⟩ : ∃ z, z = r := ⟨_, rfl⟩
        obtain ⟨n1, f1⟩ := u
        have hP : va_P (dC, dI) vwCl [bd_Dk h0 h1 h2 h3 n1, bd_Ar h1 d1 5 f1, bd_Ar h3 d3 6 w, bd_Pr h2 h4, bd_Tm h4 d4 tm, bd_Md g0 g1 g2 g3 n, bd_Ar g1 e1 5 f, bd_Ar g2 e2 5 g, bd_Lr g3 e3 7776 v] H := hP
        have hD : va_D (fun q : Nat => s.heap.size ≤ q) [bd_Dk h0 h1 h2 h3 n1, bd_Ar h1 d1 5 f1, bd_Ar h3 d3 6 w, bd_Pr h2 h4, bd_Tm h4 d4 tm, bd_Md g0 g1 g2 g3 n, bd_Ar g1 e1 5 f, bd_Ar g2 e2 5 g, bd_Lr g3 e3 7776 v] := hD
        refine lv_aload_n hx hb dL_law_85 rfl (lv_at hl 1 rfl) ?_
        refine lv_aload_n hx hb dL_law_86 rfl (lv_at hl 3 rfl) ?_
        refine lv_iload_n hx hb dL_law_87 rfl (lv_at hl 0 rfl) ?_
        refine lv_iconst (v := nI 1) hx hb dL_law_88 (by decide) ?_
        refine lv_iadd hx hb dL_law_89 ?_
        refine bd_eqi (y := nI (i + 1)) (nI_add _ _) ?_
        refine bd_sld (i := i + 1) hx hb hX hbl hbA hS (by omega) (by omega) dL_law_90 ?_
        refine bd_callVi (As := [.int (xs (i + 1))]) (rest := [.int r1]) (wc := [bd_Md g0 g1 g2 g3 n, bd_Ar g1 e1 5 f]) (wr := [bd_Dk h0 h1 h2 h3 n1, bd_Ar h1 d1 5 f1, bd_Ar h3 d3 6 w, bd_Pr h2 h4, bd_Tm h4 d4 tm, bd_Ar g2 e2 5 g, bd_Lr g3 e3 7776 v]) (w2 := fun u => [bd_Dk h0 h1 h2 h3 n1, bd_Ar h1 d1 5 f1, bd_Ar h3 d3 6 w, bd_Pr h2 h4, bd_Tm h4 d4 tm, bd_Md g0 g1 g2 g3 u.1, bd_Ar g1 e1 5 u.2, bd_Ar g2 e2 5 g, bd_Lr g3 e3 7776 v]) (ci := 2) (q0 := 0) (C := RX2) (T := TX2) (N := 4) ⟨hx, hb, hml, hown, hts⟩ (bd_c_madd l dC dI g0 g1 g2 g3 e1 n f (xs (i + 1)) _ hV) (cwV 1 hts (lw_V q108 q109 q110 q6 q111) rfl rfl rfl (by decide +kernel) ⟨Nat.le_of_ble_eq_true rfl, Nat.le_of_ble_eq_true rfl⟩) hK hP hD hS hA [5, 6] [0, 1, 2, 3, 4, 7, 8] [3] [0, 1, 2, 3, 4, 7, 8, 5, 6] rfl (by decide) rfl (by decide) (by decide) rfl (fun _ => rfl) (by decide) rfl rfl rfl hl.1 rfl (Nat.le_of_ble_eq_true rfl) dL_law_91 ⟨Nat.le_of_ble_eq_true rfl, Nat.le_of_ble_eq_true rfl⟩ (fun r u H locs hw2 hP hD hS => ?_)
        obtain ⟨r2, rfl⟩ : ∃ z, z = r := ⟨_, rfl⟩
        obtain ⟨he, hu⟩ := bd_added_one hw1 hw2
        have hm5 := bd_m5_lt (xs (i + 1))
        have hV1 := bd_added_V hV (by omega) (by omega) hw1
        subst hu
        have hP : va_P (dC, dI) vwCl [bd_Dk h0 h1 h2 h3 n1, bd_Ar h1 d1 5 f1, bd_Ar h3 d3 6 w, bd_Pr h2 h4, bd_Tm h4 d4 tm, bd_Md g0 g1 g2 g3 n1, bd_Ar g1 e1 5 f1, bd_Ar g2 e2 5 g, bd_Lr g3 e3 7776 v] H := hP
        have hD : va_D (fun q : Nat => s.heap.size ≤ q) [bd_Dk h0 h1 h2 h3 n1, bd_Ar h1 d1 5 f1, bd_Ar h3 d3 6 w, bd_Pr h2 h4, bd_Tm h4 d4 tm, bd_Md g0 g1 g2 g3 n1, bd_Ar g1 e1 5 f1, bd_Ar g2 e2 5 g, bd_Lr g3 e3 7776 v] := hD
        refine lv_icmp_eq (tgt := 208) hx hb dL_law_94 (by decide) (fun c2 => ?_) (fun c2 => ?_)
        · exact K208 n1 f1 w tm g v H locs ls hV1 hP hD hS hl
        · exact absurd (he) c2
      · refine lv_tableIn (off := 67) (tgt := 99) hx hb dL_law_32 (by decide) (by decide) rfl (by decide) ?_
        refine lv_aload_n hx hb dL_law_99 rfl (lv_at hl 2 rfl) ?_
        refine bd_callVi (As := []) (rest := []) (wc := [bd_Dk h0 h1 h2 h3 n]) (wr := [bd_Ar h1 d1 5 f, bd_Ar h3 d3 6 w, bd_Pr h2 h4, bd_Tm h4 d4 tm, bd_Md g0 g1 g2 g3 n, bd_Ar g1 e1 5 f, bd_Ar g2 e2 5 g, bd_Lr g3 e3 7776 v]) (w2 := fun u => [bd_Dk h0 h1 h2 h3 u, bd_Ar h1 d1 5 f, bd_Ar h3 d3 6 w, bd_Pr h2 h4, bd_Tm h4 d4 tm, bd_Md g0 g1 g2 g3 n, bd_Ar g1 e1 5 f, bd_Ar g2 e2 5 g, bd_Lr g3 e3 7776 v]) (ci := 0) (q0 := 0) (C := RX0) (T := TX0) (N := 4) ⟨hx, hb, hml, hown, hts⟩ (bd_c_ddrop l dC dI h0 h1 h2 h3 n _ hn5) (cwV 0 hts (lw_V q44 q45 q46 q4 q47) rfl rfl rfl (by decide +kernel) ⟨Nat.le_of_ble_eq_true rfl, Nat.le_of_ble_eq_true rfl⟩) hK hP hD hS hA [0] [1, 2, 3, 4, 5, 6, 7, 8] [] [8, 0, 1, 2, 3, 4, 5, 6, 7] rfl (by decide) rfl (by decide) (by decide) rfl (fun _ => rfl) (by decide) rfl rfl rfl hl.1 rfl (Nat.le_of_ble_eq_true rfl) dL_law_100 ⟨Nat.le_of_ble_eq_true rfl, Nat.le_of_ble_eq_true rfl⟩ (fun r u H locs hw1 hP hD hS => ?_)
        obtain ⟨r1, rfl⟩ : ∃ z, z = r := ⟨_, rfl⟩
        obtain ⟨n1, rfl⟩ : ∃ z, z = u := ⟨_, rfl⟩
        have hP : va_P (dC, dI) vwCl [bd_Dk h0 h1 h2 h3 n1, bd_Ar h1 d1 5 f, bd_Ar h3 d3 6 w, bd_Pr h2 h4, bd_Tm h4 d4 tm, bd_Md g0 g1 g2 g3 n, bd_Ar g1 e1 5 f, bd_Ar g2 e2 5 g, bd_Lr g3 e3 7776 v] H := hP
        have hD : va_D (fun q : Nat => s.heap.size ≤ q) [bd_Dk h0 h1 h2 h3 n1, bd_Ar h1 d1 5 f, bd_Ar h3 d3 6 w, bd_Pr h2 h4, bd_Tm h4 d4 tm, bd_Md g0 g1 g2 g3 n, bd_Ar g1 e1 5 f, bd_Ar g2 e2 5 g, bd_Lr g3 e3 7776 v] := hD
        refine lv_aload_n hx hb dL_law_103 rfl (lv_at hl 1 rfl) ?_
        refine bd_callVi (As := []) (rest := [.int r1]) (wc := [bd_Md g0 g1 g2 g3 n]) (wr := [bd_Dk h0 h1 h2 h3 n1, bd_Ar h1 d1 5 f, bd_Ar h3 d3 6 w, bd_Pr h2 h4, bd_Tm h4 d4 tm, bd_Ar g1 e1 5 f, bd_Ar g2 e2 5 g, bd_Lr g3 e3 7776 v]) (w2 := fun u => [bd_Dk h0 h1 h2 h3 n1, bd_Ar h1 d1 5 f, bd_Ar h3 d3 6 w, bd_Pr h2 h4, bd_Tm h4 d4 tm, bd_Md g0 g1 g2 g3 u, bd_Ar g1 e1 5 f, bd_Ar g2 e2 5 g, bd_Lr g3 e3 7776 v]) (ci := 2) (q0 := 0) (C := RX2) (T := TX2) (N := 4) ⟨hx, hb, hml, hown, hts⟩ (bd_c_mdrop l dC dI g0 g1 g2 g3 n _ hn5) (cwV 0 hts (lw_V q113 q114 q115 q6 q116) rfl rfl rfl (by decide +kernel) ⟨Nat.le_of_ble_eq_true rfl, Nat.le_of_ble_eq_true rfl⟩) hK hP hD hS hA [5] [0, 1, 2, 3, 4, 6, 7, 8] [] [0, 1, 2, 3, 4, 8, 5, 6, 7] rfl (by decide) rfl (by decide) (by decide) rfl (fun _ => rfl) (by decide) rfl rfl rfl hl.1 rfl (Nat.le_of_ble_eq_true rfl) dL_law_104 ⟨Nat.le_of_ble_eq_true rfl, Nat.le_of_ble_eq_true rfl⟩ (fun r u H locs hw2 hP hD hS => ?_)
        obtain ⟨r2, rfl⟩ : ∃ z, z = r := ⟨_, rfl⟩
        obtain ⟨he, hu⟩ := bd_dropped_one hw1 hw2
        have hV1 := bd_dropped_V hV hw1
        subst hu
        have hP : va_P (dC, dI) vwCl [bd_Dk h0 h1 h2 h3 n1, bd_Ar h1 d1 5 f, bd_Ar h3 d3 6 w, bd_Pr h2 h4, bd_Tm h4 d4 tm, bd_Md g0 g1 g2 g3 n1, bd_Ar g1 e1 5 f, bd_Ar g2 e2 5 g, bd_Lr g3 e3 7776 v] H := hP
        have hD : va_D (fun q : Nat => s.heap.size ≤ q) [bd_Dk h0 h1 h2 h3 n1, bd_Ar h1 d1 5 f, bd_Ar h3 d3 6 w, bd_Pr h2 h4, bd_Tm h4 d4 tm, bd_Md g0 g1 g2 g3 n1, bd_Ar g1 e1 5 f, bd_Ar g2 e2 5 g, bd_Lr g3 e3 7776 v] := hD
        refine lv_icmp_eq (tgt := 208) hx hb dL_law_107 (by decide) (fun c2 => ?_) (fun c2 => ?_)
        · exact K208 n1 f w tm g v H locs ls hV1 hP hD hS hl
        · exact absurd (he) c2
      · refine lv_tableIn (off := 80) (tgt := 112) hx hb dL_law_32 (by decide) (by decide) rfl (by decide) ?_
        refine lv_aload_n hx hb dL_law_112 rfl (lv_at hl 2 rfl) ?_
        refine bd_callVl (As := []) (rest := []) (wc := [bd_Dk h0 h1 h2 h3 n, bd_Ar h1 d1 5 f, bd_Pr h2 h4, bd_Tm h4 d4 tm]) (wr := [bd_Ar h3 d3 6 w, bd_Md g0 g1 g2 g3 n, bd_Ar g1 e1 5 f, bd_Ar g2 e2 5 g, bd_Lr g3 e3 7776 v]) (w2 := fun u => [bd_Dk h0 h1 h2 h3 n, bd_Ar h1 d1 5 f, bd_Ar h3 d3 6 w, bd_Pr h2 h4, bd_Tm h4 d4 u, bd_Md g0 g1 g2 g3 n, bd_Ar g1 e1 5 f, bd_Ar g2 e2 5 g, bd_Lr g3 e3 7776 v]) (ci := 0) (q0 := 0) (C := RX0) (T := TX0) (N := 4) ⟨hx, hb, hml, hown, hts⟩ (bd_c_dorders l dC dI h0 h1 h2 h3 h4 d1 d4 n f tm _ hV) (cwV 0 hts (lw_V q48 q49 q50 q4 q51) rfl rfl rfl (by decide +kernel) ⟨Nat.le_of_ble_eq_true rfl, Nat.le_of_ble_eq_true rfl⟩) hK hP hD hS hA [0, 1, 3, 4] [2, 5, 6, 7, 8] [0, 2] [5, 6, 0, 7, 8, 1, 2, 3, 4] rfl (by decide) rfl (by decide) (by decide) rfl (fun _ => rfl) (by decide) rfl rfl rfl hl.1 rfl (Nat.le_of_ble_eq_true rfl) dL_law_113 ⟨Nat.le_of_ble_eq_true rfl, Nat.le_of_ble_eq_true rfl⟩ (fun r u H locs hw1 hP hD hS => ?_)
        obtain ⟨r1, rfl⟩ : ∃ z, z = r := ⟨_, rfl⟩
        obtain ⟨tm1, rfl⟩ : ∃ z, z = u := ⟨_, rfl⟩
        have hP : va_P (dC, dI) vwCl [bd_Dk h0 h1 h2 h3 n, bd_Ar h1 d1 5 f, bd_Ar h3 d3 6 w, bd_Pr h2 h4, bd_Tm h4 d4 tm1, bd_Md g0 g1 g2 g3 n, bd_Ar g1 e1 5 f, bd_Ar g2 e2 5 g, bd_Lr g3 e3 7776 v] H := hP
        have hD : va_D (fun q : Nat => s.heap.size ≤ q) [bd_Dk h0 h1 h2 h3 n, bd_Ar h1 d1 5 f, bd_Ar h3 d3 6 w, bd_Pr h2 h4, bd_Tm h4 d4 tm1, bd_Md g0 g1 g2 g3 n, bd_Ar g1 e1 5 f, bd_Ar g2 e2 5 g, bd_Lr g3 e3 7776 v] := hD
        refine lv_aload_n hx hb dL_law_116 rfl (lv_at hl 1 rfl) ?_
        refine bd_callVl (As := []) (rest := [.long r1]) (wc := [bd_Md g0 g1 g2 g3 n, bd_Ar g1 e1 5 f, bd_Ar g2 e2 5 g, bd_Lr g3 e3 7776 v]) (wr := [bd_Dk h0 h1 h2 h3 n, bd_Ar h1 d1 5 f, bd_Ar h3 d3 6 w, bd_Pr h2 h4, bd_Tm h4 d4 tm1]) (w2 := fun u => [bd_Dk h0 h1 h2 h3 n, bd_Ar h1 d1 5 f, bd_Ar h3 d3 6 w, bd_Pr h2 h4, bd_Tm h4 d4 tm1, bd_Md g0 g1 g2 g3 n, bd_Ar g1 e1 5 f, bd_Ar g2 e2 5 u.1, bd_Lr g3 e3 7776 u.2]) (ci := 2) (q0 := 0) (C := RX2) (T := TX2) (N := 4) ⟨hx, hb, hml, hown, hts⟩ (bd_c_morders l dC dI g0 g1 g2 g3 e1 e2 e3 n f g v _ hV) (cwV 0 hts (lw_V q117 q118 q119 q6 q120) rfl rfl rfl (by decide +kernel) ⟨Nat.le_of_ble_eq_true rfl, Nat.le_of_ble_eq_true rfl⟩) hK hP hD hS hA [5, 6, 7, 8] [0, 1, 2, 3, 4] [3, 4, 5] [0, 1, 2, 3, 4, 5, 6, 7, 8] rfl (by decide) rfl (by decide) (by decide) rfl (fun _ => rfl) (by decide) rfl rfl rfl hl.1 rfl (Nat.le_of_ble_eq_true rfl) dL_law_117 ⟨Nat.le_of_ble_eq_true rfl, Nat.le_of_ble_eq_true rfl⟩ (fun r u H locs hw2 hP hD hS => ?_)
        obtain ⟨r2, rfl⟩ : ∃ z, z = r := ⟨_, rfl⟩
        obtain ⟨g9, v9⟩ := u
        have hP : va_P (dC, dI) vwCl [bd_Dk h0 h1 h2 h3 n, bd_Ar h1 d1 5 f, bd_Ar h3 d3 6 w, bd_Pr h2 h4, bd_Tm h4 d4 tm1, bd_Md g0 g1 g2 g3 n, bd_Ar g1 e1 5 f, bd_Ar g2 e2 5 g9, bd_Lr g3 e3 7776 v9] H := hP
        have hD : va_D (fun q : Nat => s.heap.size ≤ q) [bd_Dk h0 h1 h2 h3 n, bd_Ar h1 d1 5 f, bd_Ar h3 d3 6 w, bd_Pr h2 h4, bd_Tm h4 d4 tm1, bd_Md g0 g1 g2 g3 n, bd_Ar g1 e1 5 f, bd_Ar g2 e2 5 g9, bd_Lr g3 e3 7776 v9] := hD
        have hw1 : r1 = lN (bd_F (bd_cd (bd_sh n f) 5)) := hw1
        have hw2 : r2 = lN (bd_F (bd_cd (bd_sh n f) 5)) := hw2
        rw [hw1, hw2]
        refine W.lcmp hx hb dL_law_120 ?_
        refine bd_eqi (bd_cmp0 _) ?_
        refine bd_if_eq (tgt := 208) hx hb dL_law_121 (by decide) (by decide) (fun c2 => ?_) (fun c2 => ?_)
        · exact K208 n f w tm1 g9 v9 H locs ls hV hP hD hS hl
        · exact absurd c2 (by decide)
      · refine lv_tableIn (off := 94) (tgt := 126) hx hb dL_law_32 (by decide) (by decide) rfl (by decide) ?_
        refine lv_aload_n hx hb dL_law_126 rfl (lv_at hl 2 rfl) ?_
        refine bd_callVi (As := []) (rest := []) (wc := [bd_Dk h0 h1 h2 h3 n, bd_Ar h1 d1 5 f]) (wr := [bd_Ar h3 d3 6 w, bd_Pr h2 h4, bd_Tm h4 d4 tm, bd_Md g0 g1 g2 g3 n, bd_Ar g1 e1 5 f, bd_Ar g2 e2 5 g, bd_Lr g3 e3 7776 v]) (w2 := fun _ => [bd_Dk h0 h1 h2 h3 n, bd_Ar h1 d1 5 f, bd_Ar h3 d3 6 w, bd_Pr h2 h4, bd_Tm h4 d4 tm, bd_Md g0 g1 g2 g3 n, bd_Ar g1 e1 5 f, bd_Ar g2 e2 5 g, bd_Lr g3 e3 7776 v]) (ci := 0) (q0 := 0) (C := RX0) (T := TX0) (N := 4) ⟨hx, hb, hml, hown, hts⟩ (bd_c_dboxes l dC dI h0 h1 h2 h3 d1 n f _ hV) (cwV 0 hts (lw_V q72 q73 q74 q4 q75) rfl rfl rfl (by decide +kernel) ⟨Nat.le_of_ble_eq_true rfl, Nat.le_of_ble_eq_true rfl⟩) hK hP hD hS hA [0, 1] [2, 3, 4, 5, 6, 7, 8] [0] [7, 8, 0, 1, 2, 3, 4, 5, 6] rfl (by decide) rfl (by decide) (by decide) rfl (fun _ => rfl) (by decide) rfl rfl rfl hl.1 rfl (Nat.le_of_ble_eq_true rfl) dL_law_127 ⟨Nat.le_of_ble_eq_true rfl, Nat.le_of_ble_eq_true rfl⟩ (fun r u H locs hw1 hP hD hS => ?_)
        obtain ⟨r1, rfl⟩ : ∃ z, z = r := ⟨_, rfl⟩
        have hw1 : r1 = nI (bd_sm f n) := hw1
        have hP : va_P (dC, dI) vwCl [bd_Dk h0 h1 h2 h3 n, bd_Ar h1 d1 5 f, bd_Ar h3 d3 6 w, bd_Pr h2 h4, bd_Tm h4 d4 tm, bd_Md g0 g1 g2 g3 n, bd_Ar g1 e1 5 f, bd_Ar g2 e2 5 g, bd_Lr g3 e3 7776 v] H := hP
        have hD : va_D (fun q : Nat => s.heap.size ≤ q) [bd_Dk h0 h1 h2 h3 n, bd_Ar h1 d1 5 f, bd_Ar h3 d3 6 w, bd_Pr h2 h4, bd_Tm h4 d4 tm, bd_Md g0 g1 g2 g3 n, bd_Ar g1 e1 5 f, bd_Ar g2 e2 5 g, bd_Lr g3 e3 7776 v] := hD
        refine lv_aload_n hx hb dL_law_130 rfl (lv_at hl 1 rfl) ?_
        refine bd_callVi (As := []) (rest := [.int r1]) (wc := [bd_Md g0 g1 g2 g3 n, bd_Ar g1 e1 5 f]) (wr := [bd_Dk h0 h1 h2 h3 n, bd_Ar h1 d1 5 f, bd_Ar h3 d3 6 w, bd_Pr h2 h4, bd_Tm h4 d4 tm, bd_Ar g2 e2 5 g, bd_Lr g3 e3 7776 v]) (w2 := fun _ => [bd_Dk h0 h1 h2 h3 n, bd_Ar h1 d1 5 f, bd_Ar h3 d3 6 w, bd_Pr h2 h4, bd_Tm h4 d4 tm, bd_Md g0 g1 g2 g3 n, bd_Ar g1 e1 5 f, bd_Ar g2 e2 5 g, bd_Lr g3 e3 7776 v]) (ci := 2) (q0 := 0) (C := RX2) (T := TX2) (N := 4) ⟨hx, hb, hml, hown, hts⟩ (bd_c_mboxes l dC dI g0 g1 g2 g3 e1 n f _ hn5) (cwV 0 hts (lw_V q125 q126 q127 q6 q128) rfl rfl rfl (by decide +kernel) ⟨Nat.le_of_ble_eq_true rfl, Nat.le_of_ble_eq_true rfl⟩) hK hP hD hS hA [5, 6] [0, 1, 2, 3, 4, 7, 8] [3] [0, 1, 2, 3, 4, 7, 8, 5, 6] rfl (by decide) rfl (by decide) (by decide) rfl (fun _ => rfl) (by decide) rfl rfl rfl hl.1 rfl (Nat.le_of_ble_eq_true rfl) dL_law_131 ⟨Nat.le_of_ble_eq_true rfl, Nat.le_of_ble_eq_true rfl⟩ (fun r u H locs hw2 hP hD hS => ?_)
        obtain ⟨r2, rfl⟩ : ∃ z, z = r := ⟨_, rfl⟩
        have hw2 : r2 = nI (bd_sm f n) := hw2
        have hP : va_P (dC, dI) vwCl [bd_Dk h0 h1 h2 h3 n, bd_Ar h1 d1 5 f, bd_Ar h3 d3 6 w, bd_Pr h2 h4, bd_Tm h4 d4 tm, bd_Md g0 g1 g2 g3 n, bd_Ar g1 e1 5 f, bd_Ar g2 e2 5 g, bd_Lr g3 e3 7776 v] H := hP
        have hD : va_D (fun q : Nat => s.heap.size ≤ q) [bd_Dk h0 h1 h2 h3 n, bd_Ar h1 d1 5 f, bd_Ar h3 d3 6 w, bd_Pr h2 h4, bd_Tm h4 d4 tm, bd_Md g0 g1 g2 g3 n, bd_Ar g1 e1 5 f, bd_Ar g2 e2 5 g, bd_Lr g3 e3 7776 v] := hD
        refine lv_icmp_eq (tgt := 208) hx hb dL_law_134 (by decide) (fun c2 => ?_) (fun c2 => ?_)
        · exact K208 n f w tm g v H locs ls hV hP hD hS hl
        · exact absurd (by rw [hw1, hw2]) c2
      · refine lv_tableIn (off := 107) (tgt := 139) hx hb dL_law_32 (by decide) (by decide) rfl (by decide) ?_
        refine lv_aload_n hx hb dL_law_139 rfl (lv_at hl 2 rfl) ?_
        refine lv_aload_n hx hb dL_law_140 rfl (lv_at hl 3 rfl) ?_
        refine lv_iload_n hx hb dL_law_141 rfl (lv_at hl 0 rfl) ?_
        refine lv_iconst (v := nI 1) hx hb dL_law_142 (by decide) ?_
        refine lv_iadd hx hb dL_law_143 ?_
        refine bd_eqi (y := nI (i + 1)) (nI_add _ _) ?_
        refine bd_sld (i := i + 1) hx hb hX hbl hbA hS (by omega) (by omega) dL_law_144 ?_
        refine lv_aload_n hx hb dL_law_145 rfl (lv_at hl 3 rfl) ?_
        refine lv_iload_n hx hb dL_law_146 rfl (lv_at hl 0 rfl) ?_
        refine lv_iconst (v := nI 2) hx hb dL_law_147 (by decide) ?_
        refine lv_iadd hx hb dL_law_148 ?_
        refine bd_eqi (y := nI (i + 2)) (nI_add _ _) ?_
        refine bd_sld (i := i + 2) hx hb hX hbl hbA hS (by omega) (by omega) dL_law_149 ?_
        refine bd_callVi (As := [.int (xs (i + 1)), .int (xs (i + 2))]) (rest := []) (wc := [bd_Dk h0 h1 h2 h3 n, bd_Ar h1 d1 5 f]) (wr := [bd_Ar h3 d3 6 w, bd_Pr h2 h4, bd_Tm h4 d4 tm, bd_Md g0 g1 g2 g3 n, bd_Ar g1 e1 5 f, bd_Ar g2 e2 5 g, bd_Lr g3 e3 7776 v]) (w2 := fun _ => [bd_Dk h0 h1 h2 h3 n, bd_Ar h1 d1 5 f, bd_Ar h3 d3 6 w, bd_Pr h2 h4, bd_Tm h4 d4 tm, bd_Md g0 g1 g2 g3 n, bd_Ar g1 e1 5 f, bd_Ar g2 e2 5 g, bd_Lr g3 e3 7776 v]) (ci := 0) (q0 := 0) (C := RX0) (T := TX0) (N := 4) ⟨hx, hb, hml, hown, hts⟩ (bd_c_dhook l dC dI h0 h1 h2 h3 d1 n f (xs (i + 1)) (xs (i + 2)) _ hV) (cwV 2 hts (lw_V q76 q77 q78 q4 q79) rfl rfl rfl (by decide +kernel) ⟨Nat.le_of_ble_eq_true rfl, Nat.le_of_ble_eq_true rfl⟩) hK hP hD hS hA [0, 1] [2, 3, 4, 5, 6, 7, 8] [0] [7, 8, 0, 1, 2, 3, 4, 5, 6] rfl (by decide) rfl (by decide) (by decide) rfl (fun _ => rfl) (by decide) rfl rfl rfl hl.1 rfl (Nat.le_of_ble_eq_true rfl) dL_law_150 ⟨Nat.le_of_ble_eq_true rfl, Nat.le_of_ble_eq_true rfl⟩ (fun r u H locs hw1 hP hD hS => ?_)
        obtain ⟨r1, rfl⟩ : ∃ z, z = r := ⟨_, rfl⟩
        have hw1 : r1 = nI (if bd_m5 (xs (i + 2)) < bd_sh n f (bd_m5 (xs (i + 1))) then bd_hk (bd_sh n f) (bd_m5 (xs (i + 1))) (bd_m5 (xs (i + 2))) else 0) := hw1
        have hP : va_P (dC, dI) vwCl [bd_Dk h0 h1 h2 h3 n, bd_Ar h1 d1 5 f, bd_Ar h3 d3 6 w, bd_Pr h2 h4, bd_Tm h4 d4 tm, bd_Md g0 g1 g2 g3 n, bd_Ar g1 e1 5 f, bd_Ar g2 e2 5 g, bd_Lr g3 e3 7776 v] H := hP
        have hD : va_D (fun q : Nat => s.heap.size ≤ q) [bd_Dk h0 h1 h2 h3 n, bd_Ar h1 d1 5 f, bd_Ar h3 d3 6 w, bd_Pr h2 h4, bd_Tm h4 d4 tm, bd_Md g0 g1 g2 g3 n, bd_Ar g1 e1 5 f, bd_Ar g2 e2 5 g, bd_Lr g3 e3 7776 v] := hD
        refine lv_aload_n hx hb dL_law_153 rfl (lv_at hl 1 rfl) ?_
        refine lv_aload_n hx hb dL_law_154 rfl (lv_at hl 3 rfl) ?_
        refine lv_iload_n hx hb dL_law_155 rfl (lv_at hl 0 rfl) ?_
        refine lv_iconst (v := nI 1) hx hb dL_law_156 (by decide) ?_
        refine lv_iadd hx hb dL_law_157 ?_
        refine bd_eqi (y := nI (i + 1)) (nI_add _ _) ?_
        refine bd_sld (i := i + 1) hx hb hX hbl hbA hS (by omega) (by omega) dL_law_158 ?_
        refine lv_aload_n hx hb dL_law_159 rfl (lv_at hl 3 rfl) ?_
        refine lv_iload_n hx hb dL_law_160 rfl (lv_at hl 0 rfl) ?_
        refine lv_iconst (v := nI 2) hx hb dL_law_161 (by decide) ?_
        refine lv_iadd hx hb dL_law_162 ?_
        refine bd_eqi (y := nI (i + 2)) (nI_add _ _) ?_
        refine bd_sld (i := i + 2) hx hb hX hbl hbA hS (by omega) (by omega) dL_law_163 ?_
        refine bd_callVi (As := [.int (xs (i + 1)), .int (xs (i + 2))]) (rest := [.int r1]) (wc := [bd_Md g0 g1 g2 g3 n, bd_Ar g1 e1 5 f]) (wr := [bd_Dk h0 h1 h2 h3 n, bd_Ar h1 d1 5 f, bd_Ar h3 d3 6 w, bd_Pr h2 h4, bd_Tm h4 d4 tm, bd_Ar g2 e2 5 g, bd_Lr g3 e3 7776 v]) (w2 := fun _ => [bd_Dk h0 h1 h2 h3 n, bd_Ar h1 d1 5 f, bd_Ar h3 d3 6 w, bd_Pr h2 h4, bd_Tm h4 d4 tm, bd_Md g0 g1 g2 g3 n, bd_Ar g1 e1 5 f, bd_Ar g2 e2 5 g, bd_Lr g3 e3 7776 v]) (ci := 2) (q0 := 0) (C := RX2) (T := TX2) (N := 4) ⟨hx, hb, hml, hown, hts⟩ (bd_c_mhook l dC dI g0 g1 g2 g3 e1 n f (xs (i + 1)) (xs (i + 2)) _ hV) (cwV 2 hts (lw_V q129 q130 q131 q6 q132) rfl rfl rfl (by decide +kernel) ⟨Nat.le_of_ble_eq_true rfl, Nat.le_of_ble_eq_true rfl⟩) hK hP hD hS hA [5, 6] [0, 1, 2, 3, 4, 7, 8] [3] [0, 1, 2, 3, 4, 7, 8, 5, 6] rfl (by decide) rfl (by decide) (by decide) rfl (fun _ => rfl) (by decide) rfl rfl rfl hl.1 rfl (Nat.le_of_ble_eq_true rfl) dL_law_164 ⟨Nat.le_of_ble_eq_true rfl, Nat.le_of_ble_eq_true rfl⟩ (fun r u H locs hw2 hP hD hS => ?_)
        obtain ⟨r2, rfl⟩ : ∃ z, z = r := ⟨_, rfl⟩
        have hw2 : r2 = nI (if bd_m5 (xs (i + 2)) < bd_sh n f (bd_m5 (xs (i + 1))) then bd_hk (bd_sh n f) (bd_m5 (xs (i + 1))) (bd_m5 (xs (i + 2))) else 0) := hw2
        have hP : va_P (dC, dI) vwCl [bd_Dk h0 h1 h2 h3 n, bd_Ar h1 d1 5 f, bd_Ar h3 d3 6 w, bd_Pr h2 h4, bd_Tm h4 d4 tm, bd_Md g0 g1 g2 g3 n, bd_Ar g1 e1 5 f, bd_Ar g2 e2 5 g, bd_Lr g3 e3 7776 v] H := hP
        have hD : va_D (fun q : Nat => s.heap.size ≤ q) [bd_Dk h0 h1 h2 h3 n, bd_Ar h1 d1 5 f, bd_Ar h3 d3 6 w, bd_Pr h2 h4, bd_Tm h4 d4 tm, bd_Md g0 g1 g2 g3 n, bd_Ar g1 e1 5 f, bd_Ar g2 e2 5 g, bd_Lr g3 e3 7776 v] := hD
        refine lv_icmp_eq (tgt := 208) hx hb dL_law_167 (by decide) (fun c2 => ?_) (fun c2 => ?_)
        · exact K208 n f w tm g v H locs ls hV hP hD hS hl
        · exact absurd (by rw [hw1, hw2]) c2
      · refine lv_tableIn (off := 140) (tgt := 172) hx hb dL_law_32 (by decide) (by decide) rfl (by decide) ?_
        refine lv_aload_n hx hb dL_law_172 rfl (lv_at hl 2 rfl) ?_
        refine lv_aload_n hx hb dL_law_173 rfl (lv_at hl 3 rfl) ?_
        refine lv_iload_n hx hb dL_law_174 rfl (lv_at hl 0 rfl) ?_
        refine lv_iconst (v := nI 1) hx hb dL_law_175 (by decide) ?_
        refine lv_iadd hx hb dL_law_176 ?_
        refine bd_eqi (y := nI (i + 1)) (nI_add _ _) ?_
        refine bd_sld (i := i + 1) hx hb hX hbl hbA hS (by omega) (by omega) dL_law_177 ?_
        refine bd_callVi (As := [.int (xs (i + 1))]) (rest := []) (wc := [bd_Dk h0 h1 h2 h3 n, bd_Ar h1 d1 5 f]) (wr := [bd_Ar h3 d3 6 w, bd_Pr h2 h4, bd_Tm h4 d4 tm, bd_Md g0 g1 g2 g3 n, bd_Ar g1 e1 5 f, bd_Ar g2 e2 5 g, bd_Lr g3 e3 7776 v]) (w2 := fun _ => [bd_Dk h0 h1 h2 h3 n, bd_Ar h1 d1 5 f, bd_Ar h3 d3 6 w, bd_Pr h2 h4, bd_Tm h4 d4 tm, bd_Md g0 g1 g2 g3 n, bd_Ar g1 e1 5 f, bd_Ar g2 e2 5 g, bd_Lr g3 e3 7776 v]) (ci := 0) (q0 := 0) (C := RX0) (T := TX0) (N := 4) ⟨hx, hb, hml, hown, hts⟩ (bd_c_dcolumn l dC dI h0 h1 h2 h3 d1 n f (xs (i + 1)) _ hV) (cwV 1 hts (lw_V q80 q81 q82 q4 q83) rfl rfl rfl (by decide +kernel) ⟨Nat.le_of_ble_eq_true rfl, Nat.le_of_ble_eq_true rfl⟩) hK hP hD hS hA [0, 1] [2, 3, 4, 5, 6, 7, 8] [0] [7, 8, 0, 1, 2, 3, 4, 5, 6] rfl (by decide) rfl (by decide) (by decide) rfl (fun _ => rfl) (by decide) rfl rfl rfl hl.1 rfl (Nat.le_of_ble_eq_true rfl) dL_law_178 ⟨Nat.le_of_ble_eq_true rfl, Nat.le_of_ble_eq_true rfl⟩ (fun r u H locs hw1 hP hD hS => ?_)
        obtain ⟨r1, rfl⟩ : ∃ z, z = r := ⟨_, rfl⟩
        have hw1 : r1 = nI (bd_cnt (bd_sh n f) (bd_m5 (xs (i + 1))) 5) := hw1
        have hP : va_P (dC, dI) vwCl [bd_Dk h0 h1 h2 h3 n, bd_Ar h1 d1 5 f, bd_Ar h3 d3 6 w, bd_Pr h2 h4, bd_Tm h4 d4 tm, bd_Md g0 g1 g2 g3 n, bd_Ar g1 e1 5 f, bd_Ar g2 e2 5 g, bd_Lr g3 e3 7776 v] H := hP
        have hD : va_D (fun q : Nat => s.heap.size ≤ q) [bd_Dk h0 h1 h2 h3 n, bd_Ar h1 d1 5 f, bd_Ar h3 d3 6 w, bd_Pr h2 h4, bd_Tm h4 d4 tm, bd_Md g0 g1 g2 g3 n, bd_Ar g1 e1 5 f, bd_Ar g2 e2 5 g, bd_Lr g3 e3 7776 v] := hD
        refine lv_aload_n hx hb dL_law_181 rfl (lv_at hl 1 rfl) ?_
        refine lv_aload_n hx hb dL_law_182 rfl (lv_at hl 3 rfl) ?_
        refine lv_iload_n hx hb dL_law_183 rfl (lv_at hl 0 rfl) ?_
        refine lv_iconst (v := nI 1) hx hb dL_law_184 (by decide) ?_
        refine lv_iadd hx hb dL_law_185 ?_
        refine bd_eqi (y := nI (i + 1)) (nI_add _ _) ?_
        refine bd_sld (i := i + 1) hx hb hX hbl hbA hS (by omega) (by omega) dL_law_186 ?_
        refine bd_callVi (As := [.int (xs (i + 1))]) (rest := [.int r1]) (wc := [bd_Md g0 g1 g2 g3 n, bd_Ar g1 e1 5 f]) (wr := [bd_Dk h0 h1 h2 h3 n, bd_Ar h1 d1 5 f, bd_Ar h3 d3 6 w, bd_Pr h2 h4, bd_Tm h4 d4 tm, bd_Ar g2 e2 5 g, bd_Lr g3 e3 7776 v]) (w2 := fun _ => [bd_Dk h0 h1 h2 h3 n, bd_Ar h1 d1 5 f, bd_Ar h3 d3 6 w, bd_Pr h2 h4, bd_Tm h4 d4 tm, bd_Md g0 g1 g2 g3 n, bd_Ar g1 e1 5 f, bd_Ar g2 e2 5 g, bd_Lr g3 e3 7776 v]) (ci := 2) (q0 := 0) (C := RX2) (T := TX2) (N := 4) ⟨hx, hb, hml, hown, hts⟩ (bd_c_mcolumn l dC dI g0 g1 g2 g3 e1 n f (xs (i + 1)) _ hV) (cwV 1 hts (lw_V q133 q134 q135 q6 q136) rfl rfl rfl (by decide +kernel) ⟨Nat.le_of_ble_eq_true rfl, Nat.le_of_ble_eq_true rfl⟩) hK hP hD hS hA [5, 6] [0, 1, 2, 3, 4, 7, 8] [3] [0, 1, 2, 3, 4, 7, 8, 5, 6] rfl (by decide) rfl (by decide) (by decide) rfl (fun _ => rfl) (by decide) rfl rfl rfl hl.1 rfl (Nat.le_of_ble_eq_true rfl) dL_law_187 ⟨Nat.le_of_ble_eq_true rfl, Nat.le_of_ble_eq_true rfl⟩ (fun r u H locs hw2 hP hD hS => ?_)
        obtain ⟨r2, rfl⟩ : ∃ z, z = r := ⟨_, rfl⟩
        have hw2 : r2 = nI (bd_cnt (bd_sh n f) (bd_m5 (xs (i + 1))) 5) := hw2
        have hP : va_P (dC, dI) vwCl [bd_Dk h0 h1 h2 h3 n, bd_Ar h1 d1 5 f, bd_Ar h3 d3 6 w, bd_Pr h2 h4, bd_Tm h4 d4 tm, bd_Md g0 g1 g2 g3 n, bd_Ar g1 e1 5 f, bd_Ar g2 e2 5 g, bd_Lr g3 e3 7776 v] H := hP
        have hD : va_D (fun q : Nat => s.heap.size ≤ q) [bd_Dk h0 h1 h2 h3 n, bd_Ar h1 d1 5 f, bd_Ar h3 d3 6 w, bd_Pr h2 h4, bd_Tm h4 d4 tm, bd_Md g0 g1 g2 g3 n, bd_Ar g1 e1 5 f, bd_Ar g2 e2 5 g, bd_Lr g3 e3 7776 v] := hD
        refine lv_icmp_eq (tgt := 208) hx hb dL_law_190 (by decide) (fun c2 => ?_) (fun c2 => ?_)
        · exact K208 n f w tm g v H locs ls hV hP hD hS hl
        · exact absurd (by rw [hw1, hw2]) c2
      · refine lv_tableIn (off := 163) (tgt := 195) hx hb dL_law_32 (by decide) (by decide) rfl (by decide) ?_
        refine lv_aload_n hx hb dL_law_195 rfl (lv_at hl 2 rfl) ?_
        refine bd_callVi (As := []) (rest := []) (wc := [bd_Dk h0 h1 h2 h3 n, bd_Ar h1 d1 5 f, bd_Ar h3 d3 6 w]) (wr := [bd_Pr h2 h4, bd_Tm h4 d4 tm, bd_Md g0 g1 g2 g3 n, bd_Ar g1 e1 5 f, bd_Ar g2 e2 5 g, bd_Lr g3 e3 7776 v]) (w2 := fun u => [bd_Dk h0 h1 h2 h3 n, bd_Ar h1 d1 5 f, bd_Ar h3 d3 6 u, bd_Pr h2 h4, bd_Tm h4 d4 tm, bd_Md g0 g1 g2 g3 n, bd_Ar g1 e1 5 f, bd_Ar g2 e2 5 g, bd_Lr g3 e3 7776 v]) (ci := 0) (q0 := 0) (C := RX0) (T := TX0) (N := 4) ⟨hx, hb, hml, hown, hts⟩ (bd_c_dinner l dC dI h0 h1 h2 h3 d1 d3 n f w _ hV) (cwV 0 hts (lw_V q84 q85 q86 q4 q87) rfl rfl rfl (by decide +kernel) ⟨Nat.le_of_ble_eq_true rfl, Nat.le_of_ble_eq_true rfl⟩) hK hP hD hS hA [0, 1, 2] [3, 4, 5, 6, 7, 8] [0, 1] [6, 7, 8, 0, 1, 2, 3, 4, 5] rfl (by decide) rfl (by decide) (by decide) rfl (fun _ => rfl) (by decide) rfl rfl rfl hl.1 rfl (Nat.le_of_ble_eq_true rfl) dL_law_196 ⟨Nat.le_of_ble_eq_true rfl, Nat.le_of_ble_eq_true rfl⟩ (fun r u H locs hw1 hP hD hS => ?_)
        obtain ⟨r1, rfl⟩ : ∃ z, z = r := ⟨_, rfl⟩
        obtain ⟨w9, rfl⟩ : ∃ z, z = u := ⟨_, rfl⟩
        have hw1 : r1 = nI (bd_ct (bd_sh n f) 7776) := hw1
        have hP : va_P (dC, dI) vwCl [bd_Dk h0 h1 h2 h3 n, bd_Ar h1 d1 5 f, bd_Ar h3 d3 6 w9, bd_Pr h2 h4, bd_Tm h4 d4 tm, bd_Md g0 g1 g2 g3 n, bd_Ar g1 e1 5 f, bd_Ar g2 e2 5 g, bd_Lr g3 e3 7776 v] H := hP
        have hD : va_D (fun q : Nat => s.heap.size ≤ q) [bd_Dk h0 h1 h2 h3 n, bd_Ar h1 d1 5 f, bd_Ar h3 d3 6 w9, bd_Pr h2 h4, bd_Tm h4 d4 tm, bd_Md g0 g1 g2 g3 n, bd_Ar g1 e1 5 f, bd_Ar g2 e2 5 g, bd_Lr g3 e3 7776 v] := hD
        refine lv_aload_n hx hb dL_law_199 rfl (lv_at hl 1 rfl) ?_
        refine bd_callVi (As := []) (rest := [.int r1]) (wc := [bd_Md g0 g1 g2 g3 n, bd_Ar g1 e1 5 f, bd_Ar g2 e2 5 g]) (wr := [bd_Dk h0 h1 h2 h3 n, bd_Ar h1 d1 5 f, bd_Ar h3 d3 6 w9, bd_Pr h2 h4, bd_Tm h4 d4 tm, bd_Lr g3 e3 7776 v]) (w2 := fun u => [bd_Dk h0 h1 h2 h3 n, bd_Ar h1 d1 5 f, bd_Ar h3 d3 6 w9, bd_Pr h2 h4, bd_Tm h4 d4 tm, bd_Md g0 g1 g2 g3 n, bd_Ar g1 e1 5 f, bd_Ar g2 e2 5 u, bd_Lr g3 e3 7776 v]) (ci := 2) (q0 := 0) (C := RX2) (T := TX2) (N := 4) ⟨hx, hb, hml, hown, hts⟩ (bd_c_minner l dC dI g0 g1 g2 g3 e1 e2 n f g _ hV) (cwV 0 hts (lw_V q137 q138 q139 q6 q140) rfl rfl rfl (by decide +kernel) ⟨Nat.le_of_ble_eq_true rfl, Nat.le_of_ble_eq_true rfl⟩) hK hP hD hS hA [5, 6, 7] [0, 1, 2, 3, 4, 8] [3, 4] [0, 1, 2, 3, 4, 6, 7, 8, 5] rfl (by decide) rfl (by decide) (by decide) rfl (fun _ => rfl) (by decide) rfl rfl rfl hl.1 rfl (Nat.le_of_ble_eq_true rfl) dL_law_200 ⟨Nat.le_of_ble_eq_true rfl, Nat.le_of_ble_eq_true rfl⟩ (fun r u H locs hw2 hP hD hS => ?_)
        obtain ⟨r2, rfl⟩ : ∃ z, z = r := ⟨_, rfl⟩
        obtain ⟨g9, rfl⟩ : ∃ z, z = u := ⟨_, rfl⟩
        have hw2 : r2 = nI (bd_ct (bd_sh n f) 7776) := hw2
        have hP : va_P (dC, dI) vwCl [bd_Dk h0 h1 h2 h3 n, bd_Ar h1 d1 5 f, bd_Ar h3 d3 6 w9, bd_Pr h2 h4, bd_Tm h4 d4 tm, bd_Md g0 g1 g2 g3 n, bd_Ar g1 e1 5 f, bd_Ar g2 e2 5 g9, bd_Lr g3 e3 7776 v] H := hP
        have hD : va_D (fun q : Nat => s.heap.size ≤ q) [bd_Dk h0 h1 h2 h3 n, bd_Ar h1 d1 5 f, bd_Ar h3 d3 6 w9, bd_Pr h2 h4, bd_Tm h4 d4 tm, bd_Md g0 g1 g2 g3 n, bd_Ar g1 e1 5 f, bd_Ar g2 e2 5 g9, bd_Lr g3 e3 7776 v] := hD
        refine lv_icmp_eq (tgt := 208) hx hb dL_law_203 (by decide) (fun c2 => ?_) (fun c2 => ?_)
        · exact K208 n f w9 tm g9 v H locs ls hV hP hD hS hl
        · exact absurd (by rw [hw1, hw2]) c2
      · refine lv_tableOut (tgt := 208) hx hb dL_law_32 (by decide) (by decide) ?_
        exact K208 n f w tm g v H locs ls hV hP hD hS hl
set_option maxHeartbeats 4000000 in
set_option maxRecDepth 100000 in
theorem whole_start {p : Program} {e : Env} {s : State} {m : MethodId} {below : List Frame} {meth : Method} {c : Code} (l : Launch) {b L : Nat} {xs : Nat → Int32} (hL : L ≤ 192) (C0 : lw_At p s m meth c b L xs) : W p l e room_1 s m #[Value.ref b] below meth c s.heap [] 0 0 (lw_Z below #[Value.ref b] s) (entryFrame m ([Value.ref b] : List Value).toArray 4) := by
  obtain ⟨hx, hb, hr, hml, hown, hts0, hX, hbl, hlocks, hgv⟩ := id C0
  have hts : ∀ w ∈ lw_all, w.before #[Value.ref b] s = true := fun w h => hts0 w (lw_all_tbl h)
  have hA : ∀ q : Nat, s.heap.size ≤ q → (fun q : Nat => s.heap.size ≤ q) q := fun _ h => h
  have hbA : ¬ (fun q : Nat => s.heap.size ≤ q) b := Nat.not_le.mpr hbl
  have hNw : va_Nw (Cond.methodLinkNest RX0 15 yX1_init RX0) s := va_Nw.of rfl (hts0 _ q17)
  obtain ⟨c0, iS0, hKn0⟩ := u_known (C := RX0) (T := TX0) (N := 4) (n := 4) hts in_X0 (hts _ q8)
  obtain ⟨c1, iS1, hKn1⟩ := u_known (C := RX1) (T := TX1) (N := 1) (n := 1) hts in_X1 (hts _ q16)
  obtain ⟨c2, iS2, hKn2⟩ := u_known (C := RX2) (T := TX2) (N := 4) (n := 4) hts in_X2 (hts _ q89)
  obtain ⟨dC, dI, hKc⟩ : ∃ (dC : Nat → ClassId) (dI : Nat → Nat → Nat), ∀ (k : Nat) (q : vw_C), vwCl[k]? = some q → u_Kn s q.1 q.2.1 q.2.2 (dC k) (dI k) := by
    refine ⟨fun k => if k = 0 then c0 else if k = 1 then c1 else c2, fun k => if k = 0 then iS0 else if k = 1 then iS1 else iS2, ?_⟩
    intro k q hq
    match k, hq with
    | 0, hq => cases hq; exact hKn0
    | 1, hq => cases hq; exact hKn1
    | 2, hq => cases hq; exact hKn2
    | k + 3, hq => simp [vwCl] at hq
  have hS : va_S (fun q : Nat => s.heap.size ≤ q) s.heap s.heap [] := va_S.rf
  have hK : va_K (dC, dI) vwCl [] s := ⟨hKc, fun k q h => by simp at h⟩
  have hP : va_P (dC, dI) vwCl [] s.heap := fun k q h => by simp at h
  have hD : va_D (fun q : Nat => s.heap.size ≤ q) [] := ⟨fun i j p q h => by simp at h, fun k q h => by simp at h⟩
  have hl := lv_entry ([.ref b]) (n := 4) (Nat.le_of_ble_eq_true rfl)
  rw [lg_entry_eq]
  generalize (lg_sl ([.ref b]) ++ List.replicate (4 - (lg_sl ([.ref b])).length) Slot.unset).toArray = ls at hl ⊢
  have hl : lv_has ls 4 [(0, .ref b)] := hl
  refine va_new (ci := 0) (fs := [.null, .int (nI 0), .null, .null]) (C := RX0) (T := TX0) (N := 4) hx hb hts in_X0 tyX0 tyX0_ok hown (hts _ q7) (hts _ q8) (hts _ q4) hK hP hD hS hA rfl (fun j hj => by rcases (show j = 0 ∨ j = 1 ∨ j = 2 ∨ j = 3 by omega) with rfl | rfl | rfl | rfl <;> rfl) (Nat.le_of_ble_eq_true rfl) (Nat.le_of_ble_eq_true rfl) dL_law_0 (fun h0 H hP hD hS => ?_)
  have hP : va_P (dC, dI) vwCl [(h0, .inr (0, [.null, .int (nI 0), .null, .null]))] H := hP
  have hD : va_D (fun q : Nat => s.heap.size ≤ q) [(h0, .inr (0, [.null, .int (nI 0), .null, .null]))] := hD
  refine W.widen (k := 1) (n := 4) (by decide) (by decide) ?_
  refine lv_dup hx hb dL_law_3 rfl ?_
  have hPc := hP.sub (ws' := [(h0, .inr (0, [.null, .int (nI 0), .null, .null]))]) [0] rfl
  have hDc := hD.sub (ws' := [(h0, .inr (0, [.null, .int (nI 0), .null, .null]))]) [0] (by decide) rfl
  have hKc := hK.sub (tys' := []) [] rfl
  have hFc := va_free (wc := [(h0, .inr (0, [.null, .int (nI 0), .null, .null]))]) hD hS hA [0] rfl
  refine va_callv (va_runI (As := []) (rest := [.ref h0]) ⟨hx, hb, hml, hown, hts⟩ (bd_c_dinit l dC dI h0 H.size) (cwI 0 hts (lw_meth q11) rfl rfl rfl (hts _ q4) (hts _ q9) (hts _ q10) rfl (by decide +kernel) ⟨Nat.le_of_ble_eq_true rfl, Nat.le_of_ble_eq_true rfl⟩) ⟨fun a U g mk q => ⟨q.1, ⟨q.2.1.1, q.2.1.2.1, va_K.moved (u := U) (U := U.calling g mk a) (Vm.Alike.refl U.vm) q.2.1.2.2.1, q.2.1.2.2.2⟩, va_Nw.same rfl rfl q.2.2⟩, fun U hU hW => ⟨rfl, ⟨by rw [hU], by rw [hU]; exact hPc, va_K.moved hW.alike hKc, hDc.weaken (fun _ _ _ _ => trivial)⟩, va_Nw.warmM hW hNw⟩⟩ rfl rfl hl.1 rfl (lv_room (Nat.le_of_ble_eq_true rfl)) dL_law_4 ⟨Nat.le_of_ble_eq_true rfl, Nat.le_of_ble_eq_true rfl⟩) hS (fun q _ h => hFc q h) hFc (fun u t H1 locs ht hvm hw hB hz1 hk1 hS => ?_)
  obtain ⟨h1, h2, h3, h4, d1, d3, d4, hP1, hK1, hD1⟩ := hB
  rw [ht] at hP1
  have hK1 := va_K.moved hvm.symm hK1
  obtain ⟨hP, hD⟩ := va_join (wr := []) (w1 := [bd_Dk h0 h1 h2 h3 0, bd_Ar h1 d1 5 (fun _ => 0), bd_Ar h3 d3 6 (fun _ => 0), bd_Pr h2 h4, bd_Tm h4 d4 (fun _ => nI 0)]) hP hD [0] [] rfl rfl (by decide) (by decide) hk1 hFc hP1 hD1
  have hK := hK.app hK1
  generalize H1 = H at hP hS ⊢
  have hP : va_P (dC, dI) vwCl [bd_Dk h0 h1 h2 h3 0, bd_Ar h1 d1 5 (fun _ => 0), bd_Ar h3 d3 6 (fun _ => 0), bd_Pr h2 h4, bd_Tm h4 d4 (fun _ => nI 0)] H := hP
  have hD : va_D (fun q : Nat => s.heap.size ≤ q) [bd_Dk h0 h1 h2 h3 0, bd_Ar h1 d1 5 (fun _ => 0), bd_Ar h3 d3 6 (fun _ => 0), bd_Pr h2 h4, bd_Tm h4 d4 (fun _ => nI 0)] := hD
  have hK : va_K (dC, dI) vwCl [(d1, .int), (d3, .int), (d4, .int)] s := hK
  refine W.widen (k := 5) (n := 42) (by decide) (by decide) ?_
  refine lv_astore_n (lv' := [(1, .ref h0), (0, .ref b)]) hx hb dL_law_7 rfl hl (by decide) rfl (fun ls hl => ?_)
  refine va_new (ci := 2) (fs := [.null, .int (nI 0), .null, .null]) (C := RX2) (T := TX2) (N := 4) hx hb hts in_X2 tyX2 tyX2_ok hown (hts _ q88) (hts _ q89) (hts _ q6) hK hP hD hS hA rfl (fun j hj => by rcases (show j = 0 ∨ j = 1 ∨ j = 2 ∨ j = 3 by omega) with rfl | rfl | rfl | rfl <;> rfl) (Nat.le_of_ble_eq_true rfl) (Nat.le_of_ble_eq_true rfl) dL_law_8 (fun g0 H hP hD hS => ?_)
  have hP : va_P (dC, dI) vwCl [bd_Dk h0 h1 h2 h3 0, bd_Ar h1 d1 5 (fun _ => 0), bd_Ar h3 d3 6 (fun _ => 0), bd_Pr h2 h4, bd_Tm h4 d4 (fun _ => nI 0), (g0, .inr (2, [.null, .int (nI 0), .null, .null]))] H := hP
  have hD : va_D (fun q : Nat => s.heap.size ≤ q) [bd_Dk h0 h1 h2 h3 0, bd_Ar h1 d1 5 (fun _ => 0), bd_Ar h3 d3 6 (fun _ => 0), bd_Pr h2 h4, bd_Tm h4 d4 (fun _ => nI 0), (g0, .inr (2, [.null, .int (nI 0), .null, .null]))] := hD
  refine W.widen (k := 6) (n := 46) (by decide) (by decide) ?_
  refine lv_dup hx hb dL_law_11 rfl ?_
  have hPc := hP.sub (ws' := [(g0, .inr (2, [.null, .int (nI 0), .null, .null]))]) [5] rfl
  have hDc := hD.sub (ws' := [(g0, .inr (2, [.null, .int (nI 0), .null, .null]))]) [5] (by decide) rfl
  have hKc := hK.sub (tys' := []) [] rfl
  have hFc := va_free (wc := [(g0, .inr (2, [.null, .int (nI 0), .null, .null]))]) hD hS hA [5] rfl
  refine va_callv (va_runI (As := []) (rest := [.ref g0]) ⟨hx, hb, hml, hown, hts⟩ (bd_c_minit l dC dI g0 H.size) (cwI 0 hts (lw_meth q92) rfl rfl rfl (hts _ q6) (hts _ q90) (hts _ q91) rfl (by decide +kernel) ⟨Nat.le_of_ble_eq_true rfl, Nat.le_of_ble_eq_true rfl⟩) ⟨bd_blind, fun U hU hW => ⟨rfl, by rw [hU], by rw [hU]; exact hPc, va_K.moved hW.alike hKc, hDc.weaken (fun _ _ _ _ => trivial)⟩⟩ rfl rfl hl.1 rfl (lv_room (Nat.le_of_ble_eq_true rfl)) dL_law_12 ⟨Nat.le_of_ble_eq_true rfl, Nat.le_of_ble_eq_true rfl⟩) hS (fun q _ h => hFc q h) hFc (fun u t H1 locs ht hvm hw hB hz1 hk1 hS => ?_)
  obtain ⟨g1, g2, g3, e1, e2, e3, hP1, hK1, hD1⟩ := hB
  rw [ht] at hP1
  have hK1 := va_K.moved hvm.symm hK1
  obtain ⟨hP, hD⟩ := va_join (wr := [bd_Dk h0 h1 h2 h3 0, bd_Ar h1 d1 5 (fun _ => 0), bd_Ar h3 d3 6 (fun _ => 0), bd_Pr h2 h4, bd_Tm h4 d4 (fun _ => nI 0)]) (w1 := [bd_Md g0 g1 g2 g3 0, bd_Ar g1 e1 5 (fun _ => 0), bd_Ar g2 e2 5 (fun _ => 0), bd_Lr g3 e3 7776 (fun _ => 0)]) hP hD [5] [0, 1, 2, 3, 4] rfl rfl (by decide) (by decide) hk1 hFc hP1 hD1
  have hK := hK.app hK1
  generalize H1 = H at hP hS ⊢
  have hP : va_P (dC, dI) vwCl [bd_Dk h0 h1 h2 h3 0, bd_Ar h1 d1 5 (fun _ => 0), bd_Ar h3 d3 6 (fun _ => 0), bd_Pr h2 h4, bd_Tm h4 d4 (fun _ => nI 0), bd_Md g0 g1 g2 g3 0, bd_Ar g1 e1 5 (fun _ => 0), bd_Ar g2 e2 5 (fun _ => 0), bd_Lr g3 e3 7776 (fun _ => 0)] H := hP
  have hD : va_D (fun q : Nat => s.heap.size ≤ q) [bd_Dk h0 h1 h2 h3 0, bd_Ar h1 d1 5 (fun _ => 0), bd_Ar h3 d3 6 (fun _ => 0), bd_Pr h2 h4, bd_Tm h4 d4 (fun _ => nI 0), bd_Md g0 g1 g2 g3 0, bd_Ar g1 e1 5 (fun _ => 0), bd_Ar g2 e2 5 (fun _ => 0), bd_Lr g3 e3 7776 (fun _ => 0)] := hD
  have hK : va_K (dC, dI) vwCl [(d1, .int), (d3, .int), (d4, .int), (e1, .int), (e2, .int), (e3, .long)] s := hK
  refine W.widen (k := 9) (n := 7832) (by decide) (by decide) ?_
  refine lv_astore_n (lv' := [(2, .ref g0), (1, .ref h0), (0, .ref b)]) hx hb dL_law_15 rfl hl (by decide) rfl (fun ls hl => ?_)
  refine lv_iconst (v := nI 0) hx hb dL_law_16 (by decide) ?_
  refine lv_istore_n (lv' := [(3, .int (nI 0)), (2, .ref g0), (1, .ref h0), (0, .ref b)]) hx hb dL_law_17 rfl hl (by decide) rfl (fun ls hl => ?_)
  exact bd_law_loop l hL C0 hK (L + 1) 0 0 _ _ _ _ _ H locs ls (Nat.zero_le _) (by omega) ⟨by omega, fun i hi => absurd hi (by omega), fun i hi => absurd hi (by omega)⟩ hP hD hS hl
end
section
set_option maxHeartbeats 4000000 in
theorem lw_walk (l : Launch) (b : Addr) (xs : List Int32) : MetFree l x (headSpec (Jvm.Cond.code x code maxLocals ret :: tables_1) room_1) (lw_P b xs) (fun _ _ _ _ _ => True) lw_Q := by
  refine MetFree.of_bodyS (code := code) (maxLocals := maxLocals) (ret := ret) (by decide) ?_ ?_
  · intro args s m h hn
    obtain ⟨meth, c, h1, h2, h3, h4, h5, h6, -, -⟩ := Cond.code_spec hn (atoms_spec (ws := Jvm.Cond.code x code maxLocals ret :: tables_1) h _ List.mem_cons_self)
    exact ⟨meth, c, h1, h2, h3, h4, h5, h6⟩
  · intro p e s m args below meth c s₁ B hml0 hP _
    obtain ⟨rfl, hx, hbd, hgv⟩ := hP
    obtain ⟨scr, harrAt, hlist, hof, hsmall⟩ := hx
    obtain ⟨hcb, hkn, -, -⟩ := State.arrayAt?_spec harrAt
    have hown : s.vm.findClass R_law = some m.cls := findClass_of_methodNamed B.named
    have hts0 : ∀ c ∈ (Jvm.Cond.code x code maxLocals ret :: tables_1), c.before #[Value.ref b] s = true := atoms_spec (ws := Jvm.Cond.code x code maxLocals ret :: tables_1) B.pre
    have hts : ∀ w ∈ lw_tbl, w.before #[Value.ref b] s = true := k2_hts_sels lw_privs (fun w hw => hts0 w (List.mem_cons_of_mem _ hw)) lw_privs_ok
    have hml : c.maxLocals = 4 := B.maxLocals_eq (hts0 _ List.mem_cons_self)
    have X₀ : Stand p l e room_1 s m #[Value.ref b] below meth c s₁ [] 0 0 := Stand.of_body B
    have hh0 : s₁.heap = s.heap := by rw [B.state]; rfl
    have hsz : scr.slots.size = xs.length := by rw [← Array.length_toList, hlist, List.length_map]
    have hval : ∀ j : Nat, j < xs.length → scr.slots[j]? = some (.int (xs.getD j 0)) := fun j hj => by
      rw [← Array.getElem?_toList, hlist]
      simp [hj]
    have hbl : b < s.heap.size := (Array.getElem?_eq_some_iff.mp hcb).1
    have hX : va_X b xs.length (fun j => xs.getD j 0) s s.heap := ⟨scr, hcb, hof, hkn, hsz, hval⟩
    have K : W p l e room_1 s m #[Value.ref b] below meth c s₁.heap [] 0 0 (lw_Z below #[Value.ref b] s) (entryFrame m ([Value.ref b] : List Value).toArray 4) := by
      rw [hh0]
      exact whole_start l hbd ⟨B.exec, B.bytes, B.returns, hml, hown, hts, hX, hbl, B.notSynchronized, hgv⟩
    obtain ⟨t, a1, o, b1, b2, b3⟩ := K s₁ rfl X₀
    exact ⟨t, o, a1, b1, b2, b3⟩
theorem lw_pre_spec {args : Array Value} {s : State} (h : (Jvm.Cond.and given_1 narrow_1).before args s = true) (hr : rest_1_c.before args s = true) : ∃ (b : Addr) (xs : List Int32), lw_P b xs args s := by
  have hs := flat_of_before _ h
  have hq := flat_of_before _ hr
  have hc : (Cond.count 1).before args s = true := hs _ (by decide +kernel)
  have harr : (Cond.arrayOf (.arg 0) .int).before args s = true := hs _ (by decide +kernel)
  have hle : (Cond.le (.length (.arg 0)) (.int 192)).before args s = true := hs _ (by decide +kernel)
  have hlen : (Cond.isInt (.length (.arg 0))).before args s = true := hq _ (by decide +kernel)
  have hall : (Cond.all (.arg 0) (.isInt (.elem (.arg 0) (.index 0)))).before args s = true := hq _ (by decide +kernel)
  obtain ⟨b, xs, hb, hx⟩ := State.ints_of_pre rfl harr hlen hall
  have hsm : xs.length < 2 ^ 31 := hx.choose_spec.2.2.2
  have hev : (Term.length (.arg 0)).eval args s none [] s = some (.int xs.length.toInt32) := hx.length_eval hb
  have hv := Cond.le_ints hev (show (Term.int 192).eval args s none [] s = some (.int 192) from rfl)
  have hd : xs.length.toInt32 ≤ 192 := by
    simpa [Cond.before, Cond.holds, hv] using hle
  have hN : xs.length ≤ 192 := (Int32.ofNat_le_ofNat hsm (by decide)).mp (show Int32.ofNat xs.length ≤ Int32.ofNat 192 from hd)
  exact ⟨b, xs, Cond.one_arg hc (show args[0]? = some (.ref b) from hb), hx, hN, h⟩
theorem lw_comes (l : Launch) : Comes l x (Jvm.Cond.code x code maxLocals ret :: tables_1) room_1 (fun tb e args s => Calls_1 tb e args s ∧ rest_1 tb e args s ∧ Pre_1 tb e args s)
    (fun _ _ args s o t => lw_Q args s o t) := by
  intro p e ha hc hk s m args below hf hfit hheap happ hpre
  obtain ⟨b, xs, hP⟩ := lw_pre_spec hpre.2.2 hpre.2.1
  obtain ⟨k, o, h1, h2, h3, hQ⟩ := lw_walk l b xs p e ha hc hk s m args below hf ((Spec.applies_iff_loose hf).mp happ).1 hP trivial
  exact ⟨k, o, h1, h2, h3, hQ⟩
theorem lw_frame {s t : State} {o : Outcome} {args : Array Value} (h : Framed s o t [] 600000 7290000) :
    Framed s o t (fieldLocs frame_1_writes args s ++ arrayLocs frame_1_arrays args s ++ staticLocs frame_1_statics s) 600000 7290000 := h
theorem lw_limb (L : Cond) (hL : ∀ (args : Array Value) (s t : State), L.after args s (.returned (some (.int 1))) t = true) :
    ArmFor flags0 classFile x code maxLocals ret World_1 tables_1 room_1 Calls_1 rest_1 Pre_1
      (fun tb e a s o t => postC L tb e a s o t ∧ Framed s o t (fieldLocs frame_1_writes a s ++ arrayLocs frame_1_arrays a s ++ staticLocs frame_1_statics s) 600000 7290000) := by
  intro l _ _ _ p e ha hc hk s m args below hf hfit hheap happ hpre
  obtain ⟨k, o, h1, h2, h3, rfl, hF⟩ := lw_comes l p e ha hc hk s m args below hf hfit hheap happ hpre
  exact ⟨k, _, h1, h2, h3, hL args s _, lw_frame hF⟩
theorem i_vc : Claimed_1_1 ∧ Claimed_1_2 := ⟨lw_limb limb_1_1 (fun args s t => by simp [limb_1_1, Cond.after, Cond.holds, Cond.value]), lw_limb limb_1_2 (fun args s t => Cond.after_iff.mpr (by
  first | (rw [show limb_1_2 = Cond.eq .result (.int 1) from rfl, Cond.eq_ints (x := 1) (y := 1) rfl rfl]; simp; done) | (simp [limb_1_2, Cond.value, Term.eval]; done)))⟩
end
