section
-- ===== PART A: goes FIRST, ahead of the names: the tables' words, and 'selects' of the private methods out of them =====
/-- a private method of a class that the tables say can be made, by its rows of tables_1 -/
def lw_okq (q : MethodName × Nat) : Prop := (q.1.cls ≠ "java/lang/invoke/MethodHandle" ∧ q.1.cls ≠ "java/lang/invoke/VarHandle") ∧ Cond.instantiable q.1.cls q.2 ∈ tables_1 ∧ Cond.privateMethod q.1 ∈ tables_1 ∧ Cond.instanceMethod q.1 ∈ tables_1
set_option maxRecDepth 100000
theorem lw_p0 : lw_okq (⟨"ScoreRows", "counts", "()LScoreRows$Counts;"⟩, 3) := ⟨⟨by decide +kernel, by decide +kernel⟩, List.mem_of_getElem? (i := 7) rfl, List.mem_of_getElem? (i := 39) rfl, List.mem_of_getElem? (i := 40) rfl⟩
theorem lw_p1 : lw_okq (⟨"ScoreRows$Counts", "greatest", "(I)I"⟩, 2) := ⟨⟨by decide +kernel, by decide +kernel⟩, List.mem_of_getElem? (i := 43) rfl, List.mem_of_getElem? (i := 68) rfl, List.mem_of_getElem? (i := 69) rfl⟩
theorem lw_p2 : lw_okq (⟨"ScoreRows$Counts", "given", "(I)I"⟩, 2) := ⟨⟨by decide +kernel, by decide +kernel⟩, List.mem_of_getElem? (i := 43) rfl, List.mem_of_getElem? (i := 75) rfl, List.mem_of_getElem? (i := 76) rfl⟩
theorem lw_p3 : lw_okq (⟨"ScoreRows", "counted", "(Z)I"⟩, 3) := ⟨⟨by decide +kernel, by decide +kernel⟩, List.mem_of_getElem? (i := 7) rfl, List.mem_of_getElem? (i := 94) rfl, List.mem_of_getElem? (i := 95) rfl⟩
theorem lw_p4 : lw_okq (⟨"ScoreRowsModel", "make", "()V"⟩, 5) := ⟨⟨by decide +kernel, by decide +kernel⟩, List.mem_of_getElem? (i := 136) rfl, List.mem_of_getElem? (i := 173) rfl, List.mem_of_getElem? (i := 174) rfl⟩
theorem lw_p5 : lw_okq (⟨"ScoreRowsModel", "code", "()I"⟩, 5) := ⟨⟨by decide +kernel, by decide +kernel⟩, List.mem_of_getElem? (i := 136) rfl, List.mem_of_getElem? (i := 177) rfl, List.mem_of_getElem? (i := 178) rfl⟩
def lw_privs_1 : List (MethodName × Nat) := [(⟨"ScoreRows", "counts", "()LScoreRows$Counts;"⟩, 3), (⟨"ScoreRows$Counts", "greatest", "(I)I"⟩, 2), (⟨"ScoreRows$Counts", "given", "(I)I"⟩, 2), (⟨"ScoreRows", "counted", "(Z)I"⟩, 3), (⟨"ScoreRowsModel", "make", "()V"⟩, 5), (⟨"ScoreRowsModel", "code", "()I"⟩, 5)]
theorem lw_r1 : ∀ q ∈ lw_privs_1, lw_okq q := List.forall_mem_cons.mpr ⟨lw_p0, List.forall_mem_cons.mpr ⟨lw_p1, List.forall_mem_cons.mpr ⟨lw_p2, List.forall_mem_cons.mpr ⟨lw_p3, List.forall_mem_cons.mpr ⟨lw_p4, List.forall_mem_cons.mpr ⟨lw_p5, fun _ h => absurd h List.not_mem_nil⟩⟩⟩⟩⟩⟩
def lw_privs : List (MethodName × Nat) := lw_privs_1
def lw_tbl : List Cond := k2_sels lw_privs ++ tables_1
theorem lw_privs_ok : ∀ q ∈ lw_privs, lw_okq q := lw_r1
-- ===== ONE list of words for every method: the tables' words that hold all through a run =====
def lw_all : List Cond := lw_tbl.filter goodWord
/-- a word of the tables by its place: claim/WORDS.tsv -/
theorem lw_w {w : Cond} (i : Nat) (h : lw_tbl[i]? = some w) (g : goodWord w = true) : w ∈ lw_all := List.mem_filter.mpr ⟨List.mem_of_getElem? h, g⟩
theorem lw_all_tbl {w : Cond} (h : w ∈ lw_all) : w ∈ lw_tbl := (List.mem_filter.mp h).1
theorem lw_self : GoodIn lw_all lw_all := fun w h => ⟨h, good_of_word (List.mem_filter.mp h).2⟩
/-- a class's field words, by their places -/
theorem lw_in (ws : List Cond) (ps : List Nat) (hp : ws = ps.filterMap (fun i => lw_tbl[i]?)) (hg : ws.all goodWord = true) : ∀ w ∈ ws, w ∈ lw_all := by
  intro w h
  have h1 := List.all_eq_true.mp hg w h
  rw [hp] at h
  obtain ⟨i, -, hi⟩ := List.mem_filterMap.mp h
  exact lw_w i hi h1
/-- the words of a contract for the method y with code b, L locals, answer r -/
abbrev ws_ (y : MethodName) (b : ByteArray) (L : Nat) (r : Option FieldType) : List Cond := Cond.code y b L r :: lw_all
theorem lw_meth {y : MethodName} {b : ByteArray} {L : Nat} {r : Option FieldType} (h : Cond.code y b L r ∈ lw_all) : GoodIn lw_all (ws_ y b L r) := by
  intro w hw
  rcases List.mem_cons.mp hw with e | e
  · rw [e]
    exact lw_self _ h
  · exact lw_self _ e
theorem lw_app {a c : List Cond} (ha : ∀ w ∈ a, w ∈ lw_all) (hc : GoodIn lw_all c) : GoodIn lw_all (a ++ c) := by
  intro w hw
  rcases List.mem_append.mp hw with e | e
  · exact lw_self w (ha w e)
  · exact hc w e
/-- what a call through an object asks: cwV n hts (lw_V ..) -/
theorem lw_V {own : String} {idx : Nat} {C : String} {y : MethodName} {b : ByteArray} {L : Nat} {r : Option FieldType} (h1 : Cond.methodLink own idx y ∈ lw_all) (h2 : Cond.instanceMethod y ∈ lw_all) (h3 : Cond.selects C y y ∈ lw_all) (h4 : Cond.initialized C ∈ lw_all) (h5 : Cond.code y b L r ∈ lw_all) : GoodIn lw_all (wsV own idx C y (ws_ y b L r)) := by
  refine lw_app ?_ (lw_meth h5)
  intro w hw
  simp only [List.mem_cons, List.not_mem_nil, or_false] at hw
  rcases hw with e | e | e | e
  · rw [e]; exact h1
  · rw [e]; exact h2
  · rw [e]; exact h3
  · rw [e]; exact h4
/-- what a static call asks: va_cwS n hts (lw_S ..) -/
theorem lw_S {own : String} {idx : Nat} {y : MethodName} {b : ByteArray} {L : Nat} {r : Option FieldType} (h1 : Cond.methodLink own idx y ∈ lw_all) (h2 : Cond.static y ∈ lw_all) (h3 : Cond.initialized y.cls ∈ lw_all) (h4 : Cond.code y b L r ∈ lw_all) : GoodIn lw_all (va_wsS own idx y (ws_ y b L r)) := by
  refine lw_app ?_ (lw_meth h4)
  intro w hw
  simp only [List.mem_cons, List.not_mem_nil, or_false] at hw
  rcases hw with e | e | e
  · rw [e]; exact h1
  · rw [e]; exact h2
  · rw [e]; exact h3
/-- the words of a contract for a method WITH HANDLERS (hh: its table) -/
abbrev wsW_ (y : MethodName) (b : ByteArray) (L : Nat) (r : Option FieldType) (hh : List (Nat × Nat × Nat × Nat)) : List Cond := Cond.codeWith y b L r hh :: lw_all
theorem lw_methW {y : MethodName} {b : ByteArray} {L : Nat} {r : Option FieldType} {hh : List (Nat × Nat × Nat × Nat)} (h : Cond.codeWith y b L r hh ∈ lw_all) : GoodIn lw_all (wsW_ y b L r hh) := by
  intro w hw
  rcases List.mem_cons.mp hw with e | e
  · rw [e]
    exact lw_self _ h
  · exact lw_self _ e
/-- any list of words by their places (lw_in), good -/
theorem lw_good {ws : List Cond} (h : ∀ w ∈ ws, w ∈ lw_all) : GoodIn lw_all ws := fun w hw => lw_self w (h w hw)
/-- what a call of a method with handlers asks: vx_cwVW n hts (lw_VW ..), vx_cwSW n hts (lw_SW ..) -/
theorem lw_VW {own : String} {idx : Nat} {C : String} {y : MethodName} {b : ByteArray} {L : Nat} {r : Option FieldType} {hh : List (Nat × Nat × Nat × Nat)} (h1 : Cond.methodLink own idx y ∈ lw_all) (h2 : Cond.instanceMethod y ∈ lw_all) (h3 : Cond.selects C y y ∈ lw_all) (h4 : Cond.initialized C ∈ lw_all) (h5 : Cond.codeWith y b L r hh ∈ lw_all) : GoodIn lw_all (wsV own idx C y (wsW_ y b L r hh)) := by
  refine lw_app ?_ (lw_methW h5)
  intro w hw
  simp only [List.mem_cons, List.not_mem_nil, or_false] at hw
  rcases hw with e | e | e | e
  · rw [e]; exact h1
  · rw [e]; exact h2
  · rw [e]; exact h3
  · rw [e]; exact h4
theorem lw_SW {own : String} {idx : Nat} {y : MethodName} {b : ByteArray} {L : Nat} {r : Option FieldType} {hh : List (Nat × Nat × Nat × Nat)} (h1 : Cond.methodLink own idx y ∈ lw_all) (h2 : Cond.static y ∈ lw_all) (h3 : Cond.initialized y.cls ∈ lw_all) (h4 : Cond.codeWith y b L r hh ∈ lw_all) : GoodIn lw_all (va_wsS own idx y (wsW_ y b L r hh)) := by
  refine lw_app ?_ (lw_methW h4)
  intro w hw
  simp only [List.mem_cons, List.not_mem_nil, or_false] at hw
  rcases hw with e | e | e
  · rw [e]; exact h1
  · rw [e]; exact h2
  · rw [e]; exact h3
/-- a word by its place in its run of the tables -/
theorem lw_at {r : List Cond} (hr : ∀ w ∈ r, w ∈ lw_tbl) {w : Cond} (i : Nat) (h : r[i]? = some w) : w ∈ lw_tbl := hr w (List.mem_of_getElem? h)
theorem lw_g {w : Cond} (h : w ∈ lw_tbl) (g : goodWord w = true) : w ∈ lw_all := List.mem_filter.mpr ⟨h, g⟩
theorem lw_ms : ∀ w ∈ k2_sels lw_privs, w ∈ lw_tbl := fun w h => show w ∈ k2_sels lw_privs ++ tables_1 from List.mem_append_left _ h
theorem lw_m0 : ∀ w ∈ tables_1, w ∈ lw_tbl := fun w h => show w ∈ k2_sels lw_privs ++ tables_1 from List.mem_append_right (k2_sels lw_privs) h
theorem qs0 : (Cond.selects "ScoreRows" ⟨"ScoreRows", "counts", "()LScoreRows$Counts;"⟩ ⟨"ScoreRows", "counts", "()LScoreRows$Counts;"⟩) ∈ lw_all := lw_g (lw_at lw_ms 0 rfl) rfl
theorem qs1 : (Cond.selects "ScoreRows$Counts" ⟨"ScoreRows$Counts", "greatest", "(I)I"⟩ ⟨"ScoreRows$Counts", "greatest", "(I)I"⟩) ∈ lw_all := lw_g (lw_at lw_ms 1 rfl) rfl
theorem qs2 : (Cond.selects "ScoreRows$Counts" ⟨"ScoreRows$Counts", "given", "(I)I"⟩ ⟨"ScoreRows$Counts", "given", "(I)I"⟩) ∈ lw_all := lw_g (lw_at lw_ms 2 rfl) rfl
theorem qs3 : (Cond.selects "ScoreRows" ⟨"ScoreRows", "counted", "(Z)I"⟩ ⟨"ScoreRows", "counted", "(Z)I"⟩) ∈ lw_all := lw_g (lw_at lw_ms 3 rfl) rfl
theorem qs4 : (Cond.selects "ScoreRowsModel" ⟨"ScoreRowsModel", "make", "()V"⟩ ⟨"ScoreRowsModel", "make", "()V"⟩) ∈ lw_all := lw_g (lw_at lw_ms 4 rfl) rfl
theorem qs5 : (Cond.selects "ScoreRowsModel" ⟨"ScoreRowsModel", "code", "()I"⟩ ⟨"ScoreRowsModel", "code", "()I"⟩) ∈ lw_all := lw_g (lw_at lw_ms 5 rfl) rfl
end
section
/-! java/lang/Math -/
set_option maxRecDepth 100000
def RJ0 : String := "java/lang/Math"
abbrev cJ0_min : ByteArray := prog_6_method_69_code
def yJ0_min : MethodName := ⟨RJ0, "min", "(II)I"⟩
theorem dJ0_min_0 : decode cJ0_min 0 = .ok (.iload_n 0, 1) := by decide +kernel
theorem dJ0_min_1 : decode cJ0_min 1 = .ok (.iload_n 1, 1) := by decide +kernel
theorem dJ0_min_2 : decode cJ0_min 2 = .ok (.if_icmp .gt 7, 3) := by decide +kernel
theorem dJ0_min_5 : decode cJ0_min 5 = .ok (.iload_n 0, 1) := by decide +kernel
theorem dJ0_min_6 : decode cJ0_min 6 = .ok (.goto 4, 3) := by decide +kernel
theorem dJ0_min_9 : decode cJ0_min 9 = .ok (.iload_n 1, 1) := by decide +kernel
theorem dJ0_min_10 : decode cJ0_min 10 = .ok (.ireturn, 1) := by decide +kernel
abbrev cJ0_max : ByteArray := prog_6_method_65_code
def yJ0_max : MethodName := ⟨RJ0, "max", "(II)I"⟩
theorem dJ0_max_0 : decode cJ0_max 0 = .ok (.iload_n 0, 1) := by decide +kernel
theorem dJ0_max_1 : decode cJ0_max 1 = .ok (.iload_n 1, 1) := by decide +kernel
theorem dJ0_max_2 : decode cJ0_max 2 = .ok (.if_icmp .lt 7, 3) := by decide +kernel
theorem dJ0_max_5 : decode cJ0_max 5 = .ok (.iload_n 0, 1) := by decide +kernel
theorem dJ0_max_6 : decode cJ0_max 6 = .ok (.goto 4, 3) := by decide +kernel
theorem dJ0_max_9 : decode cJ0_max 9 = .ok (.iload_n 1, 1) := by decide +kernel
theorem dJ0_max_10 : decode cJ0_max 10 = .ok (.ireturn, 1) := by decide +kernel
theorem q10 : (Jvm.Cond.initialized "java/lang/Math") ∈ lw_all := lw_g (lw_at lw_m0 4 rfl) rfl
theorem q78 : (Jvm.Cond.static ({ cls := "java/lang/Math", name := "min", desc := "(II)I" } : Jvm.MethodName)) ∈ lw_all := lw_g (lw_at lw_m0 72 rfl) rfl
theorem q79 : (Jvm.Cond.code ({ cls := "java/lang/Math", name := "min", desc := "(II)I" } : Jvm.MethodName) prog_6_method_69_code (2 : Nat) (Option.some Jvm.ClassFile.FieldType.int)) ∈ lw_all := lw_g (lw_at lw_m0 73 rfl) rfl
theorem q85 : (Jvm.Cond.static ({ cls := "java/lang/Math", name := "max", desc := "(II)I" } : Jvm.MethodName)) ∈ lw_all := lw_g (lw_at lw_m0 79 rfl) rfl
theorem q86 : (Jvm.Cond.code ({ cls := "java/lang/Math", name := "max", desc := "(II)I" } : Jvm.MethodName) prog_6_method_65_code (2 : Nat) (Option.some Jvm.ClassFile.FieldType.int)) ∈ lw_all := lw_g (lw_at lw_m0 80 rfl) rfl
/-! java/lang/Object -/
set_option maxRecDepth 100000
def RJ1 : String := "java/lang/Object"
abbrev cJ1_init : ByteArray := object_method_1_code
def yJ1_init : MethodName := ⟨RJ1, "<init>", "()V"⟩
theorem dJ1_init_0 : decode cJ1_init 0 = .ok (.return_, 1) := by decide +kernel
theorem q18 : (Jvm.Cond.instanceMethod ({ cls := "java/lang/Object", name := "<init>", desc := "()V" } : Jvm.MethodName)) ∈ lw_all := lw_g (lw_at lw_m0 12 rfl) rfl
theorem q19 : (Jvm.Cond.code ({ cls := "java/lang/Object", name := "<init>", desc := "()V" } : Jvm.MethodName) object_method_1_code (1 : Nat) (Option.none : Option Jvm.ClassFile.FieldType)) ∈ lw_all := lw_g (lw_at lw_m0 13 rfl) rfl
theorem q30 : (Jvm.Cond.arrayClass Jvm.ClassFile.FieldType.int) ∈ lw_all := lw_g (lw_at lw_m0 24 rfl) rfl
set_option maxRecDepth 100000
theorem q164 : (Jvm.Cond.arrayClass Jvm.ClassFile.FieldType.boolean) ∈ lw_all := lw_g (lw_at lw_m0 158 rfl) rfl
/-! ScoreRows$Counts -/
set_option maxRecDepth 100000
def RX2 : String := "ScoreRows$Counts"
def TX2 : u_T := fun k => match k with
  | 0 => ("ScoreRows$Counts", "often", "[I", true)
  | _ => ("ScoreRows$Counts", "n", "I", false)
def tyX2 : Nat → FieldType := fun k => match k with
  | 0 => .array .int
  | _ => .int
abbrev wsX20 : List Cond := u_ws RX2 TX2 2
theorem nmX2 : ∀ a, a < 2 → ∀ b, b < 2 → a ≠ b → (TX2 a).2.1 ≠ (TX2 b).2.1 := by decide +kernel
theorem tyX2_ok : ∀ k, k < 2 → parseFieldDescriptor (TX2 k).2.2.1 = some (tyX2 k) := by decide +kernel
abbrev cX2_init : ByteArray := prog_3_method_1_code
def yX2_init : MethodName := ⟨RX2, "<init>", "()V"⟩
theorem dX2_init_0 : decode cX2_init 0 = .ok (.aload_n 0, 1) := by decide +kernel
theorem dX2_init_1 : decode cX2_init 1 = .ok (.invokespecial 1, 3) := by decide +kernel
theorem dX2_init_4 : decode cX2_init 4 = .ok (.aload_n 0, 1) := by decide +kernel
theorem dX2_init_5 : decode cX2_init 5 = .ok (.bipush 6, 2) := by decide +kernel
theorem dX2_init_7 : decode cX2_init 7 = .ok (.newarray .int, 2) := by decide +kernel
theorem dX2_init_9 : decode cX2_init 9 = .ok (.putfield 7, 3) := by decide +kernel
theorem dX2_init_12 : decode cX2_init 12 = .ok (.aload_n 0, 1) := by decide +kernel
theorem dX2_init_13 : decode cX2_init 13 = .ok (.iconst 0, 1) := by decide +kernel
theorem dX2_init_14 : decode cX2_init 14 = .ok (.putfield 13, 3) := by decide +kernel
theorem dX2_init_17 : decode cX2_init 17 = .ok (.return_, 1) := by decide +kernel
abbrev cX2_add : ByteArray := prog_3_method_2_code
def yX2_add : MethodName := ⟨RX2, "add", "(II)V"⟩
theorem dX2_add_0 : decode cX2_add 0 = .ok (.aload_n 0, 1) := by decide +kernel
theorem dX2_add_1 : decode cX2_add 1 = .ok (.getfield 7, 3) := by decide +kernel
theorem dX2_add_4 : decode cX2_add 4 = .ok (.iload_n 1, 1) := by decide +kernel
theorem dX2_add_5 : decode cX2_add 5 = .ok (.dup2, 1) := by decide +kernel
theorem dX2_add_6 : decode cX2_add 6 = .ok (.iaload, 1) := by decide +kernel
theorem dX2_add_7 : decode cX2_add 7 = .ok (.iload_n 2, 1) := by decide +kernel
theorem dX2_add_8 : decode cX2_add 8 = .ok (.iadd, 1) := by decide +kernel
theorem dX2_add_9 : decode cX2_add 9 = .ok (.iastore, 1) := by decide +kernel
theorem dX2_add_10 : decode cX2_add 10 = .ok (.aload_n 0, 1) := by decide +kernel
theorem dX2_add_11 : decode cX2_add 11 = .ok (.dup, 1) := by decide +kernel
theorem dX2_add_12 : decode cX2_add 12 = .ok (.getfield 13, 3) := by decide +kernel
theorem dX2_add_15 : decode cX2_add 15 = .ok (.iload_n 2, 1) := by decide +kernel
theorem dX2_add_16 : decode cX2_add 16 = .ok (.iadd, 1) := by decide +kernel
theorem dX2_add_17 : decode cX2_add 17 = .ok (.putfield 13, 3) := by decide +kernel
theorem dX2_add_20 : decode cX2_add 20 = .ok (.return_, 1) := by decide +kernel
abbrev cX2_net : ByteArray := prog_3_method_7_code
def yX2_net : MethodName := ⟨RX2, "net", "()Z"⟩
theorem dX2_net_0 : decode cX2_net 0 = .ok (.aload_n 0, 1) := by decide +kernel
theorem dX2_net_1 : decode cX2_net 1 = .ok (.invokevirtual 26, 3) := by decide +kernel
theorem dX2_net_4 : decode cX2_net 4 = .ok (.iconst 2, 1) := by decide +kernel
theorem dX2_net_5 : decode cX2_net 5 = .ok (.irem, 1) := by decide +kernel
theorem dX2_net_6 : decode cX2_net 6 = .ok (.iconst 1, 1) := by decide +kernel
theorem dX2_net_7 : decode cX2_net 7 = .ok (.if_icmp .ne 5, 3) := by decide +kernel
theorem dX2_net_10 : decode cX2_net 10 = .ok (.iconst 0, 1) := by decide +kernel
theorem dX2_net_11 : decode cX2_net 11 = .ok (.ireturn, 1) := by decide +kernel
theorem dX2_net_12 : decode cX2_net 12 = .ok (.iconst 1, 1) := by decide +kernel
theorem dX2_net_13 : decode cX2_net 13 = .ok (.istore_n 1, 1) := by decide +kernel
theorem dX2_net_14 : decode cX2_net 14 = .ok (.iload_n 1, 1) := by decide +kernel
theorem dX2_net_15 : decode cX2_net 15 = .ok (.aload_n 0, 1) := by decide +kernel
theorem dX2_net_16 : decode cX2_net 16 = .ok (.getfield 13, 3) := by decide +kernel
theorem dX2_net_19 : decode cX2_net 19 = .ok (.if_icmp .gt 30, 3) := by decide +kernel
theorem dX2_net_22 : decode cX2_net 22 = .ok (.aload_n 0, 1) := by decide +kernel
theorem dX2_net_23 : decode cX2_net 23 = .ok (.iload_n 1, 1) := by decide +kernel
theorem dX2_net_24 : decode cX2_net 24 = .ok (.invokevirtual 30, 3) := by decide +kernel
theorem dX2_net_27 : decode cX2_net 27 = .ok (.iload_n 1, 1) := by decide +kernel
theorem dX2_net_28 : decode cX2_net 28 = .ok (.iload_n 1, 1) := by decide +kernel
theorem dX2_net_29 : decode cX2_net 29 = .ok (.iconst 1, 1) := by decide +kernel
theorem dX2_net_30 : decode cX2_net 30 = .ok (.isub, 1) := by decide +kernel
theorem dX2_net_31 : decode cX2_net 31 = .ok (.imul, 1) := by decide +kernel
theorem dX2_net_32 : decode cX2_net 32 = .ok (.aload_n 0, 1) := by decide +kernel
theorem dX2_net_33 : decode cX2_net 33 = .ok (.iload_n 1, 1) := by decide +kernel
theorem dX2_net_34 : decode cX2_net 34 = .ok (.invokevirtual 34, 3) := by decide +kernel
theorem dX2_net_37 : decode cX2_net 37 = .ok (.iadd, 1) := by decide +kernel
theorem dX2_net_38 : decode cX2_net 38 = .ok (.if_icmp .le 5, 3) := by decide +kernel
theorem dX2_net_41 : decode cX2_net 41 = .ok (.iconst 0, 1) := by decide +kernel
theorem dX2_net_42 : decode cX2_net 42 = .ok (.ireturn, 1) := by decide +kernel
theorem dX2_net_43 : decode cX2_net 43 = .ok (.iinc 1 1, 3) := by decide +kernel
theorem dX2_net_46 : decode cX2_net 46 = .ok (.goto (-32), 3) := by decide +kernel
theorem dX2_net_49 : decode cX2_net 49 = .ok (.iconst 1, 1) := by decide +kernel
theorem dX2_net_50 : decode cX2_net 50 = .ok (.ireturn, 1) := by decide +kernel
abbrev cX2_sum : ByteArray := prog_3_method_4_code
def yX2_sum : MethodName := ⟨RX2, "sum", "()I"⟩
theorem dX2_sum_0 : decode cX2_sum 0 = .ok (.iconst 0, 1) := by decide +kernel
theorem dX2_sum_1 : decode cX2_sum 1 = .ok (.istore_n 1, 1) := by decide +kernel
theorem dX2_sum_2 : decode cX2_sum 2 = .ok (.iconst 1, 1) := by decide +kernel
theorem dX2_sum_3 : decode cX2_sum 3 = .ok (.istore_n 2, 1) := by decide +kernel
theorem dX2_sum_4 : decode cX2_sum 4 = .ok (.iload_n 2, 1) := by decide +kernel
theorem dX2_sum_5 : decode cX2_sum 5 = .ok (.bipush 6, 2) := by decide +kernel
theorem dX2_sum_7 : decode cX2_sum 7 = .ok (.if_icmp .ge 20, 3) := by decide +kernel
theorem dX2_sum_10 : decode cX2_sum 10 = .ok (.iload_n 1, 1) := by decide +kernel
theorem dX2_sum_11 : decode cX2_sum 11 = .ok (.iload_n 2, 1) := by decide +kernel
theorem dX2_sum_12 : decode cX2_sum 12 = .ok (.aload_n 0, 1) := by decide +kernel
theorem dX2_sum_13 : decode cX2_sum 13 = .ok (.getfield 7, 3) := by decide +kernel
theorem dX2_sum_16 : decode cX2_sum 16 = .ok (.iload_n 2, 1) := by decide +kernel
theorem dX2_sum_17 : decode cX2_sum 17 = .ok (.iaload, 1) := by decide +kernel
theorem dX2_sum_18 : decode cX2_sum 18 = .ok (.imul, 1) := by decide +kernel
theorem dX2_sum_19 : decode cX2_sum 19 = .ok (.iadd, 1) := by decide +kernel
theorem dX2_sum_20 : decode cX2_sum 20 = .ok (.istore_n 1, 1) := by decide +kernel
theorem dX2_sum_21 : decode cX2_sum 21 = .ok (.iinc 2 1, 3) := by decide +kernel
theorem dX2_sum_24 : decode cX2_sum 24 = .ok (.goto (-20), 3) := by decide +kernel
theorem dX2_sum_27 : decode cX2_sum 27 = .ok (.iload_n 1, 1) := by decide +kernel
theorem dX2_sum_28 : decode cX2_sum 28 = .ok (.ireturn, 1) := by decide +kernel
abbrev cX2_greatest : ByteArray := prog_3_method_5_code
def yX2_greatest : MethodName := ⟨RX2, "greatest", "(I)I"⟩
theorem dX2_greatest_0 : decode cX2_greatest 0 = .ok (.iconst 0, 1) := by decide +kernel
theorem dX2_greatest_1 : decode cX2_greatest 1 = .ok (.istore_n 2, 1) := by decide +kernel
theorem dX2_greatest_2 : decode cX2_greatest 2 = .ok (.iload_n 1, 1) := by decide +kernel
theorem dX2_greatest_3 : decode cX2_greatest 3 = .ok (.istore_n 3, 1) := by decide +kernel
theorem dX2_greatest_4 : decode cX2_greatest 4 = .ok (.iconst 5, 1) := by decide +kernel
theorem dX2_greatest_5 : decode cX2_greatest 5 = .ok (.istore 4, 2) := by decide +kernel
theorem dX2_greatest_7 : decode cX2_greatest 7 = .ok (.iload 4, 2) := by decide +kernel
theorem dX2_greatest_9 : decode cX2_greatest 9 = .ok (.ifCond .le 39, 3) := by decide +kernel
theorem dX2_greatest_12 : decode cX2_greatest 12 = .ok (.iload_n 3, 1) := by decide +kernel
theorem dX2_greatest_13 : decode cX2_greatest 13 = .ok (.ifCond .le 35, 3) := by decide +kernel
theorem dX2_greatest_16 : decode cX2_greatest 16 = .ok (.iload_n 3, 1) := by decide +kernel
theorem dX2_greatest_17 : decode cX2_greatest 17 = .ok (.aload_n 0, 1) := by decide +kernel
theorem dX2_greatest_18 : decode cX2_greatest 18 = .ok (.getfield 7, 3) := by decide +kernel
theorem dX2_greatest_21 : decode cX2_greatest 21 = .ok (.iload 4, 2) := by decide +kernel
theorem dX2_greatest_23 : decode cX2_greatest 23 = .ok (.iaload, 1) := by decide +kernel
theorem dX2_greatest_24 : decode cX2_greatest 24 = .ok (.invokestatic 17, 3) := by decide +kernel
theorem dX2_greatest_27 : decode cX2_greatest 27 = .ok (.istore 5, 2) := by decide +kernel
theorem dX2_greatest_29 : decode cX2_greatest 29 = .ok (.iload_n 2, 1) := by decide +kernel
theorem dX2_greatest_30 : decode cX2_greatest 30 = .ok (.iload 5, 2) := by decide +kernel
theorem dX2_greatest_32 : decode cX2_greatest 32 = .ok (.iload 4, 2) := by decide +kernel
theorem dX2_greatest_34 : decode cX2_greatest 34 = .ok (.imul, 1) := by decide +kernel
theorem dX2_greatest_35 : decode cX2_greatest 35 = .ok (.iadd, 1) := by decide +kernel
theorem dX2_greatest_36 : decode cX2_greatest 36 = .ok (.istore_n 2, 1) := by decide +kernel
theorem dX2_greatest_37 : decode cX2_greatest 37 = .ok (.iload_n 3, 1) := by decide +kernel
theorem dX2_greatest_38 : decode cX2_greatest 38 = .ok (.iload 5, 2) := by decide +kernel
theorem dX2_greatest_40 : decode cX2_greatest 40 = .ok (.isub, 1) := by decide +kernel
theorem dX2_greatest_41 : decode cX2_greatest 41 = .ok (.istore_n 3, 1) := by decide +kernel
theorem dX2_greatest_42 : decode cX2_greatest 42 = .ok (.iinc 4 (-1), 3) := by decide +kernel
theorem dX2_greatest_45 : decode cX2_greatest 45 = .ok (.goto (-38), 3) := by decide +kernel
theorem dX2_greatest_48 : decode cX2_greatest 48 = .ok (.iload_n 2, 1) := by decide +kernel
theorem dX2_greatest_49 : decode cX2_greatest 49 = .ok (.ireturn, 1) := by decide +kernel
abbrev cX2_given : ByteArray := prog_3_method_6_code
def yX2_given : MethodName := ⟨RX2, "given", "(I)I"⟩
theorem dX2_given_0 : decode cX2_given 0 = .ok (.iconst 0, 1) := by decide +kernel
theorem dX2_given_1 : decode cX2_given 1 = .ok (.istore_n 2, 1) := by decide +kernel
theorem dX2_given_2 : decode cX2_given 2 = .ok (.iload_n 1, 1) := by decide +kernel
theorem dX2_given_3 : decode cX2_given 3 = .ok (.istore_n 3, 1) := by decide +kernel
theorem dX2_given_4 : decode cX2_given 4 = .ok (.iconst 5, 1) := by decide +kernel
theorem dX2_given_5 : decode cX2_given 5 = .ok (.istore 4, 2) := by decide +kernel
theorem dX2_given_7 : decode cX2_given 7 = .ok (.iload 4, 2) := by decide +kernel
theorem dX2_given_9 : decode cX2_given 9 = .ok (.ifCond .le 50, 3) := by decide +kernel
theorem dX2_given_12 : decode cX2_given 12 = .ok (.iconst 0, 1) := by decide +kernel
theorem dX2_given_13 : decode cX2_given 13 = .ok (.aload_n 0, 1) := by decide +kernel
theorem dX2_given_14 : decode cX2_given 14 = .ok (.getfield 7, 3) := by decide +kernel
theorem dX2_given_17 : decode cX2_given 17 = .ok (.iload 4, 2) := by decide +kernel
theorem dX2_given_19 : decode cX2_given 19 = .ok (.iaload, 1) := by decide +kernel
theorem dX2_given_20 : decode cX2_given 20 = .ok (.iload_n 3, 1) := by decide +kernel
theorem dX2_given_21 : decode cX2_given 21 = .ok (.isub, 1) := by decide +kernel
theorem dX2_given_22 : decode cX2_given 22 = .ok (.invokestatic 23, 3) := by decide +kernel
theorem dX2_given_25 : decode cX2_given 25 = .ok (.istore 5, 2) := by decide +kernel
theorem dX2_given_27 : decode cX2_given 27 = .ok (.iconst 0, 1) := by decide +kernel
theorem dX2_given_28 : decode cX2_given 28 = .ok (.iload_n 3, 1) := by decide +kernel
theorem dX2_given_29 : decode cX2_given 29 = .ok (.aload_n 0, 1) := by decide +kernel
theorem dX2_given_30 : decode cX2_given 30 = .ok (.getfield 7, 3) := by decide +kernel
theorem dX2_given_33 : decode cX2_given 33 = .ok (.iload 4, 2) := by decide +kernel
theorem dX2_given_35 : decode cX2_given 35 = .ok (.iaload, 1) := by decide +kernel
theorem dX2_given_36 : decode cX2_given 36 = .ok (.isub, 1) := by decide +kernel
theorem dX2_given_37 : decode cX2_given 37 = .ok (.invokestatic 23, 3) := by decide +kernel
theorem dX2_given_40 : decode cX2_given 40 = .ok (.istore_n 3, 1) := by decide +kernel
theorem dX2_given_41 : decode cX2_given 41 = .ok (.iload_n 2, 1) := by decide +kernel
theorem dX2_given_42 : decode cX2_given 42 = .ok (.iload 5, 2) := by decide +kernel
theorem dX2_given_44 : decode cX2_given 44 = .ok (.iload 4, 2) := by decide +kernel
theorem dX2_given_46 : decode cX2_given 46 = .ok (.iload_n 1, 1) := by decide +kernel
theorem dX2_given_47 : decode cX2_given 47 = .ok (.invokestatic 17, 3) := by decide +kernel
theorem dX2_given_50 : decode cX2_given 50 = .ok (.imul, 1) := by decide +kernel
theorem dX2_given_51 : decode cX2_given 51 = .ok (.iadd, 1) := by decide +kernel
theorem dX2_given_52 : decode cX2_given 52 = .ok (.istore_n 2, 1) := by decide +kernel
theorem dX2_given_53 : decode cX2_given 53 = .ok (.iinc 4 (-1), 3) := by decide +kernel
theorem dX2_given_56 : decode cX2_given 56 = .ok (.goto (-49), 3) := by decide +kernel
theorem dX2_given_59 : decode cX2_given 59 = .ok (.iload_n 2, 1) := by decide +kernel
theorem dX2_given_60 : decode cX2_given 60 = .ok (.ireturn, 1) := by decide +kernel
abbrev cX2_play : ByteArray := prog_3_method_8_code
def yX2_play : MethodName := ⟨RX2, "play", "()Z"⟩
theorem dX2_play_0 : decode cX2_play 0 = .ok (.iconst 1, 1) := by decide +kernel
theorem dX2_play_1 : decode cX2_play 1 = .ok (.istore_n 1, 1) := by decide +kernel
theorem dX2_play_2 : decode cX2_play 2 = .ok (.iload_n 1, 1) := by decide +kernel
theorem dX2_play_3 : decode cX2_play 3 = .ok (.aload_n 0, 1) := by decide +kernel
theorem dX2_play_4 : decode cX2_play 4 = .ok (.getfield 13, 3) := by decide +kernel
theorem dX2_play_7 : decode cX2_play 7 = .ok (.if_icmp .ge 36, 3) := by decide +kernel
theorem dX2_play_10 : decode cX2_play 10 = .ok (.aload_n 0, 1) := by decide +kernel
theorem dX2_play_11 : decode cX2_play 11 = .ok (.invokevirtual 26, 3) := by decide +kernel
theorem dX2_play_14 : decode cX2_play 14 = .ok (.aload_n 0, 1) := by decide +kernel
theorem dX2_play_15 : decode cX2_play 15 = .ok (.aload_n 0, 1) := by decide +kernel
theorem dX2_play_16 : decode cX2_play 16 = .ok (.getfield 13, 3) := by decide +kernel
theorem dX2_play_19 : decode cX2_play 19 = .ok (.iload_n 1, 1) := by decide +kernel
theorem dX2_play_20 : decode cX2_play 20 = .ok (.isub, 1) := by decide +kernel
theorem dX2_play_21 : decode cX2_play 21 = .ok (.invokevirtual 30, 3) := by decide +kernel
theorem dX2_play_24 : decode cX2_play 24 = .ok (.isub, 1) := by decide +kernel
theorem dX2_play_25 : decode cX2_play 25 = .ok (.iload_n 1, 1) := by decide +kernel
theorem dX2_play_26 : decode cX2_play 26 = .ok (.iload_n 1, 1) := by decide +kernel
theorem dX2_play_27 : decode cX2_play 27 = .ok (.iconst 1, 1) := by decide +kernel
theorem dX2_play_28 : decode cX2_play 28 = .ok (.isub, 1) := by decide +kernel
theorem dX2_play_29 : decode cX2_play 29 = .ok (.imul, 1) := by decide +kernel
theorem dX2_play_30 : decode cX2_play 30 = .ok (.iconst 2, 1) := by decide +kernel
theorem dX2_play_31 : decode cX2_play 31 = .ok (.idiv, 1) := by decide +kernel
theorem dX2_play_32 : decode cX2_play 32 = .ok (.if_icmp .ge 5, 3) := by decide +kernel
theorem dX2_play_35 : decode cX2_play 35 = .ok (.iconst 0, 1) := by decide +kernel
theorem dX2_play_36 : decode cX2_play 36 = .ok (.ireturn, 1) := by decide +kernel
theorem dX2_play_37 : decode cX2_play 37 = .ok (.iinc 1 1, 3) := by decide +kernel
theorem dX2_play_40 : decode cX2_play 40 = .ok (.goto (-38), 3) := by decide +kernel
theorem dX2_play_43 : decode cX2_play 43 = .ok (.aload_n 0, 1) := by decide +kernel
theorem dX2_play_44 : decode cX2_play 44 = .ok (.invokevirtual 26, 3) := by decide +kernel
theorem dX2_play_47 : decode cX2_play 47 = .ok (.aload_n 0, 1) := by decide +kernel
theorem dX2_play_48 : decode cX2_play 48 = .ok (.getfield 13, 3) := by decide +kernel
theorem dX2_play_51 : decode cX2_play 51 = .ok (.aload_n 0, 1) := by decide +kernel
theorem dX2_play_52 : decode cX2_play 52 = .ok (.getfield 13, 3) := by decide +kernel
theorem dX2_play_55 : decode cX2_play 55 = .ok (.iconst 1, 1) := by decide +kernel
theorem dX2_play_56 : decode cX2_play 56 = .ok (.isub, 1) := by decide +kernel
theorem dX2_play_57 : decode cX2_play 57 = .ok (.imul, 1) := by decide +kernel
theorem dX2_play_58 : decode cX2_play 58 = .ok (.iconst 2, 1) := by decide +kernel
theorem dX2_play_59 : decode cX2_play 59 = .ok (.idiv, 1) := by decide +kernel
theorem dX2_play_60 : decode cX2_play 60 = .ok (.if_icmp .ne 7, 3) := by decide +kernel
theorem dX2_play_63 : decode cX2_play 63 = .ok (.iconst 1, 1) := by decide +kernel
theorem dX2_play_64 : decode cX2_play 64 = .ok (.goto 4, 3) := by decide +kernel
theorem dX2_play_67 : decode cX2_play 67 = .ok (.iconst 0, 1) := by decide +kernel
theorem dX2_play_68 : decode cX2_play 68 = .ok (.ireturn, 1) := by decide +kernel
abbrev cX2_take : ByteArray := prog_3_method_3_code
def yX2_take : MethodName := ⟨RX2, "take", "(II)V"⟩
theorem dX2_take_0 : decode cX2_take 0 = .ok (.aload_n 0, 1) := by decide +kernel
theorem dX2_take_1 : decode cX2_take 1 = .ok (.getfield 7, 3) := by decide +kernel
theorem dX2_take_4 : decode cX2_take 4 = .ok (.iload_n 1, 1) := by decide +kernel
theorem dX2_take_5 : decode cX2_take 5 = .ok (.dup2, 1) := by decide +kernel
theorem dX2_take_6 : decode cX2_take 6 = .ok (.iaload, 1) := by decide +kernel
theorem dX2_take_7 : decode cX2_take 7 = .ok (.iload_n 2, 1) := by decide +kernel
theorem dX2_take_8 : decode cX2_take 8 = .ok (.isub, 1) := by decide +kernel
theorem dX2_take_9 : decode cX2_take 9 = .ok (.iastore, 1) := by decide +kernel
theorem dX2_take_10 : decode cX2_take 10 = .ok (.aload_n 0, 1) := by decide +kernel
theorem dX2_take_11 : decode cX2_take 11 = .ok (.dup, 1) := by decide +kernel
theorem dX2_take_12 : decode cX2_take 12 = .ok (.getfield 13, 3) := by decide +kernel
theorem dX2_take_15 : decode cX2_take 15 = .ok (.iload_n 2, 1) := by decide +kernel
theorem dX2_take_16 : decode cX2_take 16 = .ok (.isub, 1) := by decide +kernel
theorem dX2_take_17 : decode cX2_take 17 = .ok (.putfield 13, 3) := by decide +kernel
theorem dX2_take_20 : decode cX2_take 20 = .ok (.return_, 1) := by decide +kernel
theorem q9 : (Jvm.Cond.initialized "ScoreRows$Counts") ∈ lw_all := lw_g (lw_at lw_m0 3 rfl) rfl
theorem q49 : (Jvm.Cond.instantiable "ScoreRows$Counts" (2 : Nat)) ∈ lw_all := lw_g (lw_at lw_m0 43 rfl) rfl
theorem q51 : (Jvm.Cond.instanceMethod ({ cls := "ScoreRows$Counts", name := "<init>", desc := "()V" } : Jvm.MethodName)) ∈ lw_all := lw_g (lw_at lw_m0 45 rfl) rfl
theorem q52 : (Jvm.Cond.code ({ cls := "ScoreRows$Counts", name := "<init>", desc := "()V" } : Jvm.MethodName) prog_3_method_1_code (1 : Nat) (Option.none : Option Jvm.ClassFile.FieldType)) ∈ lw_all := lw_g (lw_at lw_m0 46 rfl) rfl
theorem q53 : (Jvm.Cond.methodLink "ScoreRows$Counts" (1 : Nat) ({ cls := "java/lang/Object", name := "<init>", desc := "()V" } : Jvm.MethodName)) ∈ lw_all := lw_g (lw_at lw_m0 47 rfl) rfl
theorem q54 : (Jvm.Cond.fieldLink "ScoreRows$Counts" (7 : Nat) "ScoreRows$Counts" "often" "[I") ∈ lw_all := lw_g (lw_at lw_m0 48 rfl) rfl
theorem q55 : (Jvm.Cond.fieldLink "ScoreRows$Counts" (13 : Nat) "ScoreRows$Counts" "n" "I") ∈ lw_all := lw_g (lw_at lw_m0 49 rfl) rfl
theorem q56 : (Jvm.Cond.laysFinal "ScoreRows$Counts" "ScoreRows$Counts" "often" "[I") ∈ lw_all := lw_g (lw_at lw_m0 50 rfl) rfl
theorem q57 : (Jvm.Cond.soleField "ScoreRows$Counts" "often") ∈ lw_all := lw_g (lw_at lw_m0 51 rfl) rfl
theorem q58 : (Jvm.Cond.lays "ScoreRows$Counts" "ScoreRows$Counts" "n" "I") ∈ lw_all := lw_g (lw_at lw_m0 52 rfl) rfl
theorem q59 : (Jvm.Cond.soleField "ScoreRows$Counts" "n") ∈ lw_all := lw_g (lw_at lw_m0 53 rfl) rfl
theorem q60 : (Jvm.Cond.superclass "ScoreRows$Counts" "java/lang/Object") ∈ lw_all := lw_g (lw_at lw_m0 54 rfl) rfl
theorem q62 : (Jvm.Cond.instanceMethod ({ cls := "ScoreRows$Counts", name := "add", desc := "(II)V" } : Jvm.MethodName)) ∈ lw_all := lw_g (lw_at lw_m0 56 rfl) rfl
theorem q63 : (Jvm.Cond.selects "ScoreRows$Counts" ({ cls := "ScoreRows$Counts", name := "add", desc := "(II)V" } : Jvm.MethodName) ({ cls := "ScoreRows$Counts", name := "add", desc := "(II)V" } : Jvm.MethodName)) ∈ lw_all := lw_g (lw_at lw_m0 57 rfl) rfl
theorem q64 : (Jvm.Cond.code ({ cls := "ScoreRows$Counts", name := "add", desc := "(II)V" } : Jvm.MethodName) prog_3_method_2_code (3 : Nat) (Option.none : Option Jvm.ClassFile.FieldType)) ∈ lw_all := lw_g (lw_at lw_m0 58 rfl) rfl
theorem q66 : (Jvm.Cond.instanceMethod ({ cls := "ScoreRows$Counts", name := "net", desc := "()Z" } : Jvm.MethodName)) ∈ lw_all := lw_g (lw_at lw_m0 60 rfl) rfl
theorem q67 : (Jvm.Cond.selects "ScoreRows$Counts" ({ cls := "ScoreRows$Counts", name := "net", desc := "()Z" } : Jvm.MethodName) ({ cls := "ScoreRows$Counts", name := "net", desc := "()Z" } : Jvm.MethodName)) ∈ lw_all := lw_g (lw_at lw_m0 61 rfl) rfl
theorem q68 : (Jvm.Cond.code ({ cls := "ScoreRows$Counts", name := "net", desc := "()Z" } : Jvm.MethodName) prog_3_method_7_code (2 : Nat) (Option.some Jvm.ClassFile.FieldType.boolean)) ∈ lw_all := lw_g (lw_at lw_m0 62 rfl) rfl
theorem q69 : (Jvm.Cond.methodLink "ScoreRows$Counts" (26 : Nat) ({ cls := "ScoreRows$Counts", name := "sum", desc := "()I" } : Jvm.MethodName)) ∈ lw_all := lw_g (lw_at lw_m0 63 rfl) rfl
theorem q70 : (Jvm.Cond.instanceMethod ({ cls := "ScoreRows$Counts", name := "sum", desc := "()I" } : Jvm.MethodName)) ∈ lw_all := lw_g (lw_at lw_m0 64 rfl) rfl
theorem q71 : (Jvm.Cond.selects "ScoreRows$Counts" ({ cls := "ScoreRows$Counts", name := "sum", desc := "()I" } : Jvm.MethodName) ({ cls := "ScoreRows$Counts", name := "sum", desc := "()I" } : Jvm.MethodName)) ∈ lw_all := lw_g (lw_at lw_m0 65 rfl) rfl
theorem q72 : (Jvm.Cond.code ({ cls := "ScoreRows$Counts", name := "sum", desc := "()I" } : Jvm.MethodName) prog_3_method_4_code (3 : Nat) (Option.some Jvm.ClassFile.FieldType.int)) ∈ lw_all := lw_g (lw_at lw_m0 66 rfl) rfl
theorem q73 : (Jvm.Cond.methodLink "ScoreRows$Counts" (30 : Nat) ({ cls := "ScoreRows$Counts", name := "greatest", desc := "(I)I" } : Jvm.MethodName)) ∈ lw_all := lw_g (lw_at lw_m0 67 rfl) rfl
theorem q74 : (Jvm.Cond.privateMethod ({ cls := "ScoreRows$Counts", name := "greatest", desc := "(I)I" } : Jvm.MethodName)) ∈ lw_tbl := lw_at lw_m0 68 rfl
theorem q75 : (Jvm.Cond.instanceMethod ({ cls := "ScoreRows$Counts", name := "greatest", desc := "(I)I" } : Jvm.MethodName)) ∈ lw_all := lw_g (lw_at lw_m0 69 rfl) rfl
theorem q76 : (Jvm.Cond.code ({ cls := "ScoreRows$Counts", name := "greatest", desc := "(I)I" } : Jvm.MethodName) prog_3_method_5_code (6 : Nat) (Option.some Jvm.ClassFile.FieldType.int)) ∈ lw_all := lw_g (lw_at lw_m0 70 rfl) rfl
theorem q77 : (Jvm.Cond.methodLink "ScoreRows$Counts" (17 : Nat) ({ cls := "java/lang/Math", name := "min", desc := "(II)I" } : Jvm.MethodName)) ∈ lw_all := lw_g (lw_at lw_m0 71 rfl) rfl
theorem q80 : (Jvm.Cond.methodLink "ScoreRows$Counts" (34 : Nat) ({ cls := "ScoreRows$Counts", name := "given", desc := "(I)I" } : Jvm.MethodName)) ∈ lw_all := lw_g (lw_at lw_m0 74 rfl) rfl
theorem q81 : (Jvm.Cond.privateMethod ({ cls := "ScoreRows$Counts", name := "given", desc := "(I)I" } : Jvm.MethodName)) ∈ lw_tbl := lw_at lw_m0 75 rfl
theorem q82 : (Jvm.Cond.instanceMethod ({ cls := "ScoreRows$Counts", name := "given", desc := "(I)I" } : Jvm.MethodName)) ∈ lw_all := lw_g (lw_at lw_m0 76 rfl) rfl
theorem q83 : (Jvm.Cond.code ({ cls := "ScoreRows$Counts", name := "given", desc := "(I)I" } : Jvm.MethodName) prog_3_method_6_code (6 : Nat) (Option.some Jvm.ClassFile.FieldType.int)) ∈ lw_all := lw_g (lw_at lw_m0 77 rfl) rfl
theorem q84 : (Jvm.Cond.methodLink "ScoreRows$Counts" (23 : Nat) ({ cls := "java/lang/Math", name := "max", desc := "(II)I" } : Jvm.MethodName)) ∈ lw_all := lw_g (lw_at lw_m0 78 rfl) rfl
theorem q92 : (Jvm.Cond.instanceMethod ({ cls := "ScoreRows$Counts", name := "play", desc := "()Z" } : Jvm.MethodName)) ∈ lw_all := lw_g (lw_at lw_m0 86 rfl) rfl
theorem q93 : (Jvm.Cond.selects "ScoreRows$Counts" ({ cls := "ScoreRows$Counts", name := "play", desc := "()Z" } : Jvm.MethodName) ({ cls := "ScoreRows$Counts", name := "play", desc := "()Z" } : Jvm.MethodName)) ∈ lw_all := lw_g (lw_at lw_m0 87 rfl) rfl
theorem q94 : (Jvm.Cond.code ({ cls := "ScoreRows$Counts", name := "play", desc := "()Z" } : Jvm.MethodName) prog_3_method_8_code (2 : Nat) (Option.some Jvm.ClassFile.FieldType.boolean)) ∈ lw_all := lw_g (lw_at lw_m0 88 rfl) rfl
theorem q130 : (Jvm.Cond.instanceMethod ({ cls := "ScoreRows$Counts", name := "take", desc := "(II)V" } : Jvm.MethodName)) ∈ lw_all := lw_g (lw_at lw_m0 124 rfl) rfl
theorem q131 : (Jvm.Cond.selects "ScoreRows$Counts" ({ cls := "ScoreRows$Counts", name := "take", desc := "(II)V" } : Jvm.MethodName) ({ cls := "ScoreRows$Counts", name := "take", desc := "(II)V" } : Jvm.MethodName)) ∈ lw_all := lw_g (lw_at lw_m0 125 rfl) rfl
theorem q132 : (Jvm.Cond.code ({ cls := "ScoreRows$Counts", name := "take", desc := "(II)V" } : Jvm.MethodName) prog_3_method_3_code (3 : Nat) (Option.none : Option Jvm.ClassFile.FieldType)) ∈ lw_all := lw_g (lw_at lw_m0 126 rfl) rfl
theorem in_X2 : ∀ w ∈ wsX20, w ∈ lw_all := lw_in wsX20 [56, 58] (by decide +kernel) (by decide +kernel)
end
section
/-! ScoreRows$Counter -/
set_option maxRecDepth 100000
def RX3 : String := "ScoreRows$Counter"
def TX3 : u_T := fun k => match k with
  | 0 => ("ScoreRows$Counter", "counts", "LScoreRows$Counts;", true)
  | _ => ("ScoreRows$Counter", "nets", "Z", true)
def tyX3 : Nat → FieldType := fun k => match k with
  | 0 => .object "ScoreRows$Counts"
  | _ => .boolean
abbrev wsX30 : List Cond := u_ws RX3 TX3 2
theorem nmX3 : ∀ a, a < 2 → ∀ b, b < 2 → a ≠ b → (TX3 a).2.1 ≠ (TX3 b).2.1 := by decide +kernel
theorem tyX3_ok : ∀ k, k < 2 → parseFieldDescriptor (TX3 k).2.2.1 = some (tyX3 k) := by decide +kernel
abbrev cX3_init : ByteArray := prog_2_method_1_code
def yX3_init : MethodName := ⟨RX3, "<init>", "(Z)V"⟩
theorem dX3_init_0 : decode cX3_init 0 = .ok (.aload_n 0, 1) := by decide +kernel
theorem dX3_init_1 : decode cX3_init 1 = .ok (.invokespecial 1, 3) := by decide +kernel
theorem dX3_init_4 : decode cX3_init 4 = .ok (.aload_n 0, 1) := by decide +kernel
theorem dX3_init_5 : decode cX3_init 5 = .ok (.new 7, 3) := by decide +kernel
theorem dX3_init_8 : decode cX3_init 8 = .ok (.dup, 1) := by decide +kernel
theorem dX3_init_9 : decode cX3_init 9 = .ok (.invokespecial 9, 3) := by decide +kernel
theorem dX3_init_12 : decode cX3_init 12 = .ok (.putfield 10, 3) := by decide +kernel
theorem dX3_init_15 : decode cX3_init 15 = .ok (.aload_n 0, 1) := by decide +kernel
theorem dX3_init_16 : decode cX3_init 16 = .ok (.iload_n 1, 1) := by decide +kernel
theorem dX3_init_17 : decode cX3_init 17 = .ok (.putfield 16, 3) := by decide +kernel
theorem dX3_init_20 : decode cX3_init 20 = .ok (.return_, 1) := by decide +kernel
abbrev cX3_from : ByteArray := prog_2_method_3_code
def yX3_from : MethodName := ⟨RX3, "from", "(II)I"⟩
theorem dX3_from_0 : decode cX3_from 0 = .ok (.iload_n 1, 1) := by decide +kernel
theorem dX3_from_1 : decode cX3_from 1 = .ok (.bipush 6, 2) := by decide +kernel
theorem dX3_from_3 : decode cX3_from 3 = .ok (.if_icmp .ne 43, 3) := by decide +kernel
theorem dX3_from_6 : decode cX3_from 6 = .ok (.iload_n 2, 1) := by decide +kernel
theorem dX3_from_7 : decode cX3_from 7 = .ok (.ifCond .ne 37, 3) := by decide +kernel
theorem dX3_from_10 : decode cX3_from 10 = .ok (.aload_n 0, 1) := by decide +kernel
theorem dX3_from_11 : decode cX3_from 11 = .ok (.getfield 16, 3) := by decide +kernel
theorem dX3_from_14 : decode cX3_from 14 = .ok (.ifCond .eq 16, 3) := by decide +kernel
theorem dX3_from_17 : decode cX3_from 17 = .ok (.aload_n 0, 1) := by decide +kernel
theorem dX3_from_18 : decode cX3_from 18 = .ok (.getfield 10, 3) := by decide +kernel
theorem dX3_from_21 : decode cX3_from 21 = .ok (.invokevirtual 20, 3) := by decide +kernel
theorem dX3_from_24 : decode cX3_from 24 = .ok (.ifCond .eq 20, 3) := by decide +kernel
theorem dX3_from_27 : decode cX3_from 27 = .ok (.goto 13, 3) := by decide +kernel
theorem dX3_from_30 : decode cX3_from 30 = .ok (.aload_n 0, 1) := by decide +kernel
theorem dX3_from_31 : decode cX3_from 31 = .ok (.getfield 10, 3) := by decide +kernel
theorem dX3_from_34 : decode cX3_from 34 = .ok (.invokevirtual 24, 3) := by decide +kernel
theorem dX3_from_37 : decode cX3_from 37 = .ok (.ifCond .eq 7, 3) := by decide +kernel
theorem dX3_from_40 : decode cX3_from 40 = .ok (.iconst 1, 1) := by decide +kernel
theorem dX3_from_41 : decode cX3_from 41 = .ok (.goto 4, 3) := by decide +kernel
theorem dX3_from_44 : decode cX3_from 44 = .ok (.iconst 0, 1) := by decide +kernel
theorem dX3_from_45 : decode cX3_from 45 = .ok (.ireturn, 1) := by decide +kernel
theorem dX3_from_46 : decode cX3_from 46 = .ok (.iconst 0, 1) := by decide +kernel
theorem dX3_from_47 : decode cX3_from 47 = .ok (.istore_n 3, 1) := by decide +kernel
theorem dX3_from_48 : decode cX3_from 48 = .ok (.iconst 0, 1) := by decide +kernel
theorem dX3_from_49 : decode cX3_from 49 = .ok (.istore 4, 2) := by decide +kernel
theorem dX3_from_51 : decode cX3_from 51 = .ok (.iload 4, 2) := by decide +kernel
theorem dX3_from_53 : decode cX3_from 53 = .ok (.iload_n 2, 1) := by decide +kernel
theorem dX3_from_54 : decode cX3_from 54 = .ok (.if_icmp .gt 50, 3) := by decide +kernel
theorem dX3_from_57 : decode cX3_from 57 = .ok (.aload_n 0, 1) := by decide +kernel
theorem dX3_from_58 : decode cX3_from 58 = .ok (.getfield 10, 3) := by decide +kernel
theorem dX3_from_61 : decode cX3_from 61 = .ok (.iload_n 1, 1) := by decide +kernel
theorem dX3_from_62 : decode cX3_from 62 = .ok (.iload 4, 2) := by decide +kernel
theorem dX3_from_64 : decode cX3_from 64 = .ok (.invokevirtual 27, 3) := by decide +kernel
theorem dX3_from_67 : decode cX3_from 67 = .ok (.iload_n 3, 1) := by decide +kernel
theorem dX3_from_68 : decode cX3_from 68 = .ok (.iload_n 2, 1) := by decide +kernel
theorem dX3_from_69 : decode cX3_from 69 = .ok (.iload 4, 2) := by decide +kernel
theorem dX3_from_71 : decode cX3_from 71 = .ok (.invokestatic 31, 3) := by decide +kernel
theorem dX3_from_74 : decode cX3_from 74 = .ok (.aload_n 0, 1) := by decide +kernel
theorem dX3_from_75 : decode cX3_from 75 = .ok (.iload_n 1, 1) := by decide +kernel
theorem dX3_from_76 : decode cX3_from 76 = .ok (.iconst 1, 1) := by decide +kernel
theorem dX3_from_77 : decode cX3_from 77 = .ok (.iadd, 1) := by decide +kernel
theorem dX3_from_78 : decode cX3_from 78 = .ok (.iload_n 2, 1) := by decide +kernel
theorem dX3_from_79 : decode cX3_from 79 = .ok (.iload 4, 2) := by decide +kernel
theorem dX3_from_81 : decode cX3_from 81 = .ok (.isub, 1) := by decide +kernel
theorem dX3_from_82 : decode cX3_from 82 = .ok (.invokevirtual 35, 3) := by decide +kernel
theorem dX3_from_85 : decode cX3_from 85 = .ok (.imul, 1) := by decide +kernel
theorem dX3_from_86 : decode cX3_from 86 = .ok (.iadd, 1) := by decide +kernel
theorem dX3_from_87 : decode cX3_from 87 = .ok (.istore_n 3, 1) := by decide +kernel
theorem dX3_from_88 : decode cX3_from 88 = .ok (.aload_n 0, 1) := by decide +kernel
theorem dX3_from_89 : decode cX3_from 89 = .ok (.getfield 10, 3) := by decide +kernel
theorem dX3_from_92 : decode cX3_from 92 = .ok (.iload_n 1, 1) := by decide +kernel
theorem dX3_from_93 : decode cX3_from 93 = .ok (.iload 4, 2) := by decide +kernel
theorem dX3_from_95 : decode cX3_from 95 = .ok (.invokevirtual 38, 3) := by decide +kernel
theorem dX3_from_98 : decode cX3_from 98 = .ok (.iinc 4 1, 3) := by decide +kernel
theorem dX3_from_101 : decode cX3_from 101 = .ok (.goto (-50), 3) := by decide +kernel
theorem dX3_from_104 : decode cX3_from 104 = .ok (.iload_n 3, 1) := by decide +kernel
theorem dX3_from_105 : decode cX3_from 105 = .ok (.ireturn, 1) := by decide +kernel
abbrev cX3_choices : ByteArray := prog_2_method_2_code
def yX3_choices : MethodName := ⟨RX3, "choices", "(II)I"⟩
theorem dX3_choices_0 : decode cX3_choices 0 = .ok (.iconst 1, 1) := by decide +kernel
theorem dX3_choices_1 : decode cX3_choices 1 = .ok (.istore_n 2, 1) := by decide +kernel
theorem dX3_choices_2 : decode cX3_choices 2 = .ok (.iconst 1, 1) := by decide +kernel
theorem dX3_choices_3 : decode cX3_choices 3 = .ok (.istore_n 3, 1) := by decide +kernel
theorem dX3_choices_4 : decode cX3_choices 4 = .ok (.iload_n 3, 1) := by decide +kernel
theorem dX3_choices_5 : decode cX3_choices 5 = .ok (.iload_n 1, 1) := by decide +kernel
theorem dX3_choices_6 : decode cX3_choices 6 = .ok (.if_icmp .gt 19, 3) := by decide +kernel
theorem dX3_choices_9 : decode cX3_choices 9 = .ok (.iload_n 2, 1) := by decide +kernel
theorem dX3_choices_10 : decode cX3_choices 10 = .ok (.iload_n 0, 1) := by decide +kernel
theorem dX3_choices_11 : decode cX3_choices 11 = .ok (.iload_n 1, 1) := by decide +kernel
theorem dX3_choices_12 : decode cX3_choices 12 = .ok (.isub, 1) := by decide +kernel
theorem dX3_choices_13 : decode cX3_choices 13 = .ok (.iload_n 3, 1) := by decide +kernel
theorem dX3_choices_14 : decode cX3_choices 14 = .ok (.iadd, 1) := by decide +kernel
theorem dX3_choices_15 : decode cX3_choices 15 = .ok (.imul, 1) := by decide +kernel
theorem dX3_choices_16 : decode cX3_choices 16 = .ok (.iload_n 3, 1) := by decide +kernel
theorem dX3_choices_17 : decode cX3_choices 17 = .ok (.idiv, 1) := by decide +kernel
theorem dX3_choices_18 : decode cX3_choices 18 = .ok (.istore_n 2, 1) := by decide +kernel
theorem dX3_choices_19 : decode cX3_choices 19 = .ok (.iinc 3 1, 3) := by decide +kernel
theorem dX3_choices_22 : decode cX3_choices 22 = .ok (.goto (-18), 3) := by decide +kernel
theorem dX3_choices_25 : decode cX3_choices 25 = .ok (.iload_n 2, 1) := by decide +kernel
theorem dX3_choices_26 : decode cX3_choices 26 = .ok (.ireturn, 1) := by decide +kernel
theorem q11 : (Jvm.Cond.initialized "ScoreRows$Counter") ∈ lw_all := lw_g (lw_at lw_m0 5 rfl) rfl
theorem q104 : (Jvm.Cond.instantiable "ScoreRows$Counter" (2 : Nat)) ∈ lw_all := lw_g (lw_at lw_m0 98 rfl) rfl
theorem q106 : (Jvm.Cond.instanceMethod ({ cls := "ScoreRows$Counter", name := "<init>", desc := "(Z)V" } : Jvm.MethodName)) ∈ lw_all := lw_g (lw_at lw_m0 100 rfl) rfl
theorem q107 : (Jvm.Cond.code ({ cls := "ScoreRows$Counter", name := "<init>", desc := "(Z)V" } : Jvm.MethodName) prog_2_method_1_code (2 : Nat) (Option.none : Option Jvm.ClassFile.FieldType)) ∈ lw_all := lw_g (lw_at lw_m0 101 rfl) rfl
theorem q108 : (Jvm.Cond.methodLink "ScoreRows$Counter" (1 : Nat) ({ cls := "java/lang/Object", name := "<init>", desc := "()V" } : Jvm.MethodName)) ∈ lw_all := lw_g (lw_at lw_m0 102 rfl) rfl
theorem q109 : (Jvm.Cond.classLink "ScoreRows$Counter" (7 : Nat) "ScoreRows$Counts") ∈ lw_all := lw_g (lw_at lw_m0 103 rfl) rfl
theorem q110 : (Jvm.Cond.methodLinkNest "ScoreRows$Counter" (9 : Nat) ({ cls := "ScoreRows$Counts", name := "<init>", desc := "()V" } : Jvm.MethodName) "ScoreRows") ∈ lw_tbl := lw_at lw_m0 104 rfl
theorem q111 : (Jvm.Cond.fieldLink "ScoreRows$Counter" (10 : Nat) "ScoreRows$Counter" "counts" "LScoreRows$Counts;") ∈ lw_all := lw_g (lw_at lw_m0 105 rfl) rfl
theorem q112 : (Jvm.Cond.fieldLink "ScoreRows$Counter" (16 : Nat) "ScoreRows$Counter" "nets" "Z") ∈ lw_all := lw_g (lw_at lw_m0 106 rfl) rfl
theorem q113 : (Jvm.Cond.laysFinal "ScoreRows$Counter" "ScoreRows$Counter" "counts" "LScoreRows$Counts;") ∈ lw_all := lw_g (lw_at lw_m0 107 rfl) rfl
theorem q114 : (Jvm.Cond.soleField "ScoreRows$Counter" "counts") ∈ lw_all := lw_g (lw_at lw_m0 108 rfl) rfl
theorem q115 : (Jvm.Cond.laysFinal "ScoreRows$Counter" "ScoreRows$Counter" "nets" "Z") ∈ lw_all := lw_g (lw_at lw_m0 109 rfl) rfl
theorem q116 : (Jvm.Cond.soleField "ScoreRows$Counter" "nets") ∈ lw_all := lw_g (lw_at lw_m0 110 rfl) rfl
theorem q117 : (Jvm.Cond.superclass "ScoreRows$Counter" "java/lang/Object") ∈ lw_all := lw_g (lw_at lw_m0 111 rfl) rfl
theorem q119 : (Jvm.Cond.instanceMethod ({ cls := "ScoreRows$Counter", name := "from", desc := "(II)I" } : Jvm.MethodName)) ∈ lw_all := lw_g (lw_at lw_m0 113 rfl) rfl
theorem q120 : (Jvm.Cond.selects "ScoreRows$Counter" ({ cls := "ScoreRows$Counter", name := "from", desc := "(II)I" } : Jvm.MethodName) ({ cls := "ScoreRows$Counter", name := "from", desc := "(II)I" } : Jvm.MethodName)) ∈ lw_all := lw_g (lw_at lw_m0 114 rfl) rfl
theorem q121 : (Jvm.Cond.code ({ cls := "ScoreRows$Counter", name := "from", desc := "(II)I" } : Jvm.MethodName) prog_2_method_3_code (5 : Nat) (Option.some Jvm.ClassFile.FieldType.int)) ∈ lw_all := lw_g (lw_at lw_m0 115 rfl) rfl
theorem q122 : (Jvm.Cond.methodLink "ScoreRows$Counter" (20 : Nat) ({ cls := "ScoreRows$Counts", name := "net", desc := "()Z" } : Jvm.MethodName)) ∈ lw_all := lw_g (lw_at lw_m0 116 rfl) rfl
theorem q123 : (Jvm.Cond.methodLink "ScoreRows$Counter" (24 : Nat) ({ cls := "ScoreRows$Counts", name := "play", desc := "()Z" } : Jvm.MethodName)) ∈ lw_all := lw_g (lw_at lw_m0 117 rfl) rfl
theorem q124 : (Jvm.Cond.methodLink "ScoreRows$Counter" (27 : Nat) ({ cls := "ScoreRows$Counts", name := "add", desc := "(II)V" } : Jvm.MethodName)) ∈ lw_all := lw_g (lw_at lw_m0 118 rfl) rfl
theorem q125 : (Jvm.Cond.methodLink "ScoreRows$Counter" (31 : Nat) ({ cls := "ScoreRows$Counter", name := "choices", desc := "(II)I" } : Jvm.MethodName)) ∈ lw_all := lw_g (lw_at lw_m0 119 rfl) rfl
theorem q126 : (Jvm.Cond.static ({ cls := "ScoreRows$Counter", name := "choices", desc := "(II)I" } : Jvm.MethodName)) ∈ lw_all := lw_g (lw_at lw_m0 120 rfl) rfl
theorem q127 : (Jvm.Cond.code ({ cls := "ScoreRows$Counter", name := "choices", desc := "(II)I" } : Jvm.MethodName) prog_2_method_2_code (4 : Nat) (Option.some Jvm.ClassFile.FieldType.int)) ∈ lw_all := lw_g (lw_at lw_m0 121 rfl) rfl
theorem q128 : (Jvm.Cond.methodLink "ScoreRows$Counter" (35 : Nat) ({ cls := "ScoreRows$Counter", name := "from", desc := "(II)I" } : Jvm.MethodName)) ∈ lw_all := lw_g (lw_at lw_m0 122 rfl) rfl
theorem q129 : (Jvm.Cond.methodLink "ScoreRows$Counter" (38 : Nat) ({ cls := "ScoreRows$Counts", name := "take", desc := "(II)V" } : Jvm.MethodName)) ∈ lw_all := lw_g (lw_at lw_m0 123 rfl) rfl
theorem in_X3 : ∀ w ∈ wsX30, w ∈ lw_all := lw_in wsX30 [113, 115] (by decide +kernel) (by decide +kernel)
/-! ScoreRows -/
set_option maxRecDepth 100000
def RX0 : String := "ScoreRows"
def TX0 : u_T := fun k => match k with
  | 0 => ("ScoreRows", "row", "[I", true)
  | 1 => ("ScoreRows", "known", "[I", true)
  | _ => ("ScoreRows", "n", "I", false)
def tyX0 : Nat → FieldType := fun k => match k with
  | 0 => .array .int
  | 1 => .array .int
  | _ => .int
abbrev wsX00 : List Cond := u_ws RX0 TX0 3
theorem nmX0 : ∀ a, a < 3 → ∀ b, b < 3 → a ≠ b → (TX0 a).2.1 ≠ (TX0 b).2.1 := by decide +kernel
theorem tyX0_ok : ∀ k, k < 3 → parseFieldDescriptor (TX0 k).2.2.1 = some (tyX0 k) := by decide +kernel
abbrev cX0_init : ByteArray := prog_1_method_1_code
def yX0_init : MethodName := ⟨RX0, "<init>", "()V"⟩
theorem dX0_init_0 : decode cX0_init 0 = .ok (.aload_n 0, 1) := by decide +kernel
theorem dX0_init_1 : decode cX0_init 1 = .ok (.invokespecial 1, 3) := by decide +kernel
theorem dX0_init_4 : decode cX0_init 4 = .ok (.aload_n 0, 1) := by decide +kernel
theorem dX0_init_5 : decode cX0_init 5 = .ok (.iconst 5, 1) := by decide +kernel
theorem dX0_init_6 : decode cX0_init 6 = .ok (.newarray .int, 2) := by decide +kernel
theorem dX0_init_8 : decode cX0_init 8 = .ok (.putfield 7, 3) := by decide +kernel
theorem dX0_init_11 : decode cX0_init 11 = .ok (.aload_n 0, 1) := by decide +kernel
theorem dX0_init_12 : decode cX0_init 12 = .ok (.bipush 12, 2) := by decide +kernel
theorem dX0_init_14 : decode cX0_init 14 = .ok (.newarray .int, 2) := by decide +kernel
theorem dX0_init_16 : decode cX0_init 16 = .ok (.putfield 13, 3) := by decide +kernel
theorem dX0_init_19 : decode cX0_init 19 = .ok (.aload_n 0, 1) := by decide +kernel
theorem dX0_init_20 : decode cX0_init 20 = .ok (.iconst 4, 1) := by decide +kernel
theorem dX0_init_21 : decode cX0_init 21 = .ok (.putfield 16, 3) := by decide +kernel
theorem dX0_init_24 : decode cX0_init 24 = .ok (.return_, 1) := by decide +kernel
abbrev cX0_size : ByteArray := prog_1_method_2_code
def yX0_size : MethodName := ⟨RX0, "size", "(I)V"⟩
theorem dX0_size_0 : decode cX0_size 0 = .ok (.aload_n 0, 1) := by decide +kernel
theorem dX0_size_1 : decode cX0_size 1 = .ok (.iconst 1, 1) := by decide +kernel
theorem dX0_size_2 : decode cX0_size 2 = .ok (.iload_n 1, 1) := by decide +kernel
theorem dX0_size_3 : decode cX0_size 3 = .ok (.ldc 20, 2) := by decide +kernel
theorem dX0_size_5 : decode cX0_size 5 = .ok (.iand, 1) := by decide +kernel
theorem dX0_size_6 : decode cX0_size 6 = .ok (.iconst 5, 1) := by decide +kernel
theorem dX0_size_7 : decode cX0_size 7 = .ok (.irem, 1) := by decide +kernel
theorem dX0_size_8 : decode cX0_size 8 = .ok (.iadd, 1) := by decide +kernel
theorem dX0_size_9 : decode cX0_size 9 = .ok (.putfield 16, 3) := by decide +kernel
theorem dX0_size_12 : decode cX0_size 12 = .ok (.iconst 0, 1) := by decide +kernel
theorem dX0_size_13 : decode cX0_size 13 = .ok (.istore_n 2, 1) := by decide +kernel
theorem dX0_size_14 : decode cX0_size 14 = .ok (.iload_n 2, 1) := by decide +kernel
theorem dX0_size_15 : decode cX0_size 15 = .ok (.iconst 5, 1) := by decide +kernel
theorem dX0_size_16 : decode cX0_size 16 = .ok (.if_icmp .ge 16, 3) := by decide +kernel
theorem dX0_size_19 : decode cX0_size 19 = .ok (.aload_n 0, 1) := by decide +kernel
theorem dX0_size_20 : decode cX0_size 20 = .ok (.getfield 7, 3) := by decide +kernel
theorem dX0_size_23 : decode cX0_size 23 = .ok (.iload_n 2, 1) := by decide +kernel
theorem dX0_size_24 : decode cX0_size 24 = .ok (.iconst 0, 1) := by decide +kernel
theorem dX0_size_25 : decode cX0_size 25 = .ok (.iastore, 1) := by decide +kernel
theorem dX0_size_26 : decode cX0_size 26 = .ok (.iinc 2 1, 3) := by decide +kernel
theorem dX0_size_29 : decode cX0_size 29 = .ok (.goto (-15), 3) := by decide +kernel
theorem dX0_size_32 : decode cX0_size 32 = .ok (.return_, 1) := by decide +kernel
abbrev cX0_set : ByteArray := prog_1_method_3_code
def yX0_set : MethodName := ⟨RX0, "set", "(II)V"⟩
theorem dX0_set_0 : decode cX0_set 0 = .ok (.aload_n 0, 1) := by decide +kernel
theorem dX0_set_1 : decode cX0_set 1 = .ok (.getfield 7, 3) := by decide +kernel
theorem dX0_set_4 : decode cX0_set 4 = .ok (.iload_n 1, 1) := by decide +kernel
theorem dX0_set_5 : decode cX0_set 5 = .ok (.ldc 20, 2) := by decide +kernel
theorem dX0_set_7 : decode cX0_set 7 = .ok (.iand, 1) := by decide +kernel
theorem dX0_set_8 : decode cX0_set 8 = .ok (.aload_n 0, 1) := by decide +kernel
theorem dX0_set_9 : decode cX0_set 9 = .ok (.getfield 16, 3) := by decide +kernel
theorem dX0_set_12 : decode cX0_set 12 = .ok (.irem, 1) := by decide +kernel
theorem dX0_set_13 : decode cX0_set 13 = .ok (.iload_n 2, 1) := by decide +kernel
theorem dX0_set_14 : decode cX0_set 14 = .ok (.ldc 20, 2) := by decide +kernel
theorem dX0_set_16 : decode cX0_set 16 = .ok (.iand, 1) := by decide +kernel
theorem dX0_set_17 : decode cX0_set 17 = .ok (.bipush 6, 2) := by decide +kernel
theorem dX0_set_19 : decode cX0_set 19 = .ok (.irem, 1) := by decide +kernel
theorem dX0_set_20 : decode cX0_set 20 = .ok (.iastore, 1) := by decide +kernel
theorem dX0_set_21 : decode cX0_set 21 = .ok (.return_, 1) := by decide +kernel
abbrev cX0_net : ByteArray := prog_1_method_5_code
def yX0_net : MethodName := ⟨RX0, "net", "()Z"⟩
theorem dX0_net_0 : decode cX0_net 0 = .ok (.aload_n 0, 1) := by decide +kernel
theorem dX0_net_1 : decode cX0_net 1 = .ok (.invokevirtual 28, 3) := by decide +kernel
theorem dX0_net_4 : decode cX0_net 4 = .ok (.invokevirtual 32, 3) := by decide +kernel
theorem dX0_net_7 : decode cX0_net 7 = .ok (.ireturn, 1) := by decide +kernel
abbrev cX0_counts : ByteArray := prog_1_method_4_code
def yX0_counts : MethodName := ⟨RX0, "counts", "()LScoreRows$Counts;"⟩
theorem dX0_counts_0 : decode cX0_counts 0 = .ok (.new 21, 3) := by decide +kernel
theorem dX0_counts_3 : decode cX0_counts 3 = .ok (.dup, 1) := by decide +kernel
theorem dX0_counts_4 : decode cX0_counts 4 = .ok (.invokespecial 23, 3) := by decide +kernel
theorem dX0_counts_7 : decode cX0_counts 7 = .ok (.astore_n 1, 1) := by decide +kernel
theorem dX0_counts_8 : decode cX0_counts 8 = .ok (.iconst 0, 1) := by decide +kernel
theorem dX0_counts_9 : decode cX0_counts 9 = .ok (.istore_n 2, 1) := by decide +kernel
theorem dX0_counts_10 : decode cX0_counts 10 = .ok (.iload_n 2, 1) := by decide +kernel
theorem dX0_counts_11 : decode cX0_counts 11 = .ok (.aload_n 0, 1) := by decide +kernel
theorem dX0_counts_12 : decode cX0_counts 12 = .ok (.getfield 16, 3) := by decide +kernel
theorem dX0_counts_15 : decode cX0_counts 15 = .ok (.if_icmp .ge 20, 3) := by decide +kernel
theorem dX0_counts_18 : decode cX0_counts 18 = .ok (.aload_n 1, 1) := by decide +kernel
theorem dX0_counts_19 : decode cX0_counts 19 = .ok (.aload_n 0, 1) := by decide +kernel
theorem dX0_counts_20 : decode cX0_counts 20 = .ok (.getfield 7, 3) := by decide +kernel
theorem dX0_counts_23 : decode cX0_counts 23 = .ok (.iload_n 2, 1) := by decide +kernel
theorem dX0_counts_24 : decode cX0_counts 24 = .ok (.iaload, 1) := by decide +kernel
theorem dX0_counts_25 : decode cX0_counts 25 = .ok (.iconst 1, 1) := by decide +kernel
theorem dX0_counts_26 : decode cX0_counts 26 = .ok (.invokevirtual 24, 3) := by decide +kernel
theorem dX0_counts_29 : decode cX0_counts 29 = .ok (.iinc 2 1, 3) := by decide +kernel
theorem dX0_counts_32 : decode cX0_counts 32 = .ok (.goto (-22), 3) := by decide +kernel
theorem dX0_counts_35 : decode cX0_counts 35 = .ok (.aload_n 1, 1) := by decide +kernel
theorem dX0_counts_36 : decode cX0_counts 36 = .ok (.areturn, 1) := by decide +kernel
abbrev cX0_play : ByteArray := prog_1_method_6_code
def yX0_play : MethodName := ⟨RX0, "play", "()Z"⟩
theorem dX0_play_0 : decode cX0_play 0 = .ok (.aload_n 0, 1) := by decide +kernel
theorem dX0_play_1 : decode cX0_play 1 = .ok (.invokevirtual 28, 3) := by decide +kernel
theorem dX0_play_4 : decode cX0_play 4 = .ok (.invokevirtual 36, 3) := by decide +kernel
theorem dX0_play_7 : decode cX0_play 7 = .ok (.ireturn, 1) := by decide +kernel
abbrev cX0_nets : ByteArray := prog_1_method_8_code
def yX0_nets : MethodName := ⟨RX0, "nets", "()I"⟩
theorem dX0_nets_0 : decode cX0_nets 0 = .ok (.aload_n 0, 1) := by decide +kernel
theorem dX0_nets_1 : decode cX0_nets 1 = .ok (.iconst 1, 1) := by decide +kernel
theorem dX0_nets_2 : decode cX0_nets 2 = .ok (.invokevirtual 48, 3) := by decide +kernel
theorem dX0_nets_5 : decode cX0_nets 5 = .ok (.ireturn, 1) := by decide +kernel
abbrev cX0_counted : ByteArray := prog_1_method_7_code
def yX0_counted : MethodName := ⟨RX0, "counted", "(Z)I"⟩
theorem dX0_counted_0 : decode cX0_counted 0 = .ok (.iload_n 1, 1) := by decide +kernel
theorem dX0_counted_1 : decode cX0_counted 1 = .ok (.ifCond .eq 10, 3) := by decide +kernel
theorem dX0_counted_4 : decode cX0_counted 4 = .ok (.aload_n 0, 1) := by decide +kernel
theorem dX0_counted_5 : decode cX0_counted 5 = .ok (.getfield 16, 3) := by decide +kernel
theorem dX0_counted_8 : decode cX0_counted 8 = .ok (.goto 10, 3) := by decide +kernel
theorem dX0_counted_11 : decode cX0_counted 11 = .ok (.bipush 6, 2) := by decide +kernel
theorem dX0_counted_13 : decode cX0_counted 13 = .ok (.aload_n 0, 1) := by decide +kernel
theorem dX0_counted_14 : decode cX0_counted 14 = .ok (.getfield 16, 3) := by decide +kernel
theorem dX0_counted_17 : decode cX0_counted 17 = .ok (.iadd, 1) := by decide +kernel
theorem dX0_counted_18 : decode cX0_counted 18 = .ok (.istore_n 2, 1) := by decide +kernel
theorem dX0_counted_19 : decode cX0_counted 19 = .ok (.aload_n 0, 1) := by decide +kernel
theorem dX0_counted_20 : decode cX0_counted 20 = .ok (.getfield 13, 3) := by decide +kernel
theorem dX0_counted_23 : decode cX0_counted 23 = .ok (.iload_n 2, 1) := by decide +kernel
theorem dX0_counted_24 : decode cX0_counted 24 = .ok (.iaload, 1) := by decide +kernel
theorem dX0_counted_25 : decode cX0_counted 25 = .ok (.ifCond .ne 27, 3) := by decide +kernel
theorem dX0_counted_28 : decode cX0_counted 28 = .ok (.aload_n 0, 1) := by decide +kernel
theorem dX0_counted_29 : decode cX0_counted 29 = .ok (.getfield 13, 3) := by decide +kernel
theorem dX0_counted_32 : decode cX0_counted 32 = .ok (.iload_n 2, 1) := by decide +kernel
theorem dX0_counted_33 : decode cX0_counted 33 = .ok (.iconst 1, 1) := by decide +kernel
theorem dX0_counted_34 : decode cX0_counted 34 = .ok (.new 39, 3) := by decide +kernel
theorem dX0_counted_37 : decode cX0_counted 37 = .ok (.dup, 1) := by decide +kernel
theorem dX0_counted_38 : decode cX0_counted 38 = .ok (.iload_n 1, 1) := by decide +kernel
theorem dX0_counted_39 : decode cX0_counted 39 = .ok (.invokespecial 41, 3) := by decide +kernel
theorem dX0_counted_42 : decode cX0_counted 42 = .ok (.iconst 0, 1) := by decide +kernel
theorem dX0_counted_43 : decode cX0_counted 43 = .ok (.aload_n 0, 1) := by decide +kernel
theorem dX0_counted_44 : decode cX0_counted 44 = .ok (.getfield 16, 3) := by decide +kernel
theorem dX0_counted_47 : decode cX0_counted 47 = .ok (.invokevirtual 44, 3) := by decide +kernel
theorem dX0_counted_50 : decode cX0_counted 50 = .ok (.iadd, 1) := by decide +kernel
theorem dX0_counted_51 : decode cX0_counted 51 = .ok (.iastore, 1) := by decide +kernel
theorem dX0_counted_52 : decode cX0_counted 52 = .ok (.aload_n 0, 1) := by decide +kernel
theorem dX0_counted_53 : decode cX0_counted 53 = .ok (.getfield 13, 3) := by decide +kernel
theorem dX0_counted_56 : decode cX0_counted 56 = .ok (.iload_n 2, 1) := by decide +kernel
theorem dX0_counted_57 : decode cX0_counted 57 = .ok (.iaload, 1) := by decide +kernel
theorem dX0_counted_58 : decode cX0_counted 58 = .ok (.iconst 1, 1) := by decide +kernel
theorem dX0_counted_59 : decode cX0_counted 59 = .ok (.isub, 1) := by decide +kernel
theorem dX0_counted_60 : decode cX0_counted 60 = .ok (.ireturn, 1) := by decide +kernel
abbrev cX0_plays : ByteArray := prog_1_method_9_code
def yX0_plays : MethodName := ⟨RX0, "plays", "()I"⟩
theorem dX0_plays_0 : decode cX0_plays 0 = .ok (.aload_n 0, 1) := by decide +kernel
theorem dX0_plays_1 : decode cX0_plays 1 = .ok (.iconst 0, 1) := by decide +kernel
theorem dX0_plays_2 : decode cX0_plays 2 = .ok (.invokevirtual 48, 3) := by decide +kernel
theorem dX0_plays_5 : decode cX0_plays 5 = .ok (.ireturn, 1) := by decide +kernel
abbrev cX0_at : ByteArray := prog_1_method_10_code
def yX0_at : MethodName := ⟨RX0, "at", "(I)I"⟩
theorem dX0_at_0 : decode cX0_at 0 = .ok (.aload_n 0, 1) := by decide +kernel
theorem dX0_at_1 : decode cX0_at 1 = .ok (.getfield 7, 3) := by decide +kernel
theorem dX0_at_4 : decode cX0_at 4 = .ok (.iload_n 1, 1) := by decide +kernel
theorem dX0_at_5 : decode cX0_at 5 = .ok (.ldc 20, 2) := by decide +kernel
theorem dX0_at_7 : decode cX0_at 7 = .ok (.iand, 1) := by decide +kernel
theorem dX0_at_8 : decode cX0_at 8 = .ok (.aload_n 0, 1) := by decide +kernel
theorem dX0_at_9 : decode cX0_at 9 = .ok (.getfield 16, 3) := by decide +kernel
theorem dX0_at_12 : decode cX0_at 12 = .ok (.irem, 1) := by decide +kernel
theorem dX0_at_13 : decode cX0_at 13 = .ok (.iaload, 1) := by decide +kernel
theorem dX0_at_14 : decode cX0_at 14 = .ok (.ireturn, 1) := by decide +kernel
theorem q7 : (Jvm.Cond.initialized "ScoreRows") ∈ lw_all := lw_g (lw_at lw_m0 1 rfl) rfl
theorem q13 : (Jvm.Cond.instantiable "ScoreRows" (3 : Nat)) ∈ lw_all := lw_g (lw_at lw_m0 7 rfl) rfl
theorem q15 : (Jvm.Cond.instanceMethod ({ cls := "ScoreRows", name := "<init>", desc := "()V" } : Jvm.MethodName)) ∈ lw_all := lw_g (lw_at lw_m0 9 rfl) rfl
theorem q16 : (Jvm.Cond.code ({ cls := "ScoreRows", name := "<init>", desc := "()V" } : Jvm.MethodName) prog_1_method_1_code (1 : Nat) (Option.none : Option Jvm.ClassFile.FieldType)) ∈ lw_all := lw_g (lw_at lw_m0 10 rfl) rfl
theorem q17 : (Jvm.Cond.methodLink "ScoreRows" (1 : Nat) ({ cls := "java/lang/Object", name := "<init>", desc := "()V" } : Jvm.MethodName)) ∈ lw_all := lw_g (lw_at lw_m0 11 rfl) rfl
theorem q20 : (Jvm.Cond.fieldLink "ScoreRows" (7 : Nat) "ScoreRows" "row" "[I") ∈ lw_all := lw_g (lw_at lw_m0 14 rfl) rfl
theorem q21 : (Jvm.Cond.fieldLink "ScoreRows" (13 : Nat) "ScoreRows" "known" "[I") ∈ lw_all := lw_g (lw_at lw_m0 15 rfl) rfl
theorem q22 : (Jvm.Cond.fieldLink "ScoreRows" (16 : Nat) "ScoreRows" "n" "I") ∈ lw_all := lw_g (lw_at lw_m0 16 rfl) rfl
theorem q23 : (Jvm.Cond.laysFinal "ScoreRows" "ScoreRows" "row" "[I") ∈ lw_all := lw_g (lw_at lw_m0 17 rfl) rfl
theorem q24 : (Jvm.Cond.soleField "ScoreRows" "row") ∈ lw_all := lw_g (lw_at lw_m0 18 rfl) rfl
theorem q25 : (Jvm.Cond.laysFinal "ScoreRows" "ScoreRows" "known" "[I") ∈ lw_all := lw_g (lw_at lw_m0 19 rfl) rfl
theorem q26 : (Jvm.Cond.soleField "ScoreRows" "known") ∈ lw_all := lw_g (lw_at lw_m0 20 rfl) rfl
theorem q27 : (Jvm.Cond.lays "ScoreRows" "ScoreRows" "n" "I") ∈ lw_all := lw_g (lw_at lw_m0 21 rfl) rfl
theorem q28 : (Jvm.Cond.soleField "ScoreRows" "n") ∈ lw_all := lw_g (lw_at lw_m0 22 rfl) rfl
theorem q29 : (Jvm.Cond.superclass "ScoreRows" "java/lang/Object") ∈ lw_all := lw_g (lw_at lw_m0 23 rfl) rfl
theorem q32 : (Jvm.Cond.instanceMethod ({ cls := "ScoreRows", name := "size", desc := "(I)V" } : Jvm.MethodName)) ∈ lw_all := lw_g (lw_at lw_m0 26 rfl) rfl
theorem q33 : (Jvm.Cond.selects "ScoreRows" ({ cls := "ScoreRows", name := "size", desc := "(I)V" } : Jvm.MethodName) ({ cls := "ScoreRows", name := "size", desc := "(I)V" } : Jvm.MethodName)) ∈ lw_all := lw_g (lw_at lw_m0 27 rfl) rfl
theorem q34 : (Jvm.Cond.code ({ cls := "ScoreRows", name := "size", desc := "(I)V" } : Jvm.MethodName) prog_1_method_2_code (3 : Nat) (Option.none : Option Jvm.ClassFile.FieldType)) ∈ lw_all := lw_g (lw_at lw_m0 28 rfl) rfl
theorem q35 : (Jvm.Cond.constant "ScoreRows" (20 : Nat) (2147483647 : Int32)) ∈ lw_all := lw_g (lw_at lw_m0 29 rfl) rfl
theorem q37 : (Jvm.Cond.instanceMethod ({ cls := "ScoreRows", name := "set", desc := "(II)V" } : Jvm.MethodName)) ∈ lw_all := lw_g (lw_at lw_m0 31 rfl) rfl
theorem q38 : (Jvm.Cond.selects "ScoreRows" ({ cls := "ScoreRows", name := "set", desc := "(II)V" } : Jvm.MethodName) ({ cls := "ScoreRows", name := "set", desc := "(II)V" } : Jvm.MethodName)) ∈ lw_all := lw_g (lw_at lw_m0 32 rfl) rfl
theorem q39 : (Jvm.Cond.code ({ cls := "ScoreRows", name := "set", desc := "(II)V" } : Jvm.MethodName) prog_1_method_3_code (3 : Nat) (Option.none : Option Jvm.ClassFile.FieldType)) ∈ lw_all := lw_g (lw_at lw_m0 33 rfl) rfl
theorem q41 : (Jvm.Cond.instanceMethod ({ cls := "ScoreRows", name := "net", desc := "()Z" } : Jvm.MethodName)) ∈ lw_all := lw_g (lw_at lw_m0 35 rfl) rfl
theorem q42 : (Jvm.Cond.selects "ScoreRows" ({ cls := "ScoreRows", name := "net", desc := "()Z" } : Jvm.MethodName) ({ cls := "ScoreRows", name := "net", desc := "()Z" } : Jvm.MethodName)) ∈ lw_all := lw_g (lw_at lw_m0 36 rfl) rfl
theorem q43 : (Jvm.Cond.code ({ cls := "ScoreRows", name := "net", desc := "()Z" } : Jvm.MethodName) prog_1_method_5_code (1 : Nat) (Option.some Jvm.ClassFile.FieldType.boolean)) ∈ lw_all := lw_g (lw_at lw_m0 37 rfl) rfl
theorem q44 : (Jvm.Cond.methodLink "ScoreRows" (28 : Nat) ({ cls := "ScoreRows", name := "counts", desc := "()LScoreRows$Counts;" } : Jvm.MethodName)) ∈ lw_all := lw_g (lw_at lw_m0 38 rfl) rfl
theorem q45 : (Jvm.Cond.privateMethod ({ cls := "ScoreRows", name := "counts", desc := "()LScoreRows$Counts;" } : Jvm.MethodName)) ∈ lw_tbl := lw_at lw_m0 39 rfl
theorem q46 : (Jvm.Cond.instanceMethod ({ cls := "ScoreRows", name := "counts", desc := "()LScoreRows$Counts;" } : Jvm.MethodName)) ∈ lw_all := lw_g (lw_at lw_m0 40 rfl) rfl
theorem q47 : (Jvm.Cond.code ({ cls := "ScoreRows", name := "counts", desc := "()LScoreRows$Counts;" } : Jvm.MethodName) prog_1_method_4_code (3 : Nat) (Option.some (Jvm.ClassFile.FieldType.object "ScoreRows$Counts"))) ∈ lw_all := lw_g (lw_at lw_m0 41 rfl) rfl
theorem q48 : (Jvm.Cond.classLink "ScoreRows" (21 : Nat) "ScoreRows$Counts") ∈ lw_all := lw_g (lw_at lw_m0 42 rfl) rfl
theorem q50 : (Jvm.Cond.methodLinkNest "ScoreRows" (23 : Nat) ({ cls := "ScoreRows$Counts", name := "<init>", desc := "()V" } : Jvm.MethodName) "ScoreRows") ∈ lw_tbl := lw_at lw_m0 44 rfl
theorem q61 : (Jvm.Cond.methodLink "ScoreRows" (24 : Nat) ({ cls := "ScoreRows$Counts", name := "add", desc := "(II)V" } : Jvm.MethodName)) ∈ lw_all := lw_g (lw_at lw_m0 55 rfl) rfl
theorem q65 : (Jvm.Cond.methodLink "ScoreRows" (32 : Nat) ({ cls := "ScoreRows$Counts", name := "net", desc := "()Z" } : Jvm.MethodName)) ∈ lw_all := lw_g (lw_at lw_m0 59 rfl) rfl
theorem q88 : (Jvm.Cond.instanceMethod ({ cls := "ScoreRows", name := "play", desc := "()Z" } : Jvm.MethodName)) ∈ lw_all := lw_g (lw_at lw_m0 82 rfl) rfl
theorem q89 : (Jvm.Cond.selects "ScoreRows" ({ cls := "ScoreRows", name := "play", desc := "()Z" } : Jvm.MethodName) ({ cls := "ScoreRows", name := "play", desc := "()Z" } : Jvm.MethodName)) ∈ lw_all := lw_g (lw_at lw_m0 83 rfl) rfl
theorem q90 : (Jvm.Cond.code ({ cls := "ScoreRows", name := "play", desc := "()Z" } : Jvm.MethodName) prog_1_method_6_code (1 : Nat) (Option.some Jvm.ClassFile.FieldType.boolean)) ∈ lw_all := lw_g (lw_at lw_m0 84 rfl) rfl
theorem q91 : (Jvm.Cond.methodLink "ScoreRows" (36 : Nat) ({ cls := "ScoreRows$Counts", name := "play", desc := "()Z" } : Jvm.MethodName)) ∈ lw_all := lw_g (lw_at lw_m0 85 rfl) rfl
theorem q96 : (Jvm.Cond.instanceMethod ({ cls := "ScoreRows", name := "nets", desc := "()I" } : Jvm.MethodName)) ∈ lw_all := lw_g (lw_at lw_m0 90 rfl) rfl
theorem q97 : (Jvm.Cond.selects "ScoreRows" ({ cls := "ScoreRows", name := "nets", desc := "()I" } : Jvm.MethodName) ({ cls := "ScoreRows", name := "nets", desc := "()I" } : Jvm.MethodName)) ∈ lw_all := lw_g (lw_at lw_m0 91 rfl) rfl
theorem q98 : (Jvm.Cond.code ({ cls := "ScoreRows", name := "nets", desc := "()I" } : Jvm.MethodName) prog_1_method_8_code (1 : Nat) (Option.some Jvm.ClassFile.FieldType.int)) ∈ lw_all := lw_g (lw_at lw_m0 92 rfl) rfl
theorem q99 : (Jvm.Cond.methodLink "ScoreRows" (48 : Nat) ({ cls := "ScoreRows", name := "counted", desc := "(Z)I" } : Jvm.MethodName)) ∈ lw_all := lw_g (lw_at lw_m0 93 rfl) rfl
theorem q100 : (Jvm.Cond.privateMethod ({ cls := "ScoreRows", name := "counted", desc := "(Z)I" } : Jvm.MethodName)) ∈ lw_tbl := lw_at lw_m0 94 rfl
theorem q101 : (Jvm.Cond.instanceMethod ({ cls := "ScoreRows", name := "counted", desc := "(Z)I" } : Jvm.MethodName)) ∈ lw_all := lw_g (lw_at lw_m0 95 rfl) rfl
theorem q102 : (Jvm.Cond.code ({ cls := "ScoreRows", name := "counted", desc := "(Z)I" } : Jvm.MethodName) prog_1_method_7_code (3 : Nat) (Option.some Jvm.ClassFile.FieldType.int)) ∈ lw_all := lw_g (lw_at lw_m0 96 rfl) rfl
theorem q103 : (Jvm.Cond.classLink "ScoreRows" (39 : Nat) "ScoreRows$Counter") ∈ lw_all := lw_g (lw_at lw_m0 97 rfl) rfl
theorem q105 : (Jvm.Cond.methodLink "ScoreRows" (41 : Nat) ({ cls := "ScoreRows$Counter", name := "<init>", desc := "(Z)V" } : Jvm.MethodName)) ∈ lw_all := lw_g (lw_at lw_m0 99 rfl) rfl
theorem q118 : (Jvm.Cond.methodLink "ScoreRows" (44 : Nat) ({ cls := "ScoreRows$Counter", name := "from", desc := "(II)I" } : Jvm.MethodName)) ∈ lw_all := lw_g (lw_at lw_m0 112 rfl) rfl
theorem q134 : (Jvm.Cond.instanceMethod ({ cls := "ScoreRows", name := "plays", desc := "()I" } : Jvm.MethodName)) ∈ lw_all := lw_g (lw_at lw_m0 128 rfl) rfl
theorem q135 : (Jvm.Cond.selects "ScoreRows" ({ cls := "ScoreRows", name := "plays", desc := "()I" } : Jvm.MethodName) ({ cls := "ScoreRows", name := "plays", desc := "()I" } : Jvm.MethodName)) ∈ lw_all := lw_g (lw_at lw_m0 129 rfl) rfl
theorem q136 : (Jvm.Cond.code ({ cls := "ScoreRows", name := "plays", desc := "()I" } : Jvm.MethodName) prog_1_method_9_code (1 : Nat) (Option.some Jvm.ClassFile.FieldType.int)) ∈ lw_all := lw_g (lw_at lw_m0 130 rfl) rfl
theorem q138 : (Jvm.Cond.instanceMethod ({ cls := "ScoreRows", name := "at", desc := "(I)I" } : Jvm.MethodName)) ∈ lw_all := lw_g (lw_at lw_m0 132 rfl) rfl
theorem q139 : (Jvm.Cond.selects "ScoreRows" ({ cls := "ScoreRows", name := "at", desc := "(I)I" } : Jvm.MethodName) ({ cls := "ScoreRows", name := "at", desc := "(I)I" } : Jvm.MethodName)) ∈ lw_all := lw_g (lw_at lw_m0 133 rfl) rfl
theorem q140 : (Jvm.Cond.code ({ cls := "ScoreRows", name := "at", desc := "(I)I" } : Jvm.MethodName) prog_1_method_10_code (2 : Nat) (Option.some Jvm.ClassFile.FieldType.int)) ∈ lw_all := lw_g (lw_at lw_m0 134 rfl) rfl
theorem in_X0 : ∀ w ∈ wsX00, w ∈ lw_all := lw_in wsX00 [23, 25, 27] (by decide +kernel) (by decide +kernel)
end
section
/-! ScoreRowsModel -/
set_option maxRecDepth 100000
def RX1 : String := "ScoreRowsModel"
def TX1 : u_T := fun k => match k with
  | 0 => ("ScoreRowsModel", "d", "[I", true)
  | 1 => ("ScoreRowsModel", "n", "I", false)
  | 2 => ("ScoreRowsModel", "made", "Z", false)
  | 3 => ("ScoreRowsModel", "net", "[Z", true)
  | _ => ("ScoreRowsModel", "play", "[Z", true)
def tyX1 : Nat → FieldType := fun k => match k with
  | 0 => .array .int
  | 1 => .int
  | 2 => .boolean
  | 3 => .array .boolean
  | _ => .array .boolean
abbrev wsX10 : List Cond := u_ws RX1 TX1 5
theorem nmX1 : ∀ a, a < 5 → ∀ b, b < 5 → a ≠ b → (TX1 a).2.1 ≠ (TX1 b).2.1 := by decide +kernel
theorem tyX1_ok : ∀ k, k < 5 → parseFieldDescriptor (TX1 k).2.2.1 = some (tyX1 k) := by decide +kernel
abbrev cX1_init : ByteArray := prog_5_method_1_code
def yX1_init : MethodName := ⟨RX1, "<init>", "()V"⟩
theorem dX1_init_0 : decode cX1_init 0 = .ok (.aload_n 0, 1) := by decide +kernel
theorem dX1_init_1 : decode cX1_init 1 = .ok (.invokespecial 1, 3) := by decide +kernel
theorem dX1_init_4 : decode cX1_init 4 = .ok (.aload_n 0, 1) := by decide +kernel
theorem dX1_init_5 : decode cX1_init 5 = .ok (.bipush 6, 2) := by decide +kernel
theorem dX1_init_7 : decode cX1_init 7 = .ok (.newarray .int, 2) := by decide +kernel
theorem dX1_init_9 : decode cX1_init 9 = .ok (.putfield 7, 3) := by decide +kernel
theorem dX1_init_12 : decode cX1_init 12 = .ok (.aload_n 0, 1) := by decide +kernel
theorem dX1_init_13 : decode cX1_init 13 = .ok (.iconst 4, 1) := by decide +kernel
theorem dX1_init_14 : decode cX1_init 14 = .ok (.putfield 13, 3) := by decide +kernel
theorem dX1_init_17 : decode cX1_init 17 = .ok (.aload_n 0, 1) := by decide +kernel
theorem dX1_init_18 : decode cX1_init 18 = .ok (.ldc 17, 2) := by decide +kernel
theorem dX1_init_20 : decode cX1_init 20 = .ok (.newarray .boolean, 2) := by decide +kernel
theorem dX1_init_22 : decode cX1_init 22 = .ok (.putfield 18, 3) := by decide +kernel
theorem dX1_init_25 : decode cX1_init 25 = .ok (.aload_n 0, 1) := by decide +kernel
theorem dX1_init_26 : decode cX1_init 26 = .ok (.ldc 17, 2) := by decide +kernel
theorem dX1_init_28 : decode cX1_init 28 = .ok (.newarray .boolean, 2) := by decide +kernel
theorem dX1_init_30 : decode cX1_init 30 = .ok (.putfield 22, 3) := by decide +kernel
theorem dX1_init_33 : decode cX1_init 33 = .ok (.return_, 1) := by decide +kernel
abbrev cX1_size : ByteArray := prog_5_method_2_code
def yX1_size : MethodName := ⟨RX1, "size", "(I)V"⟩
theorem dX1_size_0 : decode cX1_size 0 = .ok (.aload_n 0, 1) := by decide +kernel
theorem dX1_size_1 : decode cX1_size 1 = .ok (.iconst 1, 1) := by decide +kernel
theorem dX1_size_2 : decode cX1_size 2 = .ok (.iload_n 1, 1) := by decide +kernel
theorem dX1_size_3 : decode cX1_size 3 = .ok (.ldc 25, 2) := by decide +kernel
theorem dX1_size_5 : decode cX1_size 5 = .ok (.iand, 1) := by decide +kernel
theorem dX1_size_6 : decode cX1_size 6 = .ok (.iconst 5, 1) := by decide +kernel
theorem dX1_size_7 : decode cX1_size 7 = .ok (.irem, 1) := by decide +kernel
theorem dX1_size_8 : decode cX1_size 8 = .ok (.iadd, 1) := by decide +kernel
theorem dX1_size_9 : decode cX1_size 9 = .ok (.putfield 13, 3) := by decide +kernel
theorem dX1_size_12 : decode cX1_size 12 = .ok (.aload_n 0, 1) := by decide +kernel
theorem dX1_size_13 : decode cX1_size 13 = .ok (.iconst 0, 1) := by decide +kernel
theorem dX1_size_14 : decode cX1_size 14 = .ok (.putfield 26, 3) := by decide +kernel
theorem dX1_size_17 : decode cX1_size 17 = .ok (.iconst 0, 1) := by decide +kernel
theorem dX1_size_18 : decode cX1_size 18 = .ok (.istore_n 2, 1) := by decide +kernel
theorem dX1_size_19 : decode cX1_size 19 = .ok (.iload_n 2, 1) := by decide +kernel
theorem dX1_size_20 : decode cX1_size 20 = .ok (.bipush 6, 2) := by decide +kernel
theorem dX1_size_22 : decode cX1_size 22 = .ok (.if_icmp .ge 16, 3) := by decide +kernel
theorem dX1_size_25 : decode cX1_size 25 = .ok (.aload_n 0, 1) := by decide +kernel
theorem dX1_size_26 : decode cX1_size 26 = .ok (.getfield 7, 3) := by decide +kernel
theorem dX1_size_29 : decode cX1_size 29 = .ok (.iload_n 2, 1) := by decide +kernel
theorem dX1_size_30 : decode cX1_size 30 = .ok (.iconst 0, 1) := by decide +kernel
theorem dX1_size_31 : decode cX1_size 31 = .ok (.iastore, 1) := by decide +kernel
theorem dX1_size_32 : decode cX1_size 32 = .ok (.iinc 2 1, 3) := by decide +kernel
theorem dX1_size_35 : decode cX1_size 35 = .ok (.goto (-16), 3) := by decide +kernel
theorem dX1_size_38 : decode cX1_size 38 = .ok (.return_, 1) := by decide +kernel
abbrev cX1_set : ByteArray := prog_5_method_3_code
def yX1_set : MethodName := ⟨RX1, "set", "(II)V"⟩
theorem dX1_set_0 : decode cX1_set 0 = .ok (.aload_n 0, 1) := by decide +kernel
theorem dX1_set_1 : decode cX1_set 1 = .ok (.getfield 7, 3) := by decide +kernel
theorem dX1_set_4 : decode cX1_set 4 = .ok (.iload_n 1, 1) := by decide +kernel
theorem dX1_set_5 : decode cX1_set 5 = .ok (.ldc 25, 2) := by decide +kernel
theorem dX1_set_7 : decode cX1_set 7 = .ok (.iand, 1) := by decide +kernel
theorem dX1_set_8 : decode cX1_set 8 = .ok (.aload_n 0, 1) := by decide +kernel
theorem dX1_set_9 : decode cX1_set 9 = .ok (.getfield 13, 3) := by decide +kernel
theorem dX1_set_12 : decode cX1_set 12 = .ok (.irem, 1) := by decide +kernel
theorem dX1_set_13 : decode cX1_set 13 = .ok (.iload_n 2, 1) := by decide +kernel
theorem dX1_set_14 : decode cX1_set 14 = .ok (.ldc 25, 2) := by decide +kernel
theorem dX1_set_16 : decode cX1_set 16 = .ok (.iand, 1) := by decide +kernel
theorem dX1_set_17 : decode cX1_set 17 = .ok (.bipush 6, 2) := by decide +kernel
theorem dX1_set_19 : decode cX1_set 19 = .ok (.irem, 1) := by decide +kernel
theorem dX1_set_20 : decode cX1_set 20 = .ok (.iastore, 1) := by decide +kernel
theorem dX1_set_21 : decode cX1_set 21 = .ok (.return_, 1) := by decide +kernel
abbrev cX1_net : ByteArray := prog_5_method_6_code
def yX1_net : MethodName := ⟨RX1, "net", "()Z"⟩
theorem dX1_net_0 : decode cX1_net 0 = .ok (.aload_n 0, 1) := by decide +kernel
theorem dX1_net_1 : decode cX1_net 1 = .ok (.invokevirtual 30, 3) := by decide +kernel
theorem dX1_net_4 : decode cX1_net 4 = .ok (.aload_n 0, 1) := by decide +kernel
theorem dX1_net_5 : decode cX1_net 5 = .ok (.getfield 18, 3) := by decide +kernel
theorem dX1_net_8 : decode cX1_net 8 = .ok (.aload_n 0, 1) := by decide +kernel
theorem dX1_net_9 : decode cX1_net 9 = .ok (.invokevirtual 33, 3) := by decide +kernel
theorem dX1_net_12 : decode cX1_net 12 = .ok (.baload, 1) := by decide +kernel
theorem dX1_net_13 : decode cX1_net 13 = .ok (.ireturn, 1) := by decide +kernel
abbrev cX1_make : ByteArray := prog_5_method_4_code
def yX1_make : MethodName := ⟨RX1, "make", "()V"⟩
theorem dX1_make_0 : decode cX1_make 0 = .ok (.aload_n 0, 1) := by decide +kernel
theorem dX1_make_1 : decode cX1_make 1 = .ok (.getfield 26, 3) := by decide +kernel
theorem dX1_make_4 : decode cX1_make 4 = .ok (.ifCond .eq 4, 3) := by decide +kernel
theorem dX1_make_7 : decode cX1_make 7 = .ok (.return_, 1) := by decide +kernel
theorem dX1_make_8 : decode cX1_make 8 = .ok (.aload_n 0, 1) := by decide +kernel
theorem dX1_make_9 : decode cX1_make 9 = .ok (.iconst 1, 1) := by decide +kernel
theorem dX1_make_10 : decode cX1_make 10 = .ok (.putfield 26, 3) := by decide +kernel
theorem dX1_make_13 : decode cX1_make 13 = .ok (.iconst 0, 1) := by decide +kernel
theorem dX1_make_14 : decode cX1_make 14 = .ok (.istore_n 1, 1) := by decide +kernel
theorem dX1_make_15 : decode cX1_make 15 = .ok (.iload_n 1, 1) := by decide +kernel
theorem dX1_make_16 : decode cX1_make 16 = .ok (.ldc 17, 2) := by decide +kernel
theorem dX1_make_18 : decode cX1_make 18 = .ok (.if_icmp .ge 23, 3) := by decide +kernel
theorem dX1_make_21 : decode cX1_make 21 = .ok (.aload_n 0, 1) := by decide +kernel
theorem dX1_make_22 : decode cX1_make 22 = .ok (.getfield 18, 3) := by decide +kernel
theorem dX1_make_25 : decode cX1_make 25 = .ok (.iload_n 1, 1) := by decide +kernel
theorem dX1_make_26 : decode cX1_make 26 = .ok (.iconst 0, 1) := by decide +kernel
theorem dX1_make_27 : decode cX1_make 27 = .ok (.bastore, 1) := by decide +kernel
theorem dX1_make_28 : decode cX1_make 28 = .ok (.aload_n 0, 1) := by decide +kernel
theorem dX1_make_29 : decode cX1_make 29 = .ok (.getfield 22, 3) := by decide +kernel
theorem dX1_make_32 : decode cX1_make 32 = .ok (.iload_n 1, 1) := by decide +kernel
theorem dX1_make_33 : decode cX1_make 33 = .ok (.iconst 0, 1) := by decide +kernel
theorem dX1_make_34 : decode cX1_make 34 = .ok (.bastore, 1) := by decide +kernel
theorem dX1_make_35 : decode cX1_make 35 = .ok (.iinc 1 1, 3) := by decide +kernel
theorem dX1_make_38 : decode cX1_make 38 = .ok (.goto (-23), 3) := by decide +kernel
theorem dX1_make_41 : decode cX1_make 41 = .ok (.aload_n 0, 1) := by decide +kernel
theorem dX1_make_42 : decode cX1_make 42 = .ok (.getfield 13, 3) := by decide +kernel
theorem dX1_make_45 : decode cX1_make 45 = .ok (.aload_n 0, 1) := by decide +kernel
theorem dX1_make_46 : decode cX1_make 46 = .ok (.getfield 13, 3) := by decide +kernel
theorem dX1_make_49 : decode cX1_make 49 = .ok (.iconst 1, 1) := by decide +kernel
theorem dX1_make_50 : decode cX1_make 50 = .ok (.isub, 1) := by decide +kernel
theorem dX1_make_51 : decode cX1_make 51 = .ok (.imul, 1) := by decide +kernel
theorem dX1_make_52 : decode cX1_make 52 = .ok (.iconst 2, 1) := by decide +kernel
theorem dX1_make_53 : decode cX1_make 53 = .ok (.idiv, 1) := by decide +kernel
theorem dX1_make_54 : decode cX1_make 54 = .ok (.istore_n 1, 1) := by decide +kernel
theorem dX1_make_55 : decode cX1_make 55 = .ok (.iconst 0, 1) := by decide +kernel
theorem dX1_make_56 : decode cX1_make 56 = .ok (.istore_n 2, 1) := by decide +kernel
theorem dX1_make_57 : decode cX1_make 57 = .ok (.iload_n 2, 1) := by decide +kernel
theorem dX1_make_58 : decode cX1_make 58 = .ok (.iconst 1, 1) := by decide +kernel
theorem dX1_make_59 : decode cX1_make 59 = .ok (.iload_n 1, 1) := by decide +kernel
theorem dX1_make_60 : decode cX1_make 60 = .ok (.ishl, 1) := by decide +kernel
theorem dX1_make_61 : decode cX1_make 61 = .ok (.if_icmp .ge 135, 3) := by decide +kernel
theorem dX1_make_64 : decode cX1_make 64 = .ok (.iconst 0, 1) := by decide +kernel
theorem dX1_make_65 : decode cX1_make 65 = .ok (.istore_n 3, 1) := by decide +kernel
theorem dX1_make_66 : decode cX1_make 66 = .ok (.iconst 0, 1) := by decide +kernel
theorem dX1_make_67 : decode cX1_make 67 = .ok (.istore 4, 2) := by decide +kernel
theorem dX1_make_69 : decode cX1_make 69 = .ok (.iconst 0, 1) := by decide +kernel
theorem dX1_make_70 : decode cX1_make 70 = .ok (.istore 5, 2) := by decide +kernel
theorem dX1_make_72 : decode cX1_make 72 = .ok (.iconst 1, 1) := by decide +kernel
theorem dX1_make_73 : decode cX1_make 73 = .ok (.istore 6, 2) := by decide +kernel
theorem dX1_make_75 : decode cX1_make 75 = .ok (.iconst 0, 1) := by decide +kernel
theorem dX1_make_76 : decode cX1_make 76 = .ok (.istore 7, 2) := by decide +kernel
theorem dX1_make_78 : decode cX1_make 78 = .ok (.iload 7, 2) := by decide +kernel
theorem dX1_make_80 : decode cX1_make 80 = .ok (.aload_n 0, 1) := by decide +kernel
theorem dX1_make_81 : decode cX1_make 81 = .ok (.getfield 13, 3) := by decide +kernel
theorem dX1_make_84 : decode cX1_make 84 = .ok (.if_icmp .ge 90, 3) := by decide +kernel
theorem dX1_make_87 : decode cX1_make 87 = .ok (.iload 6, 2) := by decide +kernel
theorem dX1_make_89 : decode cX1_make 89 = .ok (.bipush 6, 2) := by decide +kernel
theorem dX1_make_91 : decode cX1_make 91 = .ok (.imul, 1) := by decide +kernel
theorem dX1_make_92 : decode cX1_make 92 = .ok (.istore 8, 2) := by decide +kernel
theorem dX1_make_94 : decode cX1_make 94 = .ok (.iload 7, 2) := by decide +kernel
theorem dX1_make_96 : decode cX1_make 96 = .ok (.iconst 1, 1) := by decide +kernel
theorem dX1_make_97 : decode cX1_make 97 = .ok (.iadd, 1) := by decide +kernel
theorem dX1_make_98 : decode cX1_make 98 = .ok (.istore 9, 2) := by decide +kernel
theorem dX1_make_100 : decode cX1_make 100 = .ok (.iload 9, 2) := by decide +kernel
theorem dX1_make_102 : decode cX1_make 102 = .ok (.aload_n 0, 1) := by decide +kernel
theorem dX1_make_103 : decode cX1_make 103 = .ok (.getfield 13, 3) := by decide +kernel
theorem dX1_make_106 : decode cX1_make 106 = .ok (.if_icmp .ge 55, 3) := by decide +kernel
theorem dX1_make_109 : decode cX1_make 109 = .ok (.iload_n 2, 1) := by decide +kernel
theorem dX1_make_110 : decode cX1_make 110 = .ok (.iload_n 3, 1) := by decide +kernel
theorem dX1_make_111 : decode cX1_make 111 = .ok (.ishr, 1) := by decide +kernel
theorem dX1_make_112 : decode cX1_make 112 = .ok (.iconst 1, 1) := by decide +kernel
theorem dX1_make_113 : decode cX1_make 113 = .ok (.iand, 1) := by decide +kernel
theorem dX1_make_114 : decode cX1_make 114 = .ok (.ifCond .eq 23, 3) := by decide +kernel
theorem dX1_make_117 : decode cX1_make 117 = .ok (.iload 4, 2) := by decide +kernel
theorem dX1_make_119 : decode cX1_make 119 = .ok (.iload 6, 2) := by decide +kernel
theorem dX1_make_121 : decode cX1_make 121 = .ok (.iadd, 1) := by decide +kernel
theorem dX1_make_122 : decode cX1_make 122 = .ok (.iload 8, 2) := by decide +kernel
theorem dX1_make_124 : decode cX1_make 124 = .ok (.iadd, 1) := by decide +kernel
theorem dX1_make_125 : decode cX1_make 125 = .ok (.istore 4, 2) := by decide +kernel
theorem dX1_make_127 : decode cX1_make 127 = .ok (.iload 5, 2) := by decide +kernel
theorem dX1_make_129 : decode cX1_make 129 = .ok (.iload 6, 2) := by decide +kernel
theorem dX1_make_131 : decode cX1_make 131 = .ok (.iadd, 1) := by decide +kernel
theorem dX1_make_132 : decode cX1_make 132 = .ok (.istore 5, 2) := by decide +kernel
theorem dX1_make_134 : decode cX1_make 134 = .ok (.goto 10, 3) := by decide +kernel
theorem dX1_make_137 : decode cX1_make 137 = .ok (.iload 5, 2) := by decide +kernel
theorem dX1_make_139 : decode cX1_make 139 = .ok (.iload 8, 2) := by decide +kernel
theorem dX1_make_141 : decode cX1_make 141 = .ok (.iadd, 1) := by decide +kernel
theorem dX1_make_142 : decode cX1_make 142 = .ok (.istore 5, 2) := by decide +kernel
theorem dX1_make_144 : decode cX1_make 144 = .ok (.iload_n 3, 1) := by decide +kernel
theorem dX1_make_145 : decode cX1_make 145 = .ok (.iconst 1, 1) := by decide +kernel
theorem dX1_make_146 : decode cX1_make 146 = .ok (.iadd, 1) := by decide +kernel
theorem dX1_make_147 : decode cX1_make 147 = .ok (.istore_n 3, 1) := by decide +kernel
theorem dX1_make_148 : decode cX1_make 148 = .ok (.iload 8, 2) := by decide +kernel
theorem dX1_make_150 : decode cX1_make 150 = .ok (.bipush 6, 2) := by decide +kernel
theorem dX1_make_152 : decode cX1_make 152 = .ok (.imul, 1) := by decide +kernel
theorem dX1_make_153 : decode cX1_make 153 = .ok (.istore 8, 2) := by decide +kernel
theorem dX1_make_155 : decode cX1_make 155 = .ok (.iinc 9 1, 3) := by decide +kernel
theorem dX1_make_158 : decode cX1_make 158 = .ok (.goto (-58), 3) := by decide +kernel
theorem dX1_make_161 : decode cX1_make 161 = .ok (.iload 6, 2) := by decide +kernel
theorem dX1_make_163 : decode cX1_make 163 = .ok (.bipush 6, 2) := by decide +kernel
theorem dX1_make_165 : decode cX1_make 165 = .ok (.imul, 1) := by decide +kernel
theorem dX1_make_166 : decode cX1_make 166 = .ok (.istore 6, 2) := by decide +kernel
theorem dX1_make_168 : decode cX1_make 168 = .ok (.iinc 7 1, 3) := by decide +kernel
theorem dX1_make_171 : decode cX1_make 171 = .ok (.goto (-93), 3) := by decide +kernel
theorem dX1_make_174 : decode cX1_make 174 = .ok (.aload_n 0, 1) := by decide +kernel
theorem dX1_make_175 : decode cX1_make 175 = .ok (.getfield 18, 3) := by decide +kernel
theorem dX1_make_178 : decode cX1_make 178 = .ok (.iload 4, 2) := by decide +kernel
theorem dX1_make_180 : decode cX1_make 180 = .ok (.iconst 1, 1) := by decide +kernel
theorem dX1_make_181 : decode cX1_make 181 = .ok (.bastore, 1) := by decide +kernel
theorem dX1_make_182 : decode cX1_make 182 = .ok (.aload_n 0, 1) := by decide +kernel
theorem dX1_make_183 : decode cX1_make 183 = .ok (.getfield 22, 3) := by decide +kernel
theorem dX1_make_186 : decode cX1_make 186 = .ok (.iload 5, 2) := by decide +kernel
theorem dX1_make_188 : decode cX1_make 188 = .ok (.iconst 1, 1) := by decide +kernel
theorem dX1_make_189 : decode cX1_make 189 = .ok (.bastore, 1) := by decide +kernel
theorem dX1_make_190 : decode cX1_make 190 = .ok (.iinc 2 1, 3) := by decide +kernel
theorem dX1_make_193 : decode cX1_make 193 = .ok (.goto (-136), 3) := by decide +kernel
theorem dX1_make_196 : decode cX1_make 196 = .ok (.return_, 1) := by decide +kernel
abbrev cX1_code : ByteArray := prog_5_method_5_code
def yX1_code : MethodName := ⟨RX1, "code", "()I"⟩
theorem dX1_code_0 : decode cX1_code 0 = .ok (.iconst 0, 1) := by decide +kernel
theorem dX1_code_1 : decode cX1_code 1 = .ok (.istore_n 1, 1) := by decide +kernel
theorem dX1_code_2 : decode cX1_code 2 = .ok (.aload_n 0, 1) := by decide +kernel
theorem dX1_code_3 : decode cX1_code 3 = .ok (.getfield 13, 3) := by decide +kernel
theorem dX1_code_6 : decode cX1_code 6 = .ok (.iconst 1, 1) := by decide +kernel
theorem dX1_code_7 : decode cX1_code 7 = .ok (.isub, 1) := by decide +kernel
theorem dX1_code_8 : decode cX1_code 8 = .ok (.istore_n 2, 1) := by decide +kernel
theorem dX1_code_9 : decode cX1_code 9 = .ok (.iload_n 2, 1) := by decide +kernel
theorem dX1_code_10 : decode cX1_code 10 = .ok (.ifCond .lt 21, 3) := by decide +kernel
theorem dX1_code_13 : decode cX1_code 13 = .ok (.bipush 6, 2) := by decide +kernel
theorem dX1_code_15 : decode cX1_code 15 = .ok (.iload_n 1, 1) := by decide +kernel
theorem dX1_code_16 : decode cX1_code 16 = .ok (.imul, 1) := by decide +kernel
theorem dX1_code_17 : decode cX1_code 17 = .ok (.aload_n 0, 1) := by decide +kernel
theorem dX1_code_18 : decode cX1_code 18 = .ok (.getfield 7, 3) := by decide +kernel
theorem dX1_code_21 : decode cX1_code 21 = .ok (.iload_n 2, 1) := by decide +kernel
theorem dX1_code_22 : decode cX1_code 22 = .ok (.iaload, 1) := by decide +kernel
theorem dX1_code_23 : decode cX1_code 23 = .ok (.iadd, 1) := by decide +kernel
theorem dX1_code_24 : decode cX1_code 24 = .ok (.istore_n 1, 1) := by decide +kernel
theorem dX1_code_25 : decode cX1_code 25 = .ok (.iinc 2 (-1), 3) := by decide +kernel
theorem dX1_code_28 : decode cX1_code 28 = .ok (.goto (-19), 3) := by decide +kernel
theorem dX1_code_31 : decode cX1_code 31 = .ok (.iload_n 1, 1) := by decide +kernel
theorem dX1_code_32 : decode cX1_code 32 = .ok (.ireturn, 1) := by decide +kernel
abbrev cX1_play : ByteArray := prog_5_method_7_code
def yX1_play : MethodName := ⟨RX1, "play", "()Z"⟩
theorem dX1_play_0 : decode cX1_play 0 = .ok (.aload_n 0, 1) := by decide +kernel
theorem dX1_play_1 : decode cX1_play 1 = .ok (.invokevirtual 30, 3) := by decide +kernel
theorem dX1_play_4 : decode cX1_play 4 = .ok (.aload_n 0, 1) := by decide +kernel
theorem dX1_play_5 : decode cX1_play 5 = .ok (.getfield 22, 3) := by decide +kernel
theorem dX1_play_8 : decode cX1_play 8 = .ok (.aload_n 0, 1) := by decide +kernel
theorem dX1_play_9 : decode cX1_play 9 = .ok (.invokevirtual 33, 3) := by decide +kernel
theorem dX1_play_12 : decode cX1_play 12 = .ok (.baload, 1) := by decide +kernel
theorem dX1_play_13 : decode cX1_play 13 = .ok (.ireturn, 1) := by decide +kernel
abbrev cX1_nets : ByteArray := prog_5_method_8_code
def yX1_nets : MethodName := ⟨RX1, "nets", "()I"⟩
theorem dX1_nets_0 : decode cX1_nets 0 = .ok (.aload_n 0, 1) := by decide +kernel
theorem dX1_nets_1 : decode cX1_nets 1 = .ok (.invokevirtual 30, 3) := by decide +kernel
theorem dX1_nets_4 : decode cX1_nets 4 = .ok (.iconst 0, 1) := by decide +kernel
theorem dX1_nets_5 : decode cX1_nets 5 = .ok (.istore_n 1, 1) := by decide +kernel
theorem dX1_nets_6 : decode cX1_nets 6 = .ok (.iconst 1, 1) := by decide +kernel
theorem dX1_nets_7 : decode cX1_nets 7 = .ok (.istore_n 2, 1) := by decide +kernel
theorem dX1_nets_8 : decode cX1_nets 8 = .ok (.iconst 0, 1) := by decide +kernel
theorem dX1_nets_9 : decode cX1_nets 9 = .ok (.istore_n 3, 1) := by decide +kernel
theorem dX1_nets_10 : decode cX1_nets 10 = .ok (.iload_n 3, 1) := by decide +kernel
theorem dX1_nets_11 : decode cX1_nets 11 = .ok (.aload_n 0, 1) := by decide +kernel
theorem dX1_nets_12 : decode cX1_nets 12 = .ok (.getfield 13, 3) := by decide +kernel
theorem dX1_nets_15 : decode cX1_nets 15 = .ok (.if_icmp .ge 14, 3) := by decide +kernel
theorem dX1_nets_18 : decode cX1_nets 18 = .ok (.iload_n 2, 1) := by decide +kernel
theorem dX1_nets_19 : decode cX1_nets 19 = .ok (.bipush 6, 2) := by decide +kernel
theorem dX1_nets_21 : decode cX1_nets 21 = .ok (.imul, 1) := by decide +kernel
theorem dX1_nets_22 : decode cX1_nets 22 = .ok (.istore_n 2, 1) := by decide +kernel
theorem dX1_nets_23 : decode cX1_nets 23 = .ok (.iinc 3 1, 3) := by decide +kernel
theorem dX1_nets_26 : decode cX1_nets 26 = .ok (.goto (-16), 3) := by decide +kernel
theorem dX1_nets_29 : decode cX1_nets 29 = .ok (.iconst 0, 1) := by decide +kernel
theorem dX1_nets_30 : decode cX1_nets 30 = .ok (.istore_n 3, 1) := by decide +kernel
theorem dX1_nets_31 : decode cX1_nets 31 = .ok (.iload_n 3, 1) := by decide +kernel
theorem dX1_nets_32 : decode cX1_nets 32 = .ok (.iload_n 2, 1) := by decide +kernel
theorem dX1_nets_33 : decode cX1_nets 33 = .ok (.if_icmp .ge 22, 3) := by decide +kernel
theorem dX1_nets_36 : decode cX1_nets 36 = .ok (.aload_n 0, 1) := by decide +kernel
theorem dX1_nets_37 : decode cX1_nets 37 = .ok (.getfield 18, 3) := by decide +kernel
theorem dX1_nets_40 : decode cX1_nets 40 = .ok (.iload_n 3, 1) := by decide +kernel
theorem dX1_nets_41 : decode cX1_nets 41 = .ok (.baload, 1) := by decide +kernel
theorem dX1_nets_42 : decode cX1_nets 42 = .ok (.ifCond .eq 7, 3) := by decide +kernel
theorem dX1_nets_45 : decode cX1_nets 45 = .ok (.iload_n 1, 1) := by decide +kernel
theorem dX1_nets_46 : decode cX1_nets 46 = .ok (.iconst 1, 1) := by decide +kernel
theorem dX1_nets_47 : decode cX1_nets 47 = .ok (.iadd, 1) := by decide +kernel
theorem dX1_nets_48 : decode cX1_nets 48 = .ok (.istore_n 1, 1) := by decide +kernel
theorem dX1_nets_49 : decode cX1_nets 49 = .ok (.iinc 3 1, 3) := by decide +kernel
theorem dX1_nets_52 : decode cX1_nets 52 = .ok (.goto (-21), 3) := by decide +kernel
theorem dX1_nets_55 : decode cX1_nets 55 = .ok (.iload_n 1, 1) := by decide +kernel
theorem dX1_nets_56 : decode cX1_nets 56 = .ok (.ireturn, 1) := by decide +kernel
abbrev cX1_plays : ByteArray := prog_5_method_9_code
def yX1_plays : MethodName := ⟨RX1, "plays", "()I"⟩
theorem dX1_plays_0 : decode cX1_plays 0 = .ok (.aload_n 0, 1) := by decide +kernel
theorem dX1_plays_1 : decode cX1_plays 1 = .ok (.invokevirtual 30, 3) := by decide +kernel
theorem dX1_plays_4 : decode cX1_plays 4 = .ok (.iconst 0, 1) := by decide +kernel
theorem dX1_plays_5 : decode cX1_plays 5 = .ok (.istore_n 1, 1) := by decide +kernel
theorem dX1_plays_6 : decode cX1_plays 6 = .ok (.iconst 1, 1) := by decide +kernel
theorem dX1_plays_7 : decode cX1_plays 7 = .ok (.istore_n 2, 1) := by decide +kernel
theorem dX1_plays_8 : decode cX1_plays 8 = .ok (.iconst 0, 1) := by decide +kernel
theorem dX1_plays_9 : decode cX1_plays 9 = .ok (.istore_n 3, 1) := by decide +kernel
theorem dX1_plays_10 : decode cX1_plays 10 = .ok (.iload_n 3, 1) := by decide +kernel
theorem dX1_plays_11 : decode cX1_plays 11 = .ok (.aload_n 0, 1) := by decide +kernel
theorem dX1_plays_12 : decode cX1_plays 12 = .ok (.getfield 13, 3) := by decide +kernel
theorem dX1_plays_15 : decode cX1_plays 15 = .ok (.if_icmp .ge 14, 3) := by decide +kernel
theorem dX1_plays_18 : decode cX1_plays 18 = .ok (.iload_n 2, 1) := by decide +kernel
theorem dX1_plays_19 : decode cX1_plays 19 = .ok (.bipush 6, 2) := by decide +kernel
theorem dX1_plays_21 : decode cX1_plays 21 = .ok (.imul, 1) := by decide +kernel
theorem dX1_plays_22 : decode cX1_plays 22 = .ok (.istore_n 2, 1) := by decide +kernel
theorem dX1_plays_23 : decode cX1_plays 23 = .ok (.iinc 3 1, 3) := by decide +kernel
theorem dX1_plays_26 : decode cX1_plays 26 = .ok (.goto (-16), 3) := by decide +kernel
theorem dX1_plays_29 : decode cX1_plays 29 = .ok (.iconst 0, 1) := by decide +kernel
theorem dX1_plays_30 : decode cX1_plays 30 = .ok (.istore_n 3, 1) := by decide +kernel
theorem dX1_plays_31 : decode cX1_plays 31 = .ok (.iload_n 3, 1) := by decide +kernel
theorem dX1_plays_32 : decode cX1_plays 32 = .ok (.iload_n 2, 1) := by decide +kernel
theorem dX1_plays_33 : decode cX1_plays 33 = .ok (.if_icmp .ge 22, 3) := by decide +kernel
theorem dX1_plays_36 : decode cX1_plays 36 = .ok (.aload_n 0, 1) := by decide +kernel
theorem dX1_plays_37 : decode cX1_plays 37 = .ok (.getfield 22, 3) := by decide +kernel
theorem dX1_plays_40 : decode cX1_plays 40 = .ok (.iload_n 3, 1) := by decide +kernel
theorem dX1_plays_41 : decode cX1_plays 41 = .ok (.baload, 1) := by decide +kernel
theorem dX1_plays_42 : decode cX1_plays 42 = .ok (.ifCond .eq 7, 3) := by decide +kernel
theorem dX1_plays_45 : decode cX1_plays 45 = .ok (.iload_n 1, 1) := by decide +kernel
theorem dX1_plays_46 : decode cX1_plays 46 = .ok (.iconst 1, 1) := by decide +kernel
theorem dX1_plays_47 : decode cX1_plays 47 = .ok (.iadd, 1) := by decide +kernel
theorem dX1_plays_48 : decode cX1_plays 48 = .ok (.istore_n 1, 1) := by decide +kernel
theorem dX1_plays_49 : decode cX1_plays 49 = .ok (.iinc 3 1, 3) := by decide +kernel
theorem dX1_plays_52 : decode cX1_plays 52 = .ok (.goto (-21), 3) := by decide +kernel
theorem dX1_plays_55 : decode cX1_plays 55 = .ok (.iload_n 1, 1) := by decide +kernel
theorem dX1_plays_56 : decode cX1_plays 56 = .ok (.ireturn, 1) := by decide +kernel
abbrev cX1_at : ByteArray := prog_5_method_10_code
def yX1_at : MethodName := ⟨RX1, "at", "(I)I"⟩
theorem dX1_at_0 : decode cX1_at 0 = .ok (.aload_n 0, 1) := by decide +kernel
theorem dX1_at_1 : decode cX1_at 1 = .ok (.getfield 7, 3) := by decide +kernel
theorem dX1_at_4 : decode cX1_at 4 = .ok (.iload_n 1, 1) := by decide +kernel
theorem dX1_at_5 : decode cX1_at 5 = .ok (.ldc 25, 2) := by decide +kernel
theorem dX1_at_7 : decode cX1_at 7 = .ok (.iand, 1) := by decide +kernel
theorem dX1_at_8 : decode cX1_at 8 = .ok (.aload_n 0, 1) := by decide +kernel
theorem dX1_at_9 : decode cX1_at 9 = .ok (.getfield 13, 3) := by decide +kernel
theorem dX1_at_12 : decode cX1_at 12 = .ok (.irem, 1) := by decide +kernel
theorem dX1_at_13 : decode cX1_at 13 = .ok (.iaload, 1) := by decide +kernel
theorem dX1_at_14 : decode cX1_at 14 = .ok (.ireturn, 1) := by decide +kernel
theorem q8 : (Jvm.Cond.initialized "ScoreRowsModel") ∈ lw_all := lw_g (lw_at lw_m0 2 rfl) rfl
theorem q142 : (Jvm.Cond.instantiable "ScoreRowsModel" (5 : Nat)) ∈ lw_all := lw_g (lw_at lw_m0 136 rfl) rfl
theorem q144 : (Jvm.Cond.instanceMethod ({ cls := "ScoreRowsModel", name := "<init>", desc := "()V" } : Jvm.MethodName)) ∈ lw_all := lw_g (lw_at lw_m0 138 rfl) rfl
theorem q145 : (Jvm.Cond.code ({ cls := "ScoreRowsModel", name := "<init>", desc := "()V" } : Jvm.MethodName) prog_5_method_1_code (1 : Nat) (Option.none : Option Jvm.ClassFile.FieldType)) ∈ lw_all := lw_g (lw_at lw_m0 139 rfl) rfl
theorem q146 : (Jvm.Cond.methodLink "ScoreRowsModel" (1 : Nat) ({ cls := "java/lang/Object", name := "<init>", desc := "()V" } : Jvm.MethodName)) ∈ lw_all := lw_g (lw_at lw_m0 140 rfl) rfl
theorem q147 : (Jvm.Cond.constant "ScoreRowsModel" (17 : Nat) (46656 : Int32)) ∈ lw_all := lw_g (lw_at lw_m0 141 rfl) rfl
theorem q148 : (Jvm.Cond.fieldLink "ScoreRowsModel" (7 : Nat) "ScoreRowsModel" "d" "[I") ∈ lw_all := lw_g (lw_at lw_m0 142 rfl) rfl
theorem q149 : (Jvm.Cond.fieldLink "ScoreRowsModel" (13 : Nat) "ScoreRowsModel" "n" "I") ∈ lw_all := lw_g (lw_at lw_m0 143 rfl) rfl
theorem q150 : (Jvm.Cond.fieldLink "ScoreRowsModel" (26 : Nat) "ScoreRowsModel" "made" "Z") ∈ lw_all := lw_g (lw_at lw_m0 144 rfl) rfl
theorem q151 : (Jvm.Cond.fieldLink "ScoreRowsModel" (18 : Nat) "ScoreRowsModel" "net" "[Z") ∈ lw_all := lw_g (lw_at lw_m0 145 rfl) rfl
theorem q152 : (Jvm.Cond.fieldLink "ScoreRowsModel" (22 : Nat) "ScoreRowsModel" "play" "[Z") ∈ lw_all := lw_g (lw_at lw_m0 146 rfl) rfl
theorem q153 : (Jvm.Cond.laysFinal "ScoreRowsModel" "ScoreRowsModel" "d" "[I") ∈ lw_all := lw_g (lw_at lw_m0 147 rfl) rfl
theorem q154 : (Jvm.Cond.soleField "ScoreRowsModel" "d") ∈ lw_all := lw_g (lw_at lw_m0 148 rfl) rfl
theorem q155 : (Jvm.Cond.lays "ScoreRowsModel" "ScoreRowsModel" "n" "I") ∈ lw_all := lw_g (lw_at lw_m0 149 rfl) rfl
theorem q156 : (Jvm.Cond.soleField "ScoreRowsModel" "n") ∈ lw_all := lw_g (lw_at lw_m0 150 rfl) rfl
theorem q157 : (Jvm.Cond.lays "ScoreRowsModel" "ScoreRowsModel" "made" "Z") ∈ lw_all := lw_g (lw_at lw_m0 151 rfl) rfl
theorem q158 : (Jvm.Cond.soleField "ScoreRowsModel" "made") ∈ lw_all := lw_g (lw_at lw_m0 152 rfl) rfl
theorem q159 : (Jvm.Cond.laysFinal "ScoreRowsModel" "ScoreRowsModel" "net" "[Z") ∈ lw_all := lw_g (lw_at lw_m0 153 rfl) rfl
theorem q160 : (Jvm.Cond.soleField "ScoreRowsModel" "net") ∈ lw_all := lw_g (lw_at lw_m0 154 rfl) rfl
theorem q161 : (Jvm.Cond.laysFinal "ScoreRowsModel" "ScoreRowsModel" "play" "[Z") ∈ lw_all := lw_g (lw_at lw_m0 155 rfl) rfl
theorem q162 : (Jvm.Cond.soleField "ScoreRowsModel" "play") ∈ lw_all := lw_g (lw_at lw_m0 156 rfl) rfl
theorem q163 : (Jvm.Cond.superclass "ScoreRowsModel" "java/lang/Object") ∈ lw_all := lw_g (lw_at lw_m0 157 rfl) rfl
theorem q166 : (Jvm.Cond.instanceMethod ({ cls := "ScoreRowsModel", name := "size", desc := "(I)V" } : Jvm.MethodName)) ∈ lw_all := lw_g (lw_at lw_m0 160 rfl) rfl
theorem q167 : (Jvm.Cond.selects "ScoreRowsModel" ({ cls := "ScoreRowsModel", name := "size", desc := "(I)V" } : Jvm.MethodName) ({ cls := "ScoreRowsModel", name := "size", desc := "(I)V" } : Jvm.MethodName)) ∈ lw_all := lw_g (lw_at lw_m0 161 rfl) rfl
theorem q168 : (Jvm.Cond.code ({ cls := "ScoreRowsModel", name := "size", desc := "(I)V" } : Jvm.MethodName) prog_5_method_2_code (3 : Nat) (Option.none : Option Jvm.ClassFile.FieldType)) ∈ lw_all := lw_g (lw_at lw_m0 162 rfl) rfl
theorem q169 : (Jvm.Cond.constant "ScoreRowsModel" (25 : Nat) (2147483647 : Int32)) ∈ lw_all := lw_g (lw_at lw_m0 163 rfl) rfl
theorem q171 : (Jvm.Cond.instanceMethod ({ cls := "ScoreRowsModel", name := "set", desc := "(II)V" } : Jvm.MethodName)) ∈ lw_all := lw_g (lw_at lw_m0 165 rfl) rfl
theorem q172 : (Jvm.Cond.selects "ScoreRowsModel" ({ cls := "ScoreRowsModel", name := "set", desc := "(II)V" } : Jvm.MethodName) ({ cls := "ScoreRowsModel", name := "set", desc := "(II)V" } : Jvm.MethodName)) ∈ lw_all := lw_g (lw_at lw_m0 166 rfl) rfl
theorem q173 : (Jvm.Cond.code ({ cls := "ScoreRowsModel", name := "set", desc := "(II)V" } : Jvm.MethodName) prog_5_method_3_code (3 : Nat) (Option.none : Option Jvm.ClassFile.FieldType)) ∈ lw_all := lw_g (lw_at lw_m0 167 rfl) rfl
theorem q175 : (Jvm.Cond.instanceMethod ({ cls := "ScoreRowsModel", name := "net", desc := "()Z" } : Jvm.MethodName)) ∈ lw_all := lw_g (lw_at lw_m0 169 rfl) rfl
theorem q176 : (Jvm.Cond.selects "ScoreRowsModel" ({ cls := "ScoreRowsModel", name := "net", desc := "()Z" } : Jvm.MethodName) ({ cls := "ScoreRowsModel", name := "net", desc := "()Z" } : Jvm.MethodName)) ∈ lw_all := lw_g (lw_at lw_m0 170 rfl) rfl
theorem q177 : (Jvm.Cond.code ({ cls := "ScoreRowsModel", name := "net", desc := "()Z" } : Jvm.MethodName) prog_5_method_6_code (1 : Nat) (Option.some Jvm.ClassFile.FieldType.boolean)) ∈ lw_all := lw_g (lw_at lw_m0 171 rfl) rfl
theorem q178 : (Jvm.Cond.methodLink "ScoreRowsModel" (30 : Nat) ({ cls := "ScoreRowsModel", name := "make", desc := "()V" } : Jvm.MethodName)) ∈ lw_all := lw_g (lw_at lw_m0 172 rfl) rfl
theorem q179 : (Jvm.Cond.privateMethod ({ cls := "ScoreRowsModel", name := "make", desc := "()V" } : Jvm.MethodName)) ∈ lw_tbl := lw_at lw_m0 173 rfl
theorem q180 : (Jvm.Cond.instanceMethod ({ cls := "ScoreRowsModel", name := "make", desc := "()V" } : Jvm.MethodName)) ∈ lw_all := lw_g (lw_at lw_m0 174 rfl) rfl
theorem q181 : (Jvm.Cond.code ({ cls := "ScoreRowsModel", name := "make", desc := "()V" } : Jvm.MethodName) prog_5_method_4_code (10 : Nat) (Option.none : Option Jvm.ClassFile.FieldType)) ∈ lw_all := lw_g (lw_at lw_m0 175 rfl) rfl
theorem q182 : (Jvm.Cond.methodLink "ScoreRowsModel" (33 : Nat) ({ cls := "ScoreRowsModel", name := "code", desc := "()I" } : Jvm.MethodName)) ∈ lw_all := lw_g (lw_at lw_m0 176 rfl) rfl
theorem q183 : (Jvm.Cond.privateMethod ({ cls := "ScoreRowsModel", name := "code", desc := "()I" } : Jvm.MethodName)) ∈ lw_tbl := lw_at lw_m0 177 rfl
theorem q184 : (Jvm.Cond.instanceMethod ({ cls := "ScoreRowsModel", name := "code", desc := "()I" } : Jvm.MethodName)) ∈ lw_all := lw_g (lw_at lw_m0 178 rfl) rfl
theorem q185 : (Jvm.Cond.code ({ cls := "ScoreRowsModel", name := "code", desc := "()I" } : Jvm.MethodName) prog_5_method_5_code (3 : Nat) (Option.some Jvm.ClassFile.FieldType.int)) ∈ lw_all := lw_g (lw_at lw_m0 179 rfl) rfl
theorem q187 : (Jvm.Cond.instanceMethod ({ cls := "ScoreRowsModel", name := "play", desc := "()Z" } : Jvm.MethodName)) ∈ lw_all := lw_g (lw_at lw_m0 181 rfl) rfl
theorem q188 : (Jvm.Cond.selects "ScoreRowsModel" ({ cls := "ScoreRowsModel", name := "play", desc := "()Z" } : Jvm.MethodName) ({ cls := "ScoreRowsModel", name := "play", desc := "()Z" } : Jvm.MethodName)) ∈ lw_all := lw_g (lw_at lw_m0 182 rfl) rfl
theorem q189 : (Jvm.Cond.code ({ cls := "ScoreRowsModel", name := "play", desc := "()Z" } : Jvm.MethodName) prog_5_method_7_code (1 : Nat) (Option.some Jvm.ClassFile.FieldType.boolean)) ∈ lw_all := lw_g (lw_at lw_m0 183 rfl) rfl
theorem q191 : (Jvm.Cond.instanceMethod ({ cls := "ScoreRowsModel", name := "nets", desc := "()I" } : Jvm.MethodName)) ∈ lw_all := lw_g (lw_at lw_m0 185 rfl) rfl
theorem q192 : (Jvm.Cond.selects "ScoreRowsModel" ({ cls := "ScoreRowsModel", name := "nets", desc := "()I" } : Jvm.MethodName) ({ cls := "ScoreRowsModel", name := "nets", desc := "()I" } : Jvm.MethodName)) ∈ lw_all := lw_g (lw_at lw_m0 186 rfl) rfl
theorem q193 : (Jvm.Cond.code ({ cls := "ScoreRowsModel", name := "nets", desc := "()I" } : Jvm.MethodName) prog_5_method_8_code (4 : Nat) (Option.some Jvm.ClassFile.FieldType.int)) ∈ lw_all := lw_g (lw_at lw_m0 187 rfl) rfl
theorem q195 : (Jvm.Cond.instanceMethod ({ cls := "ScoreRowsModel", name := "plays", desc := "()I" } : Jvm.MethodName)) ∈ lw_all := lw_g (lw_at lw_m0 189 rfl) rfl
theorem q196 : (Jvm.Cond.selects "ScoreRowsModel" ({ cls := "ScoreRowsModel", name := "plays", desc := "()I" } : Jvm.MethodName) ({ cls := "ScoreRowsModel", name := "plays", desc := "()I" } : Jvm.MethodName)) ∈ lw_all := lw_g (lw_at lw_m0 190 rfl) rfl
theorem q197 : (Jvm.Cond.code ({ cls := "ScoreRowsModel", name := "plays", desc := "()I" } : Jvm.MethodName) prog_5_method_9_code (4 : Nat) (Option.some Jvm.ClassFile.FieldType.int)) ∈ lw_all := lw_g (lw_at lw_m0 191 rfl) rfl
theorem q199 : (Jvm.Cond.instanceMethod ({ cls := "ScoreRowsModel", name := "at", desc := "(I)I" } : Jvm.MethodName)) ∈ lw_all := lw_g (lw_at lw_m0 193 rfl) rfl
theorem q200 : (Jvm.Cond.selects "ScoreRowsModel" ({ cls := "ScoreRowsModel", name := "at", desc := "(I)I" } : Jvm.MethodName) ({ cls := "ScoreRowsModel", name := "at", desc := "(I)I" } : Jvm.MethodName)) ∈ lw_all := lw_g (lw_at lw_m0 194 rfl) rfl
theorem q201 : (Jvm.Cond.code ({ cls := "ScoreRowsModel", name := "at", desc := "(I)I" } : Jvm.MethodName) prog_5_method_10_code (2 : Nat) (Option.some Jvm.ClassFile.FieldType.int)) ∈ lw_all := lw_g (lw_at lw_m0 195 rfl) rfl
theorem in_X1 : ∀ w ∈ wsX10, w ∈ lw_all := lw_in wsX10 [153, 155, 157, 159, 161] (by decide +kernel) (by decide +kernel)
end
section
/-! the law's own entry -/
set_option maxRecDepth 100000
abbrev cL_law : ByteArray := code
theorem dL_law_0 : decode cL_law 0 = .ok (.new 7, 3) := by decide +kernel
theorem dL_law_3 : decode cL_law 3 = .ok (.dup, 1) := by decide +kernel
theorem dL_law_4 : decode cL_law 4 = .ok (.invokespecial 9, 3) := by decide +kernel
theorem dL_law_7 : decode cL_law 7 = .ok (.astore_n 1, 1) := by decide +kernel
theorem dL_law_8 : decode cL_law 8 = .ok (.new 10, 3) := by decide +kernel
theorem dL_law_11 : decode cL_law 11 = .ok (.dup, 1) := by decide +kernel
theorem dL_law_12 : decode cL_law 12 = .ok (.invokespecial 12, 3) := by decide +kernel
theorem dL_law_15 : decode cL_law 15 = .ok (.astore_n 2, 1) := by decide +kernel
theorem dL_law_16 : decode cL_law 16 = .ok (.iconst 0, 1) := by decide +kernel
theorem dL_law_17 : decode cL_law 17 = .ok (.istore_n 3, 1) := by decide +kernel
theorem dL_law_18 : decode cL_law 18 = .ok (.iload_n 3, 1) := by decide +kernel
theorem dL_law_19 : decode cL_law 19 = .ok (.aload_n 0, 1) := by decide +kernel
theorem dL_law_20 : decode cL_law 20 = .ok (.arraylength, 1) := by decide +kernel
theorem dL_law_21 : decode cL_law 21 = .ok (.iconst 3, 1) := by decide +kernel
theorem dL_law_22 : decode cL_law 22 = .ok (.isub, 1) := by decide +kernel
theorem dL_law_23 : decode cL_law 23 = .ok (.if_icmp .gt 186, 3) := by decide +kernel
theorem dL_law_26 : decode cL_law 26 = .ok (.aload_n 0, 1) := by decide +kernel
theorem dL_law_27 : decode cL_law 27 = .ok (.iload_n 3, 1) := by decide +kernel
theorem dL_law_28 : decode cL_law 28 = .ok (.iaload, 1) := by decide +kernel
theorem dL_law_29 : decode cL_law 29 = .ok (.bipush 7, 2) := by decide +kernel
theorem dL_law_31 : decode cL_law 31 = .ok (.iand, 1) := by decide +kernel
theorem dL_law_32 : decode cL_law 32 = .ok (.tableswitch 171 0 6 #[44, 65, 96, 109, 122, 135, 148], 44) := by decide +kernel
theorem dL_law_76 : decode cL_law 76 = .ok (.aload_n 1, 1) := by decide +kernel
theorem dL_law_77 : decode cL_law 77 = .ok (.aload_n 0, 1) := by decide +kernel
theorem dL_law_78 : decode cL_law 78 = .ok (.iload_n 3, 1) := by decide +kernel
theorem dL_law_79 : decode cL_law 79 = .ok (.iconst 1, 1) := by decide +kernel
theorem dL_law_80 : decode cL_law 80 = .ok (.iadd, 1) := by decide +kernel
theorem dL_law_81 : decode cL_law 81 = .ok (.iaload, 1) := by decide +kernel
theorem dL_law_82 : decode cL_law 82 = .ok (.invokevirtual 13, 3) := by decide +kernel
theorem dL_law_85 : decode cL_law 85 = .ok (.aload_n 2, 1) := by decide +kernel
theorem dL_law_86 : decode cL_law 86 = .ok (.aload_n 0, 1) := by decide +kernel
theorem dL_law_87 : decode cL_law 87 = .ok (.iload_n 3, 1) := by decide +kernel
theorem dL_law_88 : decode cL_law 88 = .ok (.iconst 1, 1) := by decide +kernel
theorem dL_law_89 : decode cL_law 89 = .ok (.iadd, 1) := by decide +kernel
theorem dL_law_90 : decode cL_law 90 = .ok (.iaload, 1) := by decide +kernel
theorem dL_law_91 : decode cL_law 91 = .ok (.invokevirtual 17, 3) := by decide +kernel
theorem dL_law_94 : decode cL_law 94 = .ok (.goto 109, 3) := by decide +kernel
theorem dL_law_97 : decode cL_law 97 = .ok (.aload_n 1, 1) := by decide +kernel
theorem dL_law_98 : decode cL_law 98 = .ok (.aload_n 0, 1) := by decide +kernel
theorem dL_law_99 : decode cL_law 99 = .ok (.iload_n 3, 1) := by decide +kernel
theorem dL_law_100 : decode cL_law 100 = .ok (.iconst 1, 1) := by decide +kernel
theorem dL_law_101 : decode cL_law 101 = .ok (.iadd, 1) := by decide +kernel
theorem dL_law_102 : decode cL_law 102 = .ok (.iaload, 1) := by decide +kernel
theorem dL_law_103 : decode cL_law 103 = .ok (.aload_n 0, 1) := by decide +kernel
theorem dL_law_104 : decode cL_law 104 = .ok (.iload_n 3, 1) := by decide +kernel
theorem dL_law_105 : decode cL_law 105 = .ok (.iconst 2, 1) := by decide +kernel
theorem dL_law_106 : decode cL_law 106 = .ok (.iadd, 1) := by decide +kernel
theorem dL_law_107 : decode cL_law 107 = .ok (.iaload, 1) := by decide +kernel
theorem dL_law_108 : decode cL_law 108 = .ok (.invokevirtual 18, 3) := by decide +kernel
theorem dL_law_111 : decode cL_law 111 = .ok (.aload_n 2, 1) := by decide +kernel
theorem dL_law_112 : decode cL_law 112 = .ok (.aload_n 0, 1) := by decide +kernel
theorem dL_law_113 : decode cL_law 113 = .ok (.iload_n 3, 1) := by decide +kernel
theorem dL_law_114 : decode cL_law 114 = .ok (.iconst 1, 1) := by decide +kernel
theorem dL_law_115 : decode cL_law 115 = .ok (.iadd, 1) := by decide +kernel
theorem dL_law_116 : decode cL_law 116 = .ok (.iaload, 1) := by decide +kernel
theorem dL_law_117 : decode cL_law 117 = .ok (.aload_n 0, 1) := by decide +kernel
theorem dL_law_118 : decode cL_law 118 = .ok (.iload_n 3, 1) := by decide +kernel
theorem dL_law_119 : decode cL_law 119 = .ok (.iconst 2, 1) := by decide +kernel
theorem dL_law_120 : decode cL_law 120 = .ok (.iadd, 1) := by decide +kernel
theorem dL_law_121 : decode cL_law 121 = .ok (.iaload, 1) := by decide +kernel
theorem dL_law_122 : decode cL_law 122 = .ok (.invokevirtual 22, 3) := by decide +kernel
theorem dL_law_125 : decode cL_law 125 = .ok (.goto 78, 3) := by decide +kernel
theorem dL_law_128 : decode cL_law 128 = .ok (.aload_n 1, 1) := by decide +kernel
theorem dL_law_129 : decode cL_law 129 = .ok (.invokevirtual 23, 3) := by decide +kernel
theorem dL_law_132 : decode cL_law 132 = .ok (.aload_n 2, 1) := by decide +kernel
theorem dL_law_133 : decode cL_law 133 = .ok (.invokevirtual 27, 3) := by decide +kernel
theorem dL_law_136 : decode cL_law 136 = .ok (.if_icmp .eq 67, 3) := by decide +kernel
theorem dL_law_139 : decode cL_law 139 = .ok (.iconst 0, 1) := by decide +kernel
theorem dL_law_140 : decode cL_law 140 = .ok (.ireturn, 1) := by decide +kernel
theorem dL_law_141 : decode cL_law 141 = .ok (.aload_n 1, 1) := by decide +kernel
theorem dL_law_142 : decode cL_law 142 = .ok (.invokevirtual 28, 3) := by decide +kernel
theorem dL_law_145 : decode cL_law 145 = .ok (.aload_n 2, 1) := by decide +kernel
theorem dL_law_146 : decode cL_law 146 = .ok (.invokevirtual 31, 3) := by decide +kernel
theorem dL_law_149 : decode cL_law 149 = .ok (.if_icmp .eq 54, 3) := by decide +kernel
theorem dL_law_152 : decode cL_law 152 = .ok (.iconst 0, 1) := by decide +kernel
theorem dL_law_153 : decode cL_law 153 = .ok (.ireturn, 1) := by decide +kernel
theorem dL_law_154 : decode cL_law 154 = .ok (.aload_n 1, 1) := by decide +kernel
theorem dL_law_155 : decode cL_law 155 = .ok (.invokevirtual 32, 3) := by decide +kernel
theorem dL_law_158 : decode cL_law 158 = .ok (.aload_n 2, 1) := by decide +kernel
theorem dL_law_159 : decode cL_law 159 = .ok (.invokevirtual 36, 3) := by decide +kernel
theorem dL_law_162 : decode cL_law 162 = .ok (.if_icmp .eq 41, 3) := by decide +kernel
theorem dL_law_165 : decode cL_law 165 = .ok (.iconst 0, 1) := by decide +kernel
theorem dL_law_166 : decode cL_law 166 = .ok (.ireturn, 1) := by decide +kernel
theorem dL_law_167 : decode cL_law 167 = .ok (.aload_n 1, 1) := by decide +kernel
theorem dL_law_168 : decode cL_law 168 = .ok (.invokevirtual 37, 3) := by decide +kernel
theorem dL_law_171 : decode cL_law 171 = .ok (.aload_n 2, 1) := by decide +kernel
theorem dL_law_172 : decode cL_law 172 = .ok (.invokevirtual 40, 3) := by decide +kernel
theorem dL_law_175 : decode cL_law 175 = .ok (.if_icmp .eq 28, 3) := by decide +kernel
theorem dL_law_178 : decode cL_law 178 = .ok (.iconst 0, 1) := by decide +kernel
theorem dL_law_179 : decode cL_law 179 = .ok (.ireturn, 1) := by decide +kernel
theorem dL_law_180 : decode cL_law 180 = .ok (.aload_n 1, 1) := by decide +kernel
theorem dL_law_181 : decode cL_law 181 = .ok (.aload_n 0, 1) := by decide +kernel
theorem dL_law_182 : decode cL_law 182 = .ok (.iload_n 3, 1) := by decide +kernel
theorem dL_law_183 : decode cL_law 183 = .ok (.iconst 1, 1) := by decide +kernel
theorem dL_law_184 : decode cL_law 184 = .ok (.iadd, 1) := by decide +kernel
theorem dL_law_185 : decode cL_law 185 = .ok (.iaload, 1) := by decide +kernel
theorem dL_law_186 : decode cL_law 186 = .ok (.invokevirtual 41, 3) := by decide +kernel
theorem dL_law_189 : decode cL_law 189 = .ok (.aload_n 2, 1) := by decide +kernel
theorem dL_law_190 : decode cL_law 190 = .ok (.aload_n 0, 1) := by decide +kernel
theorem dL_law_191 : decode cL_law 191 = .ok (.iload_n 3, 1) := by decide +kernel
theorem dL_law_192 : decode cL_law 192 = .ok (.iconst 1, 1) := by decide +kernel
theorem dL_law_193 : decode cL_law 193 = .ok (.iadd, 1) := by decide +kernel
theorem dL_law_194 : decode cL_law 194 = .ok (.iaload, 1) := by decide +kernel
theorem dL_law_195 : decode cL_law 195 = .ok (.invokevirtual 45, 3) := by decide +kernel
theorem dL_law_198 : decode cL_law 198 = .ok (.if_icmp .eq 5, 3) := by decide +kernel
theorem dL_law_201 : decode cL_law 201 = .ok (.iconst 0, 1) := by decide +kernel
theorem dL_law_202 : decode cL_law 202 = .ok (.ireturn, 1) := by decide +kernel
theorem dL_law_203 : decode cL_law 203 = .ok (.iinc 3 3, 3) := by decide +kernel
theorem dL_law_206 : decode cL_law 206 = .ok (.goto (-188), 3) := by decide +kernel
theorem dL_law_209 : decode cL_law 209 = .ok (.iconst 1, 1) := by decide +kernel
theorem dL_law_210 : decode cL_law 210 = .ok (.ireturn, 1) := by decide +kernel
theorem q6 : (Jvm.Cond.initialized "ScoreRowsLaw") ∈ lw_all := lw_g (lw_at lw_m0 0 rfl) rfl
set_option maxRecDepth 100000
theorem q12 : (Jvm.Cond.classLink "ScoreRowsLaw" (7 : Nat) "ScoreRows") ∈ lw_all := lw_g (lw_at lw_m0 6 rfl) rfl
theorem q14 : (Jvm.Cond.methodLink "ScoreRowsLaw" (9 : Nat) ({ cls := "ScoreRows", name := "<init>", desc := "()V" } : Jvm.MethodName)) ∈ lw_all := lw_g (lw_at lw_m0 8 rfl) rfl
theorem q31 : (Jvm.Cond.methodLink "ScoreRowsLaw" (13 : Nat) ({ cls := "ScoreRows", name := "size", desc := "(I)V" } : Jvm.MethodName)) ∈ lw_all := lw_g (lw_at lw_m0 25 rfl) rfl
theorem q36 : (Jvm.Cond.methodLink "ScoreRowsLaw" (18 : Nat) ({ cls := "ScoreRows", name := "set", desc := "(II)V" } : Jvm.MethodName)) ∈ lw_all := lw_g (lw_at lw_m0 30 rfl) rfl
theorem q40 : (Jvm.Cond.methodLink "ScoreRowsLaw" (23 : Nat) ({ cls := "ScoreRows", name := "net", desc := "()Z" } : Jvm.MethodName)) ∈ lw_all := lw_g (lw_at lw_m0 34 rfl) rfl
theorem q87 : (Jvm.Cond.methodLink "ScoreRowsLaw" (28 : Nat) ({ cls := "ScoreRows", name := "play", desc := "()Z" } : Jvm.MethodName)) ∈ lw_all := lw_g (lw_at lw_m0 81 rfl) rfl
theorem q95 : (Jvm.Cond.methodLink "ScoreRowsLaw" (32 : Nat) ({ cls := "ScoreRows", name := "nets", desc := "()I" } : Jvm.MethodName)) ∈ lw_all := lw_g (lw_at lw_m0 89 rfl) rfl
theorem q133 : (Jvm.Cond.methodLink "ScoreRowsLaw" (37 : Nat) ({ cls := "ScoreRows", name := "plays", desc := "()I" } : Jvm.MethodName)) ∈ lw_all := lw_g (lw_at lw_m0 127 rfl) rfl
theorem q137 : (Jvm.Cond.methodLink "ScoreRowsLaw" (41 : Nat) ({ cls := "ScoreRows", name := "at", desc := "(I)I" } : Jvm.MethodName)) ∈ lw_all := lw_g (lw_at lw_m0 131 rfl) rfl
theorem q141 : (Jvm.Cond.classLink "ScoreRowsLaw" (10 : Nat) "ScoreRowsModel") ∈ lw_all := lw_g (lw_at lw_m0 135 rfl) rfl
theorem q143 : (Jvm.Cond.methodLink "ScoreRowsLaw" (12 : Nat) ({ cls := "ScoreRowsModel", name := "<init>", desc := "()V" } : Jvm.MethodName)) ∈ lw_all := lw_g (lw_at lw_m0 137 rfl) rfl
theorem q165 : (Jvm.Cond.methodLink "ScoreRowsLaw" (17 : Nat) ({ cls := "ScoreRowsModel", name := "size", desc := "(I)V" } : Jvm.MethodName)) ∈ lw_all := lw_g (lw_at lw_m0 159 rfl) rfl
theorem q170 : (Jvm.Cond.methodLink "ScoreRowsLaw" (22 : Nat) ({ cls := "ScoreRowsModel", name := "set", desc := "(II)V" } : Jvm.MethodName)) ∈ lw_all := lw_g (lw_at lw_m0 164 rfl) rfl
theorem q174 : (Jvm.Cond.methodLink "ScoreRowsLaw" (27 : Nat) ({ cls := "ScoreRowsModel", name := "net", desc := "()Z" } : Jvm.MethodName)) ∈ lw_all := lw_g (lw_at lw_m0 168 rfl) rfl
theorem q186 : (Jvm.Cond.methodLink "ScoreRowsLaw" (31 : Nat) ({ cls := "ScoreRowsModel", name := "play", desc := "()Z" } : Jvm.MethodName)) ∈ lw_all := lw_g (lw_at lw_m0 180 rfl) rfl
theorem q190 : (Jvm.Cond.methodLink "ScoreRowsLaw" (36 : Nat) ({ cls := "ScoreRowsModel", name := "nets", desc := "()I" } : Jvm.MethodName)) ∈ lw_all := lw_g (lw_at lw_m0 184 rfl) rfl
theorem q194 : (Jvm.Cond.methodLink "ScoreRowsLaw" (40 : Nat) ({ cls := "ScoreRowsModel", name := "plays", desc := "()I" } : Jvm.MethodName)) ∈ lw_all := lw_g (lw_at lw_m0 188 rfl) rfl
theorem q198 : (Jvm.Cond.methodLink "ScoreRowsLaw" (45 : Nat) ({ cls := "ScoreRowsModel", name := "at", desc := "(I)I" } : Jvm.MethodName)) ∈ lw_all := lw_g (lw_at lw_m0 192 rfl) rfl
end
section
/-! THE CLAIM OUT OF ONE WALK OF THE LAW'S BODY. Your part is whole_start (and what it stands on); all else here is the same for every law, but numbers. -/
def R_law : String := "ScoreRowsLaw"
def lw_P (b : Addr) (xs : List Int32) (args : Array Value) (s : State) : Prop := args = #[.ref b] ∧ s.IntsAt b xs ∧ xs.length ≤ 192 ∧ (Jvm.Cond.and given_1 narrow_1).before args s = true
def lw_Q (_ : Array Value) (s : State) (o : Outcome) (t : State) : Prop := o = .returned (some (.int 1)) ∧ Framed s o t [] 600000 7302250
def lw_Z (below : List Frame) (a : Array Value) (s : State) : State → Prop := fun t => ∃ o, t.status = .running ∧ Ended t below o ∧ lw_Q a s o t
/-- the law's own end, with 1 on the stack, nothing written that was there before, its room as the claim has it -/
theorem lw_ret {p : Program} {l : Launch} {e : Env} {s : State} {m : MethodId} {below : List Frame} {meth : Method} {c : Code} {b : Nat} (hx : p.tables.exec = Jvm.exec) (hb : c.code = code) (hr : meth.sig.returnType = ret) (hlocks : meth.locks = false) {pc : Nat} {H : Heap} {ls : Array Slot} (hdg : decode code pc = .ok (.ireturn, 1)) : W p l e room_1 s m #[Value.ref b] below meth c H [] 600000 7302250 (lw_Z below #[Value.ref b] s) (F0 m pc ls [.int 1]) := by
  intro T hT X
  obtain ⟨fs, hret, hrun, hended, hW, hframe⟩ := X.leave (v := some (.int 1)) (hlocks := hlocks) (fun h => by rw [hr] at h; cases h)
  have hmeth' : T.vm.method? m = some meth := X.method'
  refine ⟨T.setFrames fs, ?_, .returned (some (.int 1)), hrun, hended, rfl, ⟨_, rfl⟩, hW, hframe⟩
  jvm_step X.here [X.here.top, hx, hb, hdg, hmeth', hr, ret, narrow_b1]
  (try refine ⟨rfl, ?_⟩); (try refine ⟨rfl, ?_⟩)
  first | (intro acts; rw [hret _ acts rfl rfl rfl]) | rw [hret _ _ rfl rfl rfl]
  exact Steps.refl _
/-- what holds at the law's entry: the machine, the code, the tables' words (any of lw_tbl by 'hts w (by decide +kernel)'), the script of L ints xs at the cell b, what the Statement gives of the start (any of its parts by flat_of_before) -/
def lw_At (p : Program) (s : State) (m : MethodId) (meth : Method) (c : Code) (b L : Nat) (xs : Nat → Int32) : Prop :=
  p.tables.exec = Jvm.exec ∧ c.code = code ∧ meth.sig.returnType = ret ∧ c.maxLocals = 4 ∧ s.vm.findClass R_law = some m.cls ∧ (∀ w ∈ lw_tbl, w.before #[Value.ref b] s = true) ∧ va_X b L xs s s.heap ∧ b < s.heap.size ∧ meth.locks = false ∧ (Jvm.Cond.and given_1 narrow_1).before #[Value.ref b] s = true
end
section
/-! plain words: what the methods compute -/
def zMn (x y : Int32) : Int32 := if y < x then y else x
def zMx (x y : Int32) : Int32 := if x < y then y else x
/-- Counts.sum from v = 6 - j on -/
def zSum (f : Nat → Int32) : Nat → Int32 → Int32
  | 0, s => s
  | j + 1, s => zSum f j (s + nI (5 - j) * f (5 - j))
/-- Counts.greatest from v down -/
def zGr (f : Nat → Int32) : Nat → Int32 → Int32 → Int32
  | 0, s, _ => s
  | v + 1, s, a => if a ≤ 0 then s else zGr f v (s + zMn a (f (v + 1)) * nI (v + 1)) (a - zMn a (f (v + 1)))
/-- Counts.given from v down -/
def zGv (f : Nat → Int32) (k : Int32) : Nat → Int32 → Int32 → Int32
  | 0, s, _ => s
  | v + 1, s, a => zGv f k v (s + zMx 0 (f (v + 1) - a) * zMn (nI (v + 1)) k) (zMx 0 (a - f (v + 1)))
/-- Counts.net's loop, j rounds left, k = N + 1 - j -/
def zNetL (f : Nat → Int32) (N : Nat) : Nat → Int32
  | 0 => 1
  | j + 1 => if zGr f 5 0 (nI (N - j)) ≤ nI (N - j) * (nI (N - j) - 1) + zGv f (nI (N - j)) 5 0 (nI (N - j)) then zNetL f N j else 0
def zNet (f : Nat → Int32) (N : Nat) : Int32 := if zSum f 5 0 - zSum f 5 0 / 2 * 2 = 1 then 0 else zNetL f N N
/-- Counts.play's loop, j rounds left, k = N - j -/
def zPlayL (f : Nat → Int32) (N : Nat) : Nat → Int32
  | 0 => if zSum f 5 0 = nI N * (nI N - 1) / 2 then 1 else 0
  | j + 1 => if nI (N - (j + 1)) * (nI (N - (j + 1)) - 1) / 2 ≤ zSum f 5 0 - zGr f 5 0 (nI N - nI (N - (j + 1))) then zPlayL f N j else 0
def zPlay (f : Nat → Int32) (N : Nat) : Int32 := zPlayL f N (N - 1)
/-- Counter.choices, j rounds left, i = k + 1 - j -/
def zChL (n k : Nat) : Nat → Int32 → Int32
  | 0, x => x
  | j + 1, x => zChL n k j (x * (nI n - nI k + nI (k - j)) / nI (k - j))
def zCh (n k : Nat) : Int32 := zChL n k k 1
def zFl (g : Nat → Int32) : Nat → Int32
  | 0 => 0
  | j + 1 => zFl g j + g j
/-- Counter.from at v = 6 - d with L places left -/
def zFr (b : Bool) : Nat → (Nat → Int32) → Nat → Nat → Int32
  | 0, f, N, L => if L = 0 then (if b = true then zNet f N else zPlay f N) else 0
  | d + 1, f, N, L => zFl (fun t => zCh L t * zFr b d (upd f (5 - d) (f (5 - d) + nI t)) (N + t) (L - t)) (L + 1)
/-- how often each number is among the first i of D -/
def zCt (D : Nat → Nat) : Nat → Nat → Int32
  | 0 => fun _ => 0
  | i + 1 => upd (zCt D i) (D i) (zCt D i (D i) + 1)
def zIx (i : Int32) (N : Nat) : Nat := i.toBitVec.toNat % 2 ^ 31 % N
/-- Model.code -/
def zCd (D : Nat → Nat) : Nat → Nat → Nat
  | 0, x => x
  | i + 1, x => zCd D i (6 * x + D i)
/-- Model.make's inner loop (over b), j rounds left -/
def zMB (s pa : Nat) : Nat → Nat → Nat → Nat → Nat → Nat × Nat × Nat
  | 0, e, x, y, _ => (e, x, y)
  | j + 1, e, x, y, pb => if s / 2 ^ e % 2 = 0 then zMB s pa j (e + 1) x (y + pb) (pb * 6) else zMB s pa j (e + 1) (x + pa + pb) (y + pa) (pb * 6)
/-- Model.make's middle loop (over a), j rounds left -/
def zMA (s : Nat) : Nat → Nat → Nat → Nat → Nat → Nat × Nat × Nat
  | 0, e, x, y, _ => (e, x, y)
  | j + 1, e, x, y, pa => match zMB s pa j e x y (pa * 6) with
    | (e2, x2, y2) => zMA s j e2 x2 y2 (pa * 6)
theorem zMA_succ (s j e x y pa : Nat) : zMA s (j + 1) e x y pa = zMA s j (zMB s pa j e x y (pa * 6)).1 (zMB s pa j e x y (pa * 6)).2.1 (zMB s pa j e x y (pa * 6)).2.2 (pa * 6) := rfl
def zX (N s : Nat) : Nat := (zMA s N 0 0 0 1).2.1
def zY (N s : Nat) : Nat := (zMA s N 0 0 0 1).2.2
/-- the tables of nets and of outcomes behind t rounds, as bit sets -/
def zNb (N : Nat) : Nat → Nat
  | 0 => 0
  | t + 1 => zNb N t ||| 1 <<< zX N t
def zPb (N : Nat) : Nat → Nat
  | 0 => 0
  | t + 1 => zPb N t ||| 1 <<< zY N t
def zP (N : Nat) : Nat := N * (N - 1) / 2
def zB (b : Bool) : Int32 := if b = true then 1 else 0
/-- how many bits of B below i -/
def zCn (B : Nat) : Nat → Nat
  | 0 => 0
  | i + 1 => zCn B i + (if B.testBit i = true then 1 else 0)
end
section
/-! the four kinds of object, rows that name an index, a value on top -/
abbrev vwCl : List vw_C := [(RX0, TX0, 3), (RX1, TX1, 5), (RX2, TX2, 2), (RX3, TX3, 2)]
section
variable {p : Program} {l : Launch} {e : Env} {R : Room} {s : State} {m : MethodId} {args : Array Value} {below : List Frame} {meth : Method} {c : Code} {H H0 : Heap} {locs : List Loc} {cells slots : Nat} {Q : State → Prop} {pc : Nat} {ls : Array Slot} {rest : List Value} {D : va_G} {cl : List vw_C} {tys : List (ClassId × FieldType)} {ws : va_W} {A : Nat → Prop} {a : Nat} {cc : ByteArray}
theorem w_top {x x' : Int32} (h : x = x') (k : W p l e R s m args below meth c H locs cells slots Q (F0 m pc ls (.int x' :: rest))) : W p l e R s m args below meth c H locs cells slots Q (F0 m pc ls (.int x :: rest)) := by
  subst h
  exact k
theorem my_iald (hexec : p.tables.exec = Jvm.exec) (hb : c.code = cc) (hK : va_K D cl tys s) (hP : va_P D cl ws H) (q0 t0 : Nat) {cA : ClassId} {n : Nat} {f : Nat → Int32} (ha : ws[q0]? = some (a, .inl (cA, n, .inl f))) (ht : tys[t0]? = some (cA, .int)) {i : Int32} (j : Nat) (hi : i = nI j) (hj : j < n) (hn : n < 2 ^ 31) (hdg : decode cc pc = .ok (.iaload, 1))
    (kk : W p l e R s m args below meth c H locs cells slots Q (F0 m (pc + 1) ls (.int (f j) :: rest))) : W p l e R s m args below meth c H locs cells slots Q (F0 m pc ls (.int i :: .ref a :: rest)) := by
  subst hi
  refine va_iald hexec hb hK hP q0 t0 ha ht (vp_in_nI hj hn) hdg ?_
  rw [nI_clamp (Nat.lt_trans hj hn)]
  exact kk
theorem my_zald (hexec : p.tables.exec = Jvm.exec) (hb : c.code = cc) (hK : va_K D cl tys s) (hP : va_P D cl ws H) (q0 t0 : Nat) {cA : ClassId} {n : Nat} {f : Nat → Int32} (ha : ws[q0]? = some (a, .inl (cA, n, .inl f))) (ht : tys[t0]? = some (cA, .boolean)) {i : Int32} (j : Nat) (hi : i = nI j) (hj : j < n) (hn : n < 2 ^ 31) (hdg : decode cc pc = .ok (.baload, 1))
    (kk : W p l e R s m args below meth c H locs cells slots Q (F0 m (pc + 1) ls (.int (f j) :: rest))) : W p l e R s m args below meth c H locs cells slots Q (F0 m pc ls (.int i :: .ref a :: rest)) := by
  subst hi
  refine va_zald hexec hb hK hP q0 t0 ha ht (vp_in_nI hj hn) hdg ?_
  rw [nI_clamp (Nat.lt_trans hj hn)]
  exact kk
theorem my_iast (hexec : p.tables.exec = Jvm.exec) (hb : c.code = cc) (hK : va_K D cl tys s) (hP : va_P D cl ws H) (hD : va_D A ws) (hS : va_S A H0 H locs) (q0 t0 : Nat) {cA : ClassId} {n : Nat} {f : Nat → Int32} (ha : ws[q0]? = some (a, .inl (cA, n, .inl f))) (ht : tys[t0]? = some (cA, .int)) {i : Int32} {x : Int32} (j : Nat) (hi : i = nI j) (hj : j < n) (hn : n < 2 ^ 31) (hdg : decode cc pc = .ok (.iastore, 1))
    (kk : ∀ (H1 : Heap) (locs1 : List Loc), va_P D cl (ws.set q0 (a, .inl (cA, n, .inl (upd f j x)))) H1 → va_D A (ws.set q0 (a, .inl (cA, n, .inl (upd f j x)))) → va_S A H0 H1 locs1 → W p l e R s m args below meth c H1 locs1 cells slots Q (F0 m (pc + 1) ls rest)) : W p l e R s m args below meth c H locs cells slots Q (F0 m pc ls (.int x :: .int i :: .ref a :: rest)) := by
  subst hi
  refine va_iast hexec hb hK hP hD hS q0 t0 ha ht (vp_in_nI hj hn) hdg ?_
  rw [nI_clamp (Nat.lt_trans hj hn)]
  exact kk
theorem my_zast (hexec : p.tables.exec = Jvm.exec) (hb : c.code = cc) (hK : va_K D cl tys s) (hP : va_P D cl ws H) (hD : va_D A ws) (hS : va_S A H0 H locs) (q0 t0 : Nat) {cA : ClassId} {n : Nat} {f : Nat → Int32} (ha : ws[q0]? = some (a, .inl (cA, n, .inl f))) (ht : tys[t0]? = some (cA, .boolean)) {i : Int32} {x : Int32} (j : Nat) (hi : i = nI j) (hj : j < n) (hn : n < 2 ^ 31) (hx : vp_nar .boolean x = x) (hdg : decode cc pc = .ok (.bastore, 1))
    (kk : ∀ (H1 : Heap) (locs1 : List Loc), va_P D cl (ws.set q0 (a, .inl (cA, n, .inl (upd f j x)))) H1 → va_D A (ws.set q0 (a, .inl (cA, n, .inl (upd f j x)))) → va_S A H0 H1 locs1 → W p l e R s m args below meth c H1 locs1 cells slots Q (F0 m (pc + 1) ls rest)) : W p l e R s m args below meth c H locs cells slots Q (F0 m pc ls (.int x :: .int i :: .ref a :: rest)) := by
  subst hi
  refine va_zast hexec hb hK hP hD hS q0 t0 ha ht (vp_in_nI hj hn) hdg ?_
  rw [nI_clamp (Nat.lt_trans hj hn), hx]
  exact kk
end
theorem z_two : (2 : Int32) = nI 2 := rfl
theorem z_six : (6 : Int32) = nI 6 := rfl
theorem z_one : (1 : Int32) = nI 1 := rfl
theorem z_zero : (0 : Int32) = nI 0 := rfl
end
section
/-! Counts: init, add, take, sum -/
set_option maxHeartbeats 4000000 in
set_option maxRecDepth 100000 in
/-- Counts(): six zeros -/
theorem metX2_init (l : Launch) (dC : Nat → ClassId) (dI : Nat → Nat → Nat) (sz : Nat) (h0 : Nat) : Met l yX2_init (ws_ yX2_init cX2_init 1 none) ({ frames := 1, cells := 1, slots := 6, locals := 20 }) (va_Pc [.ref h0] (fun U => U.heap.size = sz ∧ va_P (dC, dI) vwCl [(h0, .inr (2, [.null, .int 0]))] U.heap ∧ va_K (dC, dI) vwCl [] U ∧ va_D (fun _ => True) [(h0, .inr (2, [.null, .int 0]))])) (va_Qv (fun (u : Nat × ClassId) => True) (fun (u : Nat × ClassId) (t : State) => va_P (dC, dI) vwCl [(h0, .inr (2, [.ref u.1, .int 0])), (u.1, .inl (u.2, 6, .inl (fun _ => 0)))] t.heap ∧ va_K (dC, dI) vwCl [(u.2, .int)] t ∧ va_D (va_A [(h0, .inr (2, [.null, .int 0]))] sz) [(h0, .inr (2, [.ref u.1, .int 0])), (u.1, .inl (u.2, 6, .inl (fun _ => 0)))]) (va_A [(h0, .inr (2, [.null, .int 0]))] sz)) 1 6 (va_A [(h0, .inr (2, [.null, .int 0]))] sz) := by
  refine Met.ofW (cc := cX2_init) (maxL := 1) (ret := none) (by decide) rfl ?_
  intro p e s m args below meth c s₁ B hml hv
  obtain ⟨rfl, hsz, hP, hK, hD0⟩ := hv
  have hx := B.exec
  have hb := B.bytes
  have hr := B.returns
  have hts := atoms_spec (ws := ws_ yX2_init cX2_init 1 none) B.pre
  have hts : ∀ w ∈ lw_all, w.before _ s = true := fun w h => hts w (List.mem_cons_of_mem _ h)
  have hown : s.vm.findClass RX2 = some m.cls := findClass_of_methodNamed B.named
  have hlocks := B.notSynchronized
  have hin : meth.name = "<init>" := (name_of_methodNamed B.named B.method).1
  subst hsz
  have hD := hD0.self (sz := s.heap.size)
  generalize hAe : va_A [(h0, .inr (2, [.null, .int 0]))] s.heap.size = A at hD ⊢
  have hA : ∀ q : Nat, s.heap.size ≤ q → A q := fun q h => by rw [← hAe]; exact Or.inr h
  have hS : va_S A s.heap s.heap [] := va_S.rf
  have hP : va_P (dC, dI) vwCl [(h0, .inr (2, [.null, .int 0]))] s.heap := hP
  have hl := lv_entry ([.ref h0]) (n := 1) (Nat.le_of_ble_eq_true rfl)
  rw [lg_entry_eq]
  generalize (lg_sl ([.ref h0]) ++ List.replicate (1 - (lg_sl ([.ref h0])).length) Slot.unset).toArray = ls at hl ⊢
  have hl : lv_has ls 1 [(0, .ref h0)] := hl
  refine lv_aload_n hx hb dX2_init_0 rfl (lv_at hl 0 rfl) ?_
  refine W.objInit hx hb hown (hts _ q53) (hts _ q18) (hts _ q19) rfl (by rw [hml]; exact hl.1) rfl dX2_init_1 (Nat.le_of_ble_eq_true rfl) (Nat.le_of_ble_eq_true rfl) ?_
  refine W.eq (g2 := F0 m 4 ls []) rfl ?_
  refine lv_aload_n hx hb dX2_init_4 rfl (lv_at hl 0 rfl) ?_
  refine lv_bipush (v := 6) hx hb dX2_init_5 (by decide) ?_
  refine va_newa (atype := .int) (ty := .int) (N' := 6) (a0 := (6, .inl (fun _ => 0))) hx hb (hts _ q30) rfl hK hP hD hS hA (fun _ => rfl) (by decide) (by decide) (by decide) (Nat.le_of_ble_eq_true rfl) (Nat.le_of_ble_eq_true rfl) dX2_init_7 (fun q1 d1 H hK hP hD hS => ?_)
  have hK : va_K (dC, dI) vwCl [(d1, .int)] s := hK
  have hP : va_P (dC, dI) vwCl [(h0, .inr (2, [.null, .int 0])), (q1, .inl (d1, 6, .inl (fun _ => 0)))] H := hP
  have hD : va_D A [(h0, .inr (2, [.null, .int 0])), (q1, .inl (d1, 6, .inl (fun _ => 0)))] := hD
  refine W.widen (k := 1) (n := 6) (Nat.le_of_ble_eq_true rfl) (Nat.le_of_ble_eq_true rfl) ?_
  refine va_putF (D := (dC, dI)) (ci := 2) (v := .ref q1) (ty := .array .int) (C := RX2) (T := TX2) (N := 2) hx hb hts in_X2 tyX2 tyX2_ok nmX2 hown hK hP hD hS 0 rfl rfl 0 (by decide) (hts _ q54) (fun _ h9 => h9) rfl hin rfl (by decide +kernel) rfl rfl (Nat.le_of_ble_eq_true rfl) dX2_init_9 (fun H locs hP hD hS => ?_)
  have hP : va_P (dC, dI) vwCl [(h0, .inr (2, [.ref q1, .int 0])), (q1, .inl (d1, 6, .inl (fun _ => 0)))] H := hP
  have hD : va_D A [(h0, .inr (2, [.ref q1, .int 0])), (q1, .inl (d1, 6, .inl (fun _ => 0)))] := hD
  refine lv_aload_n hx hb dX2_init_12 rfl (lv_at hl 0 rfl) ?_
  refine lv_iconst (v := 0) hx hb dX2_init_13 (by decide) ?_
  refine va_put (D := (dC, dI)) (ci := 2) (v := .int 0) (ty := .int) (C := RX2) (T := TX2) (N := 2) hx hb hts in_X2 tyX2 tyX2_ok nmX2 hown hK hP hD hS 0 rfl rfl 1 (by decide) (hts _ q55) (fun _ h9 => h9) rfl (by decide +kernel) rfl rfl (Nat.le_of_ble_eq_true rfl) dX2_init_14 (fun H locs hP hD hS => ?_)
  have hP : va_P (dC, dI) vwCl [(h0, .inr (2, [.ref q1, .int 0])), (q1, .inl (d1, 6, .inl (fun _ => 0)))] H := hP
  have hD : va_D A [(h0, .inr (2, [.ref q1, .int 0])), (q1, .inl (d1, 6, .inl (fun _ => 0)))] := hD
  exact W.vret hx hb hr (fun tS ht hW => ⟨⟨(q1, d1), rfl, trivial, by rw [ht]; exact hP, va_K.moved hW.alike hK, hD⟩, hS.F ht⟩) hS.2.2 dX2_init_17
set_option maxHeartbeats 4000000 in
set_option maxRecDepth 100000 in
/-- Counts.add(v, many) -/
theorem metX2_add (l : Launch) (dC : Nat → ClassId) (dI : Nat → Nat → Nat) (sz : Nat) (h0 q1 : Nat) (d1 : ClassId) (f : Nat → Int32) (n : Int32) (V : Nat) (k : Int32) (hV : V < 6) : Met l yX2_add (ws_ yX2_add cX2_add 3 none) ({ frames := 0, cells := 0, slots := 0, locals := 0 }) (va_Pc [.ref h0, .int (nI V), .int k] (fun U => U.heap.size = sz ∧ va_P (dC, dI) vwCl [(h0, .inr (2, [.ref q1, .int n])), (q1, .inl (d1, 6, .inl f))] U.heap ∧ va_K (dC, dI) vwCl [(d1, .int)] U ∧ va_D (fun _ => True) [(h0, .inr (2, [.ref q1, .int n])), (q1, .inl (d1, 6, .inl f))])) (va_Qv (fun (u : Unit) => True) (fun (u : Unit) (t : State) => va_P (dC, dI) vwCl [(h0, .inr (2, [.ref q1, .int (n + k)])), (q1, .inl (d1, 6, .inl (upd f V (f V + k))))] t.heap ∧ va_K (dC, dI) vwCl [(d1, .int)] t ∧ va_D (va_A [(h0, .inr (2, [.ref q1, .int n])), (q1, .inl (d1, 6, .inl f))] sz) [(h0, .inr (2, [.ref q1, .int (n + k)])), (q1, .inl (d1, 6, .inl (upd f V (f V + k))))]) (va_A [(h0, .inr (2, [.ref q1, .int n])), (q1, .inl (d1, 6, .inl f))] sz)) 0 0 (va_A [(h0, .inr (2, [.ref q1, .int n])), (q1, .inl (d1, 6, .inl f))] sz) := by
  refine Met.ofW (cc := cX2_add) (maxL := 3) (ret := none) (by decide) rfl ?_
  intro p e s m args below meth c s₁ B hml hv
  obtain ⟨rfl, hsz, hP, hK, hD0⟩ := hv
  have hx := B.exec
  have hb := B.bytes
  have hr := B.returns
  have hts := atoms_spec (ws := ws_ yX2_add cX2_add 3 none) B.pre
  have hts : ∀ w ∈ lw_all, w.before _ s = true := fun w h => hts w (List.mem_cons_of_mem _ h)
  have hown : s.vm.findClass RX2 = some m.cls := findClass_of_methodNamed B.named
  have hlocks := B.notSynchronized
  subst hsz
  have hD := hD0.self (sz := s.heap.size)
  generalize hAe : va_A [(h0, .inr (2, [.ref q1, .int n])), (q1, .inl (d1, 6, .inl f))] s.heap.size = A at hD ⊢
  have hA : ∀ q : Nat, s.heap.size ≤ q → A q := fun q h => by rw [← hAe]; exact Or.inr h
  have hS : va_S A s.heap s.heap [] := va_S.rf
  have hP : va_P (dC, dI) vwCl [(h0, .inr (2, [.ref q1, .int n])), (q1, .inl (d1, 6, .inl f))] s.heap := hP
  have hl := lv_entry ([.ref h0, .int (nI V), .int k]) (n := 3) (Nat.le_of_ble_eq_true rfl)
  rw [lg_entry_eq]
  generalize (lg_sl ([.ref h0, .int (nI V), .int k]) ++ List.replicate (3 - (lg_sl ([.ref h0, .int (nI V), .int k])).length) Slot.unset).toArray = ls at hl ⊢
  have hl : lv_has ls 3 [(0, .ref h0), (1, .int (nI V)), (2, .int k)] := hl
  refine lv_aload_n hx hb dX2_add_0 rfl (lv_at hl 0 rfl) ?_
  refine va_get (D := (dC, dI)) (ci := 2) (v := .ref q1) (C := RX2) (T := TX2) (N := 2) hx hb hts in_X2 hown hK hP 0 rfl rfl 0 (by decide) (hts _ q54) (fun _ h9 => h9) rfl dX2_add_1 ?_
  refine lv_iload_n hx hb dX2_add_4 rfl (lv_at hl 1 rfl) ?_
  refine lv_dup2_11 hx hb dX2_add_5 rfl rfl ?_
  refine my_iald hx hb hK hP 1 0 rfl rfl V (rfl) (hV) (by decide) dX2_add_6 ?_
  refine lv_iload_n hx hb dX2_add_7 rfl (lv_at hl 2 rfl) ?_
  refine lv_iadd hx hb dX2_add_8 ?_
  refine my_iast hx hb hK hP hD hS 1 0 rfl rfl V (rfl) (hV) (by decide) dX2_add_9 (fun H locs hP hD hS => ?_)
  have hP : va_P (dC, dI) vwCl [(h0, .inr (2, [.ref q1, .int n])), (q1, .inl (d1, 6, .inl (upd f V ((f V) + k))))] H := hP
  have hD : va_D A [(h0, .inr (2, [.ref q1, .int n])), (q1, .inl (d1, 6, .inl (upd f V ((f V) + k))))] := hD
  refine lv_aload_n hx hb dX2_add_10 rfl (lv_at hl 0 rfl) ?_
  refine lv_dup hx hb dX2_add_11 rfl ?_
  refine va_get (D := (dC, dI)) (ci := 2) (v := .int n) (C := RX2) (T := TX2) (N := 2) hx hb hts in_X2 hown hK hP 0 rfl rfl 1 (by decide) (hts _ q55) (fun _ h9 => h9) rfl dX2_add_12 ?_
  refine lv_iload_n hx hb dX2_add_15 rfl (lv_at hl 2 rfl) ?_
  refine lv_iadd hx hb dX2_add_16 ?_
  refine va_put (D := (dC, dI)) (ci := 2) (v := .int (n + k)) (ty := .int) (C := RX2) (T := TX2) (N := 2) hx hb hts in_X2 tyX2 tyX2_ok nmX2 hown hK hP hD hS 0 rfl rfl 1 (by decide) (hts _ q55) (fun _ h9 => h9) rfl (by decide +kernel) rfl rfl (Nat.le_of_ble_eq_true rfl) dX2_add_17 (fun H locs hP hD hS => ?_)
  have hP : va_P (dC, dI) vwCl [(h0, .inr (2, [.ref q1, .int (n + k)])), (q1, .inl (d1, 6, .inl (upd f V ((f V) + k))))] H := hP
  have hD : va_D A [(h0, .inr (2, [.ref q1, .int (n + k)])), (q1, .inl (d1, 6, .inl (upd f V ((f V) + k))))] := hD
  exact W.vret hx hb hr (fun tS ht hW => ⟨⟨(), rfl, trivial, by rw [ht]; exact hP, va_K.moved hW.alike hK, hD⟩, hS.F ht⟩) hS.2.2 dX2_add_20
set_option maxHeartbeats 4000000 in
set_option maxRecDepth 100000 in
/-- Counts.take(v, many) -/
theorem metX2_take (l : Launch) (dC : Nat → ClassId) (dI : Nat → Nat → Nat) (sz : Nat) (h0 q1 : Nat) (d1 : ClassId) (f : Nat → Int32) (n : Int32) (V : Nat) (k : Int32) (hV : V < 6) : Met l yX2_take (ws_ yX2_take cX2_take 3 none) ({ frames := 0, cells := 0, slots := 0, locals := 0 }) (va_Pc [.ref h0, .int (nI V), .int k] (fun U => U.heap.size = sz ∧ va_P (dC, dI) vwCl [(h0, .inr (2, [.ref q1, .int n])), (q1, .inl (d1, 6, .inl f))] U.heap ∧ va_K (dC, dI) vwCl [(d1, .int)] U ∧ va_D (fun _ => True) [(h0, .inr (2, [.ref q1, .int n])), (q1, .inl (d1, 6, .inl f))])) (va_Qv (fun (u : Unit) => True) (fun (u : Unit) (t : State) => va_P (dC, dI) vwCl [(h0, .inr (2, [.ref q1, .int (n - k)])), (q1, .inl (d1, 6, .inl (upd f V (f V - k))))] t.heap ∧ va_K (dC, dI) vwCl [(d1, .int)] t ∧ va_D (va_A [(h0, .inr (2, [.ref q1, .int n])), (q1, .inl (d1, 6, .inl f))] sz) [(h0, .inr (2, [.ref q1, .int (n - k)])), (q1, .inl (d1, 6, .inl (upd f V (f V - k))))]) (va_A [(h0, .inr (2, [.ref q1, .int n])), (q1, .inl (d1, 6, .inl f))] sz)) 0 0 (va_A [(h0, .inr (2, [.ref q1, .int n])), (q1, .inl (d1, 6, .inl f))] sz) := by
  refine Met.ofW (cc := cX2_take) (maxL := 3) (ret := none) (by decide) rfl ?_
  intro p e s m args below meth c s₁ B hml hv
  obtain ⟨rfl, hsz, hP, hK, hD0⟩ := hv
  have hx := B.exec
  have hb := B.bytes
  have hr := B.returns
  have hts := atoms_spec (ws := ws_ yX2_take cX2_take 3 none) B.pre
  have hts : ∀ w ∈ lw_all, w.before _ s = true := fun w h => hts w (List.mem_cons_of_mem _ h)
  have hown : s.vm.findClass RX2 = some m.cls := findClass_of_methodNamed B.named
  have hlocks := B.notSynchronized
  subst hsz
  have hD := hD0.self (sz := s.heap.size)
  generalize hAe : va_A [(h0, .inr (2, [.ref q1, .int n])), (q1, .inl (d1, 6, .inl f))] s.heap.size = A at hD ⊢
  have hA : ∀ q : Nat, s.heap.size ≤ q → A q := fun q h => by rw [← hAe]; exact Or.inr h
  have hS : va_S A s.heap s.heap [] := va_S.rf
  have hP : va_P (dC, dI) vwCl [(h0, .inr (2, [.ref q1, .int n])), (q1, .inl (d1, 6, .inl f))] s.heap := hP
  have hl := lv_entry ([.ref h0, .int (nI V), .int k]) (n := 3) (Nat.le_of_ble_eq_true rfl)
  rw [lg_entry_eq]
  generalize (lg_sl ([.ref h0, .int (nI V), .int k]) ++ List.replicate (3 - (lg_sl ([.ref h0, .int (nI V), .int k])).length) Slot.unset).toArray = ls at hl ⊢
  have hl : lv_has ls 3 [(0, .ref h0), (1, .int (nI V)), (2, .int k)] := hl
  refine lv_aload_n hx hb dX2_take_0 rfl (lv_at hl 0 rfl) ?_
  refine va_get (D := (dC, dI)) (ci := 2) (v := .ref q1) (C := RX2) (T := TX2) (N := 2) hx hb hts in_X2 hown hK hP 0 rfl rfl 0 (by decide) (hts _ q54) (fun _ h9 => h9) rfl dX2_take_1 ?_
  refine lv_iload_n hx hb dX2_take_4 rfl (lv_at hl 1 rfl) ?_
  refine lv_dup2_11 hx hb dX2_take_5 rfl rfl ?_
  refine my_iald hx hb hK hP 1 0 rfl rfl V (rfl) (hV) (by decide) dX2_take_6 ?_
  refine lv_iload_n hx hb dX2_take_7 rfl (lv_at hl 2 rfl) ?_
  refine lv_isub hx hb dX2_take_8 ?_
  refine my_iast hx hb hK hP hD hS 1 0 rfl rfl V (rfl) (hV) (by decide) dX2_take_9 (fun H locs hP hD hS => ?_)
  have hP : va_P (dC, dI) vwCl [(h0, .inr (2, [.ref q1, .int n])), (q1, .inl (d1, 6, .inl (upd f V ((f V) - k))))] H := hP
  have hD : va_D A [(h0, .inr (2, [.ref q1, .int n])), (q1, .inl (d1, 6, .inl (upd f V ((f V) - k))))] := hD
  refine lv_aload_n hx hb dX2_take_10 rfl (lv_at hl 0 rfl) ?_
  refine lv_dup hx hb dX2_take_11 rfl ?_
  refine va_get (D := (dC, dI)) (ci := 2) (v := .int n) (C := RX2) (T := TX2) (N := 2) hx hb hts in_X2 hown hK hP 0 rfl rfl 1 (by decide) (hts _ q55) (fun _ h9 => h9) rfl dX2_take_12 ?_
  refine lv_iload_n hx hb dX2_take_15 rfl (lv_at hl 2 rfl) ?_
  refine lv_isub hx hb dX2_take_16 ?_
  refine va_put (D := (dC, dI)) (ci := 2) (v := .int (n - k)) (ty := .int) (C := RX2) (T := TX2) (N := 2) hx hb hts in_X2 tyX2 tyX2_ok nmX2 hown hK hP hD hS 0 rfl rfl 1 (by decide) (hts _ q55) (fun _ h9 => h9) rfl (by decide +kernel) rfl rfl (Nat.le_of_ble_eq_true rfl) dX2_take_17 (fun H locs hP hD hS => ?_)
  have hP : va_P (dC, dI) vwCl [(h0, .inr (2, [.ref q1, .int (n - k)])), (q1, .inl (d1, 6, .inl (upd f V ((f V) - k))))] H := hP
  have hD : va_D A [(h0, .inr (2, [.ref q1, .int (n - k)])), (q1, .inl (d1, 6, .inl (upd f V ((f V) - k))))] := hD
  exact W.vret hx hb hr (fun tS ht hW => ⟨⟨(), rfl, trivial, by rw [ht]; exact hP, va_K.moved hW.alike hK, hD⟩, hS.F ht⟩) hS.2.2 dX2_take_20
set_option maxHeartbeats 4000000 in
set_option maxRecDepth 100000 in
/-- Counts.sum() -/
theorem metX2_sum (l : Launch) (dC : Nat → ClassId) (dI : Nat → Nat → Nat) (sz : Nat) (h0 q1 : Nat) (d1 : ClassId) (f : Nat → Int32) (n : Int32) : Met l yX2_sum (ws_ yX2_sum cX2_sum 3 (some .int)) ({ frames := 0, cells := 0, slots := 0, locals := 0 }) (va_Pc [.ref h0] (fun U => U.heap.size = sz ∧ va_P (dC, dI) vwCl [(h0, .inr (2, [.ref q1, .int n])), (q1, .inl (d1, 6, .inl f))] U.heap ∧ va_K (dC, dI) vwCl [(d1, .int)] U ∧ va_D (fun _ => True) [(h0, .inr (2, [.ref q1, .int n])), (q1, .inl (d1, 6, .inl f))])) (va_Qi (fun (r : Int32) (u : Unit) => r = zSum f 5 0) (fun (u : Unit) (t : State) => va_P (dC, dI) vwCl [(h0, .inr (2, [.ref q1, .int n])), (q1, .inl (d1, 6, .inl f))] t.heap ∧ va_K (dC, dI) vwCl [(d1, .int)] t ∧ va_D (va_A [(h0, .inr (2, [.ref q1, .int n])), (q1, .inl (d1, 6, .inl f))] sz) [(h0, .inr (2, [.ref q1, .int n])), (q1, .inl (d1, 6, .inl f))]) (va_A [(h0, .inr (2, [.ref q1, .int n])), (q1, .inl (d1, 6, .inl f))] sz)) 0 0 (va_A [(h0, .inr (2, [.ref q1, .int n])), (q1, .inl (d1, 6, .inl f))] sz) := by
  refine Met.ofW (cc := cX2_sum) (maxL := 3) (ret := (some .int)) (by decide) rfl ?_
  intro p e s m args below meth c s₁ B hml hv
  obtain ⟨rfl, hsz, hP, hK, hD0⟩ := hv
  have hx := B.exec
  have hb := B.bytes
  have hr := B.returns
  have hts := atoms_spec (ws := ws_ yX2_sum cX2_sum 3 (some .int)) B.pre
  have hts : ∀ w ∈ lw_all, w.before _ s = true := fun w h => hts w (List.mem_cons_of_mem _ h)
  have hown : s.vm.findClass RX2 = some m.cls := findClass_of_methodNamed B.named
  have hlocks := B.notSynchronized
  subst hsz
  have hD := hD0.self (sz := s.heap.size)
  generalize hAe : va_A [(h0, .inr (2, [.ref q1, .int n])), (q1, .inl (d1, 6, .inl f))] s.heap.size = A at hD ⊢
  have hA : ∀ q : Nat, s.heap.size ≤ q → A q := fun q h => by rw [← hAe]; exact Or.inr h
  have hS : va_S A s.heap s.heap [] := va_S.rf
  have hP : va_P (dC, dI) vwCl [(h0, .inr (2, [.ref q1, .int n])), (q1, .inl (d1, 6, .inl f))] s.heap := hP
  have hl := lv_entry ([.ref h0]) (n := 3) (Nat.le_of_ble_eq_true rfl)
  rw [lg_entry_eq]
  generalize (lg_sl ([.ref h0]) ++ List.replicate (3 - (lg_sl ([.ref h0])).length) Slot.unset).toArray = ls at hl ⊢
  have hl : lv_has ls 3 [(0, .ref h0)] := hl
  have loop : ∀ (j : Nat) (x1 : Int32), j ≤ 5 → zSum f j x1 = zSum f 5 0 → ∀ ls : Array Slot, lv_has ls 3 [(0, .ref h0), (1, .int x1), (2, .int (nI (6 - j)))] → W p l e (headSpec (ws_ yX2_sum cX2_sum 3 (some .int)) ({ frames := 0, cells := 0, slots := 0, locals := 0 })).room s m ([.ref h0] : List Value).toArray below meth c s.heap [] 0 0 (MQ below (va_Qi (fun (r : Int32) (u : Unit) => r = zSum f 5 0) (fun (u : Unit) (t : State) => va_P (dC, dI) vwCl [(h0, .inr (2, [.ref q1, .int n])), (q1, .inl (d1, 6, .inl f))] t.heap ∧ va_K (dC, dI) vwCl [(d1, .int)] t ∧ va_D A [(h0, .inr (2, [.ref q1, .int n])), (q1, .inl (d1, 6, .inl f))]) A) ([.ref h0] : List Value).toArray s 0 0 A) (F0 m 4 ls []) := by
    intro j
    induction j with
    | zero =>
      intro x1 hj he ls hl
      refine lv_iload_n hx hb dX2_sum_4 rfl (lv_at hl 2 rfl) ?_
      refine lv_bipush (v := 6) hx hb dX2_sum_5 (by decide) ?_
      refine lv_icmp_ge (tgt := 27) hx hb dX2_sum_7 (by decide) (fun c1 => ?_) (fun c1 => ?_)
      · refine lv_iload_n hx hb dX2_sum_27 rfl (lv_at hl 1 rfl) ?_
        exact W.iret (v := x1) hx hb hr (fun tS ht hW => ⟨⟨x1, (), rfl, he, by rw [ht]; exact hP, va_K.moved hW.alike hK, hD⟩, hS.F ht⟩) hS.2.2 dX2_sum_28
      · exact absurd (by decide +kernel) c1
    | succ j ih =>
      intro x1 hj he ls hl
      refine lv_iload_n hx hb dX2_sum_4 rfl (lv_at hl 2 rfl) ?_
      refine lv_bipush (v := 6) hx hb dX2_sum_5 (by decide) ?_
      refine lv_icmp_ge (tgt := 27) hx hb dX2_sum_7 (by decide) (fun c1 => ?_) (fun c1 => ?_)
      · exact absurd c1 (by rw [z_six]; exact nI_ge (by omega) (by decide))
      · refine lv_iload_n hx hb dX2_sum_10 rfl (lv_at hl 1 rfl) ?_
        refine lv_iload_n hx hb dX2_sum_11 rfl (lv_at hl 2 rfl) ?_
        refine lv_aload_n hx hb dX2_sum_12 rfl (lv_at hl 0 rfl) ?_
        refine va_get (D := (dC, dI)) (ci := 2) (v := .ref q1) (C := RX2) (T := TX2) (N := 2) hx hb hts in_X2 hown hK hP 0 rfl rfl 0 (by decide) (hts _ q54) (fun _ h9 => h9) rfl dX2_sum_13 ?_
        refine lv_iload_n hx hb dX2_sum_16 rfl (lv_at hl 2 rfl) ?_
        refine my_iald hx hb hK hP 1 0 rfl rfl (6 - (j + 1)) (rfl) (by omega) (by decide) dX2_sum_17 ?_
        refine lv_imul hx hb dX2_sum_18 ?_
        refine lv_iadd hx hb dX2_sum_19 ?_
        refine lv_topi (fun x_1 ex_1 => ?_)
        refine lv_istore_n (lv' := [(1, .int x_1), (0, .ref h0), (2, .int (nI (6 - (j + 1))))]) hx hb dX2_sum_20 rfl hl (by decide) rfl (fun ls hl => ?_)
        refine lv_iinc (v := nI (6 - j)) (lv' := [(2, .int (nI (6 - j))), (1, .int x_1), (0, .ref h0)]) hx hb dX2_sum_21 hl (k := 2) rfl ((nI_1 _).trans (congrArg nI (by omega))) (by decide) rfl (fun ls hl => ?_)
        refine lv_goto (tgt := 4) hx hb dX2_sum_24 (by decide) ?_
        exact ih x_1 (by omega) (by rw [← he, ex_1]; show _ = zSum f j _; rw [show 6 - (j + 1) = 5 - j by omega]) ls (lv_sub hl [2, 1, 0] rfl)
  refine lv_iconst (v := 0) hx hb dX2_sum_0 (by decide) ?_
  refine lv_istore_n (lv' := [(1, .int 0), (0, .ref h0)]) hx hb dX2_sum_1 rfl hl (by decide) rfl (fun ls hl => ?_)
  refine lv_iconst (v := 1) hx hb dX2_sum_2 (by decide) ?_
  refine lv_istore_n (lv' := [(2, .int 1), (1, .int 0), (0, .ref h0)]) hx hb dX2_sum_3 rfl hl (by decide) rfl (fun ls hl => ?_)
  exact loop 5 0 (Nat.le_refl 5) rfl ls (lv_sub hl [2, 1, 0] rfl)
end
section
/-! Counts: greatest, given -/
set_option maxHeartbeats 4000000 in
set_option maxRecDepth 100000 in
/-- Counts.greatest(k) -/
theorem metX2_greatest (l : Launch) (dC : Nat → ClassId) (dI : Nat → Nat → Nat) (sz : Nat) (h0 q1 : Nat) (d1 : ClassId) (f : Nat → Int32) (n k : Int32) : Met l yX2_greatest (ws_ yX2_greatest cX2_greatest 6 (some .int)) ({ frames := 1, cells := 0, slots := 0, locals := 20 }) (va_Pc [.ref h0, .int k] (fun U => U.heap.size = sz ∧ va_P (dC, dI) vwCl [(h0, .inr (2, [.ref q1, .int n])), (q1, .inl (d1, 6, .inl f))] U.heap ∧ va_K (dC, dI) vwCl [(d1, .int)] U ∧ va_D (fun _ => True) [(h0, .inr (2, [.ref q1, .int n])), (q1, .inl (d1, 6, .inl f))])) (va_Qi (fun (r : Int32) (u : Unit) => r = zGr f 5 0 k) (fun (u : Unit) (t : State) => va_P (dC, dI) vwCl [(h0, .inr (2, [.ref q1, .int n])), (q1, .inl (d1, 6, .inl f))] t.heap ∧ va_K (dC, dI) vwCl [(d1, .int)] t ∧ va_D (va_A [(h0, .inr (2, [.ref q1, .int n])), (q1, .inl (d1, 6, .inl f))] sz) [(h0, .inr (2, [.ref q1, .int n])), (q1, .inl (d1, 6, .inl f))]) (va_A [(h0, .inr (2, [.ref q1, .int n])), (q1, .inl (d1, 6, .inl f))] sz)) 0 0 (va_A [(h0, .inr (2, [.ref q1, .int n])), (q1, .inl (d1, 6, .inl f))] sz) := by
  refine Met.ofW (cc := cX2_greatest) (maxL := 6) (ret := (some .int)) (by decide) rfl ?_
  intro p e s m args below meth c s₁ B hml hv
  obtain ⟨rfl, hsz, hP, hK, hD0⟩ := hv
  have hx := B.exec
  have hb := B.bytes
  have hr := B.returns
  have hts := atoms_spec (ws := ws_ yX2_greatest cX2_greatest 6 (some .int)) B.pre
  have hts : ∀ w ∈ lw_all, w.before _ s = true := fun w h => hts w (List.mem_cons_of_mem _ h)
  have hown : s.vm.findClass RX2 = some m.cls := findClass_of_methodNamed B.named
  have hlocks := B.notSynchronized
  subst hsz
  have hD := hD0.self (sz := s.heap.size)
  generalize hAe : va_A [(h0, .inr (2, [.ref q1, .int n])), (q1, .inl (d1, 6, .inl f))] s.heap.size = A at hD ⊢
  have hA : ∀ q : Nat, s.heap.size ≤ q → A q := fun q h => by rw [← hAe]; exact Or.inr h
  have hS : va_S A s.heap s.heap [] := va_S.rf
  have hP : va_P (dC, dI) vwCl [(h0, .inr (2, [.ref q1, .int n])), (q1, .inl (d1, 6, .inl f))] s.heap := hP
  have hl := lv_entry ([.ref h0, .int k]) (n := 6) (Nat.le_of_ble_eq_true rfl)
  rw [lg_entry_eq]
  generalize (lg_sl ([.ref h0, .int k]) ++ List.replicate (6 - (lg_sl ([.ref h0, .int k])).length) Slot.unset).toArray = ls at hl ⊢
  have hl : lv_has ls 6 [(0, .ref h0), (1, .int k)] := hl
  have loop : ∀ (v : Nat) (x2 x3 : Int32), v ≤ 5 → zGr f v x2 x3 = zGr f 5 0 k → ∀ ls : Array Slot, lv_has ls 6 [(0, .ref h0), (2, .int x2), (3, .int x3), (4, .int (nI v))] → W p l e (headSpec (ws_ yX2_greatest cX2_greatest 6 (some .int)) ({ frames := 1, cells := 0, slots := 0, locals := 20 })).room s m ([.ref h0, .int k] : List Value).toArray below meth c s.heap [] 0 0 (MQ below (va_Qi (fun (r : Int32) (u : Unit) => r = zGr f 5 0 k) (fun (u : Unit) (t : State) => va_P (dC, dI) vwCl [(h0, .inr (2, [.ref q1, .int n])), (q1, .inl (d1, 6, .inl f))] t.heap ∧ va_K (dC, dI) vwCl [(d1, .int)] t ∧ va_D A [(h0, .inr (2, [.ref q1, .int n])), (q1, .inl (d1, 6, .inl f))]) A) ([.ref h0, .int k] : List Value).toArray s 0 0 A) (F0 m 7 ls []) := by
    intro v
    induction v with
    | zero =>
      intro x2 x3 hv he ls hl
      refine lv_iload hx hb dX2_greatest_7 (lv_at hl 3 rfl) ?_
      refine lv_if_le (tgt := 48) hx hb dX2_greatest_9 (by decide) (fun c1 => ?_) (fun c1 => ?_)
      · refine lv_iload_n hx hb dX2_greatest_48 rfl (lv_at hl 1 rfl) ?_
        exact W.iret (v := x2) hx hb hr (fun tS ht hW => ⟨⟨x2, (), rfl, he, by rw [ht]; exact hP, va_K.moved hW.alike hK, hD⟩, hS.F ht⟩) hS.2.2 dX2_greatest_49
      · exact absurd (by decide +kernel) c1
    | succ v ih =>
      intro x2 x3 hv he ls hl
      refine lv_iload hx hb dX2_greatest_7 (lv_at hl 3 rfl) ?_
      refine lv_if_le (tgt := 48) hx hb dX2_greatest_9 (by decide) (fun c1 => ?_) (fun c1 => ?_)
      · exact absurd c1 (nI_nle (by omega) (by omega))
      · refine lv_iload_n hx hb dX2_greatest_12 rfl (lv_at hl 2 rfl) ?_
        refine lv_if_le (tgt := 48) hx hb dX2_greatest_13 (by decide) (fun c2 => ?_) (fun c2 => ?_)
        · refine lv_iload_n hx hb dX2_greatest_48 rfl (lv_at hl 1 rfl) ?_
          exact W.iret (v := x2) hx hb hr (fun tS ht hW => ⟨⟨x2, (), rfl, by rw [← he]; show _ = ite _ _ _; rw [if_pos c2], by rw [ht]; exact hP, va_K.moved hW.alike hK, hD⟩, hS.F ht⟩) hS.2.2 dX2_greatest_49
        · refine lv_iload_n hx hb dX2_greatest_16 rfl (lv_at hl 2 rfl) ?_
          refine lv_aload_n hx hb dX2_greatest_17 rfl (lv_at hl 0 rfl) ?_
          refine va_get (D := (dC, dI)) (ci := 2) (v := .ref q1) (C := RX2) (T := TX2) (N := 2) hx hb hts in_X2 hown hK hP 0 rfl rfl 0 (by decide) (hts _ q54) (fun _ h9 => h9) rfl dX2_greatest_18 ?_
          refine lv_iload hx hb dX2_greatest_21 (lv_at hl 3 rfl) ?_
          refine my_iald hx hb hK hP 1 0 rfl rfl (v + 1) (rfl) (by omega) (by decide) dX2_greatest_23 ?_
          refine va_mmin hx hb (by rw [hml]; exact hl.1.symm) hown (hts _ q77) (hts _ q78) (hts _ q10) (hts _ q79) (Nat.le_of_ble_eq_true rfl) (Nat.le_of_ble_eq_true rfl) (Nat.zero_le _) (Nat.zero_le _) dX2_greatest_24 ?_
          refine w_top (x' := zMn x3 (f (v + 1))) rfl ?_
          refine lv_istore (lv' := [(5, .int (zMn x3 (f (v + 1)))), (0, .ref h0), (2, .int x2), (3, .int x3), (4, .int (nI (v + 1)))]) hx hb dX2_greatest_27 hl (by decide) rfl (fun ls hl => ?_)
          refine lv_iload_n hx hb dX2_greatest_29 rfl (lv_at hl 2 rfl) ?_
          refine lv_iload hx hb dX2_greatest_30 (lv_at hl 0 rfl) ?_
          refine lv_iload hx hb dX2_greatest_32 (lv_at hl 4 rfl) ?_
          refine lv_imul hx hb dX2_greatest_34 ?_
          refine lv_iadd hx hb dX2_greatest_35 ?_
          refine lv_topi (fun x_1 ex_1 => ?_)
          refine lv_istore_n (lv' := [(2, .int x_1), (5, .int (zMn x3 (f (v + 1)))), (0, .ref h0), (3, .int x3), (4, .int (nI (v + 1)))]) hx hb dX2_greatest_36 rfl hl (by decide) rfl (fun ls hl => ?_)
          refine lv_iload_n hx hb dX2_greatest_37 rfl (lv_at hl 3 rfl) ?_
          refine lv_iload hx hb dX2_greatest_38 (lv_at hl 1 rfl) ?_
          refine lv_isub hx hb dX2_greatest_40 ?_
          refine lv_topi (fun x_2 ex_2 => ?_)
          refine lv_istore_n (lv' := [(3, .int x_2), (2, .int x_1), (5, .int (zMn x3 (f (v + 1)))), (0, .ref h0), (4, .int (nI (v + 1)))]) hx hb dX2_greatest_41 rfl hl (by decide) rfl (fun ls hl => ?_)
          refine lv_iinc (v := nI v) (lv' := [(4, .int (nI v)), (3, .int x_2), (2, .int x_1), (5, .int (zMn x3 (f (v + 1)))), (0, .ref h0)]) hx hb dX2_greatest_42 hl (k := 4) rfl (by exact pk_m1 v) (by decide) rfl (fun ls hl => ?_)
          refine lv_goto (tgt := 7) hx hb dX2_greatest_45 (by decide) ?_
          exact ih x_1 x_2 (by omega) (by rw [← he, ex_1, ex_2]; show _ = ite _ _ _; rw [if_neg c2]) ls (lv_sub hl [4, 2, 1, 0] rfl)
  refine lv_iconst (v := 0) hx hb dX2_greatest_0 (by decide) ?_
  refine lv_istore_n (lv' := [(2, .int 0), (0, .ref h0), (1, .int k)]) hx hb dX2_greatest_1 rfl hl (by decide) rfl (fun ls hl => ?_)
  refine lv_iload_n hx hb dX2_greatest_2 rfl (lv_at hl 2 rfl) ?_
  refine lv_istore_n (lv' := [(3, .int k), (2, .int 0), (0, .ref h0), (1, .int k)]) hx hb dX2_greatest_3 rfl hl (by decide) rfl (fun ls hl => ?_)
  refine lv_iconst (v := 5) hx hb dX2_greatest_4 (by decide) ?_
  refine lv_istore (lv' := [(4, .int 5), (3, .int k), (2, .int 0), (0, .ref h0), (1, .int k)]) hx hb dX2_greatest_5 hl (by decide) rfl (fun ls hl => ?_)
  exact loop 5 0 k (Nat.le_refl 5) rfl ls (lv_sub hl [3, 2, 1, 0] rfl)
set_option maxHeartbeats 4000000 in
set_option maxRecDepth 100000 in
/-- Counts.given(k) -/
theorem metX2_given (l : Launch) (dC : Nat → ClassId) (dI : Nat → Nat → Nat) (sz : Nat) (h0 q1 : Nat) (d1 : ClassId) (f : Nat → Int32) (n k : Int32) : Met l yX2_given (ws_ yX2_given cX2_given 6 (some .int)) ({ frames := 1, cells := 0, slots := 0, locals := 20 }) (va_Pc [.ref h0, .int k] (fun U => U.heap.size = sz ∧ va_P (dC, dI) vwCl [(h0, .inr (2, [.ref q1, .int n])), (q1, .inl (d1, 6, .inl f))] U.heap ∧ va_K (dC, dI) vwCl [(d1, .int)] U ∧ va_D (fun _ => True) [(h0, .inr (2, [.ref q1, .int n])), (q1, .inl (d1, 6, .inl f))])) (va_Qi (fun (r : Int32) (u : Unit) => r = zGv f k 5 0 k) (fun (u : Unit) (t : State) => va_P (dC, dI) vwCl [(h0, .inr (2, [.ref q1, .int n])), (q1, .inl (d1, 6, .inl f))] t.heap ∧ va_K (dC, dI) vwCl [(d1, .int)] t ∧ va_D (va_A [(h0, .inr (2, [.ref q1, .int n])), (q1, .inl (d1, 6, .inl f))] sz) [(h0, .inr (2, [.ref q1, .int n])), (q1, .inl (d1, 6, .inl f))]) (va_A [(h0, .inr (2, [.ref q1, .int n])), (q1, .inl (d1, 6, .inl f))] sz)) 0 0 (va_A [(h0, .inr (2, [.ref q1, .int n])), (q1, .inl (d1, 6, .inl f))] sz) := by
  refine Met.ofW (cc := cX2_given) (maxL := 6) (ret := (some .int)) (by decide) rfl ?_
  intro p e s m args below meth c s₁ B hml hv
  obtain ⟨rfl, hsz, hP, hK, hD0⟩ := hv
  have hx := B.exec
  have hb := B.bytes
  have hr := B.returns
  have hts := atoms_spec (ws := ws_ yX2_given cX2_given 6 (some .int)) B.pre
  have hts : ∀ w ∈ lw_all, w.before _ s = true := fun w h => hts w (List.mem_cons_of_mem _ h)
  have hown : s.vm.findClass RX2 = some m.cls := findClass_of_methodNamed B.named
  have hlocks := B.notSynchronized
  subst hsz
  have hD := hD0.self (sz := s.heap.size)
  generalize hAe : va_A [(h0, .inr (2, [.ref q1, .int n])), (q1, .inl (d1, 6, .inl f))] s.heap.size = A at hD ⊢
  have hA : ∀ q : Nat, s.heap.size ≤ q → A q := fun q h => by rw [← hAe]; exact Or.inr h
  have hS : va_S A s.heap s.heap [] := va_S.rf
  have hP : va_P (dC, dI) vwCl [(h0, .inr (2, [.ref q1, .int n])), (q1, .inl (d1, 6, .inl f))] s.heap := hP
  have hl := lv_entry ([.ref h0, .int k]) (n := 6) (Nat.le_of_ble_eq_true rfl)
  rw [lg_entry_eq]
  generalize (lg_sl ([.ref h0, .int k]) ++ List.replicate (6 - (lg_sl ([.ref h0, .int k])).length) Slot.unset).toArray = ls at hl ⊢
  have hl : lv_has ls 6 [(0, .ref h0), (1, .int k)] := hl
  have loop : ∀ (v : Nat) (x2 x3 : Int32), v ≤ 5 → zGv f k v x2 x3 = zGv f k 5 0 k → ∀ ls : Array Slot, lv_has ls 6 [(0, .ref h0), (1, .int k), (2, .int x2), (3, .int x3), (4, .int (nI v))] → W p l e (headSpec (ws_ yX2_given cX2_given 6 (some .int)) ({ frames := 1, cells := 0, slots := 0, locals := 20 })).room s m ([.ref h0, .int k] : List Value).toArray below meth c s.heap [] 0 0 (MQ below (va_Qi (fun (r : Int32) (u : Unit) => r = zGv f k 5 0 k) (fun (u : Unit) (t : State) => va_P (dC, dI) vwCl [(h0, .inr (2, [.ref q1, .int n])), (q1, .inl (d1, 6, .inl f))] t.heap ∧ va_K (dC, dI) vwCl [(d1, .int)] t ∧ va_D A [(h0, .inr (2, [.ref q1, .int n])), (q1, .inl (d1, 6, .inl f))]) A) ([.ref h0, .int k] : List Value).toArray s 0 0 A) (F0 m 7 ls []) := by
    intro v
    induction v with
    | zero =>
      intro x2 x3 hv he ls hl
      refine lv_iload hx hb dX2_given_7 (lv_at hl 4 rfl) ?_
      refine lv_if_le (tgt := 59) hx hb dX2_given_9 (by decide) (fun c1 => ?_) (fun c1 => ?_)
      · refine lv_iload_n hx hb dX2_given_59 rfl (lv_at hl 2 rfl) ?_
        exact W.iret (v := x2) hx hb hr (fun tS ht hW => ⟨⟨x2, (), rfl, he, by rw [ht]; exact hP, va_K.moved hW.alike hK, hD⟩, hS.F ht⟩) hS.2.2 dX2_given_60
      · exact absurd (by decide +kernel) c1
    | succ v ih =>
      intro x2 x3 hv he ls hl
      refine lv_iload hx hb dX2_given_7 (lv_at hl 4 rfl) ?_
      refine lv_if_le (tgt := 59) hx hb dX2_given_9 (by decide) (fun c1 => ?_) (fun c1 => ?_)
      · exact absurd c1 (nI_nle (by omega) (by omega))
      · refine lv_iconst (v := 0) hx hb dX2_given_12 (by decide) ?_
        refine lv_aload_n hx hb dX2_given_13 rfl (lv_at hl 0 rfl) ?_
        refine va_get (D := (dC, dI)) (ci := 2) (v := .ref q1) (C := RX2) (T := TX2) (N := 2) hx hb hts in_X2 hown hK hP 0 rfl rfl 0 (by decide) (hts _ q54) (fun _ h9 => h9) rfl dX2_given_14 ?_
        refine lv_iload hx hb dX2_given_17 (lv_at hl 4 rfl) ?_
        refine my_iald hx hb hK hP 1 0 rfl rfl (v + 1) (rfl) (by omega) (by decide) dX2_given_19 ?_
        refine lv_iload_n hx hb dX2_given_20 rfl (lv_at hl 3 rfl) ?_
        refine lv_isub hx hb dX2_given_21 ?_
        refine va_mmax hx hb (by rw [hml]; exact hl.1.symm) hown (hts _ q84) (hts _ q85) (hts _ q10) (hts _ q86) (Nat.le_of_ble_eq_true rfl) (Nat.le_of_ble_eq_true rfl) (Nat.zero_le _) (Nat.zero_le _) dX2_given_22 ?_
        refine w_top (x' := zMx 0 ((f (v + 1)) - x3)) rfl ?_
        refine lv_istore (lv' := [(5, .int (zMx 0 ((f (v + 1)) - x3))), (0, .ref h0), (1, .int k), (2, .int x2), (3, .int x3), (4, .int (nI (v + 1)))]) hx hb dX2_given_25 hl (by decide) rfl (fun ls hl => ?_)
        refine lv_iconst (v := 0) hx hb dX2_given_27 (by decide) ?_
        refine lv_iload_n hx hb dX2_given_28 rfl (lv_at hl 4 rfl) ?_
        refine lv_aload_n hx hb dX2_given_29 rfl (lv_at hl 1 rfl) ?_
        refine va_get (D := (dC, dI)) (ci := 2) (v := .ref q1) (C := RX2) (T := TX2) (N := 2) hx hb hts in_X2 hown hK hP 0 rfl rfl 0 (by decide) (hts _ q54) (fun _ h9 => h9) rfl dX2_given_30 ?_
        refine lv_iload hx hb dX2_given_33 (lv_at hl 5 rfl) ?_
        refine my_iald hx hb hK hP 1 0 rfl rfl (v + 1) (rfl) (by omega) (by decide) dX2_given_35 ?_
        refine lv_isub hx hb dX2_given_36 ?_
        refine va_mmax hx hb (by rw [hml]; exact hl.1.symm) hown (hts _ q84) (hts _ q85) (hts _ q10) (hts _ q86) (Nat.le_of_ble_eq_true rfl) (Nat.le_of_ble_eq_true rfl) (Nat.zero_le _) (Nat.zero_le _) dX2_given_37 ?_
        refine w_top (x' := zMx 0 (x3 - (f (v + 1)))) rfl ?_
        refine lv_topi (fun x_1 ex_1 => ?_)
        refine lv_istore_n (lv' := [(3, .int x_1), (5, .int (zMx 0 ((f (v + 1)) - x3))), (0, .ref h0), (1, .int k), (2, .int x2), (4, .int (nI (v + 1)))]) hx hb dX2_given_40 rfl hl (by decide) rfl (fun ls hl => ?_)
        refine lv_iload_n hx hb dX2_given_41 rfl (lv_at hl 4 rfl) ?_
        refine lv_iload hx hb dX2_given_42 (lv_at hl 1 rfl) ?_
        refine lv_iload hx hb dX2_given_44 (lv_at hl 5 rfl) ?_
        refine lv_iload_n hx hb dX2_given_46 rfl (lv_at hl 3 rfl) ?_
        refine va_mmin hx hb (by rw [hml]; exact hl.1.symm) hown (hts _ q77) (hts _ q78) (hts _ q10) (hts _ q79) (Nat.le_of_ble_eq_true rfl) (Nat.le_of_ble_eq_true rfl) (Nat.zero_le _) (Nat.zero_le _) dX2_given_47 ?_
        refine w_top (x' := zMn (nI (v + 1)) k) rfl ?_
        refine lv_imul hx hb dX2_given_50 ?_
        refine lv_iadd hx hb dX2_given_51 ?_
        refine lv_topi (fun x_2 ex_2 => ?_)
        refine lv_istore_n (lv' := [(2, .int x_2), (3, .int x_1), (5, .int (zMx 0 ((f (v + 1)) - x3))), (0, .ref h0), (1, .int k), (4, .int (nI (v + 1)))]) hx hb dX2_given_52 rfl hl (by decide) rfl (fun ls hl => ?_)
        refine lv_iinc (v := nI v) (lv' := [(4, .int (nI v)), (2, .int x_2), (3, .int x_1), (5, .int (zMx 0 ((f (v + 1)) - x3))), (0, .ref h0), (1, .int k)]) hx hb dX2_given_53 hl (k := 5) rfl (by exact pk_m1 v) (by decide) rfl (fun ls hl => ?_)
        refine lv_goto (tgt := 7) hx hb dX2_given_56 (by decide) ?_
        exact ih x_2 x_1 (by omega) (by rw [← he, ex_1, ex_2]; rfl) ls (lv_sub hl [4, 5, 1, 2, 0] rfl)
  refine lv_iconst (v := 0) hx hb dX2_given_0 (by decide) ?_
  refine lv_istore_n (lv' := [(2, .int 0), (0, .ref h0), (1, .int k)]) hx hb dX2_given_1 rfl hl (by decide) rfl (fun ls hl => ?_)
  refine lv_iload_n hx hb dX2_given_2 rfl (lv_at hl 2 rfl) ?_
  refine lv_istore_n (lv' := [(3, .int k), (2, .int 0), (0, .ref h0), (1, .int k)]) hx hb dX2_given_3 rfl hl (by decide) rfl (fun ls hl => ?_)
  refine lv_iconst (v := 5) hx hb dX2_given_4 (by decide) ?_
  refine lv_istore (lv' := [(4, .int 5), (3, .int k), (2, .int 0), (0, .ref h0), (1, .int k)]) hx hb dX2_given_5 hl (by decide) rfl (fun ls hl => ?_)
  exact loop 5 0 k (Nat.le_refl 5) rfl ls (lv_sub hl [3, 4, 2, 1, 0] rfl)
end
section
/-! Counts: net, play -/
set_option maxHeartbeats 4000000 in
set_option maxRecDepth 100000 in
/-- Counts.net() -/
theorem metX2_net (l : Launch) (dC : Nat → ClassId) (dI : Nat → Nat → Nat) (sz : Nat) (h0 q1 : Nat) (d1 : ClassId) (f : Nat → Int32) (N : Nat) (hN5 : N ≤ 5) : Met l yX2_net (ws_ yX2_net cX2_net 2 (some .boolean)) ({ frames := 2, cells := 0, slots := 0, locals := 60 }) (va_Pc [.ref h0] (fun U => U.heap.size = sz ∧ va_P (dC, dI) vwCl [(h0, .inr (2, [.ref q1, .int (nI N)])), (q1, .inl (d1, 6, .inl f))] U.heap ∧ va_K (dC, dI) vwCl [(d1, .int)] U ∧ va_D (fun _ => True) [(h0, .inr (2, [.ref q1, .int (nI N)])), (q1, .inl (d1, 6, .inl f))])) (va_Qi (fun (r : Int32) (u : Unit) => r = zNet f N) (fun (u : Unit) (t : State) => va_P (dC, dI) vwCl [(h0, .inr (2, [.ref q1, .int (nI N)])), (q1, .inl (d1, 6, .inl f))] t.heap ∧ va_K (dC, dI) vwCl [(d1, .int)] t ∧ va_D (va_A [(h0, .inr (2, [.ref q1, .int (nI N)])), (q1, .inl (d1, 6, .inl f))] sz) [(h0, .inr (2, [.ref q1, .int (nI N)])), (q1, .inl (d1, 6, .inl f))]) (va_A [(h0, .inr (2, [.ref q1, .int (nI N)])), (q1, .inl (d1, 6, .inl f))] sz)) 0 0 (va_A [(h0, .inr (2, [.ref q1, .int (nI N)])), (q1, .inl (d1, 6, .inl f))] sz) := by
  refine Met.ofW (cc := cX2_net) (maxL := 2) (ret := (some .boolean)) (by decide) rfl ?_
  intro p e s m args below meth c s₁ B hml hv
  obtain ⟨rfl, hsz, hP, hK, hD0⟩ := hv
  have hx := B.exec
  have hb := B.bytes
  have hr := B.returns
  have hts := atoms_spec (ws := ws_ yX2_net cX2_net 2 (some .boolean)) B.pre
  have hts : ∀ w ∈ lw_all, w.before _ s = true := fun w h => hts w (List.mem_cons_of_mem _ h)
  have hown : s.vm.findClass RX2 = some m.cls := findClass_of_methodNamed B.named
  have hlocks := B.notSynchronized
  subst hsz
  have hD := hD0.self (sz := s.heap.size)
  generalize hAe : va_A [(h0, .inr (2, [.ref q1, .int (nI N)])), (q1, .inl (d1, 6, .inl f))] s.heap.size = A at hD ⊢
  have hA : ∀ q : Nat, s.heap.size ≤ q → A q := fun q h => by rw [← hAe]; exact Or.inr h
  have hS : va_S A s.heap s.heap [] := va_S.rf
  have hP : va_P (dC, dI) vwCl [(h0, .inr (2, [.ref q1, .int (nI N)])), (q1, .inl (d1, 6, .inl f))] s.heap := hP
  have hl := lv_entry ([.ref h0]) (n := 2) (Nat.le_of_ble_eq_true rfl)
  rw [lg_entry_eq]
  generalize (lg_sl ([.ref h0]) ++ List.replicate (2 - (lg_sl ([.ref h0])).length) Slot.unset).toArray = ls at hl ⊢
  have hl : lv_has ls 2 [(0, .ref h0)] := hl
  have loop : ∀ (j : Nat), j ≤ N → zNetL f N j = zNet f N → ∀ (H : Heap) (locs : List Loc), va_P (dC, dI) vwCl [(h0, .inr (2, [.ref q1, .int (nI N)])), (q1, .inl (d1, 6, .inl f))] H → va_D A [(h0, .inr (2, [.ref q1, .int (nI N)])), (q1, .inl (d1, 6, .inl f))] → va_S A s.heap H locs → ∀ ls : Array Slot, lv_has ls 2 [(0, .ref h0), (1, .int (nI (N + 1 - j)))] → W p l e (headSpec (ws_ yX2_net cX2_net 2 (some .boolean)) ({ frames := 2, cells := 0, slots := 0, locals := 60 })).room s m ([.ref h0] : List Value).toArray below meth c H locs 0 0 (MQ below (va_Qi (fun (r : Int32) (u : Unit) => r = zNet f N) (fun (u : Unit) (t : State) => va_P (dC, dI) vwCl [(h0, .inr (2, [.ref q1, .int (nI N)])), (q1, .inl (d1, 6, .inl f))] t.heap ∧ va_K (dC, dI) vwCl [(d1, .int)] t ∧ va_D A [(h0, .inr (2, [.ref q1, .int (nI N)])), (q1, .inl (d1, 6, .inl f))]) A) ([.ref h0] : List Value).toArray s 0 0 A) (F0 m 14 ls []) := by
    intro j
    induction j with
    | zero =>
      intro hj he H locs hP hD hS ls hl
      refine lv_iload_n hx hb dX2_net_14 rfl (lv_at hl 1 rfl) ?_
      refine lv_aload_n hx hb dX2_net_15 rfl (lv_at hl 0 rfl) ?_
      refine va_get (D := (dC, dI)) (ci := 2) (v := .int (nI N)) (C := RX2) (T := TX2) (N := 2) hx hb hts in_X2 hown hK hP 0 rfl rfl 1 (by decide) (hts _ q55) (fun _ h9 => h9) rfl dX2_net_16 ?_
      refine lv_icmp_gt (tgt := 49) hx hb dX2_net_19 (by decide) (fun c1 => ?_) (fun c1 => ?_)
      · refine lv_iconst (v := 1) hx hb dX2_net_49 (by decide) ?_
        exact W.zret (v := 1) hx hb hr (rfl) (fun tS ht hW => ⟨⟨1, (), rfl, he, by rw [ht]; exact hP, va_K.moved hW.alike hK, hD⟩, hS.F ht⟩) hS.2.2 dX2_net_50
      · exact absurd (nI_lt (by omega) (by omega)) c1
    | succ j ih =>
      intro hj he H locs hP hD hS ls hl
      have hl : lv_has ls 2 [(0, .ref h0), (1, .int (nI (N - j)))] := by rw [show N - j = N + 1 - (j + 1) by omega]; exact hl
      refine lv_iload_n hx hb dX2_net_14 rfl (lv_at hl 1 rfl) ?_
      refine lv_aload_n hx hb dX2_net_15 rfl (lv_at hl 0 rfl) ?_
      refine va_get (D := (dC, dI)) (ci := 2) (v := .int (nI N)) (C := RX2) (T := TX2) (N := 2) hx hb hts in_X2 hown hK hP 0 rfl rfl 1 (by decide) (hts _ q55) (fun _ h9 => h9) rfl dX2_net_16 ?_
      refine lv_icmp_gt (tgt := 49) hx hb dX2_net_19 (by decide) (fun c1 => ?_) (fun c1 => ?_)
      · exact absurd c1 (nI_nlt (by omega) (by omega))
      · refine lv_aload_n hx hb dX2_net_22 rfl (lv_at hl 0 rfl) ?_
        refine lv_iload_n hx hb dX2_net_23 rfl (lv_at hl 1 rfl) ?_
        have hPc := hP.sub (ws' := [(h0, .inr (2, [.ref q1, .int (nI N)])), (q1, .inl (d1, 6, .inl f))]) [0, 1] rfl
        have hDc := hD.sub (ws' := [(h0, .inr (2, [.ref q1, .int (nI N)])), (q1, .inl (d1, 6, .inl f))]) [0, 1] (by decide) rfl
        have hKc := hK.sub (tys' := [(d1, .int)]) [0] rfl
        have hFc := va_free (wc := [(h0, .inr (2, [.ref q1, .int (nI N)])), (q1, .inl (d1, 6, .inl f))]) hD hS hA [0, 1] rfl
        refine va_calli (va_runV (As := [.int (nI (N - j))]) (rest := []) ⟨hx, hb, hml, hown, hts⟩ (metX2_greatest l dC dI H.size h0 q1 d1 f (nI N) (nI (N - j))) (cwV 1 hts (lw_V q73 q75 qs1 q9 q76) rfl rfl rfl (by decide +kernel) ⟨Nat.le_of_ble_eq_true rfl, Nat.le_of_ble_eq_true rfl⟩) ⟨fun a U g mk q => by obtain ⟨q0, q1, qP, qK, qD⟩ := q; exact ⟨q0, q1, qP, va_K.moved (u := U) (U := U.calling g mk a) (Vm.Alike.refl U.vm) qK, qD⟩, va_recv hKc hPc (ci := 2) (q0 := 0) rfl rfl, fun U hU hW => ⟨rfl, by rw [hU], by rw [hU]; exact hPc, va_K.moved hW.alike hKc, hDc.weaken (fun _ _ _ _ => trivial)⟩⟩ rfl rfl hl.1 rfl (lv_room (Nat.le_of_ble_eq_true rfl)) dX2_net_24 ⟨Nat.le_of_ble_eq_true rfl, Nat.le_of_ble_eq_true rfl⟩) hS (fun q _ h => hFc q h) hFc (fun r1 u tS H1 locs ht hvm hr1 hB hz1 hk1 hS => ?_)
        obtain ⟨hP1, hK1, hD1⟩ := hB
        rw [ht] at hP1
        have hK1 := va_K.moved hvm.symm hK1
        obtain ⟨hP, hD⟩ := va_join (wr := []) (w1 := [(h0, .inr (2, [.ref q1, .int (nI N)])), (q1, .inl (d1, 6, .inl f))]) hP hD [0, 1] [] rfl rfl (by decide) (by decide) hk1 hFc hP1 hD1
        have hK := (hK.sub (tys' := []) [] rfl).app hK1
        generalize H1 = H at hP hS ⊢
        have hP : va_P (dC, dI) vwCl [(h0, .inr (2, [.ref q1, .int (nI N)])), (q1, .inl (d1, 6, .inl f))] H := hP
        have hD : va_D A [(h0, .inr (2, [.ref q1, .int (nI N)])), (q1, .inl (d1, 6, .inl f))] := hD
        have hK : va_K (dC, dI) vwCl [(d1, .int)] s := hK
        refine W.widen (k := 0) (n := 0) (Nat.le_of_ble_eq_true rfl) (Nat.le_of_ble_eq_true rfl) ?_
        have hr1 : r1 = zGr f 5 0 (nI (N - j)) := hr1
        subst hr1
        refine lv_iload_n hx hb dX2_net_27 rfl (lv_at hl 1 rfl) ?_
        refine lv_iload_n hx hb dX2_net_28 rfl (lv_at hl 1 rfl) ?_
        refine lv_iconst (v := 1) hx hb dX2_net_29 (by decide) ?_
        refine lv_isub hx hb dX2_net_30 ?_
        refine lv_imul hx hb dX2_net_31 ?_
        refine lv_aload_n hx hb dX2_net_32 rfl (lv_at hl 0 rfl) ?_
        refine lv_iload_n hx hb dX2_net_33 rfl (lv_at hl 1 rfl) ?_
        have hPc := hP.sub (ws' := [(h0, .inr (2, [.ref q1, .int (nI N)])), (q1, .inl (d1, 6, .inl f))]) [0, 1] rfl
        have hDc := hD.sub (ws' := [(h0, .inr (2, [.ref q1, .int (nI N)])), (q1, .inl (d1, 6, .inl f))]) [0, 1] (by decide) rfl
        have hKc := hK.sub (tys' := [(d1, .int)]) [0] rfl
        have hFc := va_free (wc := [(h0, .inr (2, [.ref q1, .int (nI N)])), (q1, .inl (d1, 6, .inl f))]) hD hS hA [0, 1] rfl
        refine va_calli (va_runV (As := [.int (nI (N - j))]) (rest := [.int ((nI (N - j)) * ((nI (N - j)) - 1)), .int (zGr f 5 0 (nI (N - j)))]) ⟨hx, hb, hml, hown, hts⟩ (metX2_given l dC dI H.size h0 q1 d1 f (nI N) (nI (N - j))) (cwV 1 hts (lw_V q80 q82 qs2 q9 q83) rfl rfl rfl (by decide +kernel) ⟨Nat.le_of_ble_eq_true rfl, Nat.le_of_ble_eq_true rfl⟩) ⟨fun a U g mk q => by obtain ⟨q0, q1, qP, qK, qD⟩ := q; exact ⟨q0, q1, qP, va_K.moved (u := U) (U := U.calling g mk a) (Vm.Alike.refl U.vm) qK, qD⟩, va_recv hKc hPc (ci := 2) (q0 := 0) rfl rfl, fun U hU hW => ⟨rfl, by rw [hU], by rw [hU]; exact hPc, va_K.moved hW.alike hKc, hDc.weaken (fun _ _ _ _ => trivial)⟩⟩ rfl rfl hl.1 rfl (lv_room (Nat.le_of_ble_eq_true rfl)) dX2_net_34 ⟨Nat.le_of_ble_eq_true rfl, Nat.le_of_ble_eq_true rfl⟩) hS (fun q _ h => hFc q h) hFc (fun r2 u tS H1 locs ht hvm hr2 hB hz1 hk1 hS => ?_)
        obtain ⟨hP1, hK1, hD1⟩ := hB
        rw [ht] at hP1
        have hK1 := va_K.moved hvm.symm hK1
        obtain ⟨hP, hD⟩ := va_join (wr := []) (w1 := [(h0, .inr (2, [.ref q1, .int (nI N)])), (q1, .inl (d1, 6, .inl f))]) hP hD [0, 1] [] rfl rfl (by decide) (by decide) hk1 hFc hP1 hD1
        have hK := (hK.sub (tys' := []) [] rfl).app hK1
        generalize H1 = H at hP hS ⊢
        have hP : va_P (dC, dI) vwCl [(h0, .inr (2, [.ref q1, .int (nI N)])), (q1, .inl (d1, 6, .inl f))] H := hP
        have hD : va_D A [(h0, .inr (2, [.ref q1, .int (nI N)])), (q1, .inl (d1, 6, .inl f))] := hD
        have hK : va_K (dC, dI) vwCl [(d1, .int)] s := hK
        refine W.widen (k := 0) (n := 0) (Nat.le_of_ble_eq_true rfl) (Nat.le_of_ble_eq_true rfl) ?_
        have hr2 : r2 = zGv f (nI (N - j)) 5 0 (nI (N - j)) := hr2
        subst hr2
        refine lv_iadd hx hb dX2_net_37 ?_
        refine lv_icmp_le (tgt := 43) hx hb dX2_net_38 (by decide) (fun c2 => ?_) (fun c2 => ?_)
        · refine lv_iinc (v := nI (N + 1 - j)) (lv' := [(1, .int (nI (N + 1 - j))), (0, .ref h0)]) hx hb dX2_net_43 hl (k := 1) rfl ((nI_1 _).trans (congrArg nI (by omega))) (by decide) rfl (fun ls hl => ?_)
          refine lv_goto (tgt := 14) hx hb dX2_net_46 (by decide) ?_
          exact ih (by omega) (by rw [← he]; show _ = ite _ _ _; rw [if_pos c2]) H locs hP hD hS ls (lv_sub hl [1, 0] rfl)
        · refine lv_iconst (v := 0) hx hb dX2_net_41 (by decide) ?_
          exact W.zret (v := 0) hx hb hr (rfl) (fun tS ht hW => ⟨⟨0, (), rfl, by rw [← he]; show (0 : Int32) = ite _ _ _; rw [if_neg c2], by rw [ht]; exact hP, va_K.moved hW.alike hK, hD⟩, hS.F ht⟩) hS.2.2 dX2_net_42
  refine lv_aload_n hx hb dX2_net_0 rfl (lv_at hl 0 rfl) ?_
  have hPc := hP.sub (ws' := [(h0, .inr (2, [.ref q1, .int (nI N)])), (q1, .inl (d1, 6, .inl f))]) [0, 1] rfl
  have hDc := hD.sub (ws' := [(h0, .inr (2, [.ref q1, .int (nI N)])), (q1, .inl (d1, 6, .inl f))]) [0, 1] (by decide) rfl
  have hKc := hK.sub (tys' := [(d1, .int)]) [0] rfl
  have hFc := va_free (wc := [(h0, .inr (2, [.ref q1, .int (nI N)])), (q1, .inl (d1, 6, .inl f))]) hD hS hA [0, 1] rfl
  refine va_calli (va_runV (As := []) (rest := []) ⟨hx, hb, hml, hown, hts⟩ (metX2_sum l dC dI s.heap.size h0 q1 d1 f (nI N)) (cwV 0 hts (lw_V q69 q70 q71 q9 q72) rfl rfl rfl (by decide +kernel) ⟨Nat.le_of_ble_eq_true rfl, Nat.le_of_ble_eq_true rfl⟩) ⟨fun a U g mk q => by obtain ⟨q0, q1, qP, qK, qD⟩ := q; exact ⟨q0, q1, qP, va_K.moved (u := U) (U := U.calling g mk a) (Vm.Alike.refl U.vm) qK, qD⟩, va_recv hKc hPc (ci := 2) (q0 := 0) rfl rfl, fun U hU hW => ⟨rfl, by rw [hU], by rw [hU]; exact hPc, va_K.moved hW.alike hKc, hDc.weaken (fun _ _ _ _ => trivial)⟩⟩ rfl rfl hl.1 rfl (lv_room (Nat.le_of_ble_eq_true rfl)) dX2_net_1 ⟨Nat.le_of_ble_eq_true rfl, Nat.le_of_ble_eq_true rfl⟩) hS (fun q _ h => hFc q h) hFc (fun r0 u tS H1 locs ht hvm hr0 hB hz1 hk1 hS => ?_)
  obtain ⟨hP1, hK1, hD1⟩ := hB
  rw [ht] at hP1
  have hK1 := va_K.moved hvm.symm hK1
  obtain ⟨hP, hD⟩ := va_join (wr := []) (w1 := [(h0, .inr (2, [.ref q1, .int (nI N)])), (q1, .inl (d1, 6, .inl f))]) hP hD [0, 1] [] rfl rfl (by decide) (by decide) hk1 hFc hP1 hD1
  have hK := (hK.sub (tys' := []) [] rfl).app hK1
  generalize H1 = H at hP hS ⊢
  have hP : va_P (dC, dI) vwCl [(h0, .inr (2, [.ref q1, .int (nI N)])), (q1, .inl (d1, 6, .inl f))] H := hP
  have hD : va_D A [(h0, .inr (2, [.ref q1, .int (nI N)])), (q1, .inl (d1, 6, .inl f))] := hD
  have hK : va_K (dC, dI) vwCl [(d1, .int)] s := hK
  refine W.widen (k := 0) (n := 0) (Nat.le_of_ble_eq_true rfl) (Nat.le_of_ble_eq_true rfl) ?_
  have hr0 : r0 = zSum f 5 0 := hr0
  subst hr0
  refine lv_iconst (v := 2) hx hb dX2_net_4 (by decide) ?_
  refine lv_irem hx hb dX2_net_5 (by decide) ?_
  refine lv_iconst (v := 1) hx hb dX2_net_6 (by decide) ?_
  refine lv_icmp_ne (tgt := 12) hx hb dX2_net_7 (by decide) (fun c0 => ?_) (fun c0 => ?_)
  · refine lv_iconst (v := 1) hx hb dX2_net_12 (by decide) ?_
    refine lv_istore_n (lv' := [(1, .int 1), (0, .ref h0)]) hx hb dX2_net_13 rfl hl (by decide) rfl (fun ls hl => ?_)
    exact loop N (Nat.le_refl N) (by show _ = ite _ _ _; rw [if_neg c0]) H locs hP hD hS ls (by rw [show N + 1 - N = 1 by omega]; exact lv_sub hl [1, 0] rfl)
  · refine lv_iconst (v := 0) hx hb dX2_net_10 (by decide) ?_
    exact W.zret (v := 0) hx hb hr (rfl) (fun tS ht hW => ⟨⟨0, (), rfl, by show (0 : Int32) = ite _ _ _; rw [if_pos c0], by rw [ht]; exact hP, va_K.moved hW.alike hK, hD⟩, hS.F ht⟩) hS.2.2 dX2_net_11
set_option maxHeartbeats 4000000 in
set_option maxRecDepth 100000 in
/-- Counts.play() -/
theorem metX2_play (l : Launch) (dC : Nat → ClassId) (dI : Nat → Nat → Nat) (sz : Nat) (h0 q1 : Nat) (d1 : ClassId) (f : Nat → Int32) (N : Nat) (hN1 : 1 ≤ N) (hN5 : N ≤ 5) : Met l yX2_play (ws_ yX2_play cX2_play 2 (some .boolean)) ({ frames := 2, cells := 0, slots := 0, locals := 60 }) (va_Pc [.ref h0] (fun U => U.heap.size = sz ∧ va_P (dC, dI) vwCl [(h0, .inr (2, [.ref q1, .int (nI N)])), (q1, .inl (d1, 6, .inl f))] U.heap ∧ va_K (dC, dI) vwCl [(d1, .int)] U ∧ va_D (fun _ => True) [(h0, .inr (2, [.ref q1, .int (nI N)])), (q1, .inl (d1, 6, .inl f))])) (va_Qi (fun (r : Int32) (u : Unit) => r = zPlay f N) (fun (u : Unit) (t : State) => va_P (dC, dI) vwCl [(h0, .inr (2, [.ref q1, .int (nI N)])), (q1, .inl (d1, 6, .inl f))] t.heap ∧ va_K (dC, dI) vwCl [(d1, .int)] t ∧ va_D (va_A [(h0, .inr (2, [.ref q1, .int (nI N)])), (q1, .inl (d1, 6, .inl f))] sz) [(h0, .inr (2, [.ref q1, .int (nI N)])), (q1, .inl (d1, 6, .inl f))]) (va_A [(h0, .inr (2, [.ref q1, .int (nI N)])), (q1, .inl (d1, 6, .inl f))] sz)) 0 0 (va_A [(h0, .inr (2, [.ref q1, .int (nI N)])), (q1, .inl (d1, 6, .inl f))] sz) := by
  refine Met.ofW (cc := cX2_play) (maxL := 2) (ret := (some .boolean)) (by decide) rfl ?_
  intro p e s m args below meth c s₁ B hml hv
  obtain ⟨rfl, hsz, hP, hK, hD0⟩ := hv
  have hx := B.exec
  have hb := B.bytes
  have hr := B.returns
  have hts := atoms_spec (ws := ws_ yX2_play cX2_play 2 (some .boolean)) B.pre
  have hts : ∀ w ∈ lw_all, w.before _ s = true := fun w h => hts w (List.mem_cons_of_mem _ h)
  have hown : s.vm.findClass RX2 = some m.cls := findClass_of_methodNamed B.named
  have hlocks := B.notSynchronized
  subst hsz
  have hD := hD0.self (sz := s.heap.size)
  generalize hAe : va_A [(h0, .inr (2, [.ref q1, .int (nI N)])), (q1, .inl (d1, 6, .inl f))] s.heap.size = A at hD ⊢
  have hA : ∀ q : Nat, s.heap.size ≤ q → A q := fun q h => by rw [← hAe]; exact Or.inr h
  have hS : va_S A s.heap s.heap [] := va_S.rf
  have hP : va_P (dC, dI) vwCl [(h0, .inr (2, [.ref q1, .int (nI N)])), (q1, .inl (d1, 6, .inl f))] s.heap := hP
  have hl := lv_entry ([.ref h0]) (n := 2) (Nat.le_of_ble_eq_true rfl)
  rw [lg_entry_eq]
  generalize (lg_sl ([.ref h0]) ++ List.replicate (2 - (lg_sl ([.ref h0])).length) Slot.unset).toArray = ls at hl ⊢
  have hl : lv_has ls 2 [(0, .ref h0)] := hl
  have loop : ∀ (j : Nat), j ≤ N - 1 → zPlayL f N j = zPlay f N → ∀ (H : Heap) (locs : List Loc), va_P (dC, dI) vwCl [(h0, .inr (2, [.ref q1, .int (nI N)])), (q1, .inl (d1, 6, .inl f))] H → va_D A [(h0, .inr (2, [.ref q1, .int (nI N)])), (q1, .inl (d1, 6, .inl f))] → va_S A s.heap H locs → ∀ ls : Array Slot, lv_has ls 2 [(0, .ref h0), (1, .int (nI (N - j)))] → W p l e (headSpec (ws_ yX2_play cX2_play 2 (some .boolean)) ({ frames := 2, cells := 0, slots := 0, locals := 60 })).room s m ([.ref h0] : List Value).toArray below meth c H locs 0 0 (MQ below (va_Qi (fun (r : Int32) (u : Unit) => r = zPlay f N) (fun (u : Unit) (t : State) => va_P (dC, dI) vwCl [(h0, .inr (2, [.ref q1, .int (nI N)])), (q1, .inl (d1, 6, .inl f))] t.heap ∧ va_K (dC, dI) vwCl [(d1, .int)] t ∧ va_D A [(h0, .inr (2, [.ref q1, .int (nI N)])), (q1, .inl (d1, 6, .inl f))]) A) ([.ref h0] : List Value).toArray s 0 0 A) (F0 m 2 ls []) := by
    intro j
    induction j with
    | zero =>
      intro hj he H locs hP hD hS ls hl
      refine lv_iload_n hx hb dX2_play_2 rfl (lv_at hl 1 rfl) ?_
      refine lv_aload_n hx hb dX2_play_3 rfl (lv_at hl 0 rfl) ?_
      refine va_get (D := (dC, dI)) (ci := 2) (v := .int (nI N)) (C := RX2) (T := TX2) (N := 2) hx hb hts in_X2 hown hK hP 0 rfl rfl 1 (by decide) (hts _ q55) (fun _ h9 => h9) rfl dX2_play_4 ?_
      refine lv_icmp_ge (tgt := 43) hx hb dX2_play_7 (by decide) (fun c1 => ?_) (fun c1 => ?_)
      · refine lv_aload_n hx hb dX2_play_43 rfl (lv_at hl 0 rfl) ?_
        have hPc := hP.sub (ws' := [(h0, .inr (2, [.ref q1, .int (nI N)])), (q1, .inl (d1, 6, .inl f))]) [0, 1] rfl
        have hDc := hD.sub (ws' := [(h0, .inr (2, [.ref q1, .int (nI N)])), (q1, .inl (d1, 6, .inl f))]) [0, 1] (by decide) rfl
        have hKc := hK.sub (tys' := [(d1, .int)]) [0] rfl
        have hFc := va_free (wc := [(h0, .inr (2, [.ref q1, .int (nI N)])), (q1, .inl (d1, 6, .inl f))]) hD hS hA [0, 1] rfl
        refine va_calli (va_runV (As := []) (rest := []) ⟨hx, hb, hml, hown, hts⟩ (metX2_sum l dC dI H.size h0 q1 d1 f (nI N)) (cwV 0 hts (lw_V q69 q70 q71 q9 q72) rfl rfl rfl (by decide +kernel) ⟨Nat.le_of_ble_eq_true rfl, Nat.le_of_ble_eq_true rfl⟩) ⟨fun a U g mk q => by obtain ⟨q0, q1, qP, qK, qD⟩ := q; exact ⟨q0, q1, qP, va_K.moved (u := U) (U := U.calling g mk a) (Vm.Alike.refl U.vm) qK, qD⟩, va_recv hKc hPc (ci := 2) (q0 := 0) rfl rfl, fun U hU hW => ⟨rfl, by rw [hU], by rw [hU]; exact hPc, va_K.moved hW.alike hKc, hDc.weaken (fun _ _ _ _ => trivial)⟩⟩ rfl rfl hl.1 rfl (lv_room (Nat.le_of_ble_eq_true rfl)) dX2_play_44 ⟨Nat.le_of_ble_eq_true rfl, Nat.le_of_ble_eq_true rfl⟩) hS (fun q _ h => hFc q h) hFc (fun r0 u tS H1 locs ht hvm hr0 hB hz1 hk1 hS => ?_)
        obtain ⟨hP1, hK1, hD1⟩ := hB
        rw [ht] at hP1
        have hK1 := va_K.moved hvm.symm hK1
        obtain ⟨hP, hD⟩ := va_join (wr := []) (w1 := [(h0, .inr (2, [.ref q1, .int (nI N)])), (q1, .inl (d1, 6, .inl f))]) hP hD [0, 1] [] rfl rfl (by decide) (by decide) hk1 hFc hP1 hD1
        have hK := (hK.sub (tys' := []) [] rfl).app hK1
        generalize H1 = H at hP hS ⊢
        have hP : va_P (dC, dI) vwCl [(h0, .inr (2, [.ref q1, .int (nI N)])), (q1, .inl (d1, 6, .inl f))] H := hP
        have hD : va_D A [(h0, .inr (2, [.ref q1, .int (nI N)])), (q1, .inl (d1, 6, .inl f))] := hD
        have hK : va_K (dC, dI) vwCl [(d1, .int)] s := hK
        refine W.widen (k := 0) (n := 0) (Nat.le_of_ble_eq_true rfl) (Nat.le_of_ble_eq_true rfl) ?_
        have hr0 : r0 = zSum f 5 0 := hr0
        subst hr0
        refine lv_aload_n hx hb dX2_play_47 rfl (lv_at hl 0 rfl) ?_
        refine va_get (D := (dC, dI)) (ci := 2) (v := .int (nI N)) (C := RX2) (T := TX2) (N := 2) hx hb hts in_X2 hown hK hP 0 rfl rfl 1 (by decide) (hts _ q55) (fun _ h9 => h9) rfl dX2_play_48 ?_
        refine lv_aload_n hx hb dX2_play_51 rfl (lv_at hl 0 rfl) ?_
        refine va_get (D := (dC, dI)) (ci := 2) (v := .int (nI N)) (C := RX2) (T := TX2) (N := 2) hx hb hts in_X2 hown hK hP 0 rfl rfl 1 (by decide) (hts _ q55) (fun _ h9 => h9) rfl dX2_play_52 ?_
        refine lv_iconst (v := 1) hx hb dX2_play_55 (by decide) ?_
        refine lv_isub hx hb dX2_play_56 ?_
        refine lv_imul hx hb dX2_play_57 ?_
        refine lv_iconst (v := 2) hx hb dX2_play_58 (by decide) ?_
        refine lv_idiv hx hb dX2_play_59 (by decide) ?_
        refine lv_icmp_ne (tgt := 67) hx hb dX2_play_60 (by decide) (fun c2 => ?_) (fun c2 => ?_)
        · refine lv_iconst (v := 0) hx hb dX2_play_67 (by decide) ?_
          exact W.zret (v := 0) hx hb hr (rfl) (fun tS ht hW => ⟨⟨0, (), rfl, by rw [← he]; show (0 : Int32) = ite _ _ _; rw [if_neg c2], by rw [ht]; exact hP, va_K.moved hW.alike hK, hD⟩, hS.F ht⟩) hS.2.2 dX2_play_68
        · refine lv_iconst (v := 1) hx hb dX2_play_63 (by decide) ?_
          refine lv_goto (tgt := 68) hx hb dX2_play_64 (by decide) ?_
          exact W.zret (v := 1) hx hb hr (rfl) (fun tS ht hW => ⟨⟨1, (), rfl, by rw [← he]; show (1 : Int32) = ite _ _ _; rw [if_pos c2], by rw [ht]; exact hP, va_K.moved hW.alike hK, hD⟩, hS.F ht⟩) hS.2.2 dX2_play_68
      · exact absurd (nI_le (by omega) (by omega)) c1
    | succ j ih =>
      intro hj he H locs hP hD hS ls hl
      refine lv_iload_n hx hb dX2_play_2 rfl (lv_at hl 1 rfl) ?_
      refine lv_aload_n hx hb dX2_play_3 rfl (lv_at hl 0 rfl) ?_
      refine va_get (D := (dC, dI)) (ci := 2) (v := .int (nI N)) (C := RX2) (T := TX2) (N := 2) hx hb hts in_X2 hown hK hP 0 rfl rfl 1 (by decide) (hts _ q55) (fun _ h9 => h9) rfl dX2_play_4 ?_
      refine lv_icmp_ge (tgt := 43) hx hb dX2_play_7 (by decide) (fun c1 => ?_) (fun c1 => ?_)
      · exact absurd c1 (nI_ge (by omega) (by omega))
      · refine lv_aload_n hx hb dX2_play_10 rfl (lv_at hl 0 rfl) ?_
        have hPc := hP.sub (ws' := [(h0, .inr (2, [.ref q1, .int (nI N)])), (q1, .inl (d1, 6, .inl f))]) [0, 1] rfl
        have hDc := hD.sub (ws' := [(h0, .inr (2, [.ref q1, .int (nI N)])), (q1, .inl (d1, 6, .inl f))]) [0, 1] (by decide) rfl
        have hKc := hK.sub (tys' := [(d1, .int)]) [0] rfl
        have hFc := va_free (wc := [(h0, .inr (2, [.ref q1, .int (nI N)])), (q1, .inl (d1, 6, .inl f))]) hD hS hA [0, 1] rfl
        refine va_calli (va_runV (As := []) (rest := []) ⟨hx, hb, hml, hown, hts⟩ (metX2_sum l dC dI H.size h0 q1 d1 f (nI N)) (cwV 0 hts (lw_V q69 q70 q71 q9 q72) rfl rfl rfl (by decide +kernel) ⟨Nat.le_of_ble_eq_true rfl, Nat.le_of_ble_eq_true rfl⟩) ⟨fun a U g mk q => by obtain ⟨q0, q1, qP, qK, qD⟩ := q; exact ⟨q0, q1, qP, va_K.moved (u := U) (U := U.calling g mk a) (Vm.Alike.refl U.vm) qK, qD⟩, va_recv hKc hPc (ci := 2) (q0 := 0) rfl rfl, fun U hU hW => ⟨rfl, by rw [hU], by rw [hU]; exact hPc, va_K.moved hW.alike hKc, hDc.weaken (fun _ _ _ _ => trivial)⟩⟩ rfl rfl hl.1 rfl (lv_room (Nat.le_of_ble_eq_true rfl)) dX2_play_11 ⟨Nat.le_of_ble_eq_true rfl, Nat.le_of_ble_eq_true rfl⟩) hS (fun q _ h => hFc q h) hFc (fun r0 u tS H1 locs ht hvm hr0 hB hz1 hk1 hS => ?_)
        obtain ⟨hP1, hK1, hD1⟩ := hB
        rw [ht] at hP1
        have hK1 := va_K.moved hvm.symm hK1
        obtain ⟨hP, hD⟩ := va_join (wr := []) (w1 := [(h0, .inr (2, [.ref q1, .int (nI N)])), (q1, .inl (d1, 6, .inl f))]) hP hD [0, 1] [] rfl rfl (by decide) (by decide) hk1 hFc hP1 hD1
        have hK := (hK.sub (tys' := []) [] rfl).app hK1
        generalize H1 = H at hP hS ⊢
        have hP : va_P (dC, dI) vwCl [(h0, .inr (2, [.ref q1, .int (nI N)])), (q1, .inl (d1, 6, .inl f))] H := hP
        have hD : va_D A [(h0, .inr (2, [.ref q1, .int (nI N)])), (q1, .inl (d1, 6, .inl f))] := hD
        have hK : va_K (dC, dI) vwCl [(d1, .int)] s := hK
        refine W.widen (k := 0) (n := 0) (Nat.le_of_ble_eq_true rfl) (Nat.le_of_ble_eq_true rfl) ?_
        have hr0 : r0 = zSum f 5 0 := hr0
        subst hr0
        refine lv_aload_n hx hb dX2_play_14 rfl (lv_at hl 0 rfl) ?_
        refine lv_aload_n hx hb dX2_play_15 rfl (lv_at hl 0 rfl) ?_
        refine va_get (D := (dC, dI)) (ci := 2) (v := .int (nI N)) (C := RX2) (T := TX2) (N := 2) hx hb hts in_X2 hown hK hP 0 rfl rfl 1 (by decide) (hts _ q55) (fun _ h9 => h9) rfl dX2_play_16 ?_
        refine lv_iload_n hx hb dX2_play_19 rfl (lv_at hl 1 rfl) ?_
        refine lv_isub hx hb dX2_play_20 ?_
        have hPc := hP.sub (ws' := [(h0, .inr (2, [.ref q1, .int (nI N)])), (q1, .inl (d1, 6, .inl f))]) [0, 1] rfl
        have hDc := hD.sub (ws' := [(h0, .inr (2, [.ref q1, .int (nI N)])), (q1, .inl (d1, 6, .inl f))]) [0, 1] (by decide) rfl
        have hKc := hK.sub (tys' := [(d1, .int)]) [0] rfl
        have hFc := va_free (wc := [(h0, .inr (2, [.ref q1, .int (nI N)])), (q1, .inl (d1, 6, .inl f))]) hD hS hA [0, 1] rfl
        refine va_calli (va_runV (As := [.int ((nI N) - (nI (N - (j + 1))))]) (rest := [.int (zSum f 5 0)]) ⟨hx, hb, hml, hown, hts⟩ (metX2_greatest l dC dI H.size h0 q1 d1 f (nI N) (nI N - nI (N - (j + 1)))) (cwV 1 hts (lw_V q73 q75 qs1 q9 q76) rfl rfl rfl (by decide +kernel) ⟨Nat.le_of_ble_eq_true rfl, Nat.le_of_ble_eq_true rfl⟩) ⟨fun a U g mk q => by obtain ⟨q0, q1, qP, qK, qD⟩ := q; exact ⟨q0, q1, qP, va_K.moved (u := U) (U := U.calling g mk a) (Vm.Alike.refl U.vm) qK, qD⟩, va_recv hKc hPc (ci := 2) (q0 := 0) rfl rfl, fun U hU hW => ⟨rfl, by rw [hU], by rw [hU]; exact hPc, va_K.moved hW.alike hKc, hDc.weaken (fun _ _ _ _ => trivial)⟩⟩ rfl rfl hl.1 rfl (lv_room (Nat.le_of_ble_eq_true rfl)) dX2_play_21 ⟨Nat.le_of_ble_eq_true rfl, Nat.le_of_ble_eq_true rfl⟩) hS (fun q _ h => hFc q h) hFc (fun r1 u tS H1 locs ht hvm hr1 hB hz1 hk1 hS => ?_)
        obtain ⟨hP1, hK1, hD1⟩ := hB
        rw [ht] at hP1
        have hK1 := va_K.moved hvm.symm hK1
        obtain ⟨hP, hD⟩ := va_join (wr := []) (w1 := [(h0, .inr (2, [.ref q1, .int (nI N)])), (q1, .inl (d1, 6, .inl f))]) hP hD [0, 1] [] rfl rfl (by decide) (by decide) hk1 hFc hP1 hD1
        have hK := (hK.sub (tys' := []) [] rfl).app hK1
        generalize H1 = H at hP hS ⊢
        have hP : va_P (dC, dI) vwCl [(h0, .inr (2, [.ref q1, .int (nI N)])), (q1, .inl (d1, 6, .inl f))] H := hP
        have hD : va_D A [(h0, .inr (2, [.ref q1, .int (nI N)])), (q1, .inl (d1, 6, .inl f))] := hD
        have hK : va_K (dC, dI) vwCl [(d1, .int)] s := hK
        refine W.widen (k := 0) (n := 0) (Nat.le_of_ble_eq_true rfl) (Nat.le_of_ble_eq_true rfl) ?_
        have hr1 : r1 = zGr f 5 0 (nI N - nI (N - (j + 1))) := hr1
        subst hr1
        refine lv_isub hx hb dX2_play_24 ?_
        refine lv_iload_n hx hb dX2_play_25 rfl (lv_at hl 1 rfl) ?_
        refine lv_iload_n hx hb dX2_play_26 rfl (lv_at hl 1 rfl) ?_
        refine lv_iconst (v := 1) hx hb dX2_play_27 (by decide) ?_
        refine lv_isub hx hb dX2_play_28 ?_
        refine lv_imul hx hb dX2_play_29 ?_
        refine lv_iconst (v := 2) hx hb dX2_play_30 (by decide) ?_
        refine lv_idiv hx hb dX2_play_31 (by decide) ?_
        refine lv_icmp_ge (tgt := 37) hx hb dX2_play_32 (by decide) (fun c2 => ?_) (fun c2 => ?_)
        · refine lv_iinc (v := nI (N - j)) (lv' := [(1, .int (nI (N - j))), (0, .ref h0)]) hx hb dX2_play_37 hl (k := 1) rfl ((nI_1 _).trans (congrArg nI (by omega))) (by decide) rfl (fun ls hl => ?_)
          refine lv_goto (tgt := 2) hx hb dX2_play_40 (by decide) ?_
          exact ih (by omega) (by rw [← he]; show _ = ite _ _ _; rw [if_pos c2]) H locs hP hD hS ls (lv_sub hl [1, 0] rfl)
        · refine lv_iconst (v := 0) hx hb dX2_play_35 (by decide) ?_
          exact W.zret (v := 0) hx hb hr (rfl) (fun tS ht hW => ⟨⟨0, (), rfl, by rw [← he]; show (0 : Int32) = ite _ _ _; rw [if_neg c2], by rw [ht]; exact hP, va_K.moved hW.alike hK, hD⟩, hS.F ht⟩) hS.2.2 dX2_play_36
  refine lv_iconst (v := 1) hx hb dX2_play_0 (by decide) ?_
  refine lv_istore_n (lv' := [(1, .int 1), (0, .ref h0)]) hx hb dX2_play_1 rfl hl (by decide) rfl (fun ls hl => ?_)
  exact loop (N - 1) (Nat.le_refl _) rfl s.heap [] hP hD hS ls (by rw [show N - (N - 1) = 1 by omega]; exact lv_sub hl [1, 0] rfl)
end
section
/-! Counter: choices, init, from -/
set_option maxHeartbeats 4000000 in
set_option maxRecDepth 100000 in
/-- Counter.choices(n, k) -/
theorem metX3_choices (l : Launch) (dC : Nat → ClassId) (dI : Nat → Nat → Nat) (sz : Nat) (n0 k0 : Nat) (hk : k0 ≤ n0) (hn : n0 ≤ 5) : Met l yX3_choices (ws_ yX3_choices cX3_choices 4 (some .int)) ({ frames := 0, cells := 0, slots := 0, locals := 0 }) (va_Pc [.int (nI n0), .int (nI k0)] (fun U => U.heap.size = sz ∧ va_P (dC, dI) vwCl [] U.heap ∧ va_K (dC, dI) vwCl [] U ∧ va_D (fun _ => True) [])) (va_Qi (fun (r : Int32) (u : Unit) => r = zCh n0 k0) (fun (u : Unit) (t : State) => va_P (dC, dI) vwCl [] t.heap ∧ va_K (dC, dI) vwCl [] t ∧ va_D (va_A [] sz) []) (va_A [] sz)) 0 0 (va_A [] sz) := by
  refine Met.ofW (cc := cX3_choices) (maxL := 4) (ret := (some .int)) (by decide) rfl ?_
  intro p e s m args below meth c s₁ B hml hv
  obtain ⟨rfl, hsz, hP, hK, hD0⟩ := hv
  have hx := B.exec
  have hb := B.bytes
  have hr := B.returns
  have hts := atoms_spec (ws := ws_ yX3_choices cX3_choices 4 (some .int)) B.pre
  have hts : ∀ w ∈ lw_all, w.before _ s = true := fun w h => hts w (List.mem_cons_of_mem _ h)
  have hown : s.vm.findClass RX3 = some m.cls := findClass_of_methodNamed B.named
  have hlocks := B.notSynchronized
  subst hsz
  have hD := hD0.self (sz := s.heap.size)
  generalize hAe : va_A [] s.heap.size = A at hD ⊢
  have hA : ∀ q : Nat, s.heap.size ≤ q → A q := fun q h => by rw [← hAe]; exact Or.inr h
  have hS : va_S A s.heap s.heap [] := va_S.rf
  have hP : va_P (dC, dI) vwCl [] s.heap := hP
  have hl := lv_entry ([.int (nI n0), .int (nI k0)]) (n := 4) (Nat.le_of_ble_eq_true rfl)
  rw [lg_entry_eq]
  generalize (lg_sl ([.int (nI n0), .int (nI k0)]) ++ List.replicate (4 - (lg_sl ([.int (nI n0), .int (nI k0)])).length) Slot.unset).toArray = ls at hl ⊢
  have hl : lv_has ls 4 [(0, .int (nI n0)), (1, .int (nI k0))] := hl
  have loop : ∀ (j : Nat) (x2 : Int32), j ≤ k0 → zChL n0 k0 j x2 = zCh n0 k0 → ∀ ls : Array Slot, lv_has ls 4 [(0, .int (nI n0)), (1, .int (nI k0)), (2, .int x2), (3, .int (nI (k0 + 1 - j)))] → W p l e (headSpec (ws_ yX3_choices cX3_choices 4 (some .int)) ({ frames := 0, cells := 0, slots := 0, locals := 0 })).room s m ([.int (nI n0), .int (nI k0)] : List Value).toArray below meth c s.heap [] 0 0 (MQ below (va_Qi (fun (r : Int32) (u : Unit) => r = zCh n0 k0) (fun (u : Unit) (t : State) => va_P (dC, dI) vwCl [] t.heap ∧ va_K (dC, dI) vwCl [] t ∧ va_D A []) A) ([.int (nI n0), .int (nI k0)] : List Value).toArray s 0 0 A) (F0 m 4 ls []) := by
    intro j
    induction j with
    | zero =>
      intro x2 hj he ls hl
      refine lv_iload_n hx hb dX3_choices_4 rfl (lv_at hl 3 rfl) ?_
      refine lv_iload_n hx hb dX3_choices_5 rfl (lv_at hl 1 rfl) ?_
      refine lv_icmp_gt (tgt := 25) hx hb dX3_choices_6 (by decide) (fun c1 => ?_) (fun c1 => ?_)
      · refine lv_iload_n hx hb dX3_choices_25 rfl (lv_at hl 2 rfl) ?_
        exact W.iret (v := x2) hx hb hr (fun tS ht hW => ⟨⟨x2, (), rfl, he, by rw [ht]; exact hP, va_K.moved hW.alike hK, hD⟩, hS.F ht⟩) hS.2.2 dX3_choices_26
      · exact absurd (nI_lt (by omega) (by omega)) c1
    | succ j ih =>
      intro x2 hj he ls hl
      have hl : lv_has ls 4 [(0, .int (nI n0)), (1, .int (nI k0)), (2, .int x2), (3, .int (nI (k0 - j)))] := by rw [show k0 - j = k0 + 1 - (j + 1) by omega]; exact hl
      refine lv_iload_n hx hb dX3_choices_4 rfl (lv_at hl 3 rfl) ?_
      refine lv_iload_n hx hb dX3_choices_5 rfl (lv_at hl 1 rfl) ?_
      refine lv_icmp_gt (tgt := 25) hx hb dX3_choices_6 (by decide) (fun c1 => ?_) (fun c1 => ?_)
      · exact absurd c1 (nI_nlt (by omega) (by omega))
      · refine lv_iload_n hx hb dX3_choices_9 rfl (lv_at hl 2 rfl) ?_
        refine lv_iload_n hx hb dX3_choices_10 rfl (lv_at hl 0 rfl) ?_
        refine lv_iload_n hx hb dX3_choices_11 rfl (lv_at hl 1 rfl) ?_
        refine lv_isub hx hb dX3_choices_12 ?_
        refine lv_iload_n hx hb dX3_choices_13 rfl (lv_at hl 3 rfl) ?_
        refine lv_iadd hx hb dX3_choices_14 ?_
        refine lv_imul hx hb dX3_choices_15 ?_
        refine lv_iload_n hx hb dX3_choices_16 rfl (lv_at hl 3 rfl) ?_
        refine lv_idiv hx hb dX3_choices_17 (nI_ne0 (by omega) (by omega)) ?_
        refine lv_topi (fun x_1 ex_1 => ?_)
        refine lv_istore_n (lv' := [(2, .int x_1), (0, .int (nI n0)), (1, .int (nI k0)), (3, .int (nI (k0 - j)))]) hx hb dX3_choices_18 rfl hl (by decide) rfl (fun ls hl => ?_)
        refine lv_iinc (v := nI (k0 + 1 - j)) (lv' := [(3, .int (nI (k0 + 1 - j))), (2, .int x_1), (0, .int (nI n0)), (1, .int (nI k0))]) hx hb dX3_choices_19 hl (k := 3) rfl ((nI_1 _).trans (congrArg nI (by omega))) (by decide) rfl (fun ls hl => ?_)
        refine lv_goto (tgt := 4) hx hb dX3_choices_22 (by decide) ?_
        exact ih x_1 (by omega) (by rw [← he, ex_1]; rfl) ls (lv_sub hl [2, 3, 1, 0] rfl)
  refine lv_iconst (v := 1) hx hb dX3_choices_0 (by decide) ?_
  refine lv_istore_n (lv' := [(2, .int 1), (0, .int (nI n0)), (1, .int (nI k0))]) hx hb dX3_choices_1 rfl hl (by decide) rfl (fun ls hl => ?_)
  refine lv_iconst (v := 1) hx hb dX3_choices_2 (by decide) ?_
  refine lv_istore_n (lv' := [(3, .int 1), (2, .int 1), (0, .int (nI n0)), (1, .int (nI k0))]) hx hb dX3_choices_3 rfl hl (by decide) rfl (fun ls hl => ?_)
  exact loop k0 1 (Nat.le_refl k0) rfl ls (by rw [show k0 + 1 - k0 = 1 by omega]; exact lv_sub hl [2, 3, 1, 0] rfl)
set_option maxHeartbeats 4000000 in
set_option maxRecDepth 100000 in
/-- Counter(nets): new counts -/
theorem metX3_init (l : Launch) (dC : Nat → ClassId) (dI : Nat → Nat → Nat) (sz : Nat) (h0 : Nat) (x : Int32) (hx01 : x = 0 ∨ x = 1) : Met l yX3_init (ws_ yX3_init cX3_init 2 none) ({ frames := 2, cells := 2, slots := 8, locals := 50 }) (va_Pc [.ref h0, .int x] (fun U => U.heap.size = sz ∧ va_P (dC, dI) vwCl [(h0, .inr (3, [.null, .int 0]))] U.heap ∧ va_K (dC, dI) vwCl [] U ∧ va_D (fun _ => True) [(h0, .inr (3, [.null, .int 0]))] ∧ va_Nw (.methodLinkNest "ScoreRows$Counter" 9 yX2_init "ScoreRows") U)) (va_Qv (fun (u : Nat × Nat × ClassId) => True) (fun (u : Nat × Nat × ClassId) (t : State) => va_P (dC, dI) vwCl [(h0, .inr (3, [.ref u.1, .int x])), (u.1, .inr (2, [.ref u.2.1, .int 0])), (u.2.1, .inl (u.2.2, 6, .inl (fun _ => 0)))] t.heap ∧ va_K (dC, dI) vwCl [(u.2.2, .int)] t ∧ va_D (va_A [(h0, .inr (3, [.null, .int 0]))] sz) [(h0, .inr (3, [.ref u.1, .int x])), (u.1, .inr (2, [.ref u.2.1, .int 0])), (u.2.1, .inl (u.2.2, 6, .inl (fun _ => 0)))]) (va_A [(h0, .inr (3, [.null, .int 0]))] sz)) 2 8 (va_A [(h0, .inr (3, [.null, .int 0]))] sz) := by
  refine Met.ofW (cc := cX3_init) (maxL := 2) (ret := none) (by decide) rfl ?_
  intro p e s m args below meth c s₁ B hml hv
  obtain ⟨rfl, hsz, hP, hK, hD0, hN⟩ := hv
  have hx := B.exec
  have hb := B.bytes
  have hr := B.returns
  have hts := atoms_spec (ws := ws_ yX3_init cX3_init 2 none) B.pre
  have hts : ∀ w ∈ lw_all, w.before _ s = true := fun w h => hts w (List.mem_cons_of_mem _ h)
  have hown : s.vm.findClass RX3 = some m.cls := findClass_of_methodNamed B.named
  have hlocks := B.notSynchronized
  have hin : meth.name = "<init>" := (name_of_methodNamed B.named B.method).1
  subst hsz
  have hD := hD0.self (sz := s.heap.size)
  generalize hAe : va_A [(h0, .inr (3, [.null, .int 0]))] s.heap.size = A at hD ⊢
  have hA : ∀ q : Nat, s.heap.size ≤ q → A q := fun q h => by rw [← hAe]; exact Or.inr h
  have hS : va_S A s.heap s.heap [] := va_S.rf
  have hP : va_P (dC, dI) vwCl [(h0, .inr (3, [.null, .int 0]))] s.heap := hP
  have hl := lv_entry ([.ref h0, .int x]) (n := 2) (Nat.le_of_ble_eq_true rfl)
  rw [lg_entry_eq]
  generalize (lg_sl ([.ref h0, .int x]) ++ List.replicate (2 - (lg_sl ([.ref h0, .int x])).length) Slot.unset).toArray = ls at hl ⊢
  have hl : lv_has ls 2 [(0, .ref h0), (1, .int x)] := hl
  refine lv_aload_n hx hb dX3_init_0 rfl (lv_at hl 0 rfl) ?_
  refine W.objInit hx hb hown (hts _ q108) (hts _ q18) (hts _ q19) rfl (by rw [hml]; exact hl.1) rfl dX3_init_1 (Nat.le_of_ble_eq_true rfl) (Nat.le_of_ble_eq_true rfl) ?_
  refine W.eq (g2 := F0 m 4 ls []) rfl ?_
  refine lv_aload_n hx hb dX3_init_4 rfl (lv_at hl 0 rfl) ?_
  refine va_new (ci := 2) (fs := [.null, .int 0]) (C := RX2) (T := TX2) (N := 2) hx hb hts in_X2 tyX2 tyX2_ok hown (hts _ q109) (hts _ q49) (hts _ q9) hK hP hD hS hA rfl (fun j hj => by rcases (show j = 0 ∨ j = 1 by omega) with rfl | rfl <;> rfl) (Nat.le_of_ble_eq_true rfl) (Nat.le_of_ble_eq_true rfl) dX3_init_5 (fun q5 H hP hD hS => ?_)
  have hP : va_P (dC, dI) vwCl [(h0, .inr (3, [.null, .int 0])), (q5, .inr (2, [.null, .int 0]))] H := hP
  have hD : va_D A [(h0, .inr (3, [.null, .int 0])), (q5, .inr (2, [.null, .int 0]))] := hD
  refine W.widen (k := 1) (n := 2) (Nat.le_of_ble_eq_true rfl) (Nat.le_of_ble_eq_true rfl) ?_
  refine lv_dup hx hb dX3_init_8 rfl ?_
  have hPc := hP.sub (ws' := [(q5, .inr (2, [.null, .int 0]))]) [1] rfl
  have hDc := hD.sub (ws' := [(q5, .inr (2, [.null, .int 0]))]) [1] (by decide) rfl
  have hKc := hK.sub (tys' := []) [] rfl
  have hFc := va_free (wc := [(q5, .inr (2, [.null, .int 0]))]) hD hS hA [1] rfl
  refine va_callv (va_runIN (As := []) (rest := [.ref q5, .ref h0]) ⟨hx, hb, hml, hown, hts⟩ (metX2_init l dC dI H.size q5) (⟨va_cnB 0 hts (lw_meth q52) rfl rfl rfl hN (hts _ q9) (by decide +kernel) ⟨Nat.le_of_ble_eq_true rfl, Nat.le_of_ble_eq_true rfl⟩, rfl, hts _ q51⟩) ⟨fun a U g mk q => by obtain ⟨q0, q1, qP, qK, qD⟩ := q; exact ⟨q0, q1, qP, va_K.moved (u := U) (U := U.calling g mk a) (Vm.Alike.refl U.vm) qK, qD⟩, fun U hU hW => ⟨rfl, by rw [hU], by rw [hU]; exact hPc, va_K.moved hW.alike hKc, hDc.weaken (fun _ _ _ _ => trivial)⟩⟩ rfl rfl hl.1 rfl (lv_room (Nat.le_of_ble_eq_true rfl)) dX3_init_9 ⟨Nat.le_of_ble_eq_true rfl, Nat.le_of_ble_eq_true rfl⟩) hS (fun q _ h => hFc q h) hFc (fun u tS H1 locs ht hvm hw hB hz1 hk1 hS => ?_)
  obtain ⟨qa, da⟩ := u
  obtain ⟨hP1, hK1, hD1⟩ := hB
  rw [ht] at hP1
  have hK1 := va_K.moved hvm.symm hK1
  obtain ⟨hP, hD⟩ := va_join (wr := [(h0, .inr (3, [.null, .int 0]))]) (w1 := [(q5, .inr (2, [.ref qa, .int 0])), (qa, .inl (da, 6, .inl (fun _ => 0)))]) hP hD [1] [0] rfl rfl (by decide) (by decide) hk1 hFc hP1 hD1
  have hK := (hK.sub (tys' := []) [] rfl).app hK1
  generalize H1 = H at hP hS ⊢
  have hP : va_P (dC, dI) vwCl [(h0, .inr (3, [.null, .int 0])), (q5, .inr (2, [.ref qa, .int 0])), (qa, .inl (da, 6, .inl (fun _ => 0)))] H := hP
  have hD : va_D A [(h0, .inr (3, [.null, .int 0])), (q5, .inr (2, [.ref qa, .int 0])), (qa, .inl (da, 6, .inl (fun _ => 0)))] := hD
  have hK : va_K (dC, dI) vwCl [(da, .int)] s := hK
  refine W.widen (k := 2) (n := 8) (Nat.le_of_ble_eq_true rfl) (Nat.le_of_ble_eq_true rfl) ?_
  refine va_putF (D := (dC, dI)) (ci := 3) (v := .ref q5) (ty := .object "ScoreRows$Counts") (C := RX3) (T := TX3) (N := 2) hx hb hts in_X3 tyX3 tyX3_ok nmX3 hown hK hP hD hS 0 rfl rfl 0 (by decide) (hts _ q111) (fun _ h9 => h9) rfl hin rfl (by decide +kernel) rfl rfl (Nat.le_of_ble_eq_true rfl) dX3_init_12 (fun H locs hP hD hS => ?_)
  have hP : va_P (dC, dI) vwCl [(h0, .inr (3, [.ref q5, .int 0])), (q5, .inr (2, [.ref qa, .int 0])), (qa, .inl (da, 6, .inl (fun _ => 0)))] H := hP
  have hD : va_D A [(h0, .inr (3, [.ref q5, .int 0])), (q5, .inr (2, [.ref qa, .int 0])), (qa, .inl (da, 6, .inl (fun _ => 0)))] := hD
  refine lv_aload_n hx hb dX3_init_15 rfl (lv_at hl 0 rfl) ?_
  refine lv_iload_n hx hb dX3_init_16 rfl (lv_at hl 1 rfl) ?_
  refine va_putF (D := (dC, dI)) (ci := 3) (v := .int x) (ty := .boolean) (C := RX3) (T := TX3) (N := 2) hx hb hts in_X3 tyX3 tyX3_ok nmX3 hown hK hP hD hS 0 rfl rfl 1 (by decide) (hts _ q112) (fun _ h9 => h9) rfl hin rfl (by decide +kernel) (by rcases hx01 with rfl | rfl <;> rfl) (by rcases hx01 with rfl | rfl <;> rfl) (Nat.le_of_ble_eq_true rfl) dX3_init_17 (fun H locs hP hD hS => ?_)
  have hP : va_P (dC, dI) vwCl [(h0, .inr (3, [.ref q5, .int x])), (q5, .inr (2, [.ref qa, .int 0])), (qa, .inl (da, 6, .inl (fun _ => 0)))] H := hP
  have hD : va_D A [(h0, .inr (3, [.ref q5, .int x])), (q5, .inr (2, [.ref qa, .int 0])), (qa, .inl (da, 6, .inl (fun _ => 0)))] := hD
  exact W.vret hx hb hr (fun tS ht hW => ⟨⟨(q5, qa, da), rfl, trivial, by rw [ht]; exact hP, va_K.moved hW.alike hK, hD⟩, hS.F ht⟩) hS.2.2 dX3_init_20
theorem z_upd_back (f : Nat → Int32) (V : Nat) (k : Int32) : upd (upd f V (f V + k)) V (upd f V (f V + k) V - k) = f := by
  funext a
  unfold upd
  by_cases h : a = V
  · subst h
    simp
  · simp [h]
theorem z_sub_back (N t : Nat) : nI (N + t) - nI t = nI N := by
  rw [pk_sub (by omega), show N + t - t = N by omega]
theorem zNetL_01 (f : Nat → Int32) (N j : Nat) : zNetL f N j = 0 ∨ zNetL f N j = 1 := by
  induction j with
  | zero => exact Or.inr rfl
  | succ j ih =>
    unfold zNetL
    split
    · exact ih
    · exact Or.inl rfl
theorem zNet_01 (f : Nat → Int32) (N : Nat) : zNet f N = 0 ∨ zNet f N = 1 := by
  unfold zNet
  split
  · exact Or.inl rfl
  · exact zNetL_01 f N N
theorem zPlayL_01 (f : Nat → Int32) (N j : Nat) : zPlayL f N j = 0 ∨ zPlayL f N j = 1 := by
  induction j with
  | zero =>
    unfold zPlayL
    split
    · exact Or.inr rfl
    · exact Or.inl rfl
  | succ j ih =>
    unfold zPlayL
    split
    · exact ih
    · exact Or.inl rfl
theorem zPlay_01 (f : Nat → Int32) (N : Nat) : zPlay f N = 0 ∨ zPlay f N = 1 := zPlayL_01 f N (N - 1)
theorem zFr_n (f : Nat → Int32) (N : Nat) : zFr true 0 f N 0 = zNet f N := rfl
theorem zFr_p (f : Nat → Int32) (N : Nat) : zFr false 0 f N 0 = zPlay f N := rfl
theorem zFr_z (b : Bool) (f : Nat → Int32) (N : Nat) {L : Nat} (h : L ≠ 0) : zFr b 0 f N L = 0 := by
  unfold zFr
  rw [if_neg h]
set_option maxHeartbeats 4000000 in
set_option maxRecDepth 100000 in
/-- Counter.from(v, left), v = 6 - d -/
theorem metX3_from (l : Launch) (dC : Nat → ClassId) (dI : Nat → Nat → Nat) (h0 q1 q2 : Nat) (d2 : ClassId) (bb : Bool) : ∀ (d sz : Nat) (f : Nat → Int32) (N L V : Nat), V + d = 6 → 1 ≤ N + L → N + L ≤ 5 → Met l yX3_from (ws_ yX3_from cX3_from 5 (some .int)) (({ frames := 3 + d, cells := 0, slots := 0, locals := 100 + 24 * d } : Room)) (va_Pc [.ref h0, .int (nI V), .int (nI L)] (fun U => U.heap.size = sz ∧ va_P (dC, dI) vwCl [(h0, .inr (3, [.ref q1, .int (zB bb)])), (q1, .inr (2, [.ref q2, .int (nI N)])), (q2, .inl (d2, 6, .inl f))] U.heap ∧ va_K (dC, dI) vwCl [(d2, .int)] U ∧ va_D (fun _ => True) [(h0, .inr (3, [.ref q1, .int (zB bb)])), (q1, .inr (2, [.ref q2, .int (nI N)])), (q2, .inl (d2, 6, .inl f))])) (va_Qi (fun (r : Int32) (u : Unit) => r = zFr bb d f N L) (fun (u : Unit) (t : State) => va_P (dC, dI) vwCl [(h0, .inr (3, [.ref q1, .int (zB bb)])), (q1, .inr (2, [.ref q2, .int (nI N)])), (q2, .inl (d2, 6, .inl f))] t.heap ∧ va_K (dC, dI) vwCl [(d2, .int)] t ∧ va_D (va_A [(h0, .inr (3, [.ref q1, .int (zB bb)])), (q1, .inr (2, [.ref q2, .int (nI N)])), (q2, .inl (d2, 6, .inl f))] sz) [(h0, .inr (3, [.ref q1, .int (zB bb)])), (q1, .inr (2, [.ref q2, .int (nI N)])), (q2, .inl (d2, 6, .inl f))]) (va_A [(h0, .inr (3, [.ref q1, .int (zB bb)])), (q1, .inr (2, [.ref q2, .int (nI N)])), (q2, .inl (d2, 6, .inl f))] sz)) 0 0 (va_A [(h0, .inr (3, [.ref q1, .int (zB bb)])), (q1, .inr (2, [.ref q2, .int (nI N)])), (q2, .inl (d2, 6, .inl f))] sz) := by
  intro d
  induction d with
  | zero =>
    intro sz f N L V hV hN1 hN5
    obtain rfl : V = 6 := by omega
    refine Met.ofW (cc := cX3_from) (maxL := 5) (ret := (some .int)) (by decide) rfl ?_
    intro p e s m args below meth c s₁ B hml hv
    obtain ⟨rfl, hsz, hP, hK, hD0⟩ := hv
    have hx := B.exec
    have hb := B.bytes
    have hr := B.returns
    have hts := atoms_spec (ws := ws_ yX3_from cX3_from 5 (some .int)) B.pre
    have hts : ∀ w ∈ lw_all, w.before _ s = true := fun w h => hts w (List.mem_cons_of_mem _ h)
    have hown : s.vm.findClass RX3 = some m.cls := findClass_of_methodNamed B.named
    have hlocks := B.notSynchronized
    subst hsz
    have hD := hD0.self (sz := s.heap.size)
    generalize hAe : va_A [(h0, .inr (3, [.ref q1, .int (zB bb)])), (q1, .inr (2, [.ref q2, .int (nI N)])), (q2, .inl (d2, 6, .inl f))] s.heap.size = A at hD ⊢
    have hA : ∀ q : Nat, s.heap.size ≤ q → A q := fun q h => by rw [← hAe]; exact Or.inr h
    have hS : va_S A s.heap s.heap [] := va_S.rf
    have hP : va_P (dC, dI) vwCl [(h0, .inr (3, [.ref q1, .int (zB bb)])), (q1, .inr (2, [.ref q2, .int (nI N)])), (q2, .inl (d2, 6, .inl f))] s.heap := hP
    have hl := lv_entry ([.ref h0, .int (nI 6), .int (nI L)]) (n := 5) (Nat.le_of_ble_eq_true rfl)
    rw [lg_entry_eq]
    generalize (lg_sl ([.ref h0, .int (nI 6), .int (nI L)]) ++ List.replicate (5 - (lg_sl ([.ref h0, .int (nI 6), .int (nI L)])).length) Slot.unset).toArray = ls at hl ⊢
    have hl : lv_has ls 5 [(0, .ref h0), (1, .int (nI 6)), (2, .int (nI L))] := hl
    refine lv_iload_n hx hb dX3_from_0 rfl (lv_at hl 1 rfl) ?_
    refine lv_bipush (v := 6) hx hb dX3_from_1 (by decide) ?_
    refine lv_icmp_ne (tgt := 46) hx hb dX3_from_3 (by decide) (fun c0 => ?_) (fun c0 => ?_)
    · exact absurd (show nI 6 = 6 from rfl) c0
    · refine lv_iload_n hx hb dX3_from_6 rfl (lv_at hl 2 rfl) ?_
      refine lv_if_ne (tgt := 44) hx hb dX3_from_7 (by decide) (fun c1 => ?_) (fun c1 => ?_)
      · refine lv_iconst (v := 0) hx hb dX3_from_44 (by decide) ?_
        exact W.iret (v := 0) hx hb hr (fun tS ht hW => ⟨⟨0, (), rfl, (zFr_z bb f N (fun h => c1 (by rw [h]; rfl))).symm, by rw [ht]; exact hP, va_K.moved hW.alike hK, hD⟩, hS.F ht⟩) hS.2.2 dX3_from_45
      · obtain rfl : L = 0 := (nI_eq (by omega) (by decide)).mp c1
        refine lv_aload_n hx hb dX3_from_10 rfl (lv_at hl 0 rfl) ?_
        refine va_get (D := (dC, dI)) (ci := 3) (v := .int (zB bb)) (C := RX3) (T := TX3) (N := 2) hx hb hts in_X3 hown hK hP 0 rfl rfl 1 (by decide) (hts _ q112) (fun _ h9 => h9) rfl dX3_from_11 ?_
        refine lv_if_eq (tgt := 30) hx hb dX3_from_14 (by decide) (fun c2 => ?_) (fun c2 => ?_)
        · obtain rfl : bb = false := by cases bb with | false => exact rfl | true => exact absurd c2 (by decide)
          refine lv_aload_n hx hb dX3_from_30 rfl (lv_at hl 0 rfl) ?_
          refine va_get (D := (dC, dI)) (ci := 3) (v := .ref q1) (C := RX3) (T := TX3) (N := 2) hx hb hts in_X3 hown hK hP 0 rfl rfl 0 (by decide) (hts _ q111) (fun _ h9 => h9) rfl dX3_from_31 ?_
          have hPc := hP.sub (ws' := [(q1, .inr (2, [.ref q2, .int (nI N)])), (q2, .inl (d2, 6, .inl f))]) [1, 2] rfl
          have hDc := hD.sub (ws' := [(q1, .inr (2, [.ref q2, .int (nI N)])), (q2, .inl (d2, 6, .inl f))]) [1, 2] (by decide) rfl
          have hKc := hK.sub (tys' := [(d2, .int)]) [0] rfl
          have hFc := va_free (wc := [(q1, .inr (2, [.ref q2, .int (nI N)])), (q2, .inl (d2, 6, .inl f))]) hD hS hA [1, 2] rfl
          refine va_calli (va_runV (As := []) (rest := []) ⟨hx, hb, hml, hown, hts⟩ (metX2_play l dC dI s.heap.size q1 q2 d2 f N (by omega) (by omega)) (cwV 0 hts (lw_V q123 q92 q93 q9 q94) rfl rfl rfl (by decide +kernel) ⟨Nat.le_of_ble_eq_true rfl, Nat.le_of_ble_eq_true rfl⟩) ⟨fun a U g mk q => by obtain ⟨q0, q1, qP, qK, qD⟩ := q; exact ⟨q0, q1, qP, va_K.moved (u := U) (U := U.calling g mk a) (Vm.Alike.refl U.vm) qK, qD⟩, va_recv hKc hPc (ci := 2) (q0 := 0) rfl rfl, fun U hU hW => ⟨rfl, by rw [hU], by rw [hU]; exact hPc, va_K.moved hW.alike hKc, hDc.weaken (fun _ _ _ _ => trivial)⟩⟩ rfl rfl hl.1 rfl (lv_room (Nat.le_of_ble_eq_true rfl)) dX3_from_34 ⟨Nat.le_of_ble_eq_true rfl, Nat.le_of_ble_eq_true rfl⟩) hS (fun q _ h => hFc q h) hFc (fun r1 u tS H1 locs ht hvm hr1 hB hz1 hk1 hS => ?_)
          obtain ⟨hP1, hK1, hD1⟩ := hB
          rw [ht] at hP1
          have hK1 := va_K.moved hvm.symm hK1
          obtain ⟨hP, hD⟩ := va_join (wr := [(h0, .inr (3, [.ref q1, .int (zB false)]))]) (w1 := [(q1, .inr (2, [.ref q2, .int (nI N)])), (q2, .inl (d2, 6, .inl f))]) hP hD [1, 2] [0] rfl rfl (by decide) (by decide) hk1 hFc hP1 hD1
          have hK := (hK.sub (tys' := []) [] rfl).app hK1
          generalize H1 = H at hP hS ⊢
          have hP : va_P (dC, dI) vwCl [(h0, .inr (3, [.ref q1, .int (zB false)])), (q1, .inr (2, [.ref q2, .int (nI N)])), (q2, .inl (d2, 6, .inl f))] H := hP
          have hD : va_D A [(h0, .inr (3, [.ref q1, .int (zB false)])), (q1, .inr (2, [.ref q2, .int (nI N)])), (q2, .inl (d2, 6, .inl f))] := hD
          have hK : va_K (dC, dI) vwCl [(d2, .int)] s := hK
          refine W.widen (k := 0) (n := 0) (Nat.le_of_ble_eq_true rfl) (Nat.le_of_ble_eq_true rfl) ?_
          have hr1 : r1 = zPlay f N := hr1
          subst hr1
          refine lv_if_eq (tgt := 44) hx hb dX3_from_37 (by decide) (fun c3 => ?_) (fun c3 => ?_)
          · refine lv_iconst (v := 0) hx hb dX3_from_44 (by decide) ?_
            exact W.iret (v := 0) hx hb hr (fun tS ht hW => ⟨⟨0, (), rfl, c3.symm, by rw [ht]; exact hP, va_K.moved hW.alike hK, hD⟩, hS.F ht⟩) hS.2.2 dX3_from_45
          · refine lv_iconst (v := 1) hx hb dX3_from_40 (by decide) ?_
            refine lv_goto (tgt := 45) hx hb dX3_from_41 (by decide) ?_
            exact W.iret (v := 1) hx hb hr (fun tS ht hW => ⟨⟨1, (), rfl, ((zPlay_01 f N).resolve_left c3).symm, by rw [ht]; exact hP, va_K.moved hW.alike hK, hD⟩, hS.F ht⟩) hS.2.2 dX3_from_45
        · obtain rfl : bb = true := by cases bb with | false => exact absurd (by decide) c2 | true => exact rfl
          refine lv_aload_n hx hb dX3_from_17 rfl (lv_at hl 0 rfl) ?_
          refine va_get (D := (dC, dI)) (ci := 3) (v := .ref q1) (C := RX3) (T := TX3) (N := 2) hx hb hts in_X3 hown hK hP 0 rfl rfl 0 (by decide) (hts _ q111) (fun _ h9 => h9) rfl dX3_from_18 ?_
          have hPc := hP.sub (ws' := [(q1, .inr (2, [.ref q2, .int (nI N)])), (q2, .inl (d2, 6, .inl f))]) [1, 2] rfl
          have hDc := hD.sub (ws' := [(q1, .inr (2, [.ref q2, .int (nI N)])), (q2, .inl (d2, 6, .inl f))]) [1, 2] (by decide) rfl
          have hKc := hK.sub (tys' := [(d2, .int)]) [0] rfl
          have hFc := va_free (wc := [(q1, .inr (2, [.ref q2, .int (nI N)])), (q2, .inl (d2, 6, .inl f))]) hD hS hA [1, 2] rfl
          refine va_calli (va_runV (As := []) (rest := []) ⟨hx, hb, hml, hown, hts⟩ (metX2_net l dC dI s.heap.size q1 q2 d2 f N (by omega)) (cwV 0 hts (lw_V q122 q66 q67 q9 q68) rfl rfl rfl (by decide +kernel) ⟨Nat.le_of_ble_eq_true rfl, Nat.le_of_ble_eq_true rfl⟩) ⟨fun a U g mk q => by obtain ⟨q0, q1, qP, qK, qD⟩ := q; exact ⟨q0, q1, qP, va_K.moved (u := U) (U := U.calling g mk a) (Vm.Alike.refl U.vm) qK, qD⟩, va_recv hKc hPc (ci := 2) (q0 := 0) rfl rfl, fun U hU hW => ⟨rfl, by rw [hU], by rw [hU]; exact hPc, va_K.moved hW.alike hKc, hDc.weaken (fun _ _ _ _ => trivial)⟩⟩ rfl rfl hl.1 rfl (lv_room (Nat.le_of_ble_eq_true rfl)) dX3_from_21 ⟨Nat.le_of_ble_eq_true rfl, Nat.le_of_ble_eq_true rfl⟩) hS (fun q _ h => hFc q h) hFc (fun r1 u tS H1 locs ht hvm hr1 hB hz1 hk1 hS => ?_)
          obtain ⟨hP1, hK1, hD1⟩ := hB
          rw [ht] at hP1
          have hK1 := va_K.moved hvm.symm hK1
          obtain ⟨hP, hD⟩ := va_join (wr := [(h0, .inr (3, [.ref q1, .int (zB true)]))]) (w1 := [(q1, .inr (2, [.ref q2, .int (nI N)])), (q2, .inl (d2, 6, .inl f))]) hP hD [1, 2] [0] rfl rfl (by decide) (by decide) hk1 hFc hP1 hD1
          have hK := (hK.sub (tys' := []) [] rfl).app hK1
          generalize H1 = H at hP hS ⊢
          have hP : va_P (dC, dI) vwCl [(h0, .inr (3, [.ref q1, .int (zB true)])), (q1, .inr (2, [.ref q2, .int (nI N)])), (q2, .inl (d2, 6, .inl f))] H := hP
          have hD : va_D A [(h0, .inr (3, [.ref q1, .int (zB true)])), (q1, .inr (2, [.ref q2, .int (nI N)])), (q2, .inl (d2, 6, .inl f))] := hD
          have hK : va_K (dC, dI) vwCl [(d2, .int)] s := hK
          refine W.widen (k := 0) (n := 0) (Nat.le_of_ble_eq_true rfl) (Nat.le_of_ble_eq_true rfl) ?_
          have hr1 : r1 = zNet f N := hr1
          subst hr1
          refine lv_if_eq (tgt := 44) hx hb dX3_from_24 (by decide) (fun c3 => ?_) (fun c3 => ?_)
          · refine lv_iconst (v := 0) hx hb dX3_from_44 (by decide) ?_
            exact W.iret (v := 0) hx hb hr (fun tS ht hW => ⟨⟨0, (), rfl, c3.symm, by rw [ht]; exact hP, va_K.moved hW.alike hK, hD⟩, hS.F ht⟩) hS.2.2 dX3_from_45
          · refine lv_goto (tgt := 40) hx hb dX3_from_27 (by decide) ?_
            refine lv_iconst (v := 1) hx hb dX3_from_40 (by decide) ?_
            refine lv_goto (tgt := 45) hx hb dX3_from_41 (by decide) ?_
            exact W.iret (v := 1) hx hb hr (fun tS ht hW => ⟨⟨1, (), rfl, ((zNet_01 f N).resolve_left c3).symm, by rw [ht]; exact hP, va_K.moved hW.alike hK, hD⟩, hS.F ht⟩) hS.2.2 dX3_from_45
  | succ d ih =>
    intro sz f N L V hV hN1 hN5
    obtain rfl : V = 5 - d := by omega
    refine Met.ofW (cc := cX3_from) (maxL := 5) (ret := (some .int)) (by decide) rfl ?_
    intro p e s m args below meth c s₁ B hml hv
    obtain ⟨rfl, hsz, hP, hK, hD0⟩ := hv
    have hx := B.exec
    have hb := B.bytes
    have hr := B.returns
    have hts := atoms_spec (ws := ws_ yX3_from cX3_from 5 (some .int)) B.pre
    have hts : ∀ w ∈ lw_all, w.before _ s = true := fun w h => hts w (List.mem_cons_of_mem _ h)
    have hown : s.vm.findClass RX3 = some m.cls := findClass_of_methodNamed B.named
    have hlocks := B.notSynchronized
    subst hsz
    have hD := hD0.self (sz := s.heap.size)
    generalize hAe : va_A [(h0, .inr (3, [.ref q1, .int (zB bb)])), (q1, .inr (2, [.ref q2, .int (nI N)])), (q2, .inl (d2, 6, .inl f))] s.heap.size = A at hD ⊢
    have hA : ∀ q : Nat, s.heap.size ≤ q → A q := fun q h => by rw [← hAe]; exact Or.inr h
    have hS : va_S A s.heap s.heap [] := va_S.rf
    have hP : va_P (dC, dI) vwCl [(h0, .inr (3, [.ref q1, .int (zB bb)])), (q1, .inr (2, [.ref q2, .int (nI N)])), (q2, .inl (d2, 6, .inl f))] s.heap := hP
    have hl := lv_entry ([.ref h0, .int (nI (5 - d)), .int (nI L)]) (n := 5) (Nat.le_of_ble_eq_true rfl)
    rw [lg_entry_eq]
    generalize (lg_sl ([.ref h0, .int (nI (5 - d)), .int (nI L)]) ++ List.replicate (5 - (lg_sl ([.ref h0, .int (nI (5 - d)), .int (nI L)])).length) Slot.unset).toArray = ls at hl ⊢
    have hl : lv_has ls 5 [(0, .ref h0), (1, .int (nI (5 - d))), (2, .int (nI L))] := hl
    have loop : ∀ (k t : Nat), k + t = L + 1 → ∀ (H : Heap) (locs : List Loc), va_P (dC, dI) vwCl [(h0, .inr (3, [.ref q1, .int (zB bb)])), (q1, .inr (2, [.ref q2, .int (nI N)])), (q2, .inl (d2, 6, .inl f))] H → va_D A [(h0, .inr (3, [.ref q1, .int (zB bb)])), (q1, .inr (2, [.ref q2, .int (nI N)])), (q2, .inl (d2, 6, .inl f))] → va_S A s.heap H locs → ∀ ls : Array Slot, lv_has ls 5 [(0, .ref h0), (1, .int (nI (5 - d))), (2, .int (nI L)), (3, .int (zFl (fun t => zCh L t * zFr bb d (upd f (5 - d) (f (5 - d) + nI t)) (N + t) (L - t)) t)), (4, .int (nI t))] → W p l e (headSpec (ws_ yX3_from cX3_from 5 (some .int)) (({ frames := 3 + (d + 1), cells := 0, slots := 0, locals := 100 + 24 * (d + 1) } : Room))).room s m ([.ref h0, .int (nI (5 - d)), .int (nI L)] : List Value).toArray below meth c H locs 0 0 (MQ below (va_Qi (fun (r : Int32) (u : Unit) => r = zFr bb (d + 1) f N L) (fun (u : Unit) (t : State) => va_P (dC, dI) vwCl [(h0, .inr (3, [.ref q1, .int (zB bb)])), (q1, .inr (2, [.ref q2, .int (nI N)])), (q2, .inl (d2, 6, .inl f))] t.heap ∧ va_K (dC, dI) vwCl [(d2, .int)] t ∧ va_D A [(h0, .inr (3, [.ref q1, .int (zB bb)])), (q1, .inr (2, [.ref q2, .int (nI N)])), (q2, .inl (d2, 6, .inl f))]) A) ([.ref h0, .int (nI (5 - d)), .int (nI L)] : List Value).toArray s 0 0 A) (F0 m 51 ls []) := by
      intro k
      induction k with
      | zero =>
        intro t hk H locs hP hD hS ls hl
        refine lv_iload hx hb dX3_from_51 (lv_at hl 4 rfl) ?_
        refine lv_iload_n hx hb dX3_from_53 rfl (lv_at hl 2 rfl) ?_
        refine lv_icmp_gt (tgt := 104) hx hb dX3_from_54 (by decide) (fun c1 => ?_) (fun c1 => ?_)
        · refine lv_iload_n hx hb dX3_from_104 rfl (lv_at hl 3 rfl) ?_
          exact W.iret (v := (zFl (fun t => zCh L t * zFr bb d (upd f (5 - d) (f (5 - d) + nI t)) (N + t) (L - t)) t)) hx hb hr (fun tS ht hW => ⟨⟨zFl (fun t => zCh L t * zFr bb d (upd f (5 - d) (f (5 - d) + nI t)) (N + t) (L - t)) t, (), rfl, congrArg (zFl (fun t => zCh L t * zFr bb d (upd f (5 - d) (f (5 - d) + nI t)) (N + t) (L - t))) (show t = L + 1 by omega), by rw [ht]; exact hP, va_K.moved hW.alike hK, hD⟩, hS.F ht⟩) hS.2.2 dX3_from_105
        · exact absurd (nI_lt (by omega) (by omega)) c1
      | succ k ihk =>
        intro t hk H locs hP hD hS ls hl
        refine lv_iload hx hb dX3_from_51 (lv_at hl 4 rfl) ?_
        refine lv_iload_n hx hb dX3_from_53 rfl (lv_at hl 2 rfl) ?_
        refine lv_icmp_gt (tgt := 104) hx hb dX3_from_54 (by decide) (fun c1 => ?_) (fun c1 => ?_)
        · exact absurd c1 (nI_nlt (by omega) (by omega))
        · refine lv_aload_n hx hb dX3_from_57 rfl (lv_at hl 0 rfl) ?_
          refine va_get (D := (dC, dI)) (ci := 3) (v := .ref q1) (C := RX3) (T := TX3) (N := 2) hx hb hts in_X3 hown hK hP 0 rfl rfl 0 (by decide) (hts _ q111) (fun _ h9 => h9) rfl dX3_from_58 ?_
          refine lv_iload_n hx hb dX3_from_61 rfl (lv_at hl 1 rfl) ?_
          refine lv_iload hx hb dX3_from_62 (lv_at hl 4 rfl) ?_
          have hPc := hP.sub (ws' := [(q1, .inr (2, [.ref q2, .int (nI N)])), (q2, .inl (d2, 6, .inl f))]) [1, 2] rfl
          have hDc := hD.sub (ws' := [(q1, .inr (2, [.ref q2, .int (nI N)])), (q2, .inl (d2, 6, .inl f))]) [1, 2] (by decide) rfl
          have hKc := hK.sub (tys' := [(d2, .int)]) [0] rfl
          have hFc := va_free (wc := [(q1, .inr (2, [.ref q2, .int (nI N)])), (q2, .inl (d2, 6, .inl f))]) hD hS hA [1, 2] rfl
          refine va_callv (va_runV (As := [.int (nI (5 - d)), .int (nI t)]) (rest := []) ⟨hx, hb, hml, hown, hts⟩ (metX2_add l dC dI H.size q1 q2 d2 f (nI N) (5 - d) (nI t) (by omega)) (cwV 2 hts (lw_V q124 q62 q63 q9 q64) rfl rfl rfl (by decide +kernel) ⟨by show 0 + 1 ≤ 3 + (d + 1); omega, by show 8 + (3 + 11) + (0) ≤ 100 + 24 * (d + 1); omega⟩) ⟨fun a U g mk q => by obtain ⟨q0, q1, qP, qK, qD⟩ := q; exact ⟨q0, q1, qP, va_K.moved (u := U) (U := U.calling g mk a) (Vm.Alike.refl U.vm) qK, qD⟩, va_recv hKc hPc (ci := 2) (q0 := 0) rfl rfl, fun U hU hW => ⟨rfl, by rw [hU], by rw [hU]; exact hPc, va_K.moved hW.alike hKc, hDc.weaken (fun _ _ _ _ => trivial)⟩⟩ rfl rfl hl.1 rfl (lv_room (Nat.le_of_ble_eq_true rfl)) dX3_from_64 ⟨Nat.le_of_ble_eq_true rfl, Nat.le_of_ble_eq_true rfl⟩) hS (fun q _ h => hFc q h) hFc (fun u tS H1 locs ht hvm hw hB hz1 hk1 hS => ?_)
          obtain ⟨hP1, hK1, hD1⟩ := hB
          rw [ht] at hP1
          have hK1 := va_K.moved hvm.symm hK1
          obtain ⟨hP, hD⟩ := va_join (wr := [(h0, .inr (3, [.ref q1, .int (zB bb)]))]) (w1 := [(q1, .inr (2, [.ref q2, .int (nI N + nI t)])), (q2, .inl (d2, 6, .inl (upd f (5 - d) (f (5 - d) + nI t))))]) hP hD [1, 2] [0] rfl rfl (by decide) (by decide) hk1 hFc hP1 hD1
          have hK := (hK.sub (tys' := []) [] rfl).app hK1
          generalize H1 = H at hP hS ⊢
          have hP : va_P (dC, dI) vwCl [(h0, .inr (3, [.ref q1, .int (zB bb)])), (q1, .inr (2, [.ref q2, .int (nI N + nI t)])), (q2, .inl (d2, 6, .inl (upd f (5 - d) (f (5 - d) + nI t))))] H := hP
          have hD : va_D A [(h0, .inr (3, [.ref q1, .int (zB bb)])), (q1, .inr (2, [.ref q2, .int (nI N + nI t)])), (q2, .inl (d2, 6, .inl (upd f (5 - d) (f (5 - d) + nI t))))] := hD
          have hK : va_K (dC, dI) vwCl [(d2, .int)] s := hK
          refine W.widen (k := 0) (n := 0) (Nat.le_of_ble_eq_true rfl) (Nat.le_of_ble_eq_true rfl) ?_
          rw [nI_add] at hP hD
          have hP : va_P (dC, dI) vwCl [(h0, .inr (3, [.ref q1, .int (zB bb)])), (q1, .inr (2, [.ref q2, .int (nI (N + t))])), (q2, .inl (d2, 6, .inl (upd f (5 - d) (f (5 - d) + nI t))))] H := hP
          have hD : va_D A [(h0, .inr (3, [.ref q1, .int (zB bb)])), (q1, .inr (2, [.ref q2, .int (nI (N + t))])), (q2, .inl (d2, 6, .inl (upd f (5 - d) (f (5 - d) + nI t))))] := hD
          refine lv_iload_n hx hb dX3_from_67 rfl (lv_at hl 3 rfl) ?_
          refine lv_iload_n hx hb dX3_from_68 rfl (lv_at hl 2 rfl) ?_
          refine lv_iload hx hb dX3_from_69 (lv_at hl 4 rfl) ?_
          have hPc := hP.sub (ws' := []) [] rfl
          have hDc := hD.sub (ws' := []) [] (by decide) rfl
          have hKc := hK.sub (tys' := []) [] rfl
          have hFc := va_free (wc := []) hD hS hA [] rfl
          refine va_calli (va_runS (As := [.int (nI L), .int (nI t)]) (rest := [.int (zFl (fun t => zCh L t * zFr bb d (upd f (5 - d) (f (5 - d) + nI t)) (N + t) (L - t)) t)]) ⟨hx, hb, hml, hown, hts⟩ (metX3_choices l dC dI H.size L t (by omega) (by omega)) (va_cwS 2 hts (lw_S q125 q126 q11 q127) rfl rfl rfl (by decide +kernel) ⟨by show 0 + 1 ≤ 3 + (d + 1); omega, by show 8 + (4 + 11) + (0) ≤ 100 + 24 * (d + 1); omega⟩) ⟨fun a U g mk q => by obtain ⟨q0, q1, qP, qK, qD⟩ := q; exact ⟨q0, q1, qP, va_K.moved (u := U) (U := U.calling g mk a) (Vm.Alike.refl U.vm) qK, qD⟩, fun U hU hW => ⟨rfl, by rw [hU], by rw [hU]; exact hPc, va_K.moved hW.alike hKc, hDc.weaken (fun _ _ _ _ => trivial)⟩⟩ rfl rfl hl.1 rfl (lv_room (Nat.le_of_ble_eq_true rfl)) dX3_from_71 ⟨Nat.le_of_ble_eq_true rfl, Nat.le_of_ble_eq_true rfl⟩) hS (fun q _ h => hFc q h) hFc (fun r1 u tS H1 locs ht hvm hr1 hB hz1 hk1 hS => ?_)
          obtain ⟨hP1, hK1, hD1⟩ := hB
          rw [ht] at hP1
          have hK1 := va_K.moved hvm.symm hK1
          obtain ⟨hP, hD⟩ := va_join (wr := [(h0, .inr (3, [.ref q1, .int (zB bb)])), (q1, .inr (2, [.ref q2, .int (nI (N + t))])), (q2, .inl (d2, 6, .inl (upd f (5 - d) (f (5 - d) + nI t))))]) (w1 := []) hP hD [] [0, 1, 2] rfl rfl (by decide) (by decide) hk1 hFc hP1 hD1
          have hK := (hK.sub (tys' := [(d2, .int)]) [0] rfl).app hK1
          generalize H1 = H at hP hS ⊢
          have hP : va_P (dC, dI) vwCl [(h0, .inr (3, [.ref q1, .int (zB bb)])), (q1, .inr (2, [.ref q2, .int (nI (N + t))])), (q2, .inl (d2, 6, .inl (upd f (5 - d) (f (5 - d) + nI t))))] H := hP
          have hD : va_D A [(h0, .inr (3, [.ref q1, .int (zB bb)])), (q1, .inr (2, [.ref q2, .int (nI (N + t))])), (q2, .inl (d2, 6, .inl (upd f (5 - d) (f (5 - d) + nI t))))] := hD
          have hK : va_K (dC, dI) vwCl [(d2, .int)] s := hK
          refine W.widen (k := 0) (n := 0) (Nat.le_of_ble_eq_true rfl) (Nat.le_of_ble_eq_true rfl) ?_
          have hr1 : r1 = zCh L t := hr1
          subst hr1
          refine lv_aload_n hx hb dX3_from_74 rfl (lv_at hl 0 rfl) ?_
          refine lv_iload_n hx hb dX3_from_75 rfl (lv_at hl 1 rfl) ?_
          refine lv_iconst (v := 1) hx hb dX3_from_76 (by decide) ?_
          refine lv_iadd hx hb dX3_from_77 ?_
          refine w_top (x' := nI (5 - d + 1)) (nI_1 _) ?_
          refine lv_iload_n hx hb dX3_from_78 rfl (lv_at hl 2 rfl) ?_
          refine lv_iload hx hb dX3_from_79 (lv_at hl 4 rfl) ?_
          refine lv_isub hx hb dX3_from_81 ?_
          refine w_top (x' := nI (L - t)) (pk_sub (by omega)) ?_
          have hPc := hP.sub (ws' := [(h0, .inr (3, [.ref q1, .int (zB bb)])), (q1, .inr (2, [.ref q2, .int (nI (N + t))])), (q2, .inl (d2, 6, .inl (upd f (5 - d) (f (5 - d) + nI t))))]) [0, 1, 2] rfl
          have hDc := hD.sub (ws' := [(h0, .inr (3, [.ref q1, .int (zB bb)])), (q1, .inr (2, [.ref q2, .int (nI (N + t))])), (q2, .inl (d2, 6, .inl (upd f (5 - d) (f (5 - d) + nI t))))]) [0, 1, 2] (by decide) rfl
          have hKc := hK.sub (tys' := [(d2, .int)]) [0] rfl
          have hFc := va_free (wc := [(h0, .inr (3, [.ref q1, .int (zB bb)])), (q1, .inr (2, [.ref q2, .int (nI (N + t))])), (q2, .inl (d2, 6, .inl (upd f (5 - d) (f (5 - d) + nI t))))]) hD hS hA [0, 1, 2] rfl
          refine va_calli (va_runV (As := [.int (nI (5 - d + 1)), .int (nI (L - t))]) (rest := [.int (zCh L t), .int (zFl (fun t => zCh L t * zFr bb d (upd f (5 - d) (f (5 - d) + nI t)) (N + t) (L - t)) t)]) ⟨hx, hb, hml, hown, hts⟩ (ih H.size (upd f (5 - d) (f (5 - d) + nI t)) (N + t) (L - t) (5 - d + 1) (by omega) (by omega) (by omega)) (cwV 2 hts (lw_V q128 q119 q120 q11 q121) rfl rfl rfl (by decide +kernel) ⟨by show (3 + d) + 1 ≤ 3 + (d + 1); omega, by show 8 + (5 + 11) + (100 + 24 * d) ≤ 100 + 24 * (d + 1); omega⟩) ⟨fun a U g mk q => by obtain ⟨q0, q1, qP, qK, qD⟩ := q; exact ⟨q0, q1, qP, va_K.moved (u := U) (U := U.calling g mk a) (Vm.Alike.refl U.vm) qK, qD⟩, va_recv hKc hPc (ci := 3) (q0 := 0) rfl rfl, fun U hU hW => ⟨rfl, by rw [hU], by rw [hU]; exact hPc, va_K.moved hW.alike hKc, hDc.weaken (fun _ _ _ _ => trivial)⟩⟩ rfl rfl hl.1 rfl (lv_room (Nat.le_of_ble_eq_true rfl)) dX3_from_82 ⟨Nat.le_of_ble_eq_true rfl, Nat.le_of_ble_eq_true rfl⟩) hS (fun q _ h => hFc q h) hFc (fun r2 u tS H1 locs ht hvm hr2 hB hz1 hk1 hS => ?_)
          obtain ⟨hP1, hK1, hD1⟩ := hB
          rw [ht] at hP1
          have hK1 := va_K.moved hvm.symm hK1
          obtain ⟨hP, hD⟩ := va_join (wr := []) (w1 := [(h0, .inr (3, [.ref q1, .int (zB bb)])), (q1, .inr (2, [.ref q2, .int (nI (N + t))])), (q2, .inl (d2, 6, .inl (upd f (5 - d) (f (5 - d) + nI t))))]) hP hD [0, 1, 2] [] rfl rfl (by decide) (by decide) hk1 hFc hP1 hD1
          have hK := (hK.sub (tys' := []) [] rfl).app hK1
          generalize H1 = H at hP hS ⊢
          have hP : va_P (dC, dI) vwCl [(h0, .inr (3, [.ref q1, .int (zB bb)])), (q1, .inr (2, [.ref q2, .int (nI (N + t))])), (q2, .inl (d2, 6, .inl (upd f (5 - d) (f (5 - d) + nI t))))] H := hP
          have hD : va_D A [(h0, .inr (3, [.ref q1, .int (zB bb)])), (q1, .inr (2, [.ref q2, .int (nI (N + t))])), (q2, .inl (d2, 6, .inl (upd f (5 - d) (f (5 - d) + nI t))))] := hD
          have hK : va_K (dC, dI) vwCl [(d2, .int)] s := hK
          refine W.widen (k := 0) (n := 0) (Nat.le_of_ble_eq_true rfl) (Nat.le_of_ble_eq_true rfl) ?_
          have hr2 : r2 = zFr bb d (upd f (5 - d) (f (5 - d) + nI t)) (N + t) (L - t) := hr2
          subst hr2
          refine lv_imul hx hb dX3_from_85 ?_
          refine lv_iadd hx hb dX3_from_86 ?_
          refine w_top (x' := zFl (fun t => zCh L t * zFr bb d (upd f (5 - d) (f (5 - d) + nI t)) (N + t) (L - t)) (t + 1)) (rfl) ?_
          refine lv_istore_n (lv' := [(3, .int (zFl (fun t => zCh L t * zFr bb d (upd f (5 - d) (f (5 - d) + nI t)) (N + t) (L - t)) (t + 1))), (0, .ref h0), (1, .int (nI (5 - d))), (2, .int (nI L)), (4, .int (nI t))]) hx hb dX3_from_87 rfl hl (by decide) rfl (fun ls hl => ?_)
          refine lv_aload_n hx hb dX3_from_88 rfl (lv_at hl 1 rfl) ?_
          refine va_get (D := (dC, dI)) (ci := 3) (v := .ref q1) (C := RX3) (T := TX3) (N := 2) hx hb hts in_X3 hown hK hP 0 rfl rfl 0 (by decide) (hts _ q111) (fun _ h9 => h9) rfl dX3_from_89 ?_
          refine lv_iload_n hx hb dX3_from_92 rfl (lv_at hl 2 rfl) ?_
          refine lv_iload hx hb dX3_from_93 (lv_at hl 4 rfl) ?_
          have hPc := hP.sub (ws' := [(q1, .inr (2, [.ref q2, .int (nI (N + t))])), (q2, .inl (d2, 6, .inl (upd f (5 - d) (f (5 - d) + nI t))))]) [1, 2] rfl
          have hDc := hD.sub (ws' := [(q1, .inr (2, [.ref q2, .int (nI (N + t))])), (q2, .inl (d2, 6, .inl (upd f (5 - d) (f (5 - d) + nI t))))]) [1, 2] (by decide) rfl
          have hKc := hK.sub (tys' := [(d2, .int)]) [0] rfl
          have hFc := va_free (wc := [(q1, .inr (2, [.ref q2, .int (nI (N + t))])), (q2, .inl (d2, 6, .inl (upd f (5 - d) (f (5 - d) + nI t))))]) hD hS hA [1, 2] rfl
          refine va_callv (va_runV (As := [.int (nI (5 - d)), .int (nI t)]) (rest := []) ⟨hx, hb, hml, hown, hts⟩ (metX2_take l dC dI H.size q1 q2 d2 (upd f (5 - d) (f (5 - d) + nI t)) (nI (N + t)) (5 - d) (nI t) (by omega)) (cwV 2 hts (lw_V q129 q130 q131 q9 q132) rfl rfl rfl (by decide +kernel) ⟨by show 0 + 1 ≤ 3 + (d + 1); omega, by show 8 + (3 + 11) + (0) ≤ 100 + 24 * (d + 1); omega⟩) ⟨fun a U g mk q => by obtain ⟨q0, q1, qP, qK, qD⟩ := q; exact ⟨q0, q1, qP, va_K.moved (u := U) (U := U.calling g mk a) (Vm.Alike.refl U.vm) qK, qD⟩, va_recv hKc hPc (ci := 2) (q0 := 0) rfl rfl, fun U hU hW => ⟨rfl, by rw [hU], by rw [hU]; exact hPc, va_K.moved hW.alike hKc, hDc.weaken (fun _ _ _ _ => trivial)⟩⟩ rfl rfl hl.1 rfl (lv_room (Nat.le_of_ble_eq_true rfl)) dX3_from_95 ⟨Nat.le_of_ble_eq_true rfl, Nat.le_of_ble_eq_true rfl⟩) hS (fun q _ h => hFc q h) hFc (fun u tS H1 locs ht hvm hw hB hz1 hk1 hS => ?_)
          obtain ⟨hP1, hK1, hD1⟩ := hB
          rw [ht] at hP1
          have hK1 := va_K.moved hvm.symm hK1
          obtain ⟨hP, hD⟩ := va_join (wr := [(h0, .inr (3, [.ref q1, .int (zB bb)]))]) (w1 := [(q1, .inr (2, [.ref q2, .int (nI (N + t) - nI t)])), (q2, .inl (d2, 6, .inl (upd (upd f (5 - d) (f (5 - d) + nI t)) (5 - d) ((upd f (5 - d) (f (5 - d) + nI t)) (5 - d) - nI t))))]) hP hD [1, 2] [0] rfl rfl (by decide) (by decide) hk1 hFc hP1 hD1
          have hK := (hK.sub (tys' := []) [] rfl).app hK1
          generalize H1 = H at hP hS ⊢
          have hP : va_P (dC, dI) vwCl [(h0, .inr (3, [.ref q1, .int (zB bb)])), (q1, .inr (2, [.ref q2, .int (nI (N + t) - nI t)])), (q2, .inl (d2, 6, .inl (upd (upd f (5 - d) (f (5 - d) + nI t)) (5 - d) ((upd f (5 - d) (f (5 - d) + nI t)) (5 - d) - nI t))))] H := hP
          have hD : va_D A [(h0, .inr (3, [.ref q1, .int (zB bb)])), (q1, .inr (2, [.ref q2, .int (nI (N + t) - nI t)])), (q2, .inl (d2, 6, .inl (upd (upd f (5 - d) (f (5 - d) + nI t)) (5 - d) ((upd f (5 - d) (f (5 - d) + nI t)) (5 - d) - nI t))))] := hD
          have hK : va_K (dC, dI) vwCl [(d2, .int)] s := hK
          refine W.widen (k := 0) (n := 0) (Nat.le_of_ble_eq_true rfl) (Nat.le_of_ble_eq_true rfl) ?_
          rw [z_upd_back, z_sub_back] at hP hD
          have hP : va_P (dC, dI) vwCl [(h0, .inr (3, [.ref q1, .int (zB bb)])), (q1, .inr (2, [.ref q2, .int (nI N)])), (q2, .inl (d2, 6, .inl f))] H := hP
          have hD : va_D A [(h0, .inr (3, [.ref q1, .int (zB bb)])), (q1, .inr (2, [.ref q2, .int (nI N)])), (q2, .inl (d2, 6, .inl f))] := hD
          refine lv_iinc (v := nI (t + 1)) (lv' := [(4, .int (nI (t + 1))), (3, .int (zFl (fun t => zCh L t * zFr bb d (upd f (5 - d) (f (5 - d) + nI t)) (N + t) (L - t)) (t + 1))), (0, .ref h0), (1, .int (nI (5 - d))), (2, .int (nI L))]) hx hb dX3_from_98 hl (k := 4) rfl (nI_1 t) (by decide) rfl (fun ls hl => ?_)
          refine lv_goto (tgt := 51) hx hb dX3_from_101 (by decide) ?_
          exact ihk (t + 1) (by omega) H locs hP hD hS ls (lv_sub hl [2, 3, 4, 1, 0] rfl)
    refine lv_iload_n hx hb dX3_from_0 rfl (lv_at hl 1 rfl) ?_
    refine lv_bipush (v := 6) hx hb dX3_from_1 (by decide) ?_
    refine lv_icmp_ne (tgt := 46) hx hb dX3_from_3 (by decide) (fun c0 => ?_) (fun c0 => ?_)
    · refine lv_iconst (v := 0) hx hb dX3_from_46 (by decide) ?_
      refine lv_istore_n (lv' := [(3, .int 0), (0, .ref h0), (1, .int (nI (5 - d))), (2, .int (nI L))]) hx hb dX3_from_47 rfl hl (by decide) rfl (fun ls hl => ?_)
      refine lv_iconst (v := 0) hx hb dX3_from_48 (by decide) ?_
      refine lv_istore (lv' := [(4, .int 0), (3, .int 0), (0, .ref h0), (1, .int (nI (5 - d))), (2, .int (nI L))]) hx hb dX3_from_49 hl (by decide) rfl (fun ls hl => ?_)
      exact loop (L + 1) 0 (by omega) s.heap [] hP hD hS ls (lv_sub hl [2, 3, 4, 1, 0] rfl)
    · exact absurd ((nI_eq (a := 5 - d) (b := 6) (by omega) (by decide)).mp c0) (by omega)
end
section
/-! ScoreRows: init, size, set, at -/
theorem zIx_lt (i : Int32) {N : Nat} (h : 0 < N) : zIx i N < N := Nat.mod_lt _ h
theorem z_and_rem (k : Int32) (N : Nat) (h0 : 0 < N) (hN : N < 2 ^ 31) : (k &&& 2147483647) - (k &&& 2147483647) / nI N * nI N = nI (zIx k N) := by
  rw [pk_and k 31 (by decide)]
  exact pk_rem (Nat.mod_lt _ (by decide)) h0 hN
theorem z_zeros {f : Nat → Int32} {i : Nat} (h : ∀ a, a < i → f a = 0) : ∀ a, a < i + 1 → upd f i 0 a = 0 := by
  intro a ha
  unfold upd
  by_cases e : a = i
  · rw [if_pos e]
  · rw [if_neg e]
    exact h a (by omega)
theorem z_pm (x : Int32) : 1 + x - 1 = x := by
  rw [Int32.add_comm, Int32.add_sub_cancel]
def zK (b : Bool) (N : Nat) : Nat := if b = true then N else 6 + N
theorem zK_lt (b : Bool) {N : Nat} (h : N ≤ 5) : zK b N < 12 := by
  unfold zK
  split <;> omega
set_option maxHeartbeats 4000000 in
set_option maxRecDepth 100000 in
/-- ScoreRows(): zeros, n = 4 -/
theorem metX0_init (l : Launch) (dC : Nat → ClassId) (dI : Nat → Nat → Nat) (sz : Nat) (h0 : Nat) : Met l yX0_init (ws_ yX0_init cX0_init 1 none) ({ frames := 1, cells := 2, slots := 17, locals := 20 }) (va_Pc [.ref h0] (fun U => U.heap.size = sz ∧ va_P (dC, dI) vwCl [(h0, .inr (0, [.null, .null, .int 0]))] U.heap ∧ va_K (dC, dI) vwCl [] U ∧ va_D (fun _ => True) [(h0, .inr (0, [.null, .null, .int 0]))])) (va_Qv (fun (u : Nat × Nat × ClassId × ClassId) => True) (fun (u : Nat × Nat × ClassId × ClassId) (t : State) => va_P (dC, dI) vwCl [(h0, .inr (0, [.ref u.1, .ref u.2.1, .int 4])), (u.1, .inl (u.2.2.1, 5, .inl (fun _ => 0))), (u.2.1, .inl (u.2.2.2, 12, .inl (fun _ => 0)))] t.heap ∧ va_K (dC, dI) vwCl [(u.2.2.1, .int), (u.2.2.2, .int)] t ∧ va_D (va_A [(h0, .inr (0, [.null, .null, .int 0]))] sz) [(h0, .inr (0, [.ref u.1, .ref u.2.1, .int 4])), (u.1, .inl (u.2.2.1, 5, .inl (fun _ => 0))), (u.2.1, .inl (u.2.2.2, 12, .inl (fun _ => 0)))]) (va_A [(h0, .inr (0, [.null, .null, .int 0]))] sz)) 2 17 (va_A [(h0, .inr (0, [.null, .null, .int 0]))] sz) := by
  refine Met.ofW (cc := cX0_init) (maxL := 1) (ret := none) (by decide) rfl ?_
  intro p e s m args below meth c s₁ B hml hv
  obtain ⟨rfl, hsz, hP, hK, hD0⟩ := hv
  have hx := B.exec
  have hb := B.bytes
  have hr := B.returns
  have hts := atoms_spec (ws := ws_ yX0_init cX0_init 1 none) B.pre
  have hts : ∀ w ∈ lw_all, w.before _ s = true := fun w h => hts w (List.mem_cons_of_mem _ h)
  have hown : s.vm.findClass RX0 = some m.cls := findClass_of_methodNamed B.named
  have hlocks := B.notSynchronized
  have hin : meth.name = "<init>" := (name_of_methodNamed B.named B.method).1
  subst hsz
  have hD := hD0.self (sz := s.heap.size)
  generalize hAe : va_A [(h0, .inr (0, [.null, .null, .int 0]))] s.heap.size = A at hD ⊢
  have hA : ∀ q : Nat, s.heap.size ≤ q → A q := fun q h => by rw [← hAe]; exact Or.inr h
  have hS : va_S A s.heap s.heap [] := va_S.rf
  have hP : va_P (dC, dI) vwCl [(h0, .inr (0, [.null, .null, .int 0]))] s.heap := hP
  have hl := lv_entry ([.ref h0]) (n := 1) (Nat.le_of_ble_eq_true rfl)
  rw [lg_entry_eq]
  generalize (lg_sl ([.ref h0]) ++ List.replicate (1 - (lg_sl ([.ref h0])).length) Slot.unset).toArray = ls at hl ⊢
  have hl : lv_has ls 1 [(0, .ref h0)] := hl
  refine lv_aload_n hx hb dX0_init_0 rfl (lv_at hl 0 rfl) ?_
  refine W.objInit hx hb hown (hts _ q17) (hts _ q18) (hts _ q19) rfl (by rw [hml]; exact hl.1) rfl dX0_init_1 (Nat.le_of_ble_eq_true rfl) (Nat.le_of_ble_eq_true rfl) ?_
  refine W.eq (g2 := F0 m 4 ls []) rfl ?_
  refine lv_aload_n hx hb dX0_init_4 rfl (lv_at hl 0 rfl) ?_
  refine lv_iconst (v := 5) hx hb dX0_init_5 (by decide) ?_
  refine va_newa (atype := .int) (ty := .int) (N' := 5) (a0 := (5, .inl (fun _ => 0))) hx hb (hts _ q30) rfl hK hP hD hS hA (fun _ => rfl) (by decide) (by decide) (by decide) (Nat.le_of_ble_eq_true rfl) (Nat.le_of_ble_eq_true rfl) dX0_init_6 (fun q1 d1 H hK hP hD hS => ?_)
  have hK : va_K (dC, dI) vwCl [(d1, .int)] s := hK
  have hP : va_P (dC, dI) vwCl [(h0, .inr (0, [.null, .null, .int 0])), (q1, .inl (d1, 5, .inl (fun _ => 0)))] H := hP
  have hD : va_D A [(h0, .inr (0, [.null, .null, .int 0])), (q1, .inl (d1, 5, .inl (fun _ => 0)))] := hD
  refine W.widen (k := 1) (n := 5) (Nat.le_of_ble_eq_true rfl) (Nat.le_of_ble_eq_true rfl) ?_
  refine va_putF (D := (dC, dI)) (ci := 0) (v := .ref q1) (ty := .array .int) (C := RX0) (T := TX0) (N := 3) hx hb hts in_X0 tyX0 tyX0_ok nmX0 hown hK hP hD hS 0 rfl rfl 0 (by decide) (hts _ q20) (fun _ h9 => h9) rfl hin rfl (by decide +kernel) rfl rfl (Nat.le_of_ble_eq_true rfl) dX0_init_8 (fun H locs hP hD hS => ?_)
  have hP : va_P (dC, dI) vwCl [(h0, .inr (0, [.ref q1, .null, .int 0])), (q1, .inl (d1, 5, .inl (fun _ => 0)))] H := hP
  have hD : va_D A [(h0, .inr (0, [.ref q1, .null, .int 0])), (q1, .inl (d1, 5, .inl (fun _ => 0)))] := hD
  refine lv_aload_n hx hb dX0_init_11 rfl (lv_at hl 0 rfl) ?_
  refine lv_bipush (v := 12) hx hb dX0_init_12 (by decide) ?_
  refine va_newa (atype := .int) (ty := .int) (N' := 12) (a0 := (12, .inl (fun _ => 0))) hx hb (hts _ q30) rfl hK hP hD hS hA (fun _ => rfl) (by decide) (by decide) (by decide) (Nat.le_of_ble_eq_true rfl) (Nat.le_of_ble_eq_true rfl) dX0_init_14 (fun q2 d2 H hK hP hD hS => ?_)
  have hK : va_K (dC, dI) vwCl [(d1, .int), (d2, .int)] s := hK
  have hP : va_P (dC, dI) vwCl [(h0, .inr (0, [.ref q1, .null, .int 0])), (q1, .inl (d1, 5, .inl (fun _ => 0))), (q2, .inl (d2, 12, .inl (fun _ => 0)))] H := hP
  have hD : va_D A [(h0, .inr (0, [.ref q1, .null, .int 0])), (q1, .inl (d1, 5, .inl (fun _ => 0))), (q2, .inl (d2, 12, .inl (fun _ => 0)))] := hD
  refine W.widen (k := 2) (n := 17) (Nat.le_of_ble_eq_true rfl) (Nat.le_of_ble_eq_true rfl) ?_
  refine va_putF (D := (dC, dI)) (ci := 0) (v := .ref q2) (ty := .array .int) (C := RX0) (T := TX0) (N := 3) hx hb hts in_X0 tyX0 tyX0_ok nmX0 hown hK hP hD hS 0 rfl rfl 1 (by decide) (hts _ q21) (fun _ h9 => h9) rfl hin rfl (by decide +kernel) rfl rfl (Nat.le_of_ble_eq_true rfl) dX0_init_16 (fun H locs hP hD hS => ?_)
  have hP : va_P (dC, dI) vwCl [(h0, .inr (0, [.ref q1, .ref q2, .int 0])), (q1, .inl (d1, 5, .inl (fun _ => 0))), (q2, .inl (d2, 12, .inl (fun _ => 0)))] H := hP
  have hD : va_D A [(h0, .inr (0, [.ref q1, .ref q2, .int 0])), (q1, .inl (d1, 5, .inl (fun _ => 0))), (q2, .inl (d2, 12, .inl (fun _ => 0)))] := hD
  refine lv_aload_n hx hb dX0_init_19 rfl (lv_at hl 0 rfl) ?_
  refine lv_iconst (v := 4) hx hb dX0_init_20 (by decide) ?_
  refine va_put (D := (dC, dI)) (ci := 0) (v := .int 4) (ty := .int) (C := RX0) (T := TX0) (N := 3) hx hb hts in_X0 tyX0 tyX0_ok nmX0 hown hK hP hD hS 0 rfl rfl 2 (by decide) (hts _ q22) (fun _ h9 => h9) rfl (by decide +kernel) rfl rfl (Nat.le_of_ble_eq_true rfl) dX0_init_21 (fun H locs hP hD hS => ?_)
  have hP : va_P (dC, dI) vwCl [(h0, .inr (0, [.ref q1, .ref q2, .int 4])), (q1, .inl (d1, 5, .inl (fun _ => 0))), (q2, .inl (d2, 12, .inl (fun _ => 0)))] H := hP
  have hD : va_D A [(h0, .inr (0, [.ref q1, .ref q2, .int 4])), (q1, .inl (d1, 5, .inl (fun _ => 0))), (q2, .inl (d2, 12, .inl (fun _ => 0)))] := hD
  exact W.vret hx hb hr (fun tS ht hW => ⟨⟨(q1, q2, d1, d2), rfl, trivial, by rw [ht]; exact hP, va_K.moved hW.alike hK, hD⟩, hS.F ht⟩) hS.2.2 dX0_init_24
set_option maxHeartbeats 4000000 in
set_option maxRecDepth 100000 in
/-- ScoreRows.size(k) -/
theorem metX0_size (l : Launch) (dC : Nat → ClassId) (dI : Nat → Nat → Nat) (sz : Nat) (h0 q1 q2 : Nat) (d1 d2 : ClassId) (row known : Nat → Int32) (n k : Int32) : Met l yX0_size (ws_ yX0_size cX0_size 3 none) ({ frames := 0, cells := 0, slots := 0, locals := 0 }) (va_Pc [.ref h0, .int k] (fun U => U.heap.size = sz ∧ va_P (dC, dI) vwCl [(h0, .inr (0, [.ref q1, .ref q2, .int n])), (q1, .inl (d1, 5, .inl row)), (q2, .inl (d2, 12, .inl known))] U.heap ∧ va_K (dC, dI) vwCl [(d1, .int), (d2, .int)] U ∧ va_D (fun _ => True) [(h0, .inr (0, [.ref q1, .ref q2, .int n])), (q1, .inl (d1, 5, .inl row)), (q2, .inl (d2, 12, .inl known))])) (va_Qv (fun (u : Nat → Int32) => ∀ a, a < 5 → u a = 0) (fun (u : Nat → Int32) (t : State) => va_P (dC, dI) vwCl [(h0, .inr (0, [.ref q1, .ref q2, .int (nI (1 + zIx k 5))])), (q1, .inl (d1, 5, .inl u)), (q2, .inl (d2, 12, .inl known))] t.heap ∧ va_K (dC, dI) vwCl [(d1, .int), (d2, .int)] t ∧ va_D (va_A [(h0, .inr (0, [.ref q1, .ref q2, .int n])), (q1, .inl (d1, 5, .inl row)), (q2, .inl (d2, 12, .inl known))] sz) [(h0, .inr (0, [.ref q1, .ref q2, .int (nI (1 + zIx k 5))])), (q1, .inl (d1, 5, .inl u)), (q2, .inl (d2, 12, .inl known))]) (va_A [(h0, .inr (0, [.ref q1, .ref q2, .int n])), (q1, .inl (d1, 5, .inl row)), (q2, .inl (d2, 12, .inl known))] sz)) 0 0 (va_A [(h0, .inr (0, [.ref q1, .ref q2, .int n])), (q1, .inl (d1, 5, .inl row)), (q2, .inl (d2, 12, .inl known))] sz) := by
  refine Met.ofW (cc := cX0_size) (maxL := 3) (ret := none) (by decide) rfl ?_
  intro p e s m args below meth c s₁ B hml hv
  obtain ⟨rfl, hsz, hP, hK, hD0⟩ := hv
  have hx := B.exec
  have hb := B.bytes
  have hr := B.returns
  have hts := atoms_spec (ws := ws_ yX0_size cX0_size 3 none) B.pre
  have hts : ∀ w ∈ lw_all, w.before _ s = true := fun w h => hts w (List.mem_cons_of_mem _ h)
  have hown : s.vm.findClass RX0 = some m.cls := findClass_of_methodNamed B.named
  have hlocks := B.notSynchronized
  subst hsz
  have hD := hD0.self (sz := s.heap.size)
  generalize hAe : va_A [(h0, .inr (0, [.ref q1, .ref q2, .int n])), (q1, .inl (d1, 5, .inl row)), (q2, .inl (d2, 12, .inl known))] s.heap.size = A at hD ⊢
  have hA : ∀ q : Nat, s.heap.size ≤ q → A q := fun q h => by rw [← hAe]; exact Or.inr h
  have hS : va_S A s.heap s.heap [] := va_S.rf
  have hP : va_P (dC, dI) vwCl [(h0, .inr (0, [.ref q1, .ref q2, .int n])), (q1, .inl (d1, 5, .inl row)), (q2, .inl (d2, 12, .inl known))] s.heap := hP
  have hl := lv_entry ([.ref h0, .int k]) (n := 3) (Nat.le_of_ble_eq_true rfl)
  rw [lg_entry_eq]
  generalize (lg_sl ([.ref h0, .int k]) ++ List.replicate (3 - (lg_sl ([.ref h0, .int k])).length) Slot.unset).toArray = ls at hl ⊢
  have hl : lv_has ls 3 [(0, .ref h0), (1, .int k)] := hl
  have loop : ∀ (j i : Nat) (rr : Nat → Int32), j + i = 5 → (∀ a, a < i → rr a = 0) → ∀ (H : Heap) (locs : List Loc), va_P (dC, dI) vwCl [(h0, .inr (0, [.ref q1, .ref q2, .int (nI (1 + zIx k 5))])), (q1, .inl (d1, 5, .inl rr)), (q2, .inl (d2, 12, .inl known))] H → va_D A [(h0, .inr (0, [.ref q1, .ref q2, .int (nI (1 + zIx k 5))])), (q1, .inl (d1, 5, .inl rr)), (q2, .inl (d2, 12, .inl known))] → va_S A s.heap H locs → ∀ ls : Array Slot, lv_has ls 3 [(0, .ref h0), (2, .int (nI i))] → W p l e (headSpec (ws_ yX0_size cX0_size 3 none) ({ frames := 0, cells := 0, slots := 0, locals := 0 })).room s m ([.ref h0, .int k] : List Value).toArray below meth c H locs 0 0 (MQ below (va_Qv (fun (u : Nat → Int32) => ∀ a, a < 5 → u a = 0) (fun (u : Nat → Int32) (t : State) => va_P (dC, dI) vwCl [(h0, .inr (0, [.ref q1, .ref q2, .int (nI (1 + zIx k 5))])), (q1, .inl (d1, 5, .inl u)), (q2, .inl (d2, 12, .inl known))] t.heap ∧ va_K (dC, dI) vwCl [(d1, .int), (d2, .int)] t ∧ va_D A [(h0, .inr (0, [.ref q1, .ref q2, .int (nI (1 + zIx k 5))])), (q1, .inl (d1, 5, .inl u)), (q2, .inl (d2, 12, .inl known))]) A) ([.ref h0, .int k] : List Value).toArray s 0 0 A) (F0 m 14 ls []) := by
    intro j
    induction j with
    | zero =>
      intro i rr hj hz H locs hP hD hS ls hl
      refine lv_iload_n hx hb dX0_size_14 rfl (lv_at hl 1 rfl) ?_
      refine lv_iconst (v := 5) hx hb dX0_size_15 (by decide) ?_
      refine lv_icmp_ge (tgt := 32) hx hb dX0_size_16 (by decide) (fun c1 => ?_) (fun c1 => ?_)
      · exact W.vret hx hb hr (fun tS ht hW => ⟨⟨rr, rfl, fun a ha => hz a (by omega), by rw [ht]; exact hP, va_K.moved hW.alike hK, hD⟩, hS.F ht⟩) hS.2.2 dX0_size_32
      · exact absurd (show nI 5 ≤ nI i from nI_le (by omega) (by omega)) c1
    | succ j ih =>
      intro i rr hj hz H locs hP hD hS ls hl
      refine lv_iload_n hx hb dX0_size_14 rfl (lv_at hl 1 rfl) ?_
      refine lv_iconst (v := 5) hx hb dX0_size_15 (by decide) ?_
      refine lv_icmp_ge (tgt := 32) hx hb dX0_size_16 (by decide) (fun c1 => ?_) (fun c1 => ?_)
      · exact absurd (show nI 5 ≤ nI i from c1) (nI_ge (by omega) (by omega))
      · refine lv_aload_n hx hb dX0_size_19 rfl (lv_at hl 0 rfl) ?_
        refine va_get (D := (dC, dI)) (ci := 0) (v := .ref q1) (C := RX0) (T := TX0) (N := 3) hx hb hts in_X0 hown hK hP 0 rfl rfl 0 (by decide) (hts _ q20) (fun _ h9 => h9) rfl dX0_size_20 ?_
        refine lv_iload_n hx hb dX0_size_23 rfl (lv_at hl 1 rfl) ?_
        refine lv_iconst (v := 0) hx hb dX0_size_24 (by decide) ?_
        refine my_iast hx hb hK hP hD hS 1 0 rfl rfl i (rfl) (by omega) (by decide) dX0_size_25 (fun H locs hP hD hS => ?_)
        have hP : va_P (dC, dI) vwCl [(h0, .inr (0, [.ref q1, .ref q2, .int (nI (1 + zIx k 5))])), (q1, .inl (d1, 5, .inl (upd rr i 0))), (q2, .inl (d2, 12, .inl known))] H := hP
        have hD : va_D A [(h0, .inr (0, [.ref q1, .ref q2, .int (nI (1 + zIx k 5))])), (q1, .inl (d1, 5, .inl (upd rr i 0))), (q2, .inl (d2, 12, .inl known))] := hD
        refine lv_iinc (v := nI (i + 1)) (lv' := [(2, .int (nI (i + 1))), (0, .ref h0)]) hx hb dX0_size_26 hl (k := 1) rfl (nI_1 i) (by decide) rfl (fun ls hl => ?_)
        refine lv_goto (tgt := 14) hx hb dX0_size_29 (by decide) ?_
        exact ih (i + 1) (upd rr i 0) (by omega) (z_zeros hz) H locs hP hD hS ls (lv_sub hl [1, 0] rfl)
  refine lv_aload_n hx hb dX0_size_0 rfl (lv_at hl 0 rfl) ?_
  refine lv_iconst (v := 1) hx hb dX0_size_1 (by decide) ?_
  refine lv_iload_n hx hb dX0_size_2 rfl (lv_at hl 1 rfl) ?_
  refine lv_ldc (v := 2147483647) hx hb hown (hts _ q35) dX0_size_3 ?_
  refine lv_iand hx hb dX0_size_5 ?_
  refine lv_iconst (v := 5) hx hb dX0_size_6 (by decide) ?_
  refine lv_irem hx hb dX0_size_7 (by decide) ?_
  refine w_top (x' := nI (zIx k 5)) (z_and_rem k 5 (by decide) (by decide)) ?_
  refine lv_iadd hx hb dX0_size_8 ?_
  refine w_top (x' := nI (1 + zIx k 5)) (nI_add 1 _) ?_
  refine va_put (D := (dC, dI)) (ci := 0) (v := .int (nI (1 + zIx k 5))) (ty := .int) (C := RX0) (T := TX0) (N := 3) hx hb hts in_X0 tyX0 tyX0_ok nmX0 hown hK hP hD hS 0 rfl rfl 2 (by decide) (hts _ q22) (fun _ h9 => h9) rfl (by decide +kernel) rfl rfl (Nat.le_of_ble_eq_true rfl) dX0_size_9 (fun H locs hP hD hS => ?_)
  have hP : va_P (dC, dI) vwCl [(h0, .inr (0, [.ref q1, .ref q2, .int (nI (1 + zIx k 5))])), (q1, .inl (d1, 5, .inl row)), (q2, .inl (d2, 12, .inl known))] H := hP
  have hD : va_D A [(h0, .inr (0, [.ref q1, .ref q2, .int (nI (1 + zIx k 5))])), (q1, .inl (d1, 5, .inl row)), (q2, .inl (d2, 12, .inl known))] := hD
  refine lv_iconst (v := 0) hx hb dX0_size_12 (by decide) ?_
  refine lv_istore_n (lv' := [(2, .int 0), (0, .ref h0), (1, .int k)]) hx hb dX0_size_13 rfl hl (by decide) rfl (fun ls hl => ?_)
  exact loop 5 0 row (by omega) (fun a ha => absurd ha (Nat.not_lt_zero a)) H locs hP hD hS ls (lv_sub hl [1, 0] rfl)
set_option maxHeartbeats 4000000 in
set_option maxRecDepth 100000 in
/-- ScoreRows.set(i, v) -/
theorem metX0_set (l : Launch) (dC : Nat → ClassId) (dI : Nat → Nat → Nat) (sz : Nat) (h0 q1 q2 : Nat) (d1 d2 : ClassId) (row known : Nat → Int32) (N : Nat) (i v : Int32) (hN1 : 1 ≤ N) (hN5 : N ≤ 5) : Met l yX0_set (ws_ yX0_set cX0_set 3 none) ({ frames := 0, cells := 0, slots := 0, locals := 0 }) (va_Pc [.ref h0, .int i, .int v] (fun U => U.heap.size = sz ∧ va_P (dC, dI) vwCl [(h0, .inr (0, [.ref q1, .ref q2, .int (nI N)])), (q1, .inl (d1, 5, .inl row)), (q2, .inl (d2, 12, .inl known))] U.heap ∧ va_K (dC, dI) vwCl [(d1, .int), (d2, .int)] U ∧ va_D (fun _ => True) [(h0, .inr (0, [.ref q1, .ref q2, .int (nI N)])), (q1, .inl (d1, 5, .inl row)), (q2, .inl (d2, 12, .inl known))])) (va_Qv (fun (u : Unit) => True) (fun (u : Unit) (t : State) => va_P (dC, dI) vwCl [(h0, .inr (0, [.ref q1, .ref q2, .int (nI N)])), (q1, .inl (d1, 5, .inl (upd row (zIx i N) (nI (zIx v 6))))), (q2, .inl (d2, 12, .inl known))] t.heap ∧ va_K (dC, dI) vwCl [(d1, .int), (d2, .int)] t ∧ va_D (va_A [(h0, .inr (0, [.ref q1, .ref q2, .int (nI N)])), (q1, .inl (d1, 5, .inl row)), (q2, .inl (d2, 12, .inl known))] sz) [(h0, .inr (0, [.ref q1, .ref q2, .int (nI N)])), (q1, .inl (d1, 5, .inl (upd row (zIx i N) (nI (zIx v 6))))), (q2, .inl (d2, 12, .inl known))]) (va_A [(h0, .inr (0, [.ref q1, .ref q2, .int (nI N)])), (q1, .inl (d1, 5, .inl row)), (q2, .inl (d2, 12, .inl known))] sz)) 0 0 (va_A [(h0, .inr (0, [.ref q1, .ref q2, .int (nI N)])), (q1, .inl (d1, 5, .inl row)), (q2, .inl (d2, 12, .inl known))] sz) := by
  refine Met.ofW (cc := cX0_set) (maxL := 3) (ret := none) (by decide) rfl ?_
  intro p e s m args below meth c s₁ B hml hv
  obtain ⟨rfl, hsz, hP, hK, hD0⟩ := hv
  have hx := B.exec
  have hb := B.bytes
  have hr := B.returns
  have hts := atoms_spec (ws := ws_ yX0_set cX0_set 3 none) B.pre
  have hts : ∀ w ∈ lw_all, w.before _ s = true := fun w h => hts w (List.mem_cons_of_mem _ h)
  have hown : s.vm.findClass RX0 = some m.cls := findClass_of_methodNamed B.named
  have hlocks := B.notSynchronized
  subst hsz
  have hD := hD0.self (sz := s.heap.size)
  generalize hAe : va_A [(h0, .inr (0, [.ref q1, .ref q2, .int (nI N)])), (q1, .inl (d1, 5, .inl row)), (q2, .inl (d2, 12, .inl known))] s.heap.size = A at hD ⊢
  have hA : ∀ q : Nat, s.heap.size ≤ q → A q := fun q h => by rw [← hAe]; exact Or.inr h
  have hS : va_S A s.heap s.heap [] := va_S.rf
  have hP : va_P (dC, dI) vwCl [(h0, .inr (0, [.ref q1, .ref q2, .int (nI N)])), (q1, .inl (d1, 5, .inl row)), (q2, .inl (d2, 12, .inl known))] s.heap := hP
  have hl := lv_entry ([.ref h0, .int i, .int v]) (n := 3) (Nat.le_of_ble_eq_true rfl)
  rw [lg_entry_eq]
  generalize (lg_sl ([.ref h0, .int i, .int v]) ++ List.replicate (3 - (lg_sl ([.ref h0, .int i, .int v])).length) Slot.unset).toArray = ls at hl ⊢
  have hl : lv_has ls 3 [(0, .ref h0), (1, .int i), (2, .int v)] := hl
  refine lv_aload_n hx hb dX0_set_0 rfl (lv_at hl 0 rfl) ?_
  refine va_get (D := (dC, dI)) (ci := 0) (v := .ref q1) (C := RX0) (T := TX0) (N := 3) hx hb hts in_X0 hown hK hP 0 rfl rfl 0 (by decide) (hts _ q20) (fun _ h9 => h9) rfl dX0_set_1 ?_
  refine lv_iload_n hx hb dX0_set_4 rfl (lv_at hl 1 rfl) ?_
  refine lv_ldc (v := 2147483647) hx hb hown (hts _ q35) dX0_set_5 ?_
  refine lv_iand hx hb dX0_set_7 ?_
  refine lv_aload_n hx hb dX0_set_8 rfl (lv_at hl 0 rfl) ?_
  refine va_get (D := (dC, dI)) (ci := 0) (v := .int (nI N)) (C := RX0) (T := TX0) (N := 3) hx hb hts in_X0 hown hK hP 0 rfl rfl 2 (by decide) (hts _ q22) (fun _ h9 => h9) rfl dX0_set_9 ?_
  refine lv_irem hx hb dX0_set_12 (nI_ne0 (by omega) (by omega)) ?_
  refine w_top (x' := nI (zIx i N)) (z_and_rem i N (by omega) (by omega)) ?_
  refine lv_iload_n hx hb dX0_set_13 rfl (lv_at hl 2 rfl) ?_
  refine lv_ldc (v := 2147483647) hx hb hown (hts _ q35) dX0_set_14 ?_
  refine lv_iand hx hb dX0_set_16 ?_
  refine lv_bipush (v := 6) hx hb dX0_set_17 (by decide) ?_
  refine lv_irem hx hb dX0_set_19 (by decide) ?_
  refine w_top (x' := nI (zIx v 6)) (z_and_rem v 6 (by decide) (by decide)) ?_
  refine my_iast hx hb hK hP hD hS 1 0 rfl rfl (zIx i N) (rfl) (Nat.lt_of_lt_of_le (zIx_lt i (by omega)) (by omega)) (by decide) dX0_set_20 (fun H locs hP hD hS => ?_)
  have hP : va_P (dC, dI) vwCl [(h0, .inr (0, [.ref q1, .ref q2, .int (nI N)])), (q1, .inl (d1, 5, .inl (upd row (zIx i N) (nI (zIx v 6))))), (q2, .inl (d2, 12, .inl known))] H := hP
  have hD : va_D A [(h0, .inr (0, [.ref q1, .ref q2, .int (nI N)])), (q1, .inl (d1, 5, .inl (upd row (zIx i N) (nI (zIx v 6))))), (q2, .inl (d2, 12, .inl known))] := hD
  exact W.vret hx hb hr (fun tS ht hW => ⟨⟨(), rfl, trivial, by rw [ht]; exact hP, va_K.moved hW.alike hK, hD⟩, hS.F ht⟩) hS.2.2 dX0_set_21
set_option maxHeartbeats 4000000 in
set_option maxRecDepth 100000 in
/-- ScoreRows.at(i) -/
theorem metX0_at (l : Launch) (dC : Nat → ClassId) (dI : Nat → Nat → Nat) (sz : Nat) (h0 q1 q2 : Nat) (d1 d2 : ClassId) (row known : Nat → Int32) (N : Nat) (i : Int32) (hN1 : 1 ≤ N) (hN5 : N ≤ 5) : Met l yX0_at (ws_ yX0_at cX0_at 2 (some .int)) ({ frames := 0, cells := 0, slots := 0, locals := 0 }) (va_Pc [.ref h0, .int i] (fun U => U.heap.size = sz ∧ va_P (dC, dI) vwCl [(h0, .inr (0, [.ref q1, .ref q2, .int (nI N)])), (q1, .inl (d1, 5, .inl row)), (q2, .inl (d2, 12, .inl known))] U.heap ∧ va_K (dC, dI) vwCl [(d1, .int), (d2, .int)] U ∧ va_D (fun _ => True) [(h0, .inr (0, [.ref q1, .ref q2, .int (nI N)])), (q1, .inl (d1, 5, .inl row)), (q2, .inl (d2, 12, .inl known))])) (va_Qi (fun (r : Int32) (u : Unit) => r = row (zIx i N)) (fun (u : Unit) (t : State) => va_P (dC, dI) vwCl [(h0, .inr (0, [.ref q1, .ref q2, .int (nI N)])), (q1, .inl (d1, 5, .inl row)), (q2, .inl (d2, 12, .inl known))] t.heap ∧ va_K (dC, dI) vwCl [(d1, .int), (d2, .int)] t ∧ va_D (va_A [(h0, .inr (0, [.ref q1, .ref q2, .int (nI N)])), (q1, .inl (d1, 5, .inl row)), (q2, .inl (d2, 12, .inl known))] sz) [(h0, .inr (0, [.ref q1, .ref q2, .int (nI N)])), (q1, .inl (d1, 5, .inl row)), (q2, .inl (d2, 12, .inl known))]) (va_A [(h0, .inr (0, [.ref q1, .ref q2, .int (nI N)])), (q1, .inl (d1, 5, .inl row)), (q2, .inl (d2, 12, .inl known))] sz)) 0 0 (va_A [(h0, .inr (0, [.ref q1, .ref q2, .int (nI N)])), (q1, .inl (d1, 5, .inl row)), (q2, .inl (d2, 12, .inl known))] sz) := by
  refine Met.ofW (cc := cX0_at) (maxL := 2) (ret := (some .int)) (by decide) rfl ?_
  intro p e s m args below meth c s₁ B hml hv
  obtain ⟨rfl, hsz, hP, hK, hD0⟩ := hv
  have hx := B.exec
  have hb := B.bytes
  have hr := B.returns
  have hts := atoms_spec (ws := ws_ yX0_at cX0_at 2 (some .int)) B.pre
  have hts : ∀ w ∈ lw_all, w.before _ s = true := fun w h => hts w (List.mem_cons_of_mem _ h)
  have hown : s.vm.findClass RX0 = some m.cls := findClass_of_methodNamed B.named
  have hlocks := B.notSynchronized
  subst hsz
  have hD := hD0.self (sz := s.heap.size)
  generalize hAe : va_A [(h0, .inr (0, [.ref q1, .ref q2, .int (nI N)])), (q1, .inl (d1, 5, .inl row)), (q2, .inl (d2, 12, .inl known))] s.heap.size = A at hD ⊢
  have hA : ∀ q : Nat, s.heap.size ≤ q → A q := fun q h => by rw [← hAe]; exact Or.inr h
  have hS : va_S A s.heap s.heap [] := va_S.rf
  have hP : va_P (dC, dI) vwCl [(h0, .inr (0, [.ref q1, .ref q2, .int (nI N)])), (q1, .inl (d1, 5, .inl row)), (q2, .inl (d2, 12, .inl known))] s.heap := hP
  have hl := lv_entry ([.ref h0, .int i]) (n := 2) (Nat.le_of_ble_eq_true rfl)
  rw [lg_entry_eq]
  generalize (lg_sl ([.ref h0, .int i]) ++ List.replicate (2 - (lg_sl ([.ref h0, .int i])).length) Slot.unset).toArray = ls at hl ⊢
  have hl : lv_has ls 2 [(0, .ref h0), (1, .int i)] := hl
  refine lv_aload_n hx hb dX0_at_0 rfl (lv_at hl 0 rfl) ?_
  refine va_get (D := (dC, dI)) (ci := 0) (v := .ref q1) (C := RX0) (T := TX0) (N := 3) hx hb hts in_X0 hown hK hP 0 rfl rfl 0 (by decide) (hts _ q20) (fun _ h9 => h9) rfl dX0_at_1 ?_
  refine lv_iload_n hx hb dX0_at_4 rfl (lv_at hl 1 rfl) ?_
  refine lv_ldc (v := 2147483647) hx hb hown (hts _ q35) dX0_at_5 ?_
  refine lv_iand hx hb dX0_at_7 ?_
  refine lv_aload_n hx hb dX0_at_8 rfl (lv_at hl 0 rfl) ?_
  refine va_get (D := (dC, dI)) (ci := 0) (v := .int (nI N)) (C := RX0) (T := TX0) (N := 3) hx hb hts in_X0 hown hK hP 0 rfl rfl 2 (by decide) (hts _ q22) (fun _ h9 => h9) rfl dX0_at_9 ?_
  refine lv_irem hx hb dX0_at_12 (nI_ne0 (by omega) (by omega)) ?_
  refine w_top (x' := nI (zIx i N)) (z_and_rem i N (by omega) (by omega)) ?_
  refine my_iald hx hb hK hP 1 0 rfl rfl (zIx i N) (rfl) (Nat.lt_of_lt_of_le (zIx_lt i (by omega)) (by omega)) (by decide) dX0_at_13 ?_
  exact W.iret (v := (row (zIx i N))) hx hb hr (fun tS ht hW => ⟨⟨row (zIx i N), (), rfl, rfl, by rw [ht]; exact hP, va_K.moved hW.alike hK, hD⟩, hS.F ht⟩) hS.2.2 dX0_at_14
end
section
/-! ScoreRows: counts, net, play, counted, nets, plays -/
set_option maxHeartbeats 4000000 in
set_option maxRecDepth 100000 in
/-- ScoreRows.counts() -/
theorem metX0_counts (l : Launch) (dC : Nat → ClassId) (dI : Nat → Nat → Nat) (sz : Nat) (h0 q1 q2 : Nat) (d1 d2 : ClassId) (row known : Nat → Int32) (N : Nat) (D : Nat → Nat) (hN1 : 1 ≤ N) (hN5 : N ≤ 5) (hDr : ∀ a, a < N → D a < 6 ∧ row a = nI (D a)) : Met l yX0_counts (ws_ yX0_counts cX0_counts 3 (some (.object "ScoreRows$Counts"))) ({ frames := 2, cells := 2, slots := 8, locals := 50 }) (va_Pc [.ref h0] (fun U => U.heap.size = sz ∧ va_P (dC, dI) vwCl [(h0, .inr (0, [.ref q1, .ref q2, .int (nI N)])), (q1, .inl (d1, 5, .inl row)), (q2, .inl (d2, 12, .inl known))] U.heap ∧ va_K (dC, dI) vwCl [(d1, .int), (d2, .int)] U ∧ va_D (fun _ => True) [(h0, .inr (0, [.ref q1, .ref q2, .int (nI N)])), (q1, .inl (d1, 5, .inl row)), (q2, .inl (d2, 12, .inl known))] ∧ va_Nw (.methodLinkNest "ScoreRows" 23 yX2_init "ScoreRows") U)) (va_Qr (fun (u : Nat × ClassId) => True) (fun (u : Nat × ClassId) (ra : Nat) (t : State) => va_P (dC, dI) vwCl [(h0, .inr (0, [.ref q1, .ref q2, .int (nI N)])), (q1, .inl (d1, 5, .inl row)), (q2, .inl (d2, 12, .inl known)), (ra, .inr (2, [.ref u.1, .int (nI N)])), (u.1, .inl (u.2, 6, .inl (zCt D N)))] t.heap ∧ va_K (dC, dI) vwCl [(d1, .int), (d2, .int), (u.2, .int)] t ∧ va_D (va_A [(h0, .inr (0, [.ref q1, .ref q2, .int (nI N)])), (q1, .inl (d1, 5, .inl row)), (q2, .inl (d2, 12, .inl known))] sz) [(h0, .inr (0, [.ref q1, .ref q2, .int (nI N)])), (q1, .inl (d1, 5, .inl row)), (q2, .inl (d2, 12, .inl known)), (ra, .inr (2, [.ref u.1, .int (nI N)])), (u.1, .inl (u.2, 6, .inl (zCt D N)))]) (va_A [(h0, .inr (0, [.ref q1, .ref q2, .int (nI N)])), (q1, .inl (d1, 5, .inl row)), (q2, .inl (d2, 12, .inl known))] sz)) 2 8 (va_A [(h0, .inr (0, [.ref q1, .ref q2, .int (nI N)])), (q1, .inl (d1, 5, .inl row)), (q2, .inl (d2, 12, .inl known))] sz) := by
  refine Met.ofW (cc := cX0_counts) (maxL := 3) (ret := (some (.object "ScoreRows$Counts"))) (by decide) rfl ?_
  intro p e s m args below meth c s₁ B hml hv
  obtain ⟨rfl, hsz, hP, hK, hD0, hN⟩ := hv
  have hx := B.exec
  have hb := B.bytes
  have hr := B.returns
  have hts := atoms_spec (ws := ws_ yX0_counts cX0_counts 3 (some (.object "ScoreRows$Counts"))) B.pre
  have hts : ∀ w ∈ lw_all, w.before _ s = true := fun w h => hts w (List.mem_cons_of_mem _ h)
  have hown : s.vm.findClass RX0 = some m.cls := findClass_of_methodNamed B.named
  have hlocks := B.notSynchronized
  subst hsz
  have hD := hD0.self (sz := s.heap.size)
  generalize hAe : va_A [(h0, .inr (0, [.ref q1, .ref q2, .int (nI N)])), (q1, .inl (d1, 5, .inl row)), (q2, .inl (d2, 12, .inl known))] s.heap.size = A at hD ⊢
  have hA : ∀ q : Nat, s.heap.size ≤ q → A q := fun q h => by rw [← hAe]; exact Or.inr h
  have hS : va_S A s.heap s.heap [] := va_S.rf
  have hP : va_P (dC, dI) vwCl [(h0, .inr (0, [.ref q1, .ref q2, .int (nI N)])), (q1, .inl (d1, 5, .inl row)), (q2, .inl (d2, 12, .inl known))] s.heap := hP
  have hl := lv_entry ([.ref h0]) (n := 3) (Nat.le_of_ble_eq_true rfl)
  rw [lg_entry_eq]
  generalize (lg_sl ([.ref h0]) ++ List.replicate (3 - (lg_sl ([.ref h0])).length) Slot.unset).toArray = ls at hl ⊢
  have hl : lv_has ls 3 [(0, .ref h0)] := hl
  have loop : ∀ (qc qa : Nat) (da : ClassId) (j i : Nat), j + i = N → ∀ (H : Heap) (locs : List Loc), va_K (dC, dI) vwCl [(d1, .int), (d2, .int), (da, .int)] s → va_P (dC, dI) vwCl [(h0, .inr (0, [.ref q1, .ref q2, .int (nI N)])), (q1, .inl (d1, 5, .inl row)), (q2, .inl (d2, 12, .inl known)), (qc, .inr (2, [.ref qa, .int (nI i)])), (qa, .inl (da, 6, .inl (zCt D i)))] H → va_D A [(h0, .inr (0, [.ref q1, .ref q2, .int (nI N)])), (q1, .inl (d1, 5, .inl row)), (q2, .inl (d2, 12, .inl known)), (qc, .inr (2, [.ref qa, .int (nI i)])), (qa, .inl (da, 6, .inl (zCt D i)))] → va_S A s.heap H locs → ∀ ls : Array Slot, lv_has ls 3 [(0, .ref h0), (1, .ref qc), (2, .int (nI i))] → W p l e (headSpec (ws_ yX0_counts cX0_counts 3 (some (.object "ScoreRows$Counts"))) ({ frames := 2, cells := 2, slots := 8, locals := 50 })).room s m ([.ref h0] : List Value).toArray below meth c H locs 2 8 (MQ below (va_Qr (fun (u : Nat × ClassId) => True) (fun (u : Nat × ClassId) (ra : Nat) (t : State) => va_P (dC, dI) vwCl [(h0, .inr (0, [.ref q1, .ref q2, .int (nI N)])), (q1, .inl (d1, 5, .inl row)), (q2, .inl (d2, 12, .inl known)), (ra, .inr (2, [.ref u.1, .int (nI N)])), (u.1, .inl (u.2, 6, .inl (zCt D N)))] t.heap ∧ va_K (dC, dI) vwCl [(d1, .int), (d2, .int), (u.2, .int)] t ∧ va_D A [(h0, .inr (0, [.ref q1, .ref q2, .int (nI N)])), (q1, .inl (d1, 5, .inl row)), (q2, .inl (d2, 12, .inl known)), (ra, .inr (2, [.ref u.1, .int (nI N)])), (u.1, .inl (u.2, 6, .inl (zCt D N)))]) A) ([.ref h0] : List Value).toArray s 2 8 A) (F0 m 10 ls []) := by
    intro qc qa da j
    induction j with
    | zero =>
      intro i hj H locs hK hP hD hS ls hl
      refine lv_iload_n hx hb dX0_counts_10 rfl (lv_at hl 2 rfl) ?_
      refine lv_aload_n hx hb dX0_counts_11 rfl (lv_at hl 0 rfl) ?_
      refine va_get (D := (dC, dI)) (ci := 0) (v := .int (nI N)) (C := RX0) (T := TX0) (N := 3) hx hb hts in_X0 hown hK hP 0 rfl rfl 2 (by decide) (hts _ q22) (fun _ h9 => h9) rfl dX0_counts_12 ?_
      refine lv_icmp_ge (tgt := 35) hx hb dX0_counts_15 (by decide) (fun c1 => ?_) (fun c1 => ?_)
      · obtain rfl : N = i := by omega
        refine lv_aload_n hx hb dX0_counts_35 rfl (lv_at hl 1 rfl) ?_
        exact W.aret (v := .ref qc) hx hb hr (Or.inl ⟨_, rfl⟩) (Or.inr ⟨_, rfl⟩) (fun tS ht hW => ⟨⟨(qa, da), qc, rfl, trivial, by rw [ht]; exact hP, va_K.moved hW.alike hK, hD⟩, hS.F ht⟩) hS.2.2 dX0_counts_36
      · exact absurd (nI_le (by omega) (by omega)) c1
    | succ j ih =>
      intro i hj H locs hK hP hD hS ls hl
      refine lv_iload_n hx hb dX0_counts_10 rfl (lv_at hl 2 rfl) ?_
      refine lv_aload_n hx hb dX0_counts_11 rfl (lv_at hl 0 rfl) ?_
      refine va_get (D := (dC, dI)) (ci := 0) (v := .int (nI N)) (C := RX0) (T := TX0) (N := 3) hx hb hts in_X0 hown hK hP 0 rfl rfl 2 (by decide) (hts _ q22) (fun _ h9 => h9) rfl dX0_counts_12 ?_
      refine lv_icmp_ge (tgt := 35) hx hb dX0_counts_15 (by decide) (fun c1 => ?_) (fun c1 => ?_)
      · exact absurd c1 (nI_ge (by omega) (by omega))
      · refine lv_aload_n hx hb dX0_counts_18 rfl (lv_at hl 1 rfl) ?_
        refine lv_aload_n hx hb dX0_counts_19 rfl (lv_at hl 0 rfl) ?_
        refine va_get (D := (dC, dI)) (ci := 0) (v := .ref q1) (C := RX0) (T := TX0) (N := 3) hx hb hts in_X0 hown hK hP 0 rfl rfl 0 (by decide) (hts _ q20) (fun _ h9 => h9) rfl dX0_counts_20 ?_
        refine lv_iload_n hx hb dX0_counts_23 rfl (lv_at hl 2 rfl) ?_
        refine my_iald hx hb hK hP 1 0 rfl rfl i (rfl) (by omega) (by decide) dX0_counts_24 ?_
        refine w_top (x' := nI (D i)) ((hDr i (by omega)).2) ?_
        refine lv_iconst (v := 1) hx hb dX0_counts_25 (by decide) ?_
        have hPc := hP.sub (ws' := [(qc, .inr (2, [.ref qa, .int (nI i)])), (qa, .inl (da, 6, .inl (zCt D i)))]) [3, 4] rfl
        have hDc := hD.sub (ws' := [(qc, .inr (2, [.ref qa, .int (nI i)])), (qa, .inl (da, 6, .inl (zCt D i)))]) [3, 4] (by decide) rfl
        have hKc := hK.sub (tys' := [(da, .int)]) [2] rfl
        have hFc := va_free (wc := [(qc, .inr (2, [.ref qa, .int (nI i)])), (qa, .inl (da, 6, .inl (zCt D i)))]) hD hS hA [3, 4] rfl
        refine va_callv (va_runV (As := [.int (nI (D i)), .int 1]) (rest := []) ⟨hx, hb, hml, hown, hts⟩ (metX2_add l dC dI H.size qc qa da (zCt D i) (nI i) (D i) 1 (hDr i (by omega)).1) (cwV 2 hts (lw_V q61 q62 q63 q9 q64) rfl rfl rfl (by decide +kernel) ⟨Nat.le_of_ble_eq_true rfl, Nat.le_of_ble_eq_true rfl⟩) ⟨fun a U g mk q => by obtain ⟨q0, q1, qP, qK, qD⟩ := q; exact ⟨q0, q1, qP, va_K.moved (u := U) (U := U.calling g mk a) (Vm.Alike.refl U.vm) qK, qD⟩, va_recv hKc hPc (ci := 2) (q0 := 0) rfl rfl, fun U hU hW => ⟨rfl, by rw [hU], by rw [hU]; exact hPc, va_K.moved hW.alike hKc, hDc.weaken (fun _ _ _ _ => trivial)⟩⟩ rfl rfl hl.1 rfl (lv_room (Nat.le_of_ble_eq_true rfl)) dX0_counts_26 ⟨Nat.le_of_ble_eq_true rfl, Nat.le_of_ble_eq_true rfl⟩) hS (fun q _ h => hFc q h) hFc (fun u tS H1 locs ht hvm hw hB hz1 hk1 hS => ?_)
        obtain ⟨hP1, hK1, hD1⟩ := hB
        rw [ht] at hP1
        have hK1 := va_K.moved hvm.symm hK1
        obtain ⟨hP, hD⟩ := va_join (wr := [(h0, .inr (0, [.ref q1, .ref q2, .int (nI N)])), (q1, .inl (d1, 5, .inl row)), (q2, .inl (d2, 12, .inl known))]) (w1 := [(qc, .inr (2, [.ref qa, .int (nI i + 1)])), (qa, .inl (da, 6, .inl (upd (zCt D i) (D i) (zCt D i (D i) + 1))))]) hP hD [3, 4] [0, 1, 2] rfl rfl (by decide) (by decide) hk1 hFc hP1 hD1
        have hK := (hK.sub (tys' := [(d1, .int), (d2, .int)]) [0, 1] rfl).app hK1
        generalize H1 = H at hP hS ⊢
        have hP : va_P (dC, dI) vwCl [(h0, .inr (0, [.ref q1, .ref q2, .int (nI N)])), (q1, .inl (d1, 5, .inl row)), (q2, .inl (d2, 12, .inl known)), (qc, .inr (2, [.ref qa, .int (nI i + 1)])), (qa, .inl (da, 6, .inl (upd (zCt D i) (D i) (zCt D i (D i) + 1))))] H := hP
        have hD : va_D A [(h0, .inr (0, [.ref q1, .ref q2, .int (nI N)])), (q1, .inl (d1, 5, .inl row)), (q2, .inl (d2, 12, .inl known)), (qc, .inr (2, [.ref qa, .int (nI i + 1)])), (qa, .inl (da, 6, .inl (upd (zCt D i) (D i) (zCt D i (D i) + 1))))] := hD
        have hK : va_K (dC, dI) vwCl [(d1, .int), (d2, .int), (da, .int)] s := hK
        refine W.widen (k := 2) (n := 8) (Nat.le_of_ble_eq_true rfl) (Nat.le_of_ble_eq_true rfl) ?_
        rw [nI_1] at hP hD
        have hP : va_P (dC, dI) vwCl [(h0, .inr (0, [.ref q1, .ref q2, .int (nI N)])), (q1, .inl (d1, 5, .inl row)), (q2, .inl (d2, 12, .inl known)), (qc, .inr (2, [.ref qa, .int (nI (i + 1))])), (qa, .inl (da, 6, .inl (zCt D (i + 1))))] H := hP
        have hD : va_D A [(h0, .inr (0, [.ref q1, .ref q2, .int (nI N)])), (q1, .inl (d1, 5, .inl row)), (q2, .inl (d2, 12, .inl known)), (qc, .inr (2, [.ref qa, .int (nI (i + 1))])), (qa, .inl (da, 6, .inl (zCt D (i + 1))))] := hD
        refine lv_iinc (v := nI (i + 1)) (lv' := [(2, .int (nI (i + 1))), (0, .ref h0), (1, .ref qc)]) hx hb dX0_counts_29 hl (k := 2) rfl (nI_1 i) (by decide) rfl (fun ls hl => ?_)
        refine lv_goto (tgt := 10) hx hb dX0_counts_32 (by decide) ?_
        exact ih (i + 1) (by omega) H locs hK hP hD hS ls (lv_sub hl [1, 2, 0] rfl)
  refine va_new (ci := 2) (fs := [.null, .int 0]) (C := RX2) (T := TX2) (N := 2) hx hb hts in_X2 tyX2 tyX2_ok hown (hts _ q48) (hts _ q49) (hts _ q9) hK hP hD hS hA rfl (fun j hj => by rcases (show j = 0 ∨ j = 1 by omega) with rfl | rfl <;> rfl) (Nat.le_of_ble_eq_true rfl) (Nat.le_of_ble_eq_true rfl) dX0_counts_0 (fun q5 H hP hD hS => ?_)
  have hP : va_P (dC, dI) vwCl [(h0, .inr (0, [.ref q1, .ref q2, .int (nI N)])), (q1, .inl (d1, 5, .inl row)), (q2, .inl (d2, 12, .inl known)), (q5, .inr (2, [.null, .int 0]))] H := hP
  have hD : va_D A [(h0, .inr (0, [.ref q1, .ref q2, .int (nI N)])), (q1, .inl (d1, 5, .inl row)), (q2, .inl (d2, 12, .inl known)), (q5, .inr (2, [.null, .int 0]))] := hD
  refine W.widen (k := 1) (n := 2) (Nat.le_of_ble_eq_true rfl) (Nat.le_of_ble_eq_true rfl) ?_
  refine lv_dup hx hb dX0_counts_3 rfl ?_
  have hPc := hP.sub (ws' := [(q5, .inr (2, [.null, .int 0]))]) [3] rfl
  have hDc := hD.sub (ws' := [(q5, .inr (2, [.null, .int 0]))]) [3] (by decide) rfl
  have hKc := hK.sub (tys' := []) [] rfl
  have hFc := va_free (wc := [(q5, .inr (2, [.null, .int 0]))]) hD hS hA [3] rfl
  refine va_callv (va_runIN (As := []) (rest := [.ref q5]) ⟨hx, hb, hml, hown, hts⟩ (metX2_init l dC dI H.size q5) (⟨va_cnB 0 hts (lw_meth q52) rfl rfl rfl hN (hts _ q9) (by decide +kernel) ⟨Nat.le_of_ble_eq_true rfl, Nat.le_of_ble_eq_true rfl⟩, rfl, hts _ q51⟩) ⟨fun a U g mk q => by obtain ⟨q0, q1, qP, qK, qD⟩ := q; exact ⟨q0, q1, qP, va_K.moved (u := U) (U := U.calling g mk a) (Vm.Alike.refl U.vm) qK, qD⟩, fun U hU hW => ⟨rfl, by rw [hU], by rw [hU]; exact hPc, va_K.moved hW.alike hKc, hDc.weaken (fun _ _ _ _ => trivial)⟩⟩ rfl rfl hl.1 rfl (lv_room (Nat.le_of_ble_eq_true rfl)) dX0_counts_4 ⟨Nat.le_of_ble_eq_true rfl, Nat.le_of_ble_eq_true rfl⟩) hS (fun q _ h => hFc q h) hFc (fun u tS H1 locs ht hvm hw hB hz1 hk1 hS => ?_)
  obtain ⟨qa, da⟩ := u
  obtain ⟨hP1, hK1, hD1⟩ := hB
  rw [ht] at hP1
  have hK1 := va_K.moved hvm.symm hK1
  obtain ⟨hP, hD⟩ := va_join (wr := [(h0, .inr (0, [.ref q1, .ref q2, .int (nI N)])), (q1, .inl (d1, 5, .inl row)), (q2, .inl (d2, 12, .inl known))]) (w1 := [(q5, .inr (2, [.ref qa, .int 0])), (qa, .inl (da, 6, .inl (fun _ => 0)))]) hP hD [3] [0, 1, 2] rfl rfl (by decide) (by decide) hk1 hFc hP1 hD1
  have hK := (hK.sub (tys' := [(d1, .int), (d2, .int)]) [0, 1] rfl).app hK1
  generalize H1 = H at hP hS ⊢
  have hP : va_P (dC, dI) vwCl [(h0, .inr (0, [.ref q1, .ref q2, .int (nI N)])), (q1, .inl (d1, 5, .inl row)), (q2, .inl (d2, 12, .inl known)), (q5, .inr (2, [.ref qa, .int 0])), (qa, .inl (da, 6, .inl (fun _ => 0)))] H := hP
  have hD : va_D A [(h0, .inr (0, [.ref q1, .ref q2, .int (nI N)])), (q1, .inl (d1, 5, .inl row)), (q2, .inl (d2, 12, .inl known)), (q5, .inr (2, [.ref qa, .int 0])), (qa, .inl (da, 6, .inl (fun _ => 0)))] := hD
  have hK : va_K (dC, dI) vwCl [(d1, .int), (d2, .int), (da, .int)] s := hK
  refine W.widen (k := 2) (n := 8) (Nat.le_of_ble_eq_true rfl) (Nat.le_of_ble_eq_true rfl) ?_
  refine lv_astore_n (lv' := [(1, .ref q5), (0, .ref h0)]) hx hb dX0_counts_7 rfl hl (by decide) rfl (fun ls hl => ?_)
  refine lv_iconst (v := 0) hx hb dX0_counts_8 (by decide) ?_
  refine lv_istore_n (lv' := [(2, .int 0), (1, .ref q5), (0, .ref h0)]) hx hb dX0_counts_9 rfl hl (by decide) rfl (fun ls hl => ?_)
  exact loop q5 qa da N 0 (by omega) H locs hK hP hD hS ls (lv_sub hl [2, 1, 0] rfl)
set_option maxHeartbeats 4000000 in
set_option maxRecDepth 100000 in
/-- ScoreRows.net() -/
theorem metX0_net (l : Launch) (dC : Nat → ClassId) (dI : Nat → Nat → Nat) (sz : Nat) (h0 q1 q2 : Nat) (d1 d2 : ClassId) (row known : Nat → Int32) (N : Nat) (D : Nat → Nat) (hN1 : 1 ≤ N) (hN5 : N ≤ 5) (hDr : ∀ a, a < N → D a < 6 ∧ row a = nI (D a)) : Met l yX0_net (ws_ yX0_net cX0_net 1 (some .boolean)) ({ frames := 3, cells := 2, slots := 8, locals := 100 }) (va_Pc [.ref h0] (fun U => U.heap.size = sz ∧ va_P (dC, dI) vwCl [(h0, .inr (0, [.ref q1, .ref q2, .int (nI N)])), (q1, .inl (d1, 5, .inl row)), (q2, .inl (d2, 12, .inl known))] U.heap ∧ va_K (dC, dI) vwCl [(d1, .int), (d2, .int)] U ∧ va_D (fun _ => True) [(h0, .inr (0, [.ref q1, .ref q2, .int (nI N)])), (q1, .inl (d1, 5, .inl row)), (q2, .inl (d2, 12, .inl known))] ∧ va_Nw (.methodLinkNest "ScoreRows" 23 yX2_init "ScoreRows") U)) (va_Qi (fun (r : Int32) (u : Unit) => r = zNet (zCt D N) N) (fun (u : Unit) (t : State) => va_P (dC, dI) vwCl [(h0, .inr (0, [.ref q1, .ref q2, .int (nI N)])), (q1, .inl (d1, 5, .inl row)), (q2, .inl (d2, 12, .inl known))] t.heap ∧ va_K (dC, dI) vwCl [(d1, .int), (d2, .int)] t ∧ va_D (va_A [(h0, .inr (0, [.ref q1, .ref q2, .int (nI N)])), (q1, .inl (d1, 5, .inl row)), (q2, .inl (d2, 12, .inl known))] sz) [(h0, .inr (0, [.ref q1, .ref q2, .int (nI N)])), (q1, .inl (d1, 5, .inl row)), (q2, .inl (d2, 12, .inl known))]) (va_A [(h0, .inr (0, [.ref q1, .ref q2, .int (nI N)])), (q1, .inl (d1, 5, .inl row)), (q2, .inl (d2, 12, .inl known))] sz)) 2 8 (va_A [(h0, .inr (0, [.ref q1, .ref q2, .int (nI N)])), (q1, .inl (d1, 5, .inl row)), (q2, .inl (d2, 12, .inl known))] sz) := by
  refine Met.ofW (cc := cX0_net) (maxL := 1) (ret := (some .boolean)) (by decide) rfl ?_
  intro p e s m args below meth c s₁ B hml hv
  obtain ⟨rfl, hsz, hP, hK, hD0, hN⟩ := hv
  have hx := B.exec
  have hb := B.bytes
  have hr := B.returns
  have hts := atoms_spec (ws := ws_ yX0_net cX0_net 1 (some .boolean)) B.pre
  have hts : ∀ w ∈ lw_all, w.before _ s = true := fun w h => hts w (List.mem_cons_of_mem _ h)
  have hown : s.vm.findClass RX0 = some m.cls := findClass_of_methodNamed B.named
  have hlocks := B.notSynchronized
  subst hsz
  have hD := hD0.self (sz := s.heap.size)
  generalize hAe : va_A [(h0, .inr (0, [.ref q1, .ref q2, .int (nI N)])), (q1, .inl (d1, 5, .inl row)), (q2, .inl (d2, 12, .inl known))] s.heap.size = A at hD ⊢
  have hA : ∀ q : Nat, s.heap.size ≤ q → A q := fun q h => by rw [← hAe]; exact Or.inr h
  have hS : va_S A s.heap s.heap [] := va_S.rf
  have hP : va_P (dC, dI) vwCl [(h0, .inr (0, [.ref q1, .ref q2, .int (nI N)])), (q1, .inl (d1, 5, .inl row)), (q2, .inl (d2, 12, .inl known))] s.heap := hP
  have hl := lv_entry ([.ref h0]) (n := 1) (Nat.le_of_ble_eq_true rfl)
  rw [lg_entry_eq]
  generalize (lg_sl ([.ref h0]) ++ List.replicate (1 - (lg_sl ([.ref h0])).length) Slot.unset).toArray = ls at hl ⊢
  have hl : lv_has ls 1 [(0, .ref h0)] := hl
  refine lv_aload_n hx hb dX0_net_0 rfl (lv_at hl 0 rfl) ?_
  have hPc := hP.sub (ws' := [(h0, .inr (0, [.ref q1, .ref q2, .int (nI N)])), (q1, .inl (d1, 5, .inl row)), (q2, .inl (d2, 12, .inl known))]) [0, 1, 2] rfl
  have hDc := hD.sub (ws' := [(h0, .inr (0, [.ref q1, .ref q2, .int (nI N)])), (q1, .inl (d1, 5, .inl row)), (q2, .inl (d2, 12, .inl known))]) [0, 1, 2] (by decide) rfl
  have hKc := hK.sub (tys' := [(d1, .int), (d2, .int)]) [0, 1] rfl
  have hFc := va_free (wc := [(h0, .inr (0, [.ref q1, .ref q2, .int (nI N)])), (q1, .inl (d1, 5, .inl row)), (q2, .inl (d2, 12, .inl known))]) hD hS hA [0, 1, 2] rfl
  refine va_callr (va_runV (As := []) (rest := []) ⟨hx, hb, hml, hown, hts⟩ (metX0_counts l dC dI s.heap.size h0 q1 q2 d1 d2 row known N D hN1 hN5 hDr) (cwV 0 hts (lw_V q44 q46 qs0 q7 q47) rfl rfl rfl (by decide +kernel) ⟨Nat.le_of_ble_eq_true rfl, Nat.le_of_ble_eq_true rfl⟩) ⟨fun a U g mk q => by obtain ⟨q0, q1, qP, qK, qD, qN⟩ := q; exact ⟨q0, q1, qP, va_K.moved (u := U) (U := U.calling g mk a) (Vm.Alike.refl U.vm) qK, qD, va_Nw.same rfl rfl qN⟩, va_recv hKc hPc (ci := 0) (q0 := 0) rfl rfl, fun U hU hW => ⟨rfl, by rw [hU], by rw [hU]; exact hPc, va_K.moved hW.alike hKc, hDc.weaken (fun _ _ _ _ => trivial), va_Nw.warmM hW hN⟩⟩ rfl rfl hl.1 rfl (lv_room (Nat.le_of_ble_eq_true rfl)) dX0_net_1 ⟨Nat.le_of_ble_eq_true rfl, Nat.le_of_ble_eq_true rfl⟩) hS (fun q _ h => hFc q h) hFc (fun u ra tS H1 locs ht hvm hw hB hz1 hk1 hS => ?_)
  obtain ⟨qa, da⟩ := u
  obtain ⟨hP1, hK1, hD1⟩ := hB
  rw [ht] at hP1
  have hK1 := va_K.moved hvm.symm hK1
  obtain ⟨hP, hD⟩ := va_join (wr := []) (w1 := [(h0, .inr (0, [.ref q1, .ref q2, .int (nI N)])), (q1, .inl (d1, 5, .inl row)), (q2, .inl (d2, 12, .inl known)), (ra, .inr (2, [.ref qa, .int (nI N)])), (qa, .inl (da, 6, .inl (zCt D N)))]) hP hD [0, 1, 2] [] rfl rfl (by decide) (by decide) hk1 hFc hP1 hD1
  have hK := (hK.sub (tys' := []) [] rfl).app hK1
  generalize H1 = H at hP hS ⊢
  have hP : va_P (dC, dI) vwCl [(h0, .inr (0, [.ref q1, .ref q2, .int (nI N)])), (q1, .inl (d1, 5, .inl row)), (q2, .inl (d2, 12, .inl known)), (ra, .inr (2, [.ref qa, .int (nI N)])), (qa, .inl (da, 6, .inl (zCt D N)))] H := hP
  have hD : va_D A [(h0, .inr (0, [.ref q1, .ref q2, .int (nI N)])), (q1, .inl (d1, 5, .inl row)), (q2, .inl (d2, 12, .inl known)), (ra, .inr (2, [.ref qa, .int (nI N)])), (qa, .inl (da, 6, .inl (zCt D N)))] := hD
  have hK : va_K (dC, dI) vwCl [(d1, .int), (d2, .int), (da, .int)] s := hK
  refine W.widen (k := 2) (n := 8) (Nat.le_of_ble_eq_true rfl) (Nat.le_of_ble_eq_true rfl) ?_
  have hPc := hP.sub (ws' := [(ra, .inr (2, [.ref qa, .int (nI N)])), (qa, .inl (da, 6, .inl (zCt D N)))]) [3, 4] rfl
  have hDc := hD.sub (ws' := [(ra, .inr (2, [.ref qa, .int (nI N)])), (qa, .inl (da, 6, .inl (zCt D N)))]) [3, 4] (by decide) rfl
  have hKc := hK.sub (tys' := [(da, .int)]) [2] rfl
  have hFc := va_free (wc := [(ra, .inr (2, [.ref qa, .int (nI N)])), (qa, .inl (da, 6, .inl (zCt D N)))]) hD hS hA [3, 4] rfl
  refine va_calli (va_runV (As := []) (rest := []) ⟨hx, hb, hml, hown, hts⟩ (metX2_net l dC dI H.size ra qa da (zCt D N) N (by omega)) (cwV 0 hts (lw_V q65 q66 q67 q9 q68) rfl rfl rfl (by decide +kernel) ⟨Nat.le_of_ble_eq_true rfl, Nat.le_of_ble_eq_true rfl⟩) ⟨fun a U g mk q => by obtain ⟨q0, q1, qP, qK, qD⟩ := q; exact ⟨q0, q1, qP, va_K.moved (u := U) (U := U.calling g mk a) (Vm.Alike.refl U.vm) qK, qD⟩, va_recv hKc hPc (ci := 2) (q0 := 0) rfl rfl, fun U hU hW => ⟨rfl, by rw [hU], by rw [hU]; exact hPc, va_K.moved hW.alike hKc, hDc.weaken (fun _ _ _ _ => trivial)⟩⟩ rfl rfl hl.1 rfl (lv_room (Nat.le_of_ble_eq_true rfl)) dX0_net_4 ⟨Nat.le_of_ble_eq_true rfl, Nat.le_of_ble_eq_true rfl⟩) hS (fun q _ h => hFc q h) hFc (fun r1 u tS H1 locs ht hvm hr1 hB hz1 hk1 hS => ?_)
  obtain ⟨hP1, hK1, hD1⟩ := hB
  rw [ht] at hP1
  have hK1 := va_K.moved hvm.symm hK1
  obtain ⟨hP, hD⟩ := va_join (wr := [(h0, .inr (0, [.ref q1, .ref q2, .int (nI N)])), (q1, .inl (d1, 5, .inl row)), (q2, .inl (d2, 12, .inl known))]) (w1 := [(ra, .inr (2, [.ref qa, .int (nI N)])), (qa, .inl (da, 6, .inl (zCt D N)))]) hP hD [3, 4] [0, 1, 2] rfl rfl (by decide) (by decide) hk1 hFc hP1 hD1
  have hK := (hK.sub (tys' := [(d1, .int), (d2, .int)]) [0, 1] rfl).app hK1
  generalize H1 = H at hP hS ⊢
  have hP : va_P (dC, dI) vwCl [(h0, .inr (0, [.ref q1, .ref q2, .int (nI N)])), (q1, .inl (d1, 5, .inl row)), (q2, .inl (d2, 12, .inl known)), (ra, .inr (2, [.ref qa, .int (nI N)])), (qa, .inl (da, 6, .inl (zCt D N)))] H := hP
  have hD : va_D A [(h0, .inr (0, [.ref q1, .ref q2, .int (nI N)])), (q1, .inl (d1, 5, .inl row)), (q2, .inl (d2, 12, .inl known)), (ra, .inr (2, [.ref qa, .int (nI N)])), (qa, .inl (da, 6, .inl (zCt D N)))] := hD
  have hK : va_K (dC, dI) vwCl [(d1, .int), (d2, .int), (da, .int)] s := hK
  refine W.widen (k := 2) (n := 8) (Nat.le_of_ble_eq_true rfl) (Nat.le_of_ble_eq_true rfl) ?_
  have hr1 : r1 = zNet (zCt D N) N := hr1
  subst hr1
  have hP := hP.sub (ws' := [(h0, .inr (0, [.ref q1, .ref q2, .int (nI N)])), (q1, .inl (d1, 5, .inl row)), (q2, .inl (d2, 12, .inl known))]) [0, 1, 2] rfl
  have hD := hD.sub (ws' := [(h0, .inr (0, [.ref q1, .ref q2, .int (nI N)])), (q1, .inl (d1, 5, .inl row)), (q2, .inl (d2, 12, .inl known))]) [0, 1, 2] (by decide) rfl
  have hK := hK.sub (tys' := [(d1, .int), (d2, .int)]) [0, 1] rfl
  exact W.zret (v := (zNet (zCt D N) N)) hx hb hr (by rcases zNet_01 (zCt D N) N with h | h <;> rw [h] <;> rfl) (fun tS ht hW => ⟨⟨zNet (zCt D N) N, (), rfl, rfl, by rw [ht]; exact hP, va_K.moved hW.alike hK, hD⟩, hS.F ht⟩) hS.2.2 dX0_net_7
set_option maxHeartbeats 4000000 in
set_option maxRecDepth 100000 in
/-- ScoreRows.play() -/
theorem metX0_play (l : Launch) (dC : Nat → ClassId) (dI : Nat → Nat → Nat) (sz : Nat) (h0 q1 q2 : Nat) (d1 d2 : ClassId) (row known : Nat → Int32) (N : Nat) (D : Nat → Nat) (hN1 : 1 ≤ N) (hN5 : N ≤ 5) (hDr : ∀ a, a < N → D a < 6 ∧ row a = nI (D a)) : Met l yX0_play (ws_ yX0_play cX0_play 1 (some .boolean)) ({ frames := 3, cells := 2, slots := 8, locals := 100 }) (va_Pc [.ref h0] (fun U => U.heap.size = sz ∧ va_P (dC, dI) vwCl [(h0, .inr (0, [.ref q1, .ref q2, .int (nI N)])), (q1, .inl (d1, 5, .inl row)), (q2, .inl (d2, 12, .inl known))] U.heap ∧ va_K (dC, dI) vwCl [(d1, .int), (d2, .int)] U ∧ va_D (fun _ => True) [(h0, .inr (0, [.ref q1, .ref q2, .int (nI N)])), (q1, .inl (d1, 5, .inl row)), (q2, .inl (d2, 12, .inl known))] ∧ va_Nw (.methodLinkNest "ScoreRows" 23 yX2_init "ScoreRows") U)) (va_Qi (fun (r : Int32) (u : Unit) => r = zPlay (zCt D N) N) (fun (u : Unit) (t : State) => va_P (dC, dI) vwCl [(h0, .inr (0, [.ref q1, .ref q2, .int (nI N)])), (q1, .inl (d1, 5, .inl row)), (q2, .inl (d2, 12, .inl known))] t.heap ∧ va_K (dC, dI) vwCl [(d1, .int), (d2, .int)] t ∧ va_D (va_A [(h0, .inr (0, [.ref q1, .ref q2, .int (nI N)])), (q1, .inl (d1, 5, .inl row)), (q2, .inl (d2, 12, .inl known))] sz) [(h0, .inr (0, [.ref q1, .ref q2, .int (nI N)])), (q1, .inl (d1, 5, .inl row)), (q2, .inl (d2, 12, .inl known))]) (va_A [(h0, .inr (0, [.ref q1, .ref q2, .int (nI N)])), (q1, .inl (d1, 5, .inl row)), (q2, .inl (d2, 12, .inl known))] sz)) 2 8 (va_A [(h0, .inr (0, [.ref q1, .ref q2, .int (nI N)])), (q1, .inl (d1, 5, .inl row)), (q2, .inl (d2, 12, .inl known))] sz) := by
  refine Met.ofW (cc := cX0_play) (maxL := 1) (ret := (some .boolean)) (by decide) rfl ?_
  intro p e s m args below meth c s₁ B hml hv
  obtain ⟨rfl, hsz, hP, hK, hD0, hN⟩ := hv
  have hx := B.exec
  have hb := B.bytes
  have hr := B.returns
  have hts := atoms_spec (ws := ws_ yX0_play cX0_play 1 (some .boolean)) B.pre
  have hts : ∀ w ∈ lw_all, w.before _ s = true := fun w h => hts w (List.mem_cons_of_mem _ h)
  have hown : s.vm.findClass RX0 = some m.cls := findClass_of_methodNamed B.named
  have hlocks := B.notSynchronized
  subst hsz
  have hD := hD0.self (sz := s.heap.size)
  generalize hAe : va_A [(h0, .inr (0, [.ref q1, .ref q2, .int (nI N)])), (q1, .inl (d1, 5, .inl row)), (q2, .inl (d2, 12, .inl known))] s.heap.size = A at hD ⊢
  have hA : ∀ q : Nat, s.heap.size ≤ q → A q := fun q h => by rw [← hAe]; exact Or.inr h
  have hS : va_S A s.heap s.heap [] := va_S.rf
  have hP : va_P (dC, dI) vwCl [(h0, .inr (0, [.ref q1, .ref q2, .int (nI N)])), (q1, .inl (d1, 5, .inl row)), (q2, .inl (d2, 12, .inl known))] s.heap := hP
  have hl := lv_entry ([.ref h0]) (n := 1) (Nat.le_of_ble_eq_true rfl)
  rw [lg_entry_eq]
  generalize (lg_sl ([.ref h0]) ++ List.replicate (1 - (lg_sl ([.ref h0])).length) Slot.unset).toArray = ls at hl ⊢
  have hl : lv_has ls 1 [(0, .ref h0)] := hl
  refine lv_aload_n hx hb dX0_play_0 rfl (lv_at hl 0 rfl) ?_
  have hPc := hP.sub (ws' := [(h0, .inr (0, [.ref q1, .ref q2, .int (nI N)])), (q1, .inl (d1, 5, .inl row)), (q2, .inl (d2, 12, .inl known))]) [0, 1, 2] rfl
  have hDc := hD.sub (ws' := [(h0, .inr (0, [.ref q1, .ref q2, .int (nI N)])), (q1, .inl (d1, 5, .inl row)), (q2, .inl (d2, 12, .inl known))]) [0, 1, 2] (by decide) rfl
  have hKc := hK.sub (tys' := [(d1, .int), (d2, .int)]) [0, 1] rfl
  have hFc := va_free (wc := [(h0, .inr (0, [.ref q1, .ref q2, .int (nI N)])), (q1, .inl (d1, 5, .inl row)), (q2, .inl (d2, 12, .inl known))]) hD hS hA [0, 1, 2] rfl
  refine va_callr (va_runV (As := []) (rest := []) ⟨hx, hb, hml, hown, hts⟩ (metX0_counts l dC dI s.heap.size h0 q1 q2 d1 d2 row known N D hN1 hN5 hDr) (cwV 0 hts (lw_V q44 q46 qs0 q7 q47) rfl rfl rfl (by decide +kernel) ⟨Nat.le_of_ble_eq_true rfl, Nat.le_of_ble_eq_true rfl⟩) ⟨fun a U g mk q => by obtain ⟨q0, q1, qP, qK, qD, qN⟩ := q; exact ⟨q0, q1, qP, va_K.moved (u := U) (U := U.calling g mk a) (Vm.Alike.refl U.vm) qK, qD, va_Nw.same rfl rfl qN⟩, va_recv hKc hPc (ci := 0) (q0 := 0) rfl rfl, fun U hU hW => ⟨rfl, by rw [hU], by rw [hU]; exact hPc, va_K.moved hW.alike hKc, hDc.weaken (fun _ _ _ _ => trivial), va_Nw.warmM hW hN⟩⟩ rfl rfl hl.1 rfl (lv_room (Nat.le_of_ble_eq_true rfl)) dX0_play_1 ⟨Nat.le_of_ble_eq_true rfl, Nat.le_of_ble_eq_true rfl⟩) hS (fun q _ h => hFc q h) hFc (fun u ra tS H1 locs ht hvm hw hB hz1 hk1 hS => ?_)
  obtain ⟨qa, da⟩ := u
  obtain ⟨hP1, hK1, hD1⟩ := hB
  rw [ht] at hP1
  have hK1 := va_K.moved hvm.symm hK1
  obtain ⟨hP, hD⟩ := va_join (wr := []) (w1 := [(h0, .inr (0, [.ref q1, .ref q2, .int (nI N)])), (q1, .inl (d1, 5, .inl row)), (q2, .inl (d2, 12, .inl known)), (ra, .inr (2, [.ref qa, .int (nI N)])), (qa, .inl (da, 6, .inl (zCt D N)))]) hP hD [0, 1, 2] [] rfl rfl (by decide) (by decide) hk1 hFc hP1 hD1
  have hK := (hK.sub (tys' := []) [] rfl).app hK1
  generalize H1 = H at hP hS ⊢
  have hP : va_P (dC, dI) vwCl [(h0, .inr (0, [.ref q1, .ref q2, .int (nI N)])), (q1, .inl (d1, 5, .inl row)), (q2, .inl (d2, 12, .inl known)), (ra, .inr (2, [.ref qa, .int (nI N)])), (qa, .inl (da, 6, .inl (zCt D N)))] H := hP
  have hD : va_D A [(h0, .inr (0, [.ref q1, .ref q2, .int (nI N)])), (q1, .inl (d1, 5, .inl row)), (q2, .inl (d2, 12, .inl known)), (ra, .inr (2, [.ref qa, .int (nI N)])), (qa, .inl (da, 6, .inl (zCt D N)))] := hD
  have hK : va_K (dC, dI) vwCl [(d1, .int), (d2, .int), (da, .int)] s := hK
  refine W.widen (k := 2) (n := 8) (Nat.le_of_ble_eq_true rfl) (Nat.le_of_ble_eq_true rfl) ?_
  have hPc := hP.sub (ws' := [(ra, .inr (2, [.ref qa, .int (nI N)])), (qa, .inl (da, 6, .inl (zCt D N)))]) [3, 4] rfl
  have hDc := hD.sub (ws' := [(ra, .inr (2, [.ref qa, .int (nI N)])), (qa, .inl (da, 6, .inl (zCt D N)))]) [3, 4] (by decide) rfl
  have hKc := hK.sub (tys' := [(da, .int)]) [2] rfl
  have hFc := va_free (wc := [(ra, .inr (2, [.ref qa, .int (nI N)])), (qa, .inl (da, 6, .inl (zCt D N)))]) hD hS hA [3, 4] rfl
  refine va_calli (va_runV (As := []) (rest := []) ⟨hx, hb, hml, hown, hts⟩ (metX2_play l dC dI H.size ra qa da (zCt D N) N (by omega) (by omega)) (cwV 0 hts (lw_V q91 q92 q93 q9 q94) rfl rfl rfl (by decide +kernel) ⟨Nat.le_of_ble_eq_true rfl, Nat.le_of_ble_eq_true rfl⟩) ⟨fun a U g mk q => by obtain ⟨q0, q1, qP, qK, qD⟩ := q; exact ⟨q0, q1, qP, va_K.moved (u := U) (U := U.calling g mk a) (Vm.Alike.refl U.vm) qK, qD⟩, va_recv hKc hPc (ci := 2) (q0 := 0) rfl rfl, fun U hU hW => ⟨rfl, by rw [hU], by rw [hU]; exact hPc, va_K.moved hW.alike hKc, hDc.weaken (fun _ _ _ _ => trivial)⟩⟩ rfl rfl hl.1 rfl (lv_room (Nat.le_of_ble_eq_true rfl)) dX0_play_4 ⟨Nat.le_of_ble_eq_true rfl, Nat.le_of_ble_eq_true rfl⟩) hS (fun q _ h => hFc q h) hFc (fun r1 u tS H1 locs ht hvm hr1 hB hz1 hk1 hS => ?_)
  obtain ⟨hP1, hK1, hD1⟩ := hB
  rw [ht] at hP1
  have hK1 := va_K.moved hvm.symm hK1
  obtain ⟨hP, hD⟩ := va_join (wr := [(h0, .inr (0, [.ref q1, .ref q2, .int (nI N)])), (q1, .inl (d1, 5, .inl row)), (q2, .inl (d2, 12, .inl known))]) (w1 := [(ra, .inr (2, [.ref qa, .int (nI N)])), (qa, .inl (da, 6, .inl (zCt D N)))]) hP hD [3, 4] [0, 1, 2] rfl rfl (by decide) (by decide) hk1 hFc hP1 hD1
  have hK := (hK.sub (tys' := [(d1, .int), (d2, .int)]) [0, 1] rfl).app hK1
  generalize H1 = H at hP hS ⊢
  have hP : va_P (dC, dI) vwCl [(h0, .inr (0, [.ref q1, .ref q2, .int (nI N)])), (q1, .inl (d1, 5, .inl row)), (q2, .inl (d2, 12, .inl known)), (ra, .inr (2, [.ref qa, .int (nI N)])), (qa, .inl (da, 6, .inl (zCt D N)))] H := hP
  have hD : va_D A [(h0, .inr (0, [.ref q1, .ref q2, .int (nI N)])), (q1, .inl (d1, 5, .inl row)), (q2, .inl (d2, 12, .inl known)), (ra, .inr (2, [.ref qa, .int (nI N)])), (qa, .inl (da, 6, .inl (zCt D N)))] := hD
  have hK : va_K (dC, dI) vwCl [(d1, .int), (d2, .int), (da, .int)] s := hK
  refine W.widen (k := 2) (n := 8) (Nat.le_of_ble_eq_true rfl) (Nat.le_of_ble_eq_true rfl) ?_
  have hr1 : r1 = zPlay (zCt D N) N := hr1
  subst hr1
  have hP := hP.sub (ws' := [(h0, .inr (0, [.ref q1, .ref q2, .int (nI N)])), (q1, .inl (d1, 5, .inl row)), (q2, .inl (d2, 12, .inl known))]) [0, 1, 2] rfl
  have hD := hD.sub (ws' := [(h0, .inr (0, [.ref q1, .ref q2, .int (nI N)])), (q1, .inl (d1, 5, .inl row)), (q2, .inl (d2, 12, .inl known))]) [0, 1, 2] (by decide) rfl
  have hK := hK.sub (tys' := [(d1, .int), (d2, .int)]) [0, 1] rfl
  exact W.zret (v := (zPlay (zCt D N) N)) hx hb hr (by rcases zPlay_01 (zCt D N) N with h | h <;> rw [h] <;> rfl) (fun tS ht hW => ⟨⟨zPlay (zCt D N) N, (), rfl, rfl, by rw [ht]; exact hP, va_K.moved hW.alike hK, hD⟩, hS.F ht⟩) hS.2.2 dX0_play_7
set_option maxHeartbeats 4000000 in
set_option maxRecDepth 100000 in
/-- ScoreRows.counted(nets) -/
theorem metX0_counted (l : Launch) (dC : Nat → ClassId) (dI : Nat → Nat → Nat) (sz : Nat) (h0 q1 q2 : Nat) (d1 d2 : ClassId) (row known : Nat → Int32) (N : Nat) (bb : Bool) (hN1 : 1 ≤ N) (hN5 : N ≤ 5) (hkn : known (zK bb N) = 0 ∨ known (zK bb N) = 1 + zFr bb 6 (fun _ => 0) 0 N) : Met l yX0_counted (ws_ yX0_counted cX0_counted 3 (some .int)) ({ frames := 10, cells := 3, slots := 10, locals := 300 }) (va_Pc [.ref h0, .int (zB bb)] (fun U => U.heap.size = sz ∧ va_P (dC, dI) vwCl [(h0, .inr (0, [.ref q1, .ref q2, .int (nI N)])), (q1, .inl (d1, 5, .inl row)), (q2, .inl (d2, 12, .inl known))] U.heap ∧ va_K (dC, dI) vwCl [(d1, .int), (d2, .int)] U ∧ va_D (fun _ => True) [(h0, .inr (0, [.ref q1, .ref q2, .int (nI N)])), (q1, .inl (d1, 5, .inl row)), (q2, .inl (d2, 12, .inl known))] ∧ va_Nw (.methodLinkNest "ScoreRows$Counter" 9 yX2_init "ScoreRows") U)) (va_Qi (fun (r : Int32) (u : Nat → Int32) => r = zFr bb 6 (fun _ => 0) 0 N ∧ (u = known ∨ u = upd known (zK bb N) (1 + zFr bb 6 (fun _ => 0) 0 N))) (fun (u : Nat → Int32) (t : State) => va_P (dC, dI) vwCl [(h0, .inr (0, [.ref q1, .ref q2, .int (nI N)])), (q1, .inl (d1, 5, .inl row)), (q2, .inl (d2, 12, .inl u))] t.heap ∧ va_K (dC, dI) vwCl [(d1, .int), (d2, .int)] t ∧ va_D (va_A [(h0, .inr (0, [.ref q1, .ref q2, .int (nI N)])), (q1, .inl (d1, 5, .inl row)), (q2, .inl (d2, 12, .inl known))] sz) [(h0, .inr (0, [.ref q1, .ref q2, .int (nI N)])), (q1, .inl (d1, 5, .inl row)), (q2, .inl (d2, 12, .inl u))]) (va_A [(h0, .inr (0, [.ref q1, .ref q2, .int (nI N)])), (q1, .inl (d1, 5, .inl row)), (q2, .inl (d2, 12, .inl known))] sz)) 3 10 (va_A [(h0, .inr (0, [.ref q1, .ref q2, .int (nI N)])), (q1, .inl (d1, 5, .inl row)), (q2, .inl (d2, 12, .inl known))] sz) := by
  refine Met.ofW (cc := cX0_counted) (maxL := 3) (ret := (some .int)) (by decide) rfl ?_
  intro p e s m args below meth c s₁ B hml hv
  obtain ⟨rfl, hsz, hP, hK, hD0, hN⟩ := hv
  have hx := B.exec
  have hb := B.bytes
  have hr := B.returns
  have hts := atoms_spec (ws := ws_ yX0_counted cX0_counted 3 (some .int)) B.pre
  have hts : ∀ w ∈ lw_all, w.before _ s = true := fun w h => hts w (List.mem_cons_of_mem _ h)
  have hown : s.vm.findClass RX0 = some m.cls := findClass_of_methodNamed B.named
  have hlocks := B.notSynchronized
  subst hsz
  have hD := hD0.self (sz := s.heap.size)
  generalize hAe : va_A [(h0, .inr (0, [.ref q1, .ref q2, .int (nI N)])), (q1, .inl (d1, 5, .inl row)), (q2, .inl (d2, 12, .inl known))] s.heap.size = A at hD ⊢
  have hA : ∀ q : Nat, s.heap.size ≤ q → A q := fun q h => by rw [← hAe]; exact Or.inr h
  have hS : va_S A s.heap s.heap [] := va_S.rf
  have hP : va_P (dC, dI) vwCl [(h0, .inr (0, [.ref q1, .ref q2, .int (nI N)])), (q1, .inl (d1, 5, .inl row)), (q2, .inl (d2, 12, .inl known))] s.heap := hP
  have hl := lv_entry ([.ref h0, .int (zB bb)]) (n := 3) (Nat.le_of_ble_eq_true rfl)
  rw [lg_entry_eq]
  generalize (lg_sl ([.ref h0, .int (zB bb)]) ++ List.replicate (3 - (lg_sl ([.ref h0, .int (zB bb)])).length) Slot.unset).toArray = ls at hl ⊢
  have hl : lv_has ls 3 [(0, .ref h0), (1, .int (zB bb))] := hl
  have tail : ∀ ls : Array Slot, lv_has ls 3 [(0, .ref h0), (1, .int (zB bb))] → W p l e (headSpec (ws_ yX0_counted cX0_counted 3 (some .int)) ({ frames := 10, cells := 3, slots := 10, locals := 300 })).room s m ([.ref h0, .int (zB bb)] : List Value).toArray below meth c s.heap [] 0 0 (MQ below (va_Qi (fun (r : Int32) (u : Nat → Int32) => r = zFr bb 6 (fun _ => 0) 0 N ∧ (u = known ∨ u = upd known (zK bb N) (1 + zFr bb 6 (fun _ => 0) 0 N))) (fun (u : Nat → Int32) (t : State) => va_P (dC, dI) vwCl [(h0, .inr (0, [.ref q1, .ref q2, .int (nI N)])), (q1, .inl (d1, 5, .inl row)), (q2, .inl (d2, 12, .inl u))] t.heap ∧ va_K (dC, dI) vwCl [(d1, .int), (d2, .int)] t ∧ va_D A [(h0, .inr (0, [.ref q1, .ref q2, .int (nI N)])), (q1, .inl (d1, 5, .inl row)), (q2, .inl (d2, 12, .inl u))]) A) ([.ref h0, .int (zB bb)] : List Value).toArray s 3 10 A) (F0 m 18 ls [.int (nI (zK bb N))]) := by
    intro ls hl
    refine lv_istore_n (lv' := [(2, .int (nI (zK bb N))), (0, .ref h0), (1, .int (zB bb))]) hx hb dX0_counted_18 rfl hl (by decide) rfl (fun ls hl => ?_)
    refine lv_aload_n hx hb dX0_counted_19 rfl (lv_at hl 1 rfl) ?_
    refine va_get (D := (dC, dI)) (ci := 0) (v := .ref q2) (C := RX0) (T := TX0) (N := 3) hx hb hts in_X0 hown hK hP 0 rfl rfl 1 (by decide) (hts _ q21) (fun _ h9 => h9) rfl dX0_counted_20 ?_
    refine lv_iload_n hx hb dX0_counted_23 rfl (lv_at hl 0 rfl) ?_
    refine my_iald hx hb hK hP 2 1 rfl rfl (zK bb N) (rfl) (zK_lt bb hN5) (by decide) dX0_counted_24 ?_
    refine lv_if_ne (tgt := 52) hx hb dX0_counted_25 (by decide) (fun c1 => ?_) (fun c1 => ?_)
    · refine lv_aload_n hx hb dX0_counted_52 rfl (lv_at hl 1 rfl) ?_
      refine va_get (D := (dC, dI)) (ci := 0) (v := .ref q2) (C := RX0) (T := TX0) (N := 3) hx hb hts in_X0 hown hK hP 0 rfl rfl 1 (by decide) (hts _ q21) (fun _ h9 => h9) rfl dX0_counted_53 ?_
      refine lv_iload_n hx hb dX0_counted_56 rfl (lv_at hl 0 rfl) ?_
      refine my_iald hx hb hK hP 2 1 rfl rfl (zK bb N) (rfl) (zK_lt bb hN5) (by decide) dX0_counted_57 ?_
      refine lv_iconst (v := 1) hx hb dX0_counted_58 (by decide) ?_
      refine lv_isub hx hb dX0_counted_59 ?_
      refine w_top (x' := zFr bb 6 (fun _ => 0) 0 N) (by rw [hkn.resolve_left c1]; exact z_pm _) ?_
      refine W.widen (k := 3) (n := 10) (Nat.le_of_ble_eq_true rfl) (Nat.le_of_ble_eq_true rfl) ?_
      exact W.iret (v := (zFr bb 6 (fun _ => 0) 0 N)) hx hb hr (fun tS ht hW => ⟨⟨zFr bb 6 (fun _ => 0) 0 N, known, rfl, ⟨rfl, Or.inl rfl⟩, by rw [ht]; exact hP, va_K.moved hW.alike hK, hD⟩, hS.F ht⟩) hS.2.2 dX0_counted_60
    · refine lv_aload_n hx hb dX0_counted_28 rfl (lv_at hl 1 rfl) ?_
      refine va_get (D := (dC, dI)) (ci := 0) (v := .ref q2) (C := RX0) (T := TX0) (N := 3) hx hb hts in_X0 hown hK hP 0 rfl rfl 1 (by decide) (hts _ q21) (fun _ h9 => h9) rfl dX0_counted_29 ?_
      refine lv_iload_n hx hb dX0_counted_32 rfl (lv_at hl 0 rfl) ?_
      refine lv_iconst (v := 1) hx hb dX0_counted_33 (by decide) ?_
      refine va_new (ci := 3) (fs := [.null, .int 0]) (C := RX3) (T := TX3) (N := 2) hx hb hts in_X3 tyX3 tyX3_ok hown (hts _ q103) (hts _ q104) (hts _ q11) hK hP hD hS hA rfl (fun j hj => by rcases (show j = 0 ∨ j = 1 by omega) with rfl | rfl <;> rfl) (Nat.le_of_ble_eq_true rfl) (Nat.le_of_ble_eq_true rfl) dX0_counted_34 (fun q5 H hP hD hS => ?_)
      have hP : va_P (dC, dI) vwCl [(h0, .inr (0, [.ref q1, .ref q2, .int (nI N)])), (q1, .inl (d1, 5, .inl row)), (q2, .inl (d2, 12, .inl known)), (q5, .inr (3, [.null, .int 0]))] H := hP
      have hD : va_D A [(h0, .inr (0, [.ref q1, .ref q2, .int (nI N)])), (q1, .inl (d1, 5, .inl row)), (q2, .inl (d2, 12, .inl known)), (q5, .inr (3, [.null, .int 0]))] := hD
      refine W.widen (k := 1) (n := 2) (Nat.le_of_ble_eq_true rfl) (Nat.le_of_ble_eq_true rfl) ?_
      refine lv_dup hx hb dX0_counted_37 rfl ?_
      refine lv_iload_n hx hb dX0_counted_38 rfl (lv_at hl 2 rfl) ?_
      have hPc := hP.sub (ws' := [(q5, .inr (3, [.null, .int 0]))]) [3] rfl
      have hDc := hD.sub (ws' := [(q5, .inr (3, [.null, .int 0]))]) [3] (by decide) rfl
      have hKc := hK.sub (tys' := []) [] rfl
      have hFc := va_free (wc := [(q5, .inr (3, [.null, .int 0]))]) hD hS hA [3] rfl
      refine va_callv (va_runI (As := [.int (zB bb)]) (rest := [.ref q5, .int 1, .int (nI (zK bb N)), .ref q2]) ⟨hx, hb, hml, hown, hts⟩ (metX3_init l dC dI H.size q5 (zB bb) (by cases bb <;> decide)) (cwI 1 hts (lw_meth q107) rfl rfl rfl (hts _ q11) (hts _ q105) (hts _ q106) rfl (by decide +kernel) ⟨Nat.le_of_ble_eq_true rfl, Nat.le_of_ble_eq_true rfl⟩) ⟨fun a U g mk q => by obtain ⟨q0, q1, qP, qK, qD, qN⟩ := q; exact ⟨q0, q1, qP, va_K.moved (u := U) (U := U.calling g mk a) (Vm.Alike.refl U.vm) qK, qD, va_Nw.same rfl rfl qN⟩, fun U hU hW => ⟨rfl, by rw [hU], by rw [hU]; exact hPc, va_K.moved hW.alike hKc, hDc.weaken (fun _ _ _ _ => trivial), va_Nw.warmM hW hN⟩⟩ rfl rfl hl.1 rfl (lv_room (Nat.le_of_ble_eq_true rfl)) dX0_counted_39 ⟨Nat.le_of_ble_eq_true rfl, Nat.le_of_ble_eq_true rfl⟩) hS (fun q _ h => hFc q h) hFc (fun u tS H1 locs ht hvm hw hB hz1 hk1 hS => ?_)
      obtain ⟨qc, qa, da⟩ := u
      obtain ⟨hP1, hK1, hD1⟩ := hB
      rw [ht] at hP1
      have hK1 := va_K.moved hvm.symm hK1
      obtain ⟨hP, hD⟩ := va_join (wr := [(h0, .inr (0, [.ref q1, .ref q2, .int (nI N)])), (q1, .inl (d1, 5, .inl row)), (q2, .inl (d2, 12, .inl known))]) (w1 := [(q5, .inr (3, [.ref qc, .int (zB bb)])), (qc, .inr (2, [.ref qa, .int 0])), (qa, .inl (da, 6, .inl (fun _ => 0)))]) hP hD [3] [0, 1, 2] rfl rfl (by decide) (by decide) hk1 hFc hP1 hD1
      have hK := (hK.sub (tys' := [(d1, .int), (d2, .int)]) [0, 1] rfl).app hK1
      generalize H1 = H at hP hS ⊢
      have hP : va_P (dC, dI) vwCl [(h0, .inr (0, [.ref q1, .ref q2, .int (nI N)])), (q1, .inl (d1, 5, .inl row)), (q2, .inl (d2, 12, .inl known)), (q5, .inr (3, [.ref qc, .int (zB bb)])), (qc, .inr (2, [.ref qa, .int 0])), (qa, .inl (da, 6, .inl (fun _ => 0)))] H := hP
      have hD : va_D A [(h0, .inr (0, [.ref q1, .ref q2, .int (nI N)])), (q1, .inl (d1, 5, .inl row)), (q2, .inl (d2, 12, .inl known)), (q5, .inr (3, [.ref qc, .int (zB bb)])), (qc, .inr (2, [.ref qa, .int 0])), (qa, .inl (da, 6, .inl (fun _ => 0)))] := hD
      have hK : va_K (dC, dI) vwCl [(d1, .int), (d2, .int), (da, .int)] s := hK
      refine W.widen (k := 3) (n := 10) (Nat.le_of_ble_eq_true rfl) (Nat.le_of_ble_eq_true rfl) ?_
      refine lv_iconst (v := 0) hx hb dX0_counted_42 (by decide) ?_
      refine lv_aload_n hx hb dX0_counted_43 rfl (lv_at hl 1 rfl) ?_
      refine va_get (D := (dC, dI)) (ci := 0) (v := .int (nI N)) (C := RX0) (T := TX0) (N := 3) hx hb hts in_X0 hown hK hP 0 rfl rfl 2 (by decide) (hts _ q22) (fun _ h9 => h9) rfl dX0_counted_44 ?_
      have hPc := hP.sub (ws' := [(q5, .inr (3, [.ref qc, .int (zB bb)])), (qc, .inr (2, [.ref qa, .int 0])), (qa, .inl (da, 6, .inl (fun _ => 0)))]) [3, 4, 5] rfl
      have hDc := hD.sub (ws' := [(q5, .inr (3, [.ref qc, .int (zB bb)])), (qc, .inr (2, [.ref qa, .int 0])), (qa, .inl (da, 6, .inl (fun _ => 0)))]) [3, 4, 5] (by decide) rfl
      have hKc := hK.sub (tys' := [(da, .int)]) [2] rfl
      have hFc := va_free (wc := [(q5, .inr (3, [.ref qc, .int (zB bb)])), (qc, .inr (2, [.ref qa, .int 0])), (qa, .inl (da, 6, .inl (fun _ => 0)))]) hD hS hA [3, 4, 5] rfl
      refine va_calli (va_runV (As := [.int 0, .int (nI N)]) (rest := [.int 1, .int (nI (zK bb N)), .ref q2]) ⟨hx, hb, hml, hown, hts⟩ (metX3_from l dC dI q5 qc qa da bb 6 H.size (fun _ => 0) 0 N 0 (by omega) (by omega) (by omega)) (cwV 2 hts (lw_V q118 q119 q120 q11 q121) rfl rfl rfl (by decide +kernel) ⟨Nat.le_of_ble_eq_true rfl, Nat.le_of_ble_eq_true rfl⟩) ⟨fun a U g mk q => by obtain ⟨q0, q1, qP, qK, qD⟩ := q; exact ⟨q0, q1, qP, va_K.moved (u := U) (U := U.calling g mk a) (Vm.Alike.refl U.vm) qK, qD⟩, va_recv hKc hPc (ci := 3) (q0 := 0) rfl rfl, fun U hU hW => ⟨rfl, by rw [hU], by rw [hU]; exact hPc, va_K.moved hW.alike hKc, hDc.weaken (fun _ _ _ _ => trivial)⟩⟩ rfl rfl hl.1 rfl (lv_room (Nat.le_of_ble_eq_true rfl)) dX0_counted_47 ⟨Nat.le_of_ble_eq_true rfl, Nat.le_of_ble_eq_true rfl⟩) hS (fun q _ h => hFc q h) hFc (fun r1 u tS H1 locs ht hvm hr1 hB hz1 hk1 hS => ?_)
      obtain ⟨hP1, hK1, hD1⟩ := hB
      rw [ht] at hP1
      have hK1 := va_K.moved hvm.symm hK1
      obtain ⟨hP, hD⟩ := va_join (wr := [(h0, .inr (0, [.ref q1, .ref q2, .int (nI N)])), (q1, .inl (d1, 5, .inl row)), (q2, .inl (d2, 12, .inl known))]) (w1 := [(q5, .inr (3, [.ref qc, .int (zB bb)])), (qc, .inr (2, [.ref qa, .int (nI 0)])), (qa, .inl (da, 6, .inl (fun _ => 0)))]) hP hD [3, 4, 5] [0, 1, 2] rfl rfl (by decide) (by decide) hk1 hFc hP1 hD1
      have hK := (hK.sub (tys' := [(d1, .int), (d2, .int)]) [0, 1] rfl).app hK1
      generalize H1 = H at hP hS ⊢
      have hP : va_P (dC, dI) vwCl [(h0, .inr (0, [.ref q1, .ref q2, .int (nI N)])), (q1, .inl (d1, 5, .inl row)), (q2, .inl (d2, 12, .inl known)), (q5, .inr (3, [.ref qc, .int (zB bb)])), (qc, .inr (2, [.ref qa, .int (nI 0)])), (qa, .inl (da, 6, .inl (fun _ => 0)))] H := hP
      have hD : va_D A [(h0, .inr (0, [.ref q1, .ref q2, .int (nI N)])), (q1, .inl (d1, 5, .inl row)), (q2, .inl (d2, 12, .inl known)), (q5, .inr (3, [.ref qc, .int (zB bb)])), (qc, .inr (2, [.ref qa, .int (nI 0)])), (qa, .inl (da, 6, .inl (fun _ => 0)))] := hD
      have hK : va_K (dC, dI) vwCl [(d1, .int), (d2, .int), (da, .int)] s := hK
      refine W.widen (k := 3) (n := 10) (Nat.le_of_ble_eq_true rfl) (Nat.le_of_ble_eq_true rfl) ?_
      have hr1 : r1 = zFr bb 6 (fun _ => 0) 0 N := hr1
      subst hr1
      refine lv_iadd hx hb dX0_counted_50 ?_
      refine my_iast hx hb hK hP hD hS 2 1 rfl rfl (zK bb N) (rfl) (zK_lt bb hN5) (by decide) dX0_counted_51 (fun H locs hP hD hS => ?_)
      have hP : va_P (dC, dI) vwCl [(h0, .inr (0, [.ref q1, .ref q2, .int (nI N)])), (q1, .inl (d1, 5, .inl row)), (q2, .inl (d2, 12, .inl (upd known (zK bb N) (1 + (zFr bb 6 (fun _ => 0) 0 N))))), (q5, .inr (3, [.ref qc, .int (zB bb)])), (qc, .inr (2, [.ref qa, .int (nI 0)])), (qa, .inl (da, 6, .inl (fun _ => 0)))] H := hP
      have hD : va_D A [(h0, .inr (0, [.ref q1, .ref q2, .int (nI N)])), (q1, .inl (d1, 5, .inl row)), (q2, .inl (d2, 12, .inl (upd known (zK bb N) (1 + (zFr bb 6 (fun _ => 0) 0 N))))), (q5, .inr (3, [.ref qc, .int (zB bb)])), (qc, .inr (2, [.ref qa, .int (nI 0)])), (qa, .inl (da, 6, .inl (fun _ => 0)))] := hD
      refine lv_aload_n hx hb dX0_counted_52 rfl (lv_at hl 1 rfl) ?_
      refine va_get (D := (dC, dI)) (ci := 0) (v := .ref q2) (C := RX0) (T := TX0) (N := 3) hx hb hts in_X0 hown hK hP 0 rfl rfl 1 (by decide) (hts _ q21) (fun _ h9 => h9) rfl dX0_counted_53 ?_
      refine lv_iload_n hx hb dX0_counted_56 rfl (lv_at hl 0 rfl) ?_
      refine my_iald hx hb hK hP 2 1 rfl rfl (zK bb N) (rfl) (zK_lt bb hN5) (by decide) dX0_counted_57 ?_
      refine lv_iconst (v := 1) hx hb dX0_counted_58 (by decide) ?_
      refine lv_isub hx hb dX0_counted_59 ?_
      refine w_top (x' := zFr bb 6 (fun _ => 0) 0 N) (by rw [pk_us]; exact z_pm _) ?_
      have hP := hP.sub (ws' := [(h0, .inr (0, [.ref q1, .ref q2, .int (nI N)])), (q1, .inl (d1, 5, .inl row)), (q2, .inl (d2, 12, .inl (upd known (zK bb N) (1 + (zFr bb 6 (fun _ => 0) 0 N)))))]) [0, 1, 2] rfl
      have hD := hD.sub (ws' := [(h0, .inr (0, [.ref q1, .ref q2, .int (nI N)])), (q1, .inl (d1, 5, .inl row)), (q2, .inl (d2, 12, .inl (upd known (zK bb N) (1 + (zFr bb 6 (fun _ => 0) 0 N)))))]) [0, 1, 2] (by decide) rfl
      have hK := hK.sub (tys' := [(d1, .int), (d2, .int)]) [0, 1] rfl
      exact W.iret (v := (zFr bb 6 (fun _ => 0) 0 N)) hx hb hr (fun tS ht hW => ⟨⟨zFr bb 6 (fun _ => 0) 0 N, upd known (zK bb N) (1 + zFr bb 6 (fun _ => 0) 0 N), rfl, ⟨rfl, Or.inr rfl⟩, by rw [ht]; exact hP, va_K.moved hW.alike hK, hD⟩, hS.F ht⟩) hS.2.2 dX0_counted_60
  refine lv_iload_n hx hb dX0_counted_0 rfl (lv_at hl 1 rfl) ?_
  refine lv_if_eq (tgt := 11) hx hb dX0_counted_1 (by decide) (fun c0 => ?_) (fun c0 => ?_)
  · obtain rfl : bb = false := by cases bb with | false => rfl | true => exact absurd c0 (by decide)
    refine lv_bipush (v := 6) hx hb dX0_counted_11 (by decide) ?_
    refine lv_aload_n hx hb dX0_counted_13 rfl (lv_at hl 0 rfl) ?_
    refine va_get (D := (dC, dI)) (ci := 0) (v := .int (nI N)) (C := RX0) (T := TX0) (N := 3) hx hb hts in_X0 hown hK hP 0 rfl rfl 2 (by decide) (hts _ q22) (fun _ h9 => h9) rfl dX0_counted_14 ?_
    refine lv_iadd hx hb dX0_counted_17 ?_
    refine w_top (x' := nI (zK false N)) (nI_add 6 N) ?_
    exact tail ls (lv_sub hl [0, 1] rfl)
  · obtain rfl : bb = true := by cases bb with | false => exact absurd (by decide) c0 | true => rfl
    refine lv_aload_n hx hb dX0_counted_4 rfl (lv_at hl 0 rfl) ?_
    refine va_get (D := (dC, dI)) (ci := 0) (v := .int (nI N)) (C := RX0) (T := TX0) (N := 3) hx hb hts in_X0 hown hK hP 0 rfl rfl 2 (by decide) (hts _ q22) (fun _ h9 => h9) rfl dX0_counted_5 ?_
    refine lv_goto (tgt := 18) hx hb dX0_counted_8 (by decide) ?_
    exact tail ls (lv_sub hl [0, 1] rfl)
set_option maxHeartbeats 4000000 in
set_option maxRecDepth 100000 in
/-- ScoreRows.nets() -/
theorem metX0_nets (l : Launch) (dC : Nat → ClassId) (dI : Nat → Nat → Nat) (sz : Nat) (h0 q1 q2 : Nat) (d1 d2 : ClassId) (row known : Nat → Int32) (N : Nat) (hN1 : 1 ≤ N) (hN5 : N ≤ 5) (hkn : known (zK true N) = 0 ∨ known (zK true N) = 1 + zFr true 6 (fun _ => 0) 0 N) : Met l yX0_nets (ws_ yX0_nets cX0_nets 1 (some .int)) ({ frames := 11, cells := 3, slots := 10, locals := 350 }) (va_Pc [.ref h0] (fun U => U.heap.size = sz ∧ va_P (dC, dI) vwCl [(h0, .inr (0, [.ref q1, .ref q2, .int (nI N)])), (q1, .inl (d1, 5, .inl row)), (q2, .inl (d2, 12, .inl known))] U.heap ∧ va_K (dC, dI) vwCl [(d1, .int), (d2, .int)] U ∧ va_D (fun _ => True) [(h0, .inr (0, [.ref q1, .ref q2, .int (nI N)])), (q1, .inl (d1, 5, .inl row)), (q2, .inl (d2, 12, .inl known))] ∧ va_Nw (.methodLinkNest "ScoreRows$Counter" 9 yX2_init "ScoreRows") U)) (va_Qi (fun (r : Int32) (u : Nat → Int32) => r = zFr true 6 (fun _ => 0) 0 N ∧ (u = known ∨ u = upd known (zK true N) (1 + zFr true 6 (fun _ => 0) 0 N))) (fun (u : Nat → Int32) (t : State) => va_P (dC, dI) vwCl [(h0, .inr (0, [.ref q1, .ref q2, .int (nI N)])), (q1, .inl (d1, 5, .inl row)), (q2, .inl (d2, 12, .inl u))] t.heap ∧ va_K (dC, dI) vwCl [(d1, .int), (d2, .int)] t ∧ va_D (va_A [(h0, .inr (0, [.ref q1, .ref q2, .int (nI N)])), (q1, .inl (d1, 5, .inl row)), (q2, .inl (d2, 12, .inl known))] sz) [(h0, .inr (0, [.ref q1, .ref q2, .int (nI N)])), (q1, .inl (d1, 5, .inl row)), (q2, .inl (d2, 12, .inl u))]) (va_A [(h0, .inr (0, [.ref q1, .ref q2, .int (nI N)])), (q1, .inl (d1, 5, .inl row)), (q2, .inl (d2, 12, .inl known))] sz)) 3 10 (va_A [(h0, .inr (0, [.ref q1, .ref q2, .int (nI N)])), (q1, .inl (d1, 5, .inl row)), (q2, .inl (d2, 12, .inl known))] sz) := by
  refine Met.ofW (cc := cX0_nets) (maxL := 1) (ret := (some .int)) (by decide) rfl ?_
  intro p e s m args below meth c s₁ B hml hv
  obtain ⟨rfl, hsz, hP, hK, hD0, hN⟩ := hv
  have hx := B.exec
  have hb := B.bytes
  have hr := B.returns
  have hts := atoms_spec (ws := ws_ yX0_nets cX0_nets 1 (some .int)) B.pre
  have hts : ∀ w ∈ lw_all, w.before _ s = true := fun w h => hts w (List.mem_cons_of_mem _ h)
  have hown : s.vm.findClass RX0 = some m.cls := findClass_of_methodNamed B.named
  have hlocks := B.notSynchronized
  subst hsz
  have hD := hD0.self (sz := s.heap.size)
  generalize hAe : va_A [(h0, .inr (0, [.ref q1, .ref q2, .int (nI N)])), (q1, .inl (d1, 5, .inl row)), (q2, .inl (d2, 12, .inl known))] s.heap.size = A at hD ⊢
  have hA : ∀ q : Nat, s.heap.size ≤ q → A q := fun q h => by rw [← hAe]; exact Or.inr h
  have hS : va_S A s.heap s.heap [] := va_S.rf
  have hP : va_P (dC, dI) vwCl [(h0, .inr (0, [.ref q1, .ref q2, .int (nI N)])), (q1, .inl (d1, 5, .inl row)), (q2, .inl (d2, 12, .inl known))] s.heap := hP
  have hl := lv_entry ([.ref h0]) (n := 1) (Nat.le_of_ble_eq_true rfl)
  rw [lg_entry_eq]
  generalize (lg_sl ([.ref h0]) ++ List.replicate (1 - (lg_sl ([.ref h0])).length) Slot.unset).toArray = ls at hl ⊢
  have hl : lv_has ls 1 [(0, .ref h0)] := hl
  refine lv_aload_n hx hb dX0_nets_0 rfl (lv_at hl 0 rfl) ?_
  refine lv_iconst (v := 1) hx hb dX0_nets_1 (by decide) ?_
  have hPc := hP.sub (ws' := [(h0, .inr (0, [.ref q1, .ref q2, .int (nI N)])), (q1, .inl (d1, 5, .inl row)), (q2, .inl (d2, 12, .inl known))]) [0, 1, 2] rfl
  have hDc := hD.sub (ws' := [(h0, .inr (0, [.ref q1, .ref q2, .int (nI N)])), (q1, .inl (d1, 5, .inl row)), (q2, .inl (d2, 12, .inl known))]) [0, 1, 2] (by decide) rfl
  have hKc := hK.sub (tys' := [(d1, .int), (d2, .int)]) [0, 1] rfl
  have hFc := va_free (wc := [(h0, .inr (0, [.ref q1, .ref q2, .int (nI N)])), (q1, .inl (d1, 5, .inl row)), (q2, .inl (d2, 12, .inl known))]) hD hS hA [0, 1, 2] rfl
  refine va_calli (va_runV (As := [.int 1]) (rest := []) ⟨hx, hb, hml, hown, hts⟩ (metX0_counted l dC dI s.heap.size h0 q1 q2 d1 d2 row known N true hN1 hN5 hkn) (cwV 1 hts (lw_V q99 q101 qs3 q7 q102) rfl rfl rfl (by decide +kernel) ⟨Nat.le_of_ble_eq_true rfl, Nat.le_of_ble_eq_true rfl⟩) ⟨fun a U g mk q => by obtain ⟨q0, q1, qP, qK, qD, qN⟩ := q; exact ⟨q0, q1, qP, va_K.moved (u := U) (U := U.calling g mk a) (Vm.Alike.refl U.vm) qK, qD, va_Nw.same rfl rfl qN⟩, va_recv hKc hPc (ci := 0) (q0 := 0) rfl rfl, fun U hU hW => ⟨rfl, by rw [hU], by rw [hU]; exact hPc, va_K.moved hW.alike hKc, hDc.weaken (fun _ _ _ _ => trivial), va_Nw.warmM hW hN⟩⟩ rfl rfl hl.1 rfl (lv_room (Nat.le_of_ble_eq_true rfl)) dX0_nets_2 ⟨Nat.le_of_ble_eq_true rfl, Nat.le_of_ble_eq_true rfl⟩) hS (fun q _ h => hFc q h) hFc (fun r1 kn2 tS H1 locs ht hvm hr1 hB hz1 hk1 hS => ?_)
  obtain ⟨hP1, hK1, hD1⟩ := hB
  rw [ht] at hP1
  have hK1 := va_K.moved hvm.symm hK1
  obtain ⟨hP, hD⟩ := va_join (wr := []) (w1 := [(h0, .inr (0, [.ref q1, .ref q2, .int (nI N)])), (q1, .inl (d1, 5, .inl row)), (q2, .inl (d2, 12, .inl kn2))]) hP hD [0, 1, 2] [] rfl rfl (by decide) (by decide) hk1 hFc hP1 hD1
  have hK := (hK.sub (tys' := []) [] rfl).app hK1
  generalize H1 = H at hP hS ⊢
  have hP : va_P (dC, dI) vwCl [(h0, .inr (0, [.ref q1, .ref q2, .int (nI N)])), (q1, .inl (d1, 5, .inl row)), (q2, .inl (d2, 12, .inl kn2))] H := hP
  have hD : va_D A [(h0, .inr (0, [.ref q1, .ref q2, .int (nI N)])), (q1, .inl (d1, 5, .inl row)), (q2, .inl (d2, 12, .inl kn2))] := hD
  have hK : va_K (dC, dI) vwCl [(d1, .int), (d2, .int)] s := hK
  refine W.widen (k := 3) (n := 10) (Nat.le_of_ble_eq_true rfl) (Nat.le_of_ble_eq_true rfl) ?_
  exact W.iret (v := r1) hx hb hr (fun tS ht hW => ⟨⟨r1, kn2, rfl, hr1, by rw [ht]; exact hP, va_K.moved hW.alike hK, hD⟩, hS.F ht⟩) hS.2.2 dX0_nets_5
set_option maxHeartbeats 4000000 in
set_option maxRecDepth 100000 in
/-- ScoreRows.plays() -/
theorem metX0_plays (l : Launch) (dC : Nat → ClassId) (dI : Nat → Nat → Nat) (sz : Nat) (h0 q1 q2 : Nat) (d1 d2 : ClassId) (row known : Nat → Int32) (N : Nat) (hN1 : 1 ≤ N) (hN5 : N ≤ 5) (hkn : known (zK false N) = 0 ∨ known (zK false N) = 1 + zFr false 6 (fun _ => 0) 0 N) : Met l yX0_plays (ws_ yX0_plays cX0_plays 1 (some .int)) ({ frames := 11, cells := 3, slots := 10, locals := 350 }) (va_Pc [.ref h0] (fun U => U.heap.size = sz ∧ va_P (dC, dI) vwCl [(h0, .inr (0, [.ref q1, .ref q2, .int (nI N)])), (q1, .inl (d1, 5, .inl row)), (q2, .inl (d2, 12, .inl known))] U.heap ∧ va_K (dC, dI) vwCl [(d1, .int), (d2, .int)] U ∧ va_D (fun _ => True) [(h0, .inr (0, [.ref q1, .ref q2, .int (nI N)])), (q1, .inl (d1, 5, .inl row)), (q2, .inl (d2, 12, .inl known))] ∧ va_Nw (.methodLinkNest "ScoreRows$Counter" 9 yX2_init "ScoreRows") U)) (va_Qi (fun (r : Int32) (u : Nat → Int32) => r = zFr false 6 (fun _ => 0) 0 N ∧ (u = known ∨ u = upd known (zK false N) (1 + zFr false 6 (fun _ => 0) 0 N))) (fun (u : Nat → Int32) (t : State) => va_P (dC, dI) vwCl [(h0, .inr (0, [.ref q1, .ref q2, .int (nI N)])), (q1, .inl (d1, 5, .inl row)), (q2, .inl (d2, 12, .inl u))] t.heap ∧ va_K (dC, dI) vwCl [(d1, .int), (d2, .int)] t ∧ va_D (va_A [(h0, .inr (0, [.ref q1, .ref q2, .int (nI N)])), (q1, .inl (d1, 5, .inl row)), (q2, .inl (d2, 12, .inl known))] sz) [(h0, .inr (0, [.ref q1, .ref q2, .int (nI N)])), (q1, .inl (d1, 5, .inl row)), (q2, .inl (d2, 12, .inl u))]) (va_A [(h0, .inr (0, [.ref q1, .ref q2, .int (nI N)])), (q1, .inl (d1, 5, .inl row)), (q2, .inl (d2, 12, .inl known))] sz)) 3 10 (va_A [(h0, .inr (0, [.ref q1, .ref q2, .int (nI N)])), (q1, .inl (d1, 5, .inl row)), (q2, .inl (d2, 12, .inl known))] sz) := by
  refine Met.ofW (cc := cX0_plays) (maxL := 1) (ret := (some .int)) (by decide) rfl ?_
  intro p e s m args below meth c s₁ B hml hv
  obtain ⟨rfl, hsz, hP, hK, hD0, hN⟩ := hv
  have hx := B.exec
  have hb := B.bytes
  have hr := B.returns
  have hts := atoms_spec (ws := ws_ yX0_plays cX0_plays 1 (some .int)) B.pre
  have hts : ∀ w ∈ lw_all, w.before _ s = true := fun w h => hts w (List.mem_cons_of_mem _ h)
  have hown : s.vm.findClass RX0 = some m.cls := findClass_of_methodNamed B.named
  have hlocks := B.notSynchronized
  subst hsz
  have hD := hD0.self (sz := s.heap.size)
  generalize hAe : va_A [(h0, .inr (0, [.ref q1, .ref q2, .int (nI N)])), (q1, .inl (d1, 5, .inl row)), (q2, .inl (d2, 12, .inl known))] s.heap.size = A at hD ⊢
  have hA : ∀ q : Nat, s.heap.size ≤ q → A q := fun q h => by rw [← hAe]; exact Or.inr h
  have hS : va_S A s.heap s.heap [] := va_S.rf
  have hP : va_P (dC, dI) vwCl [(h0, .inr (0, [.ref q1, .ref q2, .int (nI N)])), (q1, .inl (d1, 5, .inl row)), (q2, .inl (d2, 12, .inl known))] s.heap := hP
  have hl := lv_entry ([.ref h0]) (n := 1) (Nat.le_of_ble_eq_true rfl)
  rw [lg_entry_eq]
  generalize (lg_sl ([.ref h0]) ++ List.replicate (1 - (lg_sl ([.ref h0])).length) Slot.unset).toArray = ls at hl ⊢
  have hl : lv_has ls 1 [(0, .ref h0)] := hl
  refine lv_aload_n hx hb dX0_plays_0 rfl (lv_at hl 0 rfl) ?_
  refine lv_iconst (v := 0) hx hb dX0_plays_1 (by decide) ?_
  have hPc := hP.sub (ws' := [(h0, .inr (0, [.ref q1, .ref q2, .int (nI N)])), (q1, .inl (d1, 5, .inl row)), (q2, .inl (d2, 12, .inl known))]) [0, 1, 2] rfl
  have hDc := hD.sub (ws' := [(h0, .inr (0, [.ref q1, .ref q2, .int (nI N)])), (q1, .inl (d1, 5, .inl row)), (q2, .inl (d2, 12, .inl known))]) [0, 1, 2] (by decide) rfl
  have hKc := hK.sub (tys' := [(d1, .int), (d2, .int)]) [0, 1] rfl
  have hFc := va_free (wc := [(h0, .inr (0, [.ref q1, .ref q2, .int (nI N)])), (q1, .inl (d1, 5, .inl row)), (q2, .inl (d2, 12, .inl known))]) hD hS hA [0, 1, 2] rfl
  refine va_calli (va_runV (As := [.int 0]) (rest := []) ⟨hx, hb, hml, hown, hts⟩ (metX0_counted l dC dI s.heap.size h0 q1 q2 d1 d2 row known N false hN1 hN5 hkn) (cwV 1 hts (lw_V q99 q101 qs3 q7 q102) rfl rfl rfl (by decide +kernel) ⟨Nat.le_of_ble_eq_true rfl, Nat.le_of_ble_eq_true rfl⟩) ⟨fun a U g mk q => by obtain ⟨q0, q1, qP, qK, qD, qN⟩ := q; exact ⟨q0, q1, qP, va_K.moved (u := U) (U := U.calling g mk a) (Vm.Alike.refl U.vm) qK, qD, va_Nw.same rfl rfl qN⟩, va_recv hKc hPc (ci := 0) (q0 := 0) rfl rfl, fun U hU hW => ⟨rfl, by rw [hU], by rw [hU]; exact hPc, va_K.moved hW.alike hKc, hDc.weaken (fun _ _ _ _ => trivial), va_Nw.warmM hW hN⟩⟩ rfl rfl hl.1 rfl (lv_room (Nat.le_of_ble_eq_true rfl)) dX0_plays_2 ⟨Nat.le_of_ble_eq_true rfl, Nat.le_of_ble_eq_true rfl⟩) hS (fun q _ h => hFc q h) hFc (fun r1 kn2 tS H1 locs ht hvm hr1 hB hz1 hk1 hS => ?_)
  obtain ⟨hP1, hK1, hD1⟩ := hB
  rw [ht] at hP1
  have hK1 := va_K.moved hvm.symm hK1
  obtain ⟨hP, hD⟩ := va_join (wr := []) (w1 := [(h0, .inr (0, [.ref q1, .ref q2, .int (nI N)])), (q1, .inl (d1, 5, .inl row)), (q2, .inl (d2, 12, .inl kn2))]) hP hD [0, 1, 2] [] rfl rfl (by decide) (by decide) hk1 hFc hP1 hD1
  have hK := (hK.sub (tys' := []) [] rfl).app hK1
  generalize H1 = H at hP hS ⊢
  have hP : va_P (dC, dI) vwCl [(h0, .inr (0, [.ref q1, .ref q2, .int (nI N)])), (q1, .inl (d1, 5, .inl row)), (q2, .inl (d2, 12, .inl kn2))] H := hP
  have hD : va_D A [(h0, .inr (0, [.ref q1, .ref q2, .int (nI N)])), (q1, .inl (d1, 5, .inl row)), (q2, .inl (d2, 12, .inl kn2))] := hD
  have hK : va_K (dC, dI) vwCl [(d1, .int), (d2, .int)] s := hK
  refine W.widen (k := 3) (n := 10) (Nat.le_of_ble_eq_true rfl) (Nat.le_of_ble_eq_true rfl) ?_
  exact W.iret (v := r1) hx hb hr (fun tS ht hW => ⟨⟨r1, kn2, rfl, hr1, by rw [ht]; exact hP, va_K.moved hW.alike hK, hD⟩, hS.F ht⟩) hS.2.2 dX0_plays_5
end
section
/-! ScoreRowsModel: init, size, set, at, code -/
set_option maxHeartbeats 4000000 in
set_option maxRecDepth 100000 in
/-- ScoreRowsModel(): zeros, n = 4, not made -/
theorem metX1_init (l : Launch) (dC : Nat → ClassId) (dI : Nat → Nat → Nat) (sz : Nat) (h0 : Nat) : Met l yX1_init (ws_ yX1_init cX1_init 1 none) ({ frames := 1, cells := 3, slots := 93318, locals := 20 }) (va_Pc [.ref h0] (fun U => U.heap.size = sz ∧ va_P (dC, dI) vwCl [(h0, .inr (1, [.null, .int 0, .int 0, .null, .null]))] U.heap ∧ va_K (dC, dI) vwCl [] U ∧ va_D (fun _ => True) [(h0, .inr (1, [.null, .int 0, .int 0, .null, .null]))])) (va_Qv (fun (u : Nat × Nat × Nat × ClassId × ClassId × ClassId) => True) (fun (u : Nat × Nat × Nat × ClassId × ClassId × ClassId) (t : State) => va_P (dC, dI) vwCl [(h0, .inr (1, [.ref u.1, .int 4, .int 0, .ref u.2.1, .ref u.2.2.1])), (u.1, .inl (u.2.2.2.1, 6, .inl (fun _ => 0))), (u.2.1, .inl (u.2.2.2.2.1, 46656, .inl (fun _ => 0))), (u.2.2.1, .inl (u.2.2.2.2.2, 46656, .inl (fun _ => 0)))] t.heap ∧ va_K (dC, dI) vwCl [(u.2.2.2.1, .int), (u.2.2.2.2.1, .boolean), (u.2.2.2.2.2, .boolean)] t ∧ va_D (va_A [(h0, .inr (1, [.null, .int 0, .int 0, .null, .null]))] sz) [(h0, .inr (1, [.ref u.1, .int 4, .int 0, .ref u.2.1, .ref u.2.2.1])), (u.1, .inl (u.2.2.2.1, 6, .inl (fun _ => 0))), (u.2.1, .inl (u.2.2.2.2.1, 46656, .inl (fun _ => 0))), (u.2.2.1, .inl (u.2.2.2.2.2, 46656, .inl (fun _ => 0)))]) (va_A [(h0, .inr (1, [.null, .int 0, .int 0, .null, .null]))] sz)) 3 93318 (va_A [(h0, .inr (1, [.null, .int 0, .int 0, .null, .null]))] sz) := by
  refine Met.ofW (cc := cX1_init) (maxL := 1) (ret := none) (by decide) rfl ?_
  intro p e s m args below meth c s₁ B hml hv
  obtain ⟨rfl, hsz, hP, hK, hD0⟩ := hv
  have hx := B.exec
  have hb := B.bytes
  have hr := B.returns
  have hts := atoms_spec (ws := ws_ yX1_init cX1_init 1 none) B.pre
  have hts : ∀ w ∈ lw_all, w.before _ s = true := fun w h => hts w (List.mem_cons_of_mem _ h)
  have hown : s.vm.findClass RX1 = some m.cls := findClass_of_methodNamed B.named
  have hlocks := B.notSynchronized
  have hin : meth.name = "<init>" := (name_of_methodNamed B.named B.method).1
  subst hsz
  have hD := hD0.self (sz := s.heap.size)
  generalize hAe : va_A [(h0, .inr (1, [.null, .int 0, .int 0, .null, .null]))] s.heap.size = A at hD ⊢
  have hA : ∀ q : Nat, s.heap.size ≤ q → A q := fun q h => by rw [← hAe]; exact Or.inr h
  have hS : va_S A s.heap s.heap [] := va_S.rf
  have hP : va_P (dC, dI) vwCl [(h0, .inr (1, [.null, .int 0, .int 0, .null, .null]))] s.heap := hP
  have hl := lv_entry ([.ref h0]) (n := 1) (Nat.le_of_ble_eq_true rfl)
  rw [lg_entry_eq]
  generalize (lg_sl ([.ref h0]) ++ List.replicate (1 - (lg_sl ([.ref h0])).length) Slot.unset).toArray = ls at hl ⊢
  have hl : lv_has ls 1 [(0, .ref h0)] := hl
  refine lv_aload_n hx hb dX1_init_0 rfl (lv_at hl 0 rfl) ?_
  refine W.objInit hx hb hown (hts _ q146) (hts _ q18) (hts _ q19) rfl (by rw [hml]; exact hl.1) rfl dX1_init_1 (Nat.le_of_ble_eq_true rfl) (Nat.le_of_ble_eq_true rfl) ?_
  refine W.eq (g2 := F0 m 4 ls []) rfl ?_
  refine lv_aload_n hx hb dX1_init_4 rfl (lv_at hl 0 rfl) ?_
  refine lv_bipush (v := 6) hx hb dX1_init_5 (by decide) ?_
  refine va_newa (atype := .int) (ty := .int) (N' := 6) (a0 := (6, .inl (fun _ => 0))) hx hb (hts _ q30) rfl hK hP hD hS hA (fun _ => rfl) (by decide) (by decide) (by decide) (Nat.le_of_ble_eq_true rfl) (Nat.le_of_ble_eq_true rfl) dX1_init_7 (fun q1 d1 H hK hP hD hS => ?_)
  have hK : va_K (dC, dI) vwCl [(d1, .int)] s := hK
  have hP : va_P (dC, dI) vwCl [(h0, .inr (1, [.null, .int 0, .int 0, .null, .null])), (q1, .inl (d1, 6, .inl (fun _ => 0)))] H := hP
  have hD : va_D A [(h0, .inr (1, [.null, .int 0, .int 0, .null, .null])), (q1, .inl (d1, 6, .inl (fun _ => 0)))] := hD
  refine W.widen (k := 1) (n := 6) (Nat.le_of_ble_eq_true rfl) (Nat.le_of_ble_eq_true rfl) ?_
  refine va_putF (D := (dC, dI)) (ci := 1) (v := .ref q1) (ty := .array .int) (C := RX1) (T := TX1) (N := 5) hx hb hts in_X1 tyX1 tyX1_ok nmX1 hown hK hP hD hS 0 rfl rfl 0 (by decide) (hts _ q148) (fun _ h9 => h9) rfl hin rfl (by decide +kernel) rfl rfl (Nat.le_of_ble_eq_true rfl) dX1_init_9 (fun H locs hP hD hS => ?_)
  have hP : va_P (dC, dI) vwCl [(h0, .inr (1, [.ref q1, .int 0, .int 0, .null, .null])), (q1, .inl (d1, 6, .inl (fun _ => 0)))] H := hP
  have hD : va_D A [(h0, .inr (1, [.ref q1, .int 0, .int 0, .null, .null])), (q1, .inl (d1, 6, .inl (fun _ => 0)))] := hD
  refine lv_aload_n hx hb dX1_init_12 rfl (lv_at hl 0 rfl) ?_
  refine lv_iconst (v := 4) hx hb dX1_init_13 (by decide) ?_
  refine va_put (D := (dC, dI)) (ci := 1) (v := .int 4) (ty := .int) (C := RX1) (T := TX1) (N := 5) hx hb hts in_X1 tyX1 tyX1_ok nmX1 hown hK hP hD hS 0 rfl rfl 1 (by decide) (hts _ q149) (fun _ h9 => h9) rfl (by decide +kernel) rfl rfl (Nat.le_of_ble_eq_true rfl) dX1_init_14 (fun H locs hP hD hS => ?_)
  have hP : va_P (dC, dI) vwCl [(h0, .inr (1, [.ref q1, .int 4, .int 0, .null, .null])), (q1, .inl (d1, 6, .inl (fun _ => 0)))] H := hP
  have hD : va_D A [(h0, .inr (1, [.ref q1, .int 4, .int 0, .null, .null])), (q1, .inl (d1, 6, .inl (fun _ => 0)))] := hD
  refine lv_aload_n hx hb dX1_init_17 rfl (lv_at hl 0 rfl) ?_
  refine lv_ldc (v := 46656) hx hb hown (hts _ q147) dX1_init_18 ?_
  refine va_newa (atype := .boolean) (ty := .boolean) (N' := 46656) (a0 := (46656, .inl (fun _ => 0))) hx hb (hts _ q164) rfl hK hP hD hS hA (fun _ => rfl) (by decide) (by decide) (by decide) (Nat.le_of_ble_eq_true rfl) (Nat.le_of_ble_eq_true rfl) dX1_init_20 (fun q2 d2 H hK hP hD hS => ?_)
  have hK : va_K (dC, dI) vwCl [(d1, .int), (d2, .boolean)] s := hK
  have hP : va_P (dC, dI) vwCl [(h0, .inr (1, [.ref q1, .int 4, .int 0, .null, .null])), (q1, .inl (d1, 6, .inl (fun _ => 0))), (q2, .inl (d2, 46656, .inl (fun _ => 0)))] H := hP
  have hD : va_D A [(h0, .inr (1, [.ref q1, .int 4, .int 0, .null, .null])), (q1, .inl (d1, 6, .inl (fun _ => 0))), (q2, .inl (d2, 46656, .inl (fun _ => 0)))] := hD
  refine W.widen (k := 2) (n := 46662) (Nat.le_of_ble_eq_true rfl) (Nat.le_of_ble_eq_true rfl) ?_
  refine va_putF (D := (dC, dI)) (ci := 1) (v := .ref q2) (ty := .array .boolean) (C := RX1) (T := TX1) (N := 5) hx hb hts in_X1 tyX1 tyX1_ok nmX1 hown hK hP hD hS 0 rfl rfl 3 (by decide) (hts _ q151) (fun _ h9 => h9) rfl hin rfl (by decide +kernel) rfl rfl (Nat.le_of_ble_eq_true rfl) dX1_init_22 (fun H locs hP hD hS => ?_)
  have hP : va_P (dC, dI) vwCl [(h0, .inr (1, [.ref q1, .int 4, .int 0, .ref q2, .null])), (q1, .inl (d1, 6, .inl (fun _ => 0))), (q2, .inl (d2, 46656, .inl (fun _ => 0)))] H := hP
  have hD : va_D A [(h0, .inr (1, [.ref q1, .int 4, .int 0, .ref q2, .null])), (q1, .inl (d1, 6, .inl (fun _ => 0))), (q2, .inl (d2, 46656, .inl (fun _ => 0)))] := hD
  refine lv_aload_n hx hb dX1_init_25 rfl (lv_at hl 0 rfl) ?_
  refine lv_ldc (v := 46656) hx hb hown (hts _ q147) dX1_init_26 ?_
  refine va_newa (atype := .boolean) (ty := .boolean) (N' := 46656) (a0 := (46656, .inl (fun _ => 0))) hx hb (hts _ q164) rfl hK hP hD hS hA (fun _ => rfl) (by decide) (by decide) (by decide) (Nat.le_of_ble_eq_true rfl) (Nat.le_of_ble_eq_true rfl) dX1_init_28 (fun q3 d3 H hK hP hD hS => ?_)
  have hK : va_K (dC, dI) vwCl [(d1, .int), (d2, .boolean), (d3, .boolean)] s := hK
  have hP : va_P (dC, dI) vwCl [(h0, .inr (1, [.ref q1, .int 4, .int 0, .ref q2, .null])), (q1, .inl (d1, 6, .inl (fun _ => 0))), (q2, .inl (d2, 46656, .inl (fun _ => 0))), (q3, .inl (d3, 46656, .inl (fun _ => 0)))] H := hP
  have hD : va_D A [(h0, .inr (1, [.ref q1, .int 4, .int 0, .ref q2, .null])), (q1, .inl (d1, 6, .inl (fun _ => 0))), (q2, .inl (d2, 46656, .inl (fun _ => 0))), (q3, .inl (d3, 46656, .inl (fun _ => 0)))] := hD
  refine W.widen (k := 3) (n := 93318) (Nat.le_of_ble_eq_true rfl) (Nat.le_of_ble_eq_true rfl) ?_
  refine va_putF (D := (dC, dI)) (ci := 1) (v := .ref q3) (ty := .array .boolean) (C := RX1) (T := TX1) (N := 5) hx hb hts in_X1 tyX1 tyX1_ok nmX1 hown hK hP hD hS 0 rfl rfl 4 (by decide) (hts _ q152) (fun _ h9 => h9) rfl hin rfl (by decide +kernel) rfl rfl (Nat.le_of_ble_eq_true rfl) dX1_init_30 (fun H locs hP hD hS => ?_)
  have hP : va_P (dC, dI) vwCl [(h0, .inr (1, [.ref q1, .int 4, .int 0, .ref q2, .ref q3])), (q1, .inl (d1, 6, .inl (fun _ => 0))), (q2, .inl (d2, 46656, .inl (fun _ => 0))), (q3, .inl (d3, 46656, .inl (fun _ => 0)))] H := hP
  have hD : va_D A [(h0, .inr (1, [.ref q1, .int 4, .int 0, .ref q2, .ref q3])), (q1, .inl (d1, 6, .inl (fun _ => 0))), (q2, .inl (d2, 46656, .inl (fun _ => 0))), (q3, .inl (d3, 46656, .inl (fun _ => 0)))] := hD
  exact W.vret hx hb hr (fun tS ht hW => ⟨⟨(q1, q2, q3, d1, d2, d3), rfl, trivial, by rw [ht]; exact hP, va_K.moved hW.alike hK, hD⟩, hS.F ht⟩) hS.2.2 dX1_init_33
set_option maxHeartbeats 4000000 in
set_option maxRecDepth 100000 in
/-- ScoreRowsModel.size(k) -/
theorem metX1_size (l : Launch) (dC : Nat → ClassId) (dI : Nat → Nat → Nat) (sz : Nat) (h0 q1 q2 q3 : Nat) (d1 d2 d3 : ClassId) (dd na pl : Nat → Int32) (x : Int32) (n k : Int32) : Met l yX1_size (ws_ yX1_size cX1_size 3 none) ({ frames := 0, cells := 0, slots := 0, locals := 0 }) (va_Pc [.ref h0, .int k] (fun U => U.heap.size = sz ∧ va_P (dC, dI) vwCl [(h0, .inr (1, [.ref q1, .int n, .int x, .ref q2, .ref q3])), (q1, .inl (d1, 6, .inl dd)), (q2, .inl (d2, 46656, .inl na)), (q3, .inl (d3, 46656, .inl pl))] U.heap ∧ va_K (dC, dI) vwCl [(d1, .int), (d2, .boolean), (d3, .boolean)] U ∧ va_D (fun _ => True) [(h0, .inr (1, [.ref q1, .int n, .int x, .ref q2, .ref q3])), (q1, .inl (d1, 6, .inl dd)), (q2, .inl (d2, 46656, .inl na)), (q3, .inl (d3, 46656, .inl pl))])) (va_Qv (fun (u : Nat → Int32) => ∀ a, a < 6 → u a = 0) (fun (u : Nat → Int32) (t : State) => va_P (dC, dI) vwCl [(h0, .inr (1, [.ref q1, .int (nI (1 + zIx k 5)), .int 0, .ref q2, .ref q3])), (q1, .inl (d1, 6, .inl u)), (q2, .inl (d2, 46656, .inl na)), (q3, .inl (d3, 46656, .inl pl))] t.heap ∧ va_K (dC, dI) vwCl [(d1, .int), (d2, .boolean), (d3, .boolean)] t ∧ va_D (va_A [(h0, .inr (1, [.ref q1, .int n, .int x, .ref q2, .ref q3])), (q1, .inl (d1, 6, .inl dd)), (q2, .inl (d2, 46656, .inl na)), (q3, .inl (d3, 46656, .inl pl))] sz) [(h0, .inr (1, [.ref q1, .int (nI (1 + zIx k 5)), .int 0, .ref q2, .ref q3])), (q1, .inl (d1, 6, .inl u)), (q2, .inl (d2, 46656, .inl na)), (q3, .inl (d3, 46656, .inl pl))]) (va_A [(h0, .inr (1, [.ref q1, .int n, .int x, .ref q2, .ref q3])), (q1, .inl (d1, 6, .inl dd)), (q2, .inl (d2, 46656, .inl na)), (q3, .inl (d3, 46656, .inl pl))] sz)) 0 0 (va_A [(h0, .inr (1, [.ref q1, .int n, .int x, .ref q2, .ref q3])), (q1, .inl (d1, 6, .inl dd)), (q2, .inl (d2, 46656, .inl na)), (q3, .inl (d3, 46656, .inl pl))] sz) := by
  refine Met.ofW (cc := cX1_size) (maxL := 3) (ret := none) (by decide) rfl ?_
  intro p e s m args below meth c s₁ B hml hv
  obtain ⟨rfl, hsz, hP, hK, hD0⟩ := hv
  have hx := B.exec
  have hb := B.bytes
  have hr := B.returns
  have hts := atoms_spec (ws := ws_ yX1_size cX1_size 3 none) B.pre
  have hts : ∀ w ∈ lw_all, w.before _ s = true := fun w h => hts w (List.mem_cons_of_mem _ h)
  have hown : s.vm.findClass RX1 = some m.cls := findClass_of_methodNamed B.named
  have hlocks := B.notSynchronized
  subst hsz
  have hD := hD0.self (sz := s.heap.size)
  generalize hAe : va_A [(h0, .inr (1, [.ref q1, .int n, .int x, .ref q2, .ref q3])), (q1, .inl (d1, 6, .inl dd)), (q2, .inl (d2, 46656, .inl na)), (q3, .inl (d3, 46656, .inl pl))] s.heap.size = A at hD ⊢
  have hA : ∀ q : Nat, s.heap.size ≤ q → A q := fun q h => by rw [← hAe]; exact Or.inr h
  have hS : va_S A s.heap s.heap [] := va_S.rf
  have hP : va_P (dC, dI) vwCl [(h0, .inr (1, [.ref q1, .int n, .int x, .ref q2, .ref q3])), (q1, .inl (d1, 6, .inl dd)), (q2, .inl (d2, 46656, .inl na)), (q3, .inl (d3, 46656, .inl pl))] s.heap := hP
  have hl := lv_entry ([.ref h0, .int k]) (n := 3) (Nat.le_of_ble_eq_true rfl)
  rw [lg_entry_eq]
  generalize (lg_sl ([.ref h0, .int k]) ++ List.replicate (3 - (lg_sl ([.ref h0, .int k])).length) Slot.unset).toArray = ls at hl ⊢
  have hl : lv_has ls 3 [(0, .ref h0), (1, .int k)] := hl
  have loop : ∀ (j i : Nat) (rr : Nat → Int32), j + i = 6 → (∀ a, a < i → rr a = 0) → ∀ (H : Heap) (locs : List Loc), va_P (dC, dI) vwCl [(h0, .inr (1, [.ref q1, .int (nI (1 + zIx k 5)), .int 0, .ref q2, .ref q3])), (q1, .inl (d1, 6, .inl rr)), (q2, .inl (d2, 46656, .inl na)), (q3, .inl (d3, 46656, .inl pl))] H → va_D A [(h0, .inr (1, [.ref q1, .int (nI (1 + zIx k 5)), .int 0, .ref q2, .ref q3])), (q1, .inl (d1, 6, .inl rr)), (q2, .inl (d2, 46656, .inl na)), (q3, .inl (d3, 46656, .inl pl))] → va_S A s.heap H locs → ∀ ls : Array Slot, lv_has ls 3 [(0, .ref h0), (2, .int (nI i))] → W p l e (headSpec (ws_ yX1_size cX1_size 3 none) ({ frames := 0, cells := 0, slots := 0, locals := 0 })).room s m ([.ref h0, .int k] : List Value).toArray below meth c H locs 0 0 (MQ below (va_Qv (fun (u : Nat → Int32) => ∀ a, a < 6 → u a = 0) (fun (u : Nat → Int32) (t : State) => va_P (dC, dI) vwCl [(h0, .inr (1, [.ref q1, .int (nI (1 + zIx k 5)), .int 0, .ref q2, .ref q3])), (q1, .inl (d1, 6, .inl u)), (q2, .inl (d2, 46656, .inl na)), (q3, .inl (d3, 46656, .inl pl))] t.heap ∧ va_K (dC, dI) vwCl [(d1, .int), (d2, .boolean), (d3, .boolean)] t ∧ va_D A [(h0, .inr (1, [.ref q1, .int (nI (1 + zIx k 5)), .int 0, .ref q2, .ref q3])), (q1, .inl (d1, 6, .inl u)), (q2, .inl (d2, 46656, .inl na)), (q3, .inl (d3, 46656, .inl pl))]) A) ([.ref h0, .int k] : List Value).toArray s 0 0 A) (F0 m 19 ls []) := by
    intro j
    induction j with
    | zero =>
      intro i rr hj hz H locs hP hD hS ls hl
      refine lv_iload_n hx hb dX1_size_19 rfl (lv_at hl 1 rfl) ?_
      refine lv_bipush (v := 6) hx hb dX1_size_20 (by decide) ?_
      refine lv_icmp_ge (tgt := 38) hx hb dX1_size_22 (by decide) (fun c1 => ?_) (fun c1 => ?_)
      · exact W.vret hx hb hr (fun tS ht hW => ⟨⟨rr, rfl, fun a ha => hz a (by omega), by rw [ht]; exact hP, va_K.moved hW.alike hK, hD⟩, hS.F ht⟩) hS.2.2 dX1_size_38
      · exact absurd (show nI 6 ≤ nI i from nI_le (by omega) (by omega)) c1
    | succ j ih =>
      intro i rr hj hz H locs hP hD hS ls hl
      refine lv_iload_n hx hb dX1_size_19 rfl (lv_at hl 1 rfl) ?_
      refine lv_bipush (v := 6) hx hb dX1_size_20 (by decide) ?_
      refine lv_icmp_ge (tgt := 38) hx hb dX1_size_22 (by decide) (fun c1 => ?_) (fun c1 => ?_)
      · exact absurd (show nI 6 ≤ nI i from c1) (nI_ge (by omega) (by omega))
      · refine lv_aload_n hx hb dX1_size_25 rfl (lv_at hl 0 rfl) ?_
        refine va_get (D := (dC, dI)) (ci := 1) (v := .ref q1) (C := RX1) (T := TX1) (N := 5) hx hb hts in_X1 hown hK hP 0 rfl rfl 0 (by decide) (hts _ q148) (fun _ h9 => h9) rfl dX1_size_26 ?_
        refine lv_iload_n hx hb dX1_size_29 rfl (lv_at hl 1 rfl) ?_
        refine lv_iconst (v := 0) hx hb dX1_size_30 (by decide) ?_
        refine my_iast hx hb hK hP hD hS 1 0 rfl rfl i (rfl) (by omega) (by decide) dX1_size_31 (fun H locs hP hD hS => ?_)
        have hP : va_P (dC, dI) vwCl [(h0, .inr (1, [.ref q1, .int (nI (1 + zIx k 5)), .int 0, .ref q2, .ref q3])), (q1, .inl (d1, 6, .inl (upd rr i 0))), (q2, .inl (d2, 46656, .inl na)), (q3, .inl (d3, 46656, .inl pl))] H := hP
        have hD : va_D A [(h0, .inr (1, [.ref q1, .int (nI (1 + zIx k 5)), .int 0, .ref q2, .ref q3])), (q1, .inl (d1, 6, .inl (upd rr i 0))), (q2, .inl (d2, 46656, .inl na)), (q3, .inl (d3, 46656, .inl pl))] := hD
        refine lv_iinc (v := nI (i + 1)) (lv' := [(2, .int (nI (i + 1))), (0, .ref h0)]) hx hb dX1_size_32 hl (k := 1) rfl (nI_1 i) (by decide) rfl (fun ls hl => ?_)
        refine lv_goto (tgt := 19) hx hb dX1_size_35 (by decide) ?_
        exact ih (i + 1) (upd rr i 0) (by omega) (z_zeros hz) H locs hP hD hS ls (lv_sub hl [1, 0] rfl)
  refine lv_aload_n hx hb dX1_size_0 rfl (lv_at hl 0 rfl) ?_
  refine lv_iconst (v := 1) hx hb dX1_size_1 (by decide) ?_
  refine lv_iload_n hx hb dX1_size_2 rfl (lv_at hl 1 rfl) ?_
  refine lv_ldc (v := 2147483647) hx hb hown (hts _ q169) dX1_size_3 ?_
  refine lv_iand hx hb dX1_size_5 ?_
  refine lv_iconst (v := 5) hx hb dX1_size_6 (by decide) ?_
  refine lv_irem hx hb dX1_size_7 (by decide) ?_
  refine w_top (x' := nI (zIx k 5)) (z_and_rem k 5 (by decide) (by decide)) ?_
  refine lv_iadd hx hb dX1_size_8 ?_
  refine w_top (x' := nI (1 + zIx k 5)) (nI_add 1 _) ?_
  refine va_put (D := (dC, dI)) (ci := 1) (v := .int (nI (1 + zIx k 5))) (ty := .int) (C := RX1) (T := TX1) (N := 5) hx hb hts in_X1 tyX1 tyX1_ok nmX1 hown hK hP hD hS 0 rfl rfl 1 (by decide) (hts _ q149) (fun _ h9 => h9) rfl (by decide +kernel) rfl rfl (Nat.le_of_ble_eq_true rfl) dX1_size_9 (fun H locs hP hD hS => ?_)
  have hP : va_P (dC, dI) vwCl [(h0, .inr (1, [.ref q1, .int (nI (1 + zIx k 5)), .int x, .ref q2, .ref q3])), (q1, .inl (d1, 6, .inl dd)), (q2, .inl (d2, 46656, .inl na)), (q3, .inl (d3, 46656, .inl pl))] H := hP
  have hD : va_D A [(h0, .inr (1, [.ref q1, .int (nI (1 + zIx k 5)), .int x, .ref q2, .ref q3])), (q1, .inl (d1, 6, .inl dd)), (q2, .inl (d2, 46656, .inl na)), (q3, .inl (d3, 46656, .inl pl))] := hD
  refine lv_aload_n hx hb dX1_size_12 rfl (lv_at hl 0 rfl) ?_
  refine lv_iconst (v := 0) hx hb dX1_size_13 (by decide) ?_
  refine va_put (D := (dC, dI)) (ci := 1) (v := .int 0) (ty := .boolean) (C := RX1) (T := TX1) (N := 5) hx hb hts in_X1 tyX1 tyX1_ok nmX1 hown hK hP hD hS 0 rfl rfl 2 (by decide) (hts _ q150) (fun _ h9 => h9) rfl (by decide +kernel) rfl rfl (Nat.le_of_ble_eq_true rfl) dX1_size_14 (fun H locs hP hD hS => ?_)
  have hP : va_P (dC, dI) vwCl [(h0, .inr (1, [.ref q1, .int (nI (1 + zIx k 5)), .int 0, .ref q2, .ref q3])), (q1, .inl (d1, 6, .inl dd)), (q2, .inl (d2, 46656, .inl na)), (q3, .inl (d3, 46656, .inl pl))] H := hP
  have hD : va_D A [(h0, .inr (1, [.ref q1, .int (nI (1 + zIx k 5)), .int 0, .ref q2, .ref q3])), (q1, .inl (d1, 6, .inl dd)), (q2, .inl (d2, 46656, .inl na)), (q3, .inl (d3, 46656, .inl pl))] := hD
  refine lv_iconst (v := 0) hx hb dX1_size_17 (by decide) ?_
  refine lv_istore_n (lv' := [(2, .int 0), (0, .ref h0), (1, .int k)]) hx hb dX1_size_18 rfl hl (by decide) rfl (fun ls hl => ?_)
  exact loop 6 0 dd (by omega) (fun a ha => absurd ha (Nat.not_lt_zero a)) H locs hP hD hS ls (lv_sub hl [1, 0] rfl)
set_option maxHeartbeats 4000000 in
set_option maxRecDepth 100000 in
/-- ScoreRowsModel.set(i, v) -/
theorem metX1_set (l : Launch) (dC : Nat → ClassId) (dI : Nat → Nat → Nat) (sz : Nat) (h0 q1 q2 q3 : Nat) (d1 d2 d3 : ClassId) (dd na pl : Nat → Int32) (x : Int32) (N : Nat) (i v : Int32) (hN1 : 1 ≤ N) (hN5 : N ≤ 5) : Met l yX1_set (ws_ yX1_set cX1_set 3 none) ({ frames := 0, cells := 0, slots := 0, locals := 0 }) (va_Pc [.ref h0, .int i, .int v] (fun U => U.heap.size = sz ∧ va_P (dC, dI) vwCl [(h0, .inr (1, [.ref q1, .int (nI N), .int x, .ref q2, .ref q3])), (q1, .inl (d1, 6, .inl dd)), (q2, .inl (d2, 46656, .inl na)), (q3, .inl (d3, 46656, .inl pl))] U.heap ∧ va_K (dC, dI) vwCl [(d1, .int), (d2, .boolean), (d3, .boolean)] U ∧ va_D (fun _ => True) [(h0, .inr (1, [.ref q1, .int (nI N), .int x, .ref q2, .ref q3])), (q1, .inl (d1, 6, .inl dd)), (q2, .inl (d2, 46656, .inl na)), (q3, .inl (d3, 46656, .inl pl))])) (va_Qv (fun (u : Unit) => True) (fun (u : Unit) (t : State) => va_P (dC, dI) vwCl [(h0, .inr (1, [.ref q1, .int (nI N), .int x, .ref q2, .ref q3])), (q1, .inl (d1, 6, .inl (upd dd (zIx i N) (nI (zIx v 6))))), (q2, .inl (d2, 46656, .inl na)), (q3, .inl (d3, 46656, .inl pl))] t.heap ∧ va_K (dC, dI) vwCl [(d1, .int), (d2, .boolean), (d3, .boolean)] t ∧ va_D (va_A [(h0, .inr (1, [.ref q1, .int (nI N), .int x, .ref q2, .ref q3])), (q1, .inl (d1, 6, .inl dd)), (q2, .inl (d2, 46656, .inl na)), (q3, .inl (d3, 46656, .inl pl))] sz) [(h0, .inr (1, [.ref q1, .int (nI N), .int x, .ref q2, .ref q3])), (q1, .inl (d1, 6, .inl (upd dd (zIx i N) (nI (zIx v 6))))), (q2, .inl (d2, 46656, .inl na)), (q3, .inl (d3, 46656, .inl pl))]) (va_A [(h0, .inr (1, [.ref q1, .int (nI N), .int x, .ref q2, .ref q3])), (q1, .inl (d1, 6, .inl dd)), (q2, .inl (d2, 46656, .inl na)), (q3, .inl (d3, 46656, .inl pl))] sz)) 0 0 (va_A [(h0, .inr (1, [.ref q1, .int (nI N), .int x, .ref q2, .ref q3])), (q1, .inl (d1, 6, .inl dd)), (q2, .inl (d2, 46656, .inl na)), (q3, .inl (d3, 46656, .inl pl))] sz) := by
  refine Met.ofW (cc := cX1_set) (maxL := 3) (ret := none) (by decide) rfl ?_
  intro p e s m args below meth c s₁ B hml hv
  obtain ⟨rfl, hsz, hP, hK, hD0⟩ := hv
  have hx := B.exec
  have hb := B.bytes
  have hr := B.returns
  have hts := atoms_spec (ws := ws_ yX1_set cX1_set 3 none) B.pre
  have hts : ∀ w ∈ lw_all, w.before _ s = true := fun w h => hts w (List.mem_cons_of_mem _ h)
  have hown : s.vm.findClass RX1 = some m.cls := findClass_of_methodNamed B.named
  have hlocks := B.notSynchronized
  subst hsz
  have hD := hD0.self (sz := s.heap.size)
  generalize hAe : va_A [(h0, .inr (1, [.ref q1, .int (nI N), .int x, .ref q2, .ref q3])), (q1, .inl (d1, 6, .inl dd)), (q2, .inl (d2, 46656, .inl na)), (q3, .inl (d3, 46656, .inl pl))] s.heap.size = A at hD ⊢
  have hA : ∀ q : Nat, s.heap.size ≤ q → A q := fun q h => by rw [← hAe]; exact Or.inr h
  have hS : va_S A s.heap s.heap [] := va_S.rf
  have hP : va_P (dC, dI) vwCl [(h0, .inr (1, [.ref q1, .int (nI N), .int x, .ref q2, .ref q3])), (q1, .inl (d1, 6, .inl dd)), (q2, .inl (d2, 46656, .inl na)), (q3, .inl (d3, 46656, .inl pl))] s.heap := hP
  have hl := lv_entry ([.ref h0, .int i, .int v]) (n := 3) (Nat.le_of_ble_eq_true rfl)
  rw [lg_entry_eq]
  generalize (lg_sl ([.ref h0, .int i, .int v]) ++ List.replicate (3 - (lg_sl ([.ref h0, .int i, .int v])).length) Slot.unset).toArray = ls at hl ⊢
  have hl : lv_has ls 3 [(0, .ref h0), (1, .int i), (2, .int v)] := hl
  refine lv_aload_n hx hb dX1_set_0 rfl (lv_at hl 0 rfl) ?_
  refine va_get (D := (dC, dI)) (ci := 1) (v := .ref q1) (C := RX1) (T := TX1) (N := 5) hx hb hts in_X1 hown hK hP 0 rfl rfl 0 (by decide) (hts _ q148) (fun _ h9 => h9) rfl dX1_set_1 ?_
  refine lv_iload_n hx hb dX1_set_4 rfl (lv_at hl 1 rfl) ?_
  refine lv_ldc (v := 2147483647) hx hb hown (hts _ q169) dX1_set_5 ?_
  refine lv_iand hx hb dX1_set_7 ?_
  refine lv_aload_n hx hb dX1_set_8 rfl (lv_at hl 0 rfl) ?_
  refine va_get (D := (dC, dI)) (ci := 1) (v := .int (nI N)) (C := RX1) (T := TX1) (N := 5) hx hb hts in_X1 hown hK hP 0 rfl rfl 1 (by decide) (hts _ q149) (fun _ h9 => h9) rfl dX1_set_9 ?_
  refine lv_irem hx hb dX1_set_12 (nI_ne0 (by omega) (by omega)) ?_
  refine w_top (x' := nI (zIx i N)) (z_and_rem i N (by omega) (by omega)) ?_
  refine lv_iload_n hx hb dX1_set_13 rfl (lv_at hl 2 rfl) ?_
  refine lv_ldc (v := 2147483647) hx hb hown (hts _ q169) dX1_set_14 ?_
  refine lv_iand hx hb dX1_set_16 ?_
  refine lv_bipush (v := 6) hx hb dX1_set_17 (by decide) ?_
  refine lv_irem hx hb dX1_set_19 (by decide) ?_
  refine w_top (x' := nI (zIx v 6)) (z_and_rem v 6 (by decide) (by decide)) ?_
  refine my_iast hx hb hK hP hD hS 1 0 rfl rfl (zIx i N) (rfl) (Nat.lt_of_lt_of_le (zIx_lt i (by omega)) (by omega)) (by decide) dX1_set_20 (fun H locs hP hD hS => ?_)
  have hP : va_P (dC, dI) vwCl [(h0, .inr (1, [.ref q1, .int (nI N), .int x, .ref q2, .ref q3])), (q1, .inl (d1, 6, .inl (upd dd (zIx i N) (nI (zIx v 6))))), (q2, .inl (d2, 46656, .inl na)), (q3, .inl (d3, 46656, .inl pl))] H := hP
  have hD : va_D A [(h0, .inr (1, [.ref q1, .int (nI N), .int x, .ref q2, .ref q3])), (q1, .inl (d1, 6, .inl (upd dd (zIx i N) (nI (zIx v 6))))), (q2, .inl (d2, 46656, .inl na)), (q3, .inl (d3, 46656, .inl pl))] := hD
  exact W.vret hx hb hr (fun tS ht hW => ⟨⟨(), rfl, trivial, by rw [ht]; exact hP, va_K.moved hW.alike hK, hD⟩, hS.F ht⟩) hS.2.2 dX1_set_21
set_option maxHeartbeats 4000000 in
set_option maxRecDepth 100000 in
/-- ScoreRowsModel.at(i) -/
theorem metX1_at (l : Launch) (dC : Nat → ClassId) (dI : Nat → Nat → Nat) (sz : Nat) (h0 q1 q2 q3 : Nat) (d1 d2 d3 : ClassId) (dd na pl : Nat → Int32) (x : Int32) (N : Nat) (i : Int32) (hN1 : 1 ≤ N) (hN5 : N ≤ 5) : Met l yX1_at (ws_ yX1_at cX1_at 2 (some .int)) ({ frames := 0, cells := 0, slots := 0, locals := 0 }) (va_Pc [.ref h0, .int i] (fun U => U.heap.size = sz ∧ va_P (dC, dI) vwCl [(h0, .inr (1, [.ref q1, .int (nI N), .int x, .ref q2, .ref q3])), (q1, .inl (d1, 6, .inl dd)), (q2, .inl (d2, 46656, .inl na)), (q3, .inl (d3, 46656, .inl pl))] U.heap ∧ va_K (dC, dI) vwCl [(d1, .int), (d2, .boolean), (d3, .boolean)] U ∧ va_D (fun _ => True) [(h0, .inr (1, [.ref q1, .int (nI N), .int x, .ref q2, .ref q3])), (q1, .inl (d1, 6, .inl dd)), (q2, .inl (d2, 46656, .inl na)), (q3, .inl (d3, 46656, .inl pl))])) (va_Qi (fun (r : Int32) (u : Unit) => r = dd (zIx i N)) (fun (u : Unit) (t : State) => va_P (dC, dI) vwCl [(h0, .inr (1, [.ref q1, .int (nI N), .int x, .ref q2, .ref q3])), (q1, .inl (d1, 6, .inl dd)), (q2, .inl (d2, 46656, .inl na)), (q3, .inl (d3, 46656, .inl pl))] t.heap ∧ va_K (dC, dI) vwCl [(d1, .int), (d2, .boolean), (d3, .boolean)] t ∧ va_D (va_A [(h0, .inr (1, [.ref q1, .int (nI N), .int x, .ref q2, .ref q3])), (q1, .inl (d1, 6, .inl dd)), (q2, .inl (d2, 46656, .inl na)), (q3, .inl (d3, 46656, .inl pl))] sz) [(h0, .inr (1, [.ref q1, .int (nI N), .int x, .ref q2, .ref q3])), (q1, .inl (d1, 6, .inl dd)), (q2, .inl (d2, 46656, .inl na)), (q3, .inl (d3, 46656, .inl pl))]) (va_A [(h0, .inr (1, [.ref q1, .int (nI N), .int x, .ref q2, .ref q3])), (q1, .inl (d1, 6, .inl dd)), (q2, .inl (d2, 46656, .inl na)), (q3, .inl (d3, 46656, .inl pl))] sz)) 0 0 (va_A [(h0, .inr (1, [.ref q1, .int (nI N), .int x, .ref q2, .ref q3])), (q1, .inl (d1, 6, .inl dd)), (q2, .inl (d2, 46656, .inl na)), (q3, .inl (d3, 46656, .inl pl))] sz) := by
  refine Met.ofW (cc := cX1_at) (maxL := 2) (ret := (some .int)) (by decide) rfl ?_
  intro p e s m args below meth c s₁ B hml hv
  obtain ⟨rfl, hsz, hP, hK, hD0⟩ := hv
  have hx := B.exec
  have hb := B.bytes
  have hr := B.returns
  have hts := atoms_spec (ws := ws_ yX1_at cX1_at 2 (some .int)) B.pre
  have hts : ∀ w ∈ lw_all, w.before _ s = true := fun w h => hts w (List.mem_cons_of_mem _ h)
  have hown : s.vm.findClass RX1 = some m.cls := findClass_of_methodNamed B.named
  have hlocks := B.notSynchronized
  subst hsz
  have hD := hD0.self (sz := s.heap.size)
  generalize hAe : va_A [(h0, .inr (1, [.ref q1, .int (nI N), .int x, .ref q2, .ref q3])), (q1, .inl (d1, 6, .inl dd)), (q2, .inl (d2, 46656, .inl na)), (q3, .inl (d3, 46656, .inl pl))] s.heap.size = A at hD ⊢
  have hA : ∀ q : Nat, s.heap.size ≤ q → A q := fun q h => by rw [← hAe]; exact Or.inr h
  have hS : va_S A s.heap s.heap [] := va_S.rf
  have hP : va_P (dC, dI) vwCl [(h0, .inr (1, [.ref q1, .int (nI N), .int x, .ref q2, .ref q3])), (q1, .inl (d1, 6, .inl dd)), (q2, .inl (d2, 46656, .inl na)), (q3, .inl (d3, 46656, .inl pl))] s.heap := hP
  have hl := lv_entry ([.ref h0, .int i]) (n := 2) (Nat.le_of_ble_eq_true rfl)
  rw [lg_entry_eq]
  generalize (lg_sl ([.ref h0, .int i]) ++ List.replicate (2 - (lg_sl ([.ref h0, .int i])).length) Slot.unset).toArray = ls at hl ⊢
  have hl : lv_has ls 2 [(0, .ref h0), (1, .int i)] := hl
  refine lv_aload_n hx hb dX1_at_0 rfl (lv_at hl 0 rfl) ?_
  refine va_get (D := (dC, dI)) (ci := 1) (v := .ref q1) (C := RX1) (T := TX1) (N := 5) hx hb hts in_X1 hown hK hP 0 rfl rfl 0 (by decide) (hts _ q148) (fun _ h9 => h9) rfl dX1_at_1 ?_
  refine lv_iload_n hx hb dX1_at_4 rfl (lv_at hl 1 rfl) ?_
  refine lv_ldc (v := 2147483647) hx hb hown (hts _ q169) dX1_at_5 ?_
  refine lv_iand hx hb dX1_at_7 ?_
  refine lv_aload_n hx hb dX1_at_8 rfl (lv_at hl 0 rfl) ?_
  refine va_get (D := (dC, dI)) (ci := 1) (v := .int (nI N)) (C := RX1) (T := TX1) (N := 5) hx hb hts in_X1 hown hK hP 0 rfl rfl 1 (by decide) (hts _ q149) (fun _ h9 => h9) rfl dX1_at_9 ?_
  refine lv_irem hx hb dX1_at_12 (nI_ne0 (by omega) (by omega)) ?_
  refine w_top (x' := nI (zIx i N)) (z_and_rem i N (by omega) (by omega)) ?_
  refine my_iald hx hb hK hP 1 0 rfl rfl (zIx i N) (rfl) (Nat.lt_of_lt_of_le (zIx_lt i (by omega)) (by omega)) (by decide) dX1_at_13 ?_
  exact W.iret (v := (dd (zIx i N))) hx hb hr (fun tS ht hW => ⟨⟨dd (zIx i N), (), rfl, rfl, by rw [ht]; exact hP, va_K.moved hW.alike hK, hD⟩, hS.F ht⟩) hS.2.2 dX1_at_14
theorem z_dec (x : Int32) : x + Int32.ofInt (-1) = x - 1 := by
  rw [Int32.sub_eq_add_neg]
  rfl
set_option maxHeartbeats 4000000 in
set_option maxRecDepth 100000 in
/-- ScoreRowsModel.code() -/
theorem metX1_code (l : Launch) (dC : Nat → ClassId) (dI : Nat → Nat → Nat) (sz : Nat) (h0 q1 q2 q3 : Nat) (d1 d2 d3 : ClassId) (dd na pl : Nat → Int32) (x : Int32) (N : Nat) (D : Nat → Nat) (hN1 : 1 ≤ N) (hN5 : N ≤ 5) (hDd : ∀ a, a < N → D a < 6 ∧ dd a = nI (D a)) : Met l yX1_code (ws_ yX1_code cX1_code 3 (some .int)) ({ frames := 0, cells := 0, slots := 0, locals := 0 }) (va_Pc [.ref h0] (fun U => U.heap.size = sz ∧ va_P (dC, dI) vwCl [(h0, .inr (1, [.ref q1, .int (nI N), .int x, .ref q2, .ref q3])), (q1, .inl (d1, 6, .inl dd)), (q2, .inl (d2, 46656, .inl na)), (q3, .inl (d3, 46656, .inl pl))] U.heap ∧ va_K (dC, dI) vwCl [(d1, .int), (d2, .boolean), (d3, .boolean)] U ∧ va_D (fun _ => True) [(h0, .inr (1, [.ref q1, .int (nI N), .int x, .ref q2, .ref q3])), (q1, .inl (d1, 6, .inl dd)), (q2, .inl (d2, 46656, .inl na)), (q3, .inl (d3, 46656, .inl pl))])) (va_Qi (fun (r : Int32) (u : Unit) => r = nI (zCd D N 0)) (fun (u : Unit) (t : State) => va_P (dC, dI) vwCl [(h0, .inr (1, [.ref q1, .int (nI N), .int x, .ref q2, .ref q3])), (q1, .inl (d1, 6, .inl dd)), (q2, .inl (d2, 46656, .inl na)), (q3, .inl (d3, 46656, .inl pl))] t.heap ∧ va_K (dC, dI) vwCl [(d1, .int), (d2, .boolean), (d3, .boolean)] t ∧ va_D (va_A [(h0, .inr (1, [.ref q1, .int (nI N), .int x, .ref q2, .ref q3])), (q1, .inl (d1, 6, .inl dd)), (q2, .inl (d2, 46656, .inl na)), (q3, .inl (d3, 46656, .inl pl))] sz) [(h0, .inr (1, [.ref q1, .int (nI N), .int x, .ref q2, .ref q3])), (q1, .inl (d1, 6, .inl dd)), (q2, .inl (d2, 46656, .inl na)), (q3, .inl (d3, 46656, .inl pl))]) (va_A [(h0, .inr (1, [.ref q1, .int (nI N), .int x, .ref q2, .ref q3])), (q1, .inl (d1, 6, .inl dd)), (q2, .inl (d2, 46656, .inl na)), (q3, .inl (d3, 46656, .inl pl))] sz)) 0 0 (va_A [(h0, .inr (1, [.ref q1, .int (nI N), .int x, .ref q2, .ref q3])), (q1, .inl (d1, 6, .inl dd)), (q2, .inl (d2, 46656, .inl na)), (q3, .inl (d3, 46656, .inl pl))] sz) := by
  refine Met.ofW (cc := cX1_code) (maxL := 3) (ret := (some .int)) (by decide) rfl ?_
  intro p e s m args below meth c s₁ B hml hv
  obtain ⟨rfl, hsz, hP, hK, hD0⟩ := hv
  have hx := B.exec
  have hb := B.bytes
  have hr := B.returns
  have hts := atoms_spec (ws := ws_ yX1_code cX1_code 3 (some .int)) B.pre
  have hts : ∀ w ∈ lw_all, w.before _ s = true := fun w h => hts w (List.mem_cons_of_mem _ h)
  have hown : s.vm.findClass RX1 = some m.cls := findClass_of_methodNamed B.named
  have hlocks := B.notSynchronized
  subst hsz
  have hD := hD0.self (sz := s.heap.size)
  generalize hAe : va_A [(h0, .inr (1, [.ref q1, .int (nI N), .int x, .ref q2, .ref q3])), (q1, .inl (d1, 6, .inl dd)), (q2, .inl (d2, 46656, .inl na)), (q3, .inl (d3, 46656, .inl pl))] s.heap.size = A at hD ⊢
  have hA : ∀ q : Nat, s.heap.size ≤ q → A q := fun q h => by rw [← hAe]; exact Or.inr h
  have hS : va_S A s.heap s.heap [] := va_S.rf
  have hP : va_P (dC, dI) vwCl [(h0, .inr (1, [.ref q1, .int (nI N), .int x, .ref q2, .ref q3])), (q1, .inl (d1, 6, .inl dd)), (q2, .inl (d2, 46656, .inl na)), (q3, .inl (d3, 46656, .inl pl))] s.heap := hP
  have hl := lv_entry ([.ref h0]) (n := 3) (Nat.le_of_ble_eq_true rfl)
  rw [lg_entry_eq]
  generalize (lg_sl ([.ref h0]) ++ List.replicate (3 - (lg_sl ([.ref h0])).length) Slot.unset).toArray = ls at hl ⊢
  have hl : lv_has ls 3 [(0, .ref h0)] := hl
  have loop : ∀ (j y : Nat), j ≤ N → zCd D j y = zCd D N 0 → ∀ ls : Array Slot, lv_has ls 3 [(0, .ref h0), (1, .int (nI y)), (2, .int (nI j - 1))] → W p l e (headSpec (ws_ yX1_code cX1_code 3 (some .int)) ({ frames := 0, cells := 0, slots := 0, locals := 0 })).room s m ([.ref h0] : List Value).toArray below meth c s.heap [] 0 0 (MQ below (va_Qi (fun (r : Int32) (u : Unit) => r = nI (zCd D N 0)) (fun (u : Unit) (t : State) => va_P (dC, dI) vwCl [(h0, .inr (1, [.ref q1, .int (nI N), .int x, .ref q2, .ref q3])), (q1, .inl (d1, 6, .inl dd)), (q2, .inl (d2, 46656, .inl na)), (q3, .inl (d3, 46656, .inl pl))] t.heap ∧ va_K (dC, dI) vwCl [(d1, .int), (d2, .boolean), (d3, .boolean)] t ∧ va_D A [(h0, .inr (1, [.ref q1, .int (nI N), .int x, .ref q2, .ref q3])), (q1, .inl (d1, 6, .inl dd)), (q2, .inl (d2, 46656, .inl na)), (q3, .inl (d3, 46656, .inl pl))]) A) ([.ref h0] : List Value).toArray s 0 0 A) (F0 m 9 ls []) := by
    intro j
    induction j with
    | zero =>
      intro y hj he ls hl
      refine lv_iload_n hx hb dX1_code_9 rfl (lv_at hl 2 rfl) ?_
      refine lv_if_lt (tgt := 31) hx hb dX1_code_10 (by decide) (fun c1 => ?_) (fun c1 => ?_)
      · refine lv_iload_n hx hb dX1_code_31 rfl (lv_at hl 1 rfl) ?_
        exact W.iret (v := (nI y)) hx hb hr (fun tS ht hW => ⟨⟨nI y, (), rfl, congrArg nI he, by rw [ht]; exact hP, va_K.moved hW.alike hK, hD⟩, hS.F ht⟩) hS.2.2 dX1_code_32
      · exact absurd (by decide +kernel) c1
    | succ j ih =>
      intro y hj he ls hl
      rw [nI_pred] at hl
      refine lv_iload_n hx hb dX1_code_9 rfl (lv_at hl 2 rfl) ?_
      refine lv_if_lt (tgt := 31) hx hb dX1_code_10 (by decide) (fun c1 => ?_) (fun c1 => ?_)
      · exact absurd c1 (nI_pos (by omega))
      · refine lv_bipush (v := 6) hx hb dX1_code_13 (by decide) ?_
        refine lv_iload_n hx hb dX1_code_15 rfl (lv_at hl 1 rfl) ?_
        refine lv_imul hx hb dX1_code_16 ?_
        refine lv_aload_n hx hb dX1_code_17 rfl (lv_at hl 0 rfl) ?_
        refine va_get (D := (dC, dI)) (ci := 1) (v := .ref q1) (C := RX1) (T := TX1) (N := 5) hx hb hts in_X1 hown hK hP 0 rfl rfl 0 (by decide) (hts _ q148) (fun _ h9 => h9) rfl dX1_code_18 ?_
        refine lv_iload_n hx hb dX1_code_21 rfl (lv_at hl 2 rfl) ?_
        refine my_iald hx hb hK hP 1 0 rfl rfl j (rfl) (by omega) (by decide) dX1_code_22 ?_
        refine lv_iadd hx hb dX1_code_23 ?_
        refine w_top (x' := nI (6 * y + D j)) (by rw [(hDd j (by omega)).2, z_six, pk_mul, nI_add]) ?_
        refine lv_istore_n (lv' := [(1, .int (nI (6 * y + D j))), (0, .ref h0), (2, .int (nI j))]) hx hb dX1_code_24 rfl hl (by decide) rfl (fun ls hl => ?_)
        refine lv_iinc (v := nI j - 1) (lv' := [(2, .int (nI j - 1)), (1, .int (nI (6 * y + D j))), (0, .ref h0)]) hx hb dX1_code_25 hl (k := 2) rfl (z_dec _) (by decide) rfl (fun ls hl => ?_)
        refine lv_goto (tgt := 9) hx hb dX1_code_28 (by decide) ?_
        exact ih (6 * y + D j) (by omega) he ls (lv_sub hl [2, 1, 0] rfl)
  refine lv_iconst (v := 0) hx hb dX1_code_0 (by decide) ?_
  refine lv_istore_n (lv' := [(1, .int 0), (0, .ref h0)]) hx hb dX1_code_1 rfl hl (by decide) rfl (fun ls hl => ?_)
  refine lv_aload_n hx hb dX1_code_2 rfl (lv_at hl 1 rfl) ?_
  refine va_get (D := (dC, dI)) (ci := 1) (v := .int (nI N)) (C := RX1) (T := TX1) (N := 5) hx hb hts in_X1 hown hK hP 0 rfl rfl 1 (by decide) (hts _ q149) (fun _ h9 => h9) rfl dX1_code_3 ?_
  refine lv_iconst (v := 1) hx hb dX1_code_6 (by decide) ?_
  refine lv_isub hx hb dX1_code_7 ?_
  refine lv_istore_n (lv' := [(2, .int ((nI N) - 1)), (1, .int 0), (0, .ref h0)]) hx hb dX1_code_8 rfl hl (by decide) rfl (fun ls hl => ?_)
  exact loop N 0 (Nat.le_refl N) rfl ls (lv_sub hl [2, 1, 0] rfl)
end
section
/-! ScoreRowsModel: make -/
def zTab (N : Nat) (a b : Nat → Int32) : Prop := ∀ i, i < 46656 → a i = zB ((zNb N (2 ^ zP N)).testBit i) ∧ b i = zB ((zPb N (2 ^ zP N)).testBit i)
theorem z_pairs : ∀ N, N < 6 → 1 ≤ N → nI N * (nI N - 1) / 2 = nI (zP N) := by decide +kernel
theorem zP_le : ∀ N, N < 6 → zP N ≤ 10 := by decide +kernel
theorem z_shl : ∀ P, P < 11 → (1 : Int32) <<< (nI P &&& 31) = nI (2 ^ P) := by decide +kernel
theorem z_smod : ∀ n, n < 32 → ((nI n &&& 31).toBitVec.smod 32).toNat = n := by decide +kernel
theorem z_shr {t a : Nat} (ht : t < 2 ^ 31) (ha : a < 32) : nI t >>> (nI a &&& 31) = nI (t / 2 ^ a) := pk_shrN ht _ a (z_smod a ha)
theorem z_and1 {n : Nat} (h : n < 2 ^ 32) : nI n &&& 1 = nI (n % 2) := pk_andN h 1 (by decide)
theorem z_bit {B x : Nat} {a : Nat → Int32} (h : ∀ i, i < 46656 → a i = zB (B.testBit i)) : ∀ i, i < 46656 → upd a x 1 i = zB ((B ||| 1 <<< x).testBit i) := by
  intro i hi
  rw [Nat.testBit_or, Nat.one_shiftLeft, Nat.testBit_two_pow]
  unfold upd
  by_cases e : i = x
  · subst e
    simp [zB]
  · rw [if_neg e, h i hi]
    have e2 : ¬ x = i := fun h => e h.symm
    simp [e2]
theorem z_none {a : Nat → Int32} (h : ∀ i, i < 46656 → a i = 0) : ∀ i, i < 46656 → a i = zB ((0 : Nat).testBit i) := by
  intro i hi
  rw [h i hi, Nat.zero_testBit]
  rfl
def zOk (N s : Nat) : Bool := Nat.blt (zX N s) 46656 && Nat.blt (zY N s) 46656
def zAll (g : Nat → Bool) : Nat → Bool
  | 0 => true
  | n + 1 => g n && zAll g n
theorem zAll_spec {g : Nat → Bool} : ∀ {n : Nat}, zAll g n = true → ∀ i, i < n → g i = true := by
  intro n
  induction n with
  | zero => intro _ i hi; exact absurd hi (Nat.not_lt_zero i)
  | succ n ih =>
    intro h i hi
    unfold zAll at h
    rw [Bool.and_eq_true] at h
    by_cases e : i = n
    · rw [e]; exact h.1
    · exact ih h.2 i (by omega)
theorem zOk_1 : zAll (zOk 1) 1 = true := by decide +kernel
theorem zOk_2 : zAll (zOk 2) 2 = true := by decide +kernel
theorem zOk_3 : zAll (zOk 3) 8 = true := by decide +kernel
theorem zOk_4 : zAll (zOk 4) 64 = true := by decide +kernel
theorem zOk_5 : zAll (zOk 5) 1024 = true := by decide +kernel
theorem zXY_lt {N s : Nat} (h1 : 1 ≤ N) (h5 : N ≤ 5) (hs : s < 2 ^ zP N) : zX N s < 46656 ∧ zY N s < 46656 := by
  have key : zOk N s = true := by
    rcases (show N = 1 ∨ N = 2 ∨ N = 3 ∨ N = 4 ∨ N = 5 by omega) with rfl | rfl | rfl | rfl | rfl
    · exact zAll_spec zOk_1 s hs
    · exact zAll_spec zOk_2 s hs
    · exact zAll_spec zOk_3 s hs
    · exact zAll_spec zOk_4 s hs
    · exact zAll_spec zOk_5 s hs
  unfold zOk at key
  rw [Bool.and_eq_true] at key
  exact ⟨Nat.blt_eq.mp key.1, Nat.blt_eq.mp key.2⟩
set_option maxHeartbeats 4000000 in
set_option maxRecDepth 100000 in
/-- ScoreRowsModel.make() -/
theorem metX1_make (l : Launch) (dC : Nat → ClassId) (dI : Nat → Nat → Nat) (sz : Nat) (h0 q1 q2 q3 : Nat) (d1 d2 d3 : ClassId) (dd na pl : Nat → Int32) (x : Int32) (N : Nat) (hN1 : 1 ≤ N) (hN5 : N ≤ 5) (hmk : x = 0 ∨ (x = 1 ∧ zTab N na pl)) : Met l yX1_make (ws_ yX1_make cX1_make 10 none) ({ frames := 0, cells := 0, slots := 0, locals := 0 }) (va_Pc [.ref h0] (fun U => U.heap.size = sz ∧ va_P (dC, dI) vwCl [(h0, .inr (1, [.ref q1, .int (nI N), .int x, .ref q2, .ref q3])), (q1, .inl (d1, 6, .inl dd)), (q2, .inl (d2, 46656, .inl na)), (q3, .inl (d3, 46656, .inl pl))] U.heap ∧ va_K (dC, dI) vwCl [(d1, .int), (d2, .boolean), (d3, .boolean)] U ∧ va_D (fun _ => True) [(h0, .inr (1, [.ref q1, .int (nI N), .int x, .ref q2, .ref q3])), (q1, .inl (d1, 6, .inl dd)), (q2, .inl (d2, 46656, .inl na)), (q3, .inl (d3, 46656, .inl pl))])) (va_Qv (fun (u : (Nat → Int32) × (Nat → Int32)) => zTab N u.1 u.2) (fun (u : (Nat → Int32) × (Nat → Int32)) (t : State) => va_P (dC, dI) vwCl [(h0, .inr (1, [.ref q1, .int (nI N), .int 1, .ref q2, .ref q3])), (q1, .inl (d1, 6, .inl dd)), (q2, .inl (d2, 46656, .inl u.1)), (q3, .inl (d3, 46656, .inl u.2))] t.heap ∧ va_K (dC, dI) vwCl [(d1, .int), (d2, .boolean), (d3, .boolean)] t ∧ va_D (va_A [(h0, .inr (1, [.ref q1, .int (nI N), .int x, .ref q2, .ref q3])), (q1, .inl (d1, 6, .inl dd)), (q2, .inl (d2, 46656, .inl na)), (q3, .inl (d3, 46656, .inl pl))] sz) [(h0, .inr (1, [.ref q1, .int (nI N), .int 1, .ref q2, .ref q3])), (q1, .inl (d1, 6, .inl dd)), (q2, .inl (d2, 46656, .inl u.1)), (q3, .inl (d3, 46656, .inl u.2))]) (va_A [(h0, .inr (1, [.ref q1, .int (nI N), .int x, .ref q2, .ref q3])), (q1, .inl (d1, 6, .inl dd)), (q2, .inl (d2, 46656, .inl na)), (q3, .inl (d3, 46656, .inl pl))] sz)) 0 0 (va_A [(h0, .inr (1, [.ref q1, .int (nI N), .int x, .ref q2, .ref q3])), (q1, .inl (d1, 6, .inl dd)), (q2, .inl (d2, 46656, .inl na)), (q3, .inl (d3, 46656, .inl pl))] sz) := by
  refine Met.ofW (cc := cX1_make) (maxL := 10) (ret := none) (by decide) rfl ?_
  intro p e s m args below meth c s₁ B hml hv
  obtain ⟨rfl, hsz, hP, hK, hD0⟩ := hv
  have hx := B.exec
  have hb := B.bytes
  have hr := B.returns
  have hts := atoms_spec (ws := ws_ yX1_make cX1_make 10 none) B.pre
  have hts : ∀ w ∈ lw_all, w.before _ s = true := fun w h => hts w (List.mem_cons_of_mem _ h)
  have hown : s.vm.findClass RX1 = some m.cls := findClass_of_methodNamed B.named
  have hlocks := B.notSynchronized
  subst hsz
  have hD := hD0.self (sz := s.heap.size)
  generalize hAe : va_A [(h0, .inr (1, [.ref q1, .int (nI N), .int x, .ref q2, .ref q3])), (q1, .inl (d1, 6, .inl dd)), (q2, .inl (d2, 46656, .inl na)), (q3, .inl (d3, 46656, .inl pl))] s.heap.size = A at hD ⊢
  have hA : ∀ q : Nat, s.heap.size ≤ q → A q := fun q h => by rw [← hAe]; exact Or.inr h
  have hS : va_S A s.heap s.heap [] := va_S.rf
  have hP : va_P (dC, dI) vwCl [(h0, .inr (1, [.ref q1, .int (nI N), .int x, .ref q2, .ref q3])), (q1, .inl (d1, 6, .inl dd)), (q2, .inl (d2, 46656, .inl na)), (q3, .inl (d3, 46656, .inl pl))] s.heap := hP
  have hl := lv_entry ([.ref h0]) (n := 10) (Nat.le_of_ble_eq_true rfl)
  rw [lg_entry_eq]
  generalize (lg_sl ([.ref h0]) ++ List.replicate (10 - (lg_sl ([.ref h0])).length) Slot.unset).toArray = ls at hl ⊢
  have hl : lv_has ls 10 [(0, .ref h0)] := hl
  have hP10 := zP_le N (by omega)
  have h2P : 2 ^ zP N ≤ 1024 := Nat.pow_le_pow_right (n := 2) (by decide) hP10
  have loop2 : ∀ (j t : Nat) (a2 b2 : Nat → Int32), j + t = 2 ^ zP N → (∀ i, i < 46656 → a2 i = zB ((zNb N t).testBit i)) → (∀ i, i < 46656 → b2 i = zB ((zPb N t).testBit i)) → ∀ (H : Heap) (locs : List Loc), va_P (dC, dI) vwCl [(h0, .inr (1, [.ref q1, .int (nI N), .int 1, .ref q2, .ref q3])), (q1, .inl (d1, 6, .inl dd)), (q2, .inl (d2, 46656, .inl a2)), (q3, .inl (d3, 46656, .inl b2))] H → va_D A [(h0, .inr (1, [.ref q1, .int (nI N), .int 1, .ref q2, .ref q3])), (q1, .inl (d1, 6, .inl dd)), (q2, .inl (d2, 46656, .inl a2)), (q3, .inl (d3, 46656, .inl b2))] → va_S A s.heap H locs → ∀ ls : Array Slot, lv_has ls 10 [(0, .ref h0), (1, .int (nI (zP N))), (2, .int (nI t))] → W p l e (headSpec (ws_ yX1_make cX1_make 10 none) ({ frames := 0, cells := 0, slots := 0, locals := 0 })).room s m ([.ref h0] : List Value).toArray below meth c H locs 0 0 (MQ below (va_Qv (fun (u : (Nat → Int32) × (Nat → Int32)) => zTab N u.1 u.2) (fun (u : (Nat → Int32) × (Nat → Int32)) (t : State) => va_P (dC, dI) vwCl [(h0, .inr (1, [.ref q1, .int (nI N), .int 1, .ref q2, .ref q3])), (q1, .inl (d1, 6, .inl dd)), (q2, .inl (d2, 46656, .inl u.1)), (q3, .inl (d3, 46656, .inl u.2))] t.heap ∧ va_K (dC, dI) vwCl [(d1, .int), (d2, .boolean), (d3, .boolean)] t ∧ va_D A [(h0, .inr (1, [.ref q1, .int (nI N), .int 1, .ref q2, .ref q3])), (q1, .inl (d1, 6, .inl dd)), (q2, .inl (d2, 46656, .inl u.1)), (q3, .inl (d3, 46656, .inl u.2))]) A) ([.ref h0] : List Value).toArray s 0 0 A) (F0 m 57 ls []) := by
    intro j
    induction j with
    | zero =>
      intro t a2 b2 hj ha2 hb2 H locs hP hD hS ls hl
      refine lv_iload_n hx hb dX1_make_57 rfl (lv_at hl 2 rfl) ?_
      refine lv_iconst (v := 1) hx hb dX1_make_58 (by decide) ?_
      refine lv_iload_n hx hb dX1_make_59 rfl (lv_at hl 1 rfl) ?_
      refine lv_ishl hx hb dX1_make_60 ?_
      refine w_top (x' := nI (2 ^ zP N)) (z_shl _ (by omega)) ?_
      refine lv_icmp_ge (tgt := 196) hx hb dX1_make_61 (by decide) (fun c1 => ?_) (fun c1 => ?_)
      · obtain rfl : t = 2 ^ zP N := by omega
        exact W.vret hx hb hr (fun tS ht hW => ⟨⟨(a2, b2), rfl, fun i hi => ⟨ha2 i hi, hb2 i hi⟩, by rw [ht]; exact hP, va_K.moved hW.alike hK, hD⟩, hS.F ht⟩) hS.2.2 dX1_make_196
      · exact absurd (nI_le (by omega) (by omega)) c1
    | succ j ih =>
      intro t a2 b2 hj ha2 hb2 H locs hP hD hS ls hl
      refine lv_iload_n hx hb dX1_make_57 rfl (lv_at hl 2 rfl) ?_
      refine lv_iconst (v := 1) hx hb dX1_make_58 (by decide) ?_
      refine lv_iload_n hx hb dX1_make_59 rfl (lv_at hl 1 rfl) ?_
      refine lv_ishl hx hb dX1_make_60 ?_
      refine w_top (x' := nI (2 ^ zP N)) (z_shl _ (by omega)) ?_
      refine lv_icmp_ge (tgt := 196) hx hb dX1_make_61 (by decide) (fun c1 => ?_) (fun c1 => ?_)
      · exact absurd c1 (nI_ge (by omega) (by omega))
      · have hXY := zXY_lt (s := t) hN1 hN5 (by omega)
        have loop3 : ∀ (i aa ee xx yy pp : Nat), i + aa = N → ee ≤ 5 * aa → zMA t i ee xx yy pp = zMA t N 0 0 0 1 → ∀ ls : Array Slot, lv_has ls 10 [(0, .ref h0), (1, .int (nI (zP N))), (2, .int (nI t)), (3, .int (nI ee)), (4, .int (nI xx)), (5, .int (nI yy)), (6, .int (nI pp)), (7, .int (nI aa))] → W p l e (headSpec (ws_ yX1_make cX1_make 10 none) ({ frames := 0, cells := 0, slots := 0, locals := 0 })).room s m ([.ref h0] : List Value).toArray below meth c H locs 0 0 (MQ below (va_Qv (fun (u : (Nat → Int32) × (Nat → Int32)) => zTab N u.1 u.2) (fun (u : (Nat → Int32) × (Nat → Int32)) (t : State) => va_P (dC, dI) vwCl [(h0, .inr (1, [.ref q1, .int (nI N), .int 1, .ref q2, .ref q3])), (q1, .inl (d1, 6, .inl dd)), (q2, .inl (d2, 46656, .inl u.1)), (q3, .inl (d3, 46656, .inl u.2))] t.heap ∧ va_K (dC, dI) vwCl [(d1, .int), (d2, .boolean), (d3, .boolean)] t ∧ va_D A [(h0, .inr (1, [.ref q1, .int (nI N), .int 1, .ref q2, .ref q3])), (q1, .inl (d1, 6, .inl dd)), (q2, .inl (d2, 46656, .inl u.1)), (q3, .inl (d3, 46656, .inl u.2))]) A) ([.ref h0] : List Value).toArray s 0 0 A) (F0 m 78 ls []) := by
          intro i
          induction i with
          | zero =>
            intro aa ee xx yy pp hi hee he ls hl
            refine lv_iload hx hb dX1_make_78 (lv_at hl 7 rfl) ?_
            refine lv_aload_n hx hb dX1_make_80 rfl (lv_at hl 0 rfl) ?_
            refine va_get (D := (dC, dI)) (ci := 1) (v := .int (nI N)) (C := RX1) (T := TX1) (N := 5) hx hb hts in_X1 hown hK hP 0 rfl rfl 1 (by decide) (hts _ q149) (fun _ h9 => h9) rfl dX1_make_81 ?_
            refine lv_icmp_ge (tgt := 174) hx hb dX1_make_84 (by decide) (fun c2 => ?_) (fun c2 => ?_)
            · have hxx : xx = zX N t := by unfold zX; rw [← he]; rfl
              have hyy : yy = zY N t := by unfold zY; rw [← he]; rfl
              refine lv_aload_n hx hb dX1_make_174 rfl (lv_at hl 0 rfl) ?_
              refine va_get (D := (dC, dI)) (ci := 1) (v := .ref q2) (C := RX1) (T := TX1) (N := 5) hx hb hts in_X1 hown hK hP 0 rfl rfl 3 (by decide) (hts _ q151) (fun _ h9 => h9) rfl dX1_make_175 ?_
              refine lv_iload hx hb dX1_make_178 (lv_at hl 4 rfl) ?_
              refine lv_iconst (v := 1) hx hb dX1_make_180 (by decide) ?_
              refine my_zast hx hb hK hP hD hS 2 1 rfl rfl xx (rfl) (by omega) (by decide) (by decide) dX1_make_181 (fun H locs hP hD hS => ?_)
              have hP : va_P (dC, dI) vwCl [(h0, .inr (1, [.ref q1, .int (nI N), .int 1, .ref q2, .ref q3])), (q1, .inl (d1, 6, .inl dd)), (q2, .inl (d2, 46656, .inl (upd a2 xx 1))), (q3, .inl (d3, 46656, .inl b2))] H := hP
              have hD : va_D A [(h0, .inr (1, [.ref q1, .int (nI N), .int 1, .ref q2, .ref q3])), (q1, .inl (d1, 6, .inl dd)), (q2, .inl (d2, 46656, .inl (upd a2 xx 1))), (q3, .inl (d3, 46656, .inl b2))] := hD
              refine lv_aload_n hx hb dX1_make_182 rfl (lv_at hl 0 rfl) ?_
              refine va_get (D := (dC, dI)) (ci := 1) (v := .ref q3) (C := RX1) (T := TX1) (N := 5) hx hb hts in_X1 hown hK hP 0 rfl rfl 4 (by decide) (hts _ q152) (fun _ h9 => h9) rfl dX1_make_183 ?_
              refine lv_iload hx hb dX1_make_186 (lv_at hl 5 rfl) ?_
              refine lv_iconst (v := 1) hx hb dX1_make_188 (by decide) ?_
              refine my_zast hx hb hK hP hD hS 3 2 rfl rfl yy (rfl) (by omega) (by decide) (by decide) dX1_make_189 (fun H locs hP hD hS => ?_)
              have hP : va_P (dC, dI) vwCl [(h0, .inr (1, [.ref q1, .int (nI N), .int 1, .ref q2, .ref q3])), (q1, .inl (d1, 6, .inl dd)), (q2, .inl (d2, 46656, .inl (upd a2 xx 1))), (q3, .inl (d3, 46656, .inl (upd b2 yy 1)))] H := hP
              have hD : va_D A [(h0, .inr (1, [.ref q1, .int (nI N), .int 1, .ref q2, .ref q3])), (q1, .inl (d1, 6, .inl dd)), (q2, .inl (d2, 46656, .inl (upd a2 xx 1))), (q3, .inl (d3, 46656, .inl (upd b2 yy 1)))] := hD
              refine lv_iinc (v := nI (t + 1)) (lv' := [(2, .int (nI (t + 1))), (0, .ref h0), (1, .int (nI (zP N))), (3, .int (nI ee)), (4, .int (nI xx)), (5, .int (nI yy)), (6, .int (nI pp)), (7, .int (nI aa))]) hx hb dX1_make_190 hl (k := 2) rfl (nI_1 t) (by decide) rfl (fun ls hl => ?_)
              refine lv_goto (tgt := 57) hx hb dX1_make_193 (by decide) ?_
              refine ih (t + 1) (upd a2 xx 1) (upd b2 yy 1) (by omega) ?_ ?_ H locs hP hD hS ls (lv_sub hl [1, 2, 0] rfl)
              · rw [hxx]; exact z_bit ha2
              · rw [hyy]; exact z_bit hb2
            · exact absurd (nI_le (by omega) (by omega)) c2
          | succ i ih3 =>
            intro aa ee xx yy pp hi hee he ls hl
            refine lv_iload hx hb dX1_make_78 (lv_at hl 7 rfl) ?_
            refine lv_aload_n hx hb dX1_make_80 rfl (lv_at hl 0 rfl) ?_
            refine va_get (D := (dC, dI)) (ci := 1) (v := .int (nI N)) (C := RX1) (T := TX1) (N := 5) hx hb hts in_X1 hown hK hP 0 rfl rfl 1 (by decide) (hts _ q149) (fun _ h9 => h9) rfl dX1_make_81 ?_
            refine lv_icmp_ge (tgt := 174) hx hb dX1_make_84 (by decide) (fun c2 => ?_) (fun c2 => ?_)
            · exact absurd c2 (nI_ge (by omega) (by omega))
            · have loop4 : ∀ (g bb e4 x4 y4 pb : Nat), g + bb = N → e4 ≤ 5 * aa + bb → zMB t pp g e4 x4 y4 pb = zMB t pp i ee xx yy (pp * 6) → ∀ ls : Array Slot, lv_has ls 10 [(0, .ref h0), (1, .int (nI (zP N))), (2, .int (nI t)), (3, .int (nI e4)), (4, .int (nI x4)), (5, .int (nI y4)), (6, .int (nI pp)), (7, .int (nI aa)), (8, .int (nI pb)), (9, .int (nI bb))] → W p l e (headSpec (ws_ yX1_make cX1_make 10 none) ({ frames := 0, cells := 0, slots := 0, locals := 0 })).room s m ([.ref h0] : List Value).toArray below meth c H locs 0 0 (MQ below (va_Qv (fun (u : (Nat → Int32) × (Nat → Int32)) => zTab N u.1 u.2) (fun (u : (Nat → Int32) × (Nat → Int32)) (t : State) => va_P (dC, dI) vwCl [(h0, .inr (1, [.ref q1, .int (nI N), .int 1, .ref q2, .ref q3])), (q1, .inl (d1, 6, .inl dd)), (q2, .inl (d2, 46656, .inl u.1)), (q3, .inl (d3, 46656, .inl u.2))] t.heap ∧ va_K (dC, dI) vwCl [(d1, .int), (d2, .boolean), (d3, .boolean)] t ∧ va_D A [(h0, .inr (1, [.ref q1, .int (nI N), .int 1, .ref q2, .ref q3])), (q1, .inl (d1, 6, .inl dd)), (q2, .inl (d2, 46656, .inl u.1)), (q3, .inl (d3, 46656, .inl u.2))]) A) ([.ref h0] : List Value).toArray s 0 0 A) (F0 m 100 ls []) := by
                intro g
                induction g with
                | zero =>
                  intro bb e4 x4 y4 pb hg he4 hmb ls hl
                  refine lv_iload hx hb dX1_make_100 (lv_at hl 9 rfl) ?_
                  refine lv_aload_n hx hb dX1_make_102 rfl (lv_at hl 0 rfl) ?_
                  refine va_get (D := (dC, dI)) (ci := 1) (v := .int (nI N)) (C := RX1) (T := TX1) (N := 5) hx hb hts in_X1 hown hK hP 0 rfl rfl 1 (by decide) (hts _ q149) (fun _ h9 => h9) rfl dX1_make_103 ?_
                  refine lv_icmp_ge (tgt := 161) hx hb dX1_make_106 (by decide) (fun c3 => ?_) (fun c3 => ?_)
                  · refine lv_iload hx hb dX1_make_161 (lv_at hl 6 rfl) ?_
                    refine lv_bipush (v := 6) hx hb dX1_make_163 (by decide) ?_
                    refine lv_imul hx hb dX1_make_165 ?_
                    refine w_top (x' := nI (pp * 6)) (pk_mul pp 6) ?_
                    refine lv_istore (lv' := [(6, .int (nI (pp * 6))), (0, .ref h0), (1, .int (nI (zP N))), (2, .int (nI t)), (3, .int (nI e4)), (4, .int (nI x4)), (5, .int (nI y4)), (7, .int (nI aa)), (8, .int (nI pb)), (9, .int (nI bb))]) hx hb dX1_make_166 hl (by decide) rfl (fun ls hl => ?_)
                    refine lv_iinc (v := nI (aa + 1)) (lv' := [(7, .int (nI (aa + 1))), (6, .int (nI (pp * 6))), (0, .ref h0), (1, .int (nI (zP N))), (2, .int (nI t)), (3, .int (nI e4)), (4, .int (nI x4)), (5, .int (nI y4)), (8, .int (nI pb)), (9, .int (nI bb))]) hx hb dX1_make_168 hl (k := 7) rfl (nI_1 aa) (by decide) rfl (fun ls hl => ?_)
                    refine lv_goto (tgt := 78) hx hb dX1_make_171 (by decide) ?_
                    exact ih3 (aa + 1) e4 x4 y4 (pp * 6) (by omega) (by omega) (by rw [← he, zMA_succ, ← hmb]; rfl) ls (lv_sub hl [2, 3, 4, 5, 6, 7, 1, 0] rfl)
                  · exact absurd (nI_le (by omega) (by omega)) c3
                | succ g ih4 =>
                  intro bb e4 x4 y4 pb hg he4 hmb ls hl
                  refine lv_iload hx hb dX1_make_100 (lv_at hl 9 rfl) ?_
                  refine lv_aload_n hx hb dX1_make_102 rfl (lv_at hl 0 rfl) ?_
                  refine va_get (D := (dC, dI)) (ci := 1) (v := .int (nI N)) (C := RX1) (T := TX1) (N := 5) hx hb hts in_X1 hown hK hP 0 rfl rfl 1 (by decide) (hts _ q149) (fun _ h9 => h9) rfl dX1_make_103 ?_
                  refine lv_icmp_ge (tgt := 161) hx hb dX1_make_106 (by decide) (fun c3 => ?_) (fun c3 => ?_)
                  · exact absurd c3 (nI_ge (by omega) (by omega))
                  · refine lv_iload_n hx hb dX1_make_109 rfl (lv_at hl 2 rfl) ?_
                    refine lv_iload_n hx hb dX1_make_110 rfl (lv_at hl 3 rfl) ?_
                    refine lv_ishr hx hb dX1_make_111 ?_
                    refine w_top (x' := nI (t / 2 ^ e4)) (z_shr (by omega) (by omega)) ?_
                    refine lv_iconst (v := 1) hx hb dX1_make_112 (by decide) ?_
                    refine lv_iand hx hb dX1_make_113 ?_
                    refine w_top (x' := nI (t / 2 ^ e4 % 2)) (z_and1 (Nat.lt_of_le_of_lt (Nat.div_le_self _ _) (by omega))) ?_
                    refine lv_if_eq (tgt := 137) hx hb dX1_make_114 (by decide) (fun c4 => ?_) (fun c4 => ?_)
                    · have hbit : t / 2 ^ e4 % 2 = 0 := (nI_eq (b := 0) (by omega) (by decide)).mp c4
                      refine lv_iload hx hb dX1_make_137 (lv_at hl 5 rfl) ?_
                      refine lv_iload hx hb dX1_make_139 (lv_at hl 8 rfl) ?_
                      refine lv_iadd hx hb dX1_make_141 ?_
                      refine w_top (x' := nI (y4 + pb)) (nI_add _ _) ?_
                      refine lv_istore (lv' := [(5, .int (nI (y4 + pb))), (0, .ref h0), (1, .int (nI (zP N))), (2, .int (nI t)), (3, .int (nI e4)), (4, .int (nI x4)), (6, .int (nI pp)), (7, .int (nI aa)), (8, .int (nI pb)), (9, .int (nI bb))]) hx hb dX1_make_142 hl (by decide) rfl (fun ls hl => ?_)
                      refine lv_iload_n hx hb dX1_make_144 rfl (lv_at hl 4 rfl) ?_
                      refine lv_iconst (v := 1) hx hb dX1_make_145 (by decide) ?_
                      refine lv_iadd hx hb dX1_make_146 ?_
                      refine w_top (x' := nI (e4 + 1)) (nI_1 e4) ?_
                      refine lv_istore_n (lv' := [(3, .int (nI (e4 + 1))), (5, .int (nI (y4 + pb))), (0, .ref h0), (1, .int (nI (zP N))), (2, .int (nI t)), (4, .int (nI x4)), (6, .int (nI pp)), (7, .int (nI aa)), (8, .int (nI pb)), (9, .int (nI bb))]) hx hb dX1_make_147 rfl hl (by decide) rfl (fun ls hl => ?_)
                      refine lv_iload hx hb dX1_make_148 (lv_at hl 8 rfl) ?_
                      refine lv_bipush (v := 6) hx hb dX1_make_150 (by decide) ?_
                      refine lv_imul hx hb dX1_make_152 ?_
                      refine w_top (x' := nI (pb * 6)) (pk_mul pb 6) ?_
                      refine lv_istore (lv' := [(8, .int (nI (pb * 6))), (3, .int (nI (e4 + 1))), (5, .int (nI (y4 + pb))), (0, .ref h0), (1, .int (nI (zP N))), (2, .int (nI t)), (4, .int (nI x4)), (6, .int (nI pp)), (7, .int (nI aa)), (9, .int (nI bb))]) hx hb dX1_make_153 hl (by decide) rfl (fun ls hl => ?_)
                      refine lv_iinc (v := nI (bb + 1)) (lv' := [(9, .int (nI (bb + 1))), (8, .int (nI (pb * 6))), (3, .int (nI (e4 + 1))), (5, .int (nI (y4 + pb))), (0, .ref h0), (1, .int (nI (zP N))), (2, .int (nI t)), (4, .int (nI x4)), (6, .int (nI pp)), (7, .int (nI aa))]) hx hb dX1_make_155 hl (k := 9) rfl (nI_1 bb) (by decide) rfl (fun ls hl => ?_)
                      refine lv_goto (tgt := 100) hx hb dX1_make_158 (by decide) ?_
                      exact ih4 (bb + 1) (e4 + 1) (x4) (y4 + pb) (pb * 6) (by omega) (by omega) (by rw [← hmb]; show _ = ite _ _ _; rw [if_pos hbit]) ls (lv_sub hl [4, 5, 6, 2, 7, 3, 8, 9, 1, 0] rfl)
                    · have hbit : ¬ t / 2 ^ e4 % 2 = 0 := fun h => c4 (by rw [h]; rfl)
                      refine lv_iload hx hb dX1_make_117 (lv_at hl 4 rfl) ?_
                      refine lv_iload hx hb dX1_make_119 (lv_at hl 6 rfl) ?_
                      refine lv_iadd hx hb dX1_make_121 ?_
                      refine lv_iload hx hb dX1_make_122 (lv_at hl 8 rfl) ?_
                      refine lv_iadd hx hb dX1_make_124 ?_
                      refine w_top (x' := nI (x4 + pp + pb)) (by rw [nI_add, nI_add]) ?_
                      refine lv_istore (lv' := [(4, .int (nI (x4 + pp + pb))), (0, .ref h0), (1, .int (nI (zP N))), (2, .int (nI t)), (3, .int (nI e4)), (5, .int (nI y4)), (6, .int (nI pp)), (7, .int (nI aa)), (8, .int (nI pb)), (9, .int (nI bb))]) hx hb dX1_make_125 hl (by decide) rfl (fun ls hl => ?_)
                      refine lv_iload hx hb dX1_make_127 (lv_at hl 5 rfl) ?_
                      refine lv_iload hx hb dX1_make_129 (lv_at hl 6 rfl) ?_
                      refine lv_iadd hx hb dX1_make_131 ?_
                      refine w_top (x' := nI (y4 + pp)) (nI_add _ _) ?_
                      refine lv_istore (lv' := [(5, .int (nI (y4 + pp))), (4, .int (nI (x4 + pp + pb))), (0, .ref h0), (1, .int (nI (zP N))), (2, .int (nI t)), (3, .int (nI e4)), (6, .int (nI pp)), (7, .int (nI aa)), (8, .int (nI pb)), (9, .int (nI bb))]) hx hb dX1_make_132 hl (by decide) rfl (fun ls hl => ?_)
                      refine lv_goto (tgt := 144) hx hb dX1_make_134 (by decide) ?_
                      refine lv_iload_n hx hb dX1_make_144 rfl (lv_at hl 5 rfl) ?_
                      refine lv_iconst (v := 1) hx hb dX1_make_145 (by decide) ?_
                      refine lv_iadd hx hb dX1_make_146 ?_
                      refine w_top (x' := nI (e4 + 1)) (nI_1 e4) ?_
                      refine lv_istore_n (lv' := [(3, .int (nI (e4 + 1))), (5, .int (nI (y4 + pp))), (4, .int (nI (x4 + pp + pb))), (0, .ref h0), (1, .int (nI (zP N))), (2, .int (nI t)), (6, .int (nI pp)), (7, .int (nI aa)), (8, .int (nI pb)), (9, .int (nI bb))]) hx hb dX1_make_147 rfl hl (by decide) rfl (fun ls hl => ?_)
                      refine lv_iload hx hb dX1_make_148 (lv_at hl 8 rfl) ?_
                      refine lv_bipush (v := 6) hx hb dX1_make_150 (by decide) ?_
                      refine lv_imul hx hb dX1_make_152 ?_
                      refine w_top (x' := nI (pb * 6)) (pk_mul pb 6) ?_
                      refine lv_istore (lv' := [(8, .int (nI (pb * 6))), (3, .int (nI (e4 + 1))), (5, .int (nI (y4 + pp))), (4, .int (nI (x4 + pp + pb))), (0, .ref h0), (1, .int (nI (zP N))), (2, .int (nI t)), (6, .int (nI pp)), (7, .int (nI aa)), (9, .int (nI bb))]) hx hb dX1_make_153 hl (by decide) rfl (fun ls hl => ?_)
                      refine lv_iinc (v := nI (bb + 1)) (lv' := [(9, .int (nI (bb + 1))), (8, .int (nI (pb * 6))), (3, .int (nI (e4 + 1))), (5, .int (nI (y4 + pp))), (4, .int (nI (x4 + pp + pb))), (0, .ref h0), (1, .int (nI (zP N))), (2, .int (nI t)), (6, .int (nI pp)), (7, .int (nI aa))]) hx hb dX1_make_155 hl (k := 9) rfl (nI_1 bb) (by decide) rfl (fun ls hl => ?_)
                      refine lv_goto (tgt := 100) hx hb dX1_make_158 (by decide) ?_
                      exact ih4 (bb + 1) (e4 + 1) (x4 + pp + pb) (y4 + pp) (pb * 6) (by omega) (by omega) (by rw [← hmb]; show _ = ite _ _ _; rw [if_neg hbit]) ls (lv_sub hl [5, 6, 7, 2, 4, 3, 8, 9, 1, 0] rfl)
              refine lv_iload hx hb dX1_make_87 (lv_at hl 6 rfl) ?_
              refine lv_bipush (v := 6) hx hb dX1_make_89 (by decide) ?_
              refine lv_imul hx hb dX1_make_91 ?_
              refine w_top (x' := nI (pp * 6)) (pk_mul pp 6) ?_
              refine lv_istore (lv' := [(8, .int (nI (pp * 6))), (0, .ref h0), (1, .int (nI (zP N))), (2, .int (nI t)), (3, .int (nI ee)), (4, .int (nI xx)), (5, .int (nI yy)), (6, .int (nI pp)), (7, .int (nI aa))]) hx hb dX1_make_92 hl (by decide) rfl (fun ls hl => ?_)
              refine lv_iload hx hb dX1_make_94 (lv_at hl 8 rfl) ?_
              refine lv_iconst (v := 1) hx hb dX1_make_96 (by decide) ?_
              refine lv_iadd hx hb dX1_make_97 ?_
              refine w_top (x' := nI (aa + 1)) (nI_1 aa) ?_
              refine lv_istore (lv' := [(9, .int (nI (aa + 1))), (8, .int (nI (pp * 6))), (0, .ref h0), (1, .int (nI (zP N))), (2, .int (nI t)), (3, .int (nI ee)), (4, .int (nI xx)), (5, .int (nI yy)), (6, .int (nI pp)), (7, .int (nI aa))]) hx hb dX1_make_98 hl (by decide) rfl (fun ls hl => ?_)
              exact loop4 i (aa + 1) ee xx yy (pp * 6) (by omega) (by omega) rfl ls (lv_sub hl [2, 3, 4, 5, 6, 7, 8, 9, 1, 0] rfl)
        refine lv_iconst (v := 0) hx hb dX1_make_64 (by decide) ?_
        refine lv_istore_n (lv' := [(3, .int 0), (0, .ref h0), (1, .int (nI (zP N))), (2, .int (nI t))]) hx hb dX1_make_65 rfl hl (by decide) rfl (fun ls hl => ?_)
        refine lv_iconst (v := 0) hx hb dX1_make_66 (by decide) ?_
        refine lv_istore (lv' := [(4, .int 0), (3, .int 0), (0, .ref h0), (1, .int (nI (zP N))), (2, .int (nI t))]) hx hb dX1_make_67 hl (by decide) rfl (fun ls hl => ?_)
        refine lv_iconst (v := 0) hx hb dX1_make_69 (by decide) ?_
        refine lv_istore (lv' := [(5, .int 0), (4, .int 0), (3, .int 0), (0, .ref h0), (1, .int (nI (zP N))), (2, .int (nI t))]) hx hb dX1_make_70 hl (by decide) rfl (fun ls hl => ?_)
        refine lv_iconst (v := 1) hx hb dX1_make_72 (by decide) ?_
        refine lv_istore (lv' := [(6, .int 1), (5, .int 0), (4, .int 0), (3, .int 0), (0, .ref h0), (1, .int (nI (zP N))), (2, .int (nI t))]) hx hb dX1_make_73 hl (by decide) rfl (fun ls hl => ?_)
        refine lv_iconst (v := 0) hx hb dX1_make_75 (by decide) ?_
        refine lv_istore (lv' := [(7, .int 0), (6, .int 1), (5, .int 0), (4, .int 0), (3, .int 0), (0, .ref h0), (1, .int (nI (zP N))), (2, .int (nI t))]) hx hb dX1_make_76 hl (by decide) rfl (fun ls hl => ?_)
        exact loop3 N 0 0 0 0 1 (by omega) (by omega) rfl ls (lv_sub hl [5, 6, 7, 4, 3, 2, 1, 0] rfl)
  have tail : ∀ (a2 b2 : Nat → Int32), (∀ i, i < 46656 → a2 i = 0 ∧ b2 i = 0) → ∀ (H : Heap) (locs : List Loc), va_P (dC, dI) vwCl [(h0, .inr (1, [.ref q1, .int (nI N), .int 1, .ref q2, .ref q3])), (q1, .inl (d1, 6, .inl dd)), (q2, .inl (d2, 46656, .inl a2)), (q3, .inl (d3, 46656, .inl b2))] H → va_D A [(h0, .inr (1, [.ref q1, .int (nI N), .int 1, .ref q2, .ref q3])), (q1, .inl (d1, 6, .inl dd)), (q2, .inl (d2, 46656, .inl a2)), (q3, .inl (d3, 46656, .inl b2))] → va_S A s.heap H locs → ∀ ls : Array Slot, lv_has ls 10 [(0, .ref h0)] → W p l e (headSpec (ws_ yX1_make cX1_make 10 none) ({ frames := 0, cells := 0, slots := 0, locals := 0 })).room s m ([.ref h0] : List Value).toArray below meth c H locs 0 0 (MQ below (va_Qv (fun (u : (Nat → Int32) × (Nat → Int32)) => zTab N u.1 u.2) (fun (u : (Nat → Int32) × (Nat → Int32)) (t : State) => va_P (dC, dI) vwCl [(h0, .inr (1, [.ref q1, .int (nI N), .int 1, .ref q2, .ref q3])), (q1, .inl (d1, 6, .inl dd)), (q2, .inl (d2, 46656, .inl u.1)), (q3, .inl (d3, 46656, .inl u.2))] t.heap ∧ va_K (dC, dI) vwCl [(d1, .int), (d2, .boolean), (d3, .boolean)] t ∧ va_D A [(h0, .inr (1, [.ref q1, .int (nI N), .int 1, .ref q2, .ref q3])), (q1, .inl (d1, 6, .inl dd)), (q2, .inl (d2, 46656, .inl u.1)), (q3, .inl (d3, 46656, .inl u.2))]) A) ([.ref h0] : List Value).toArray s 0 0 A) (F0 m 41 ls []) := by
    intro a2 b2 hz H locs hP hD hS ls hl
    refine lv_aload_n hx hb dX1_make_41 rfl (lv_at hl 0 rfl) ?_
    refine va_get (D := (dC, dI)) (ci := 1) (v := .int (nI N)) (C := RX1) (T := TX1) (N := 5) hx hb hts in_X1 hown hK hP 0 rfl rfl 1 (by decide) (hts _ q149) (fun _ h9 => h9) rfl dX1_make_42 ?_
    refine lv_aload_n hx hb dX1_make_45 rfl (lv_at hl 0 rfl) ?_
    refine va_get (D := (dC, dI)) (ci := 1) (v := .int (nI N)) (C := RX1) (T := TX1) (N := 5) hx hb hts in_X1 hown hK hP 0 rfl rfl 1 (by decide) (hts _ q149) (fun _ h9 => h9) rfl dX1_make_46 ?_
    refine lv_iconst (v := 1) hx hb dX1_make_49 (by decide) ?_
    refine lv_isub hx hb dX1_make_50 ?_
    refine lv_imul hx hb dX1_make_51 ?_
    refine lv_iconst (v := 2) hx hb dX1_make_52 (by decide) ?_
    refine lv_idiv hx hb dX1_make_53 (by decide) ?_
    refine w_top (x' := nI (zP N)) (z_pairs N (by omega) hN1) ?_
    refine lv_istore_n (lv' := [(1, .int (nI (zP N))), (0, .ref h0)]) hx hb dX1_make_54 rfl hl (by decide) rfl (fun ls hl => ?_)
    refine lv_iconst (v := 0) hx hb dX1_make_55 (by decide) ?_
    refine lv_istore_n (lv' := [(2, .int 0), (1, .int (nI (zP N))), (0, .ref h0)]) hx hb dX1_make_56 rfl hl (by decide) rfl (fun ls hl => ?_)
    exact loop2 (2 ^ zP N) 0 a2 b2 (by omega) (z_none fun i hi => (hz i hi).1) (z_none fun i hi => (hz i hi).2) H locs hP hD hS ls (lv_sub hl [2, 1, 0] rfl)
  have loop1 : ∀ (j i : Nat) (a2 b2 : Nat → Int32), j + i = 46656 → (∀ k, k < i → a2 k = 0) → (∀ k, k < i → b2 k = 0) → ∀ (H : Heap) (locs : List Loc), va_P (dC, dI) vwCl [(h0, .inr (1, [.ref q1, .int (nI N), .int 1, .ref q2, .ref q3])), (q1, .inl (d1, 6, .inl dd)), (q2, .inl (d2, 46656, .inl a2)), (q3, .inl (d3, 46656, .inl b2))] H → va_D A [(h0, .inr (1, [.ref q1, .int (nI N), .int 1, .ref q2, .ref q3])), (q1, .inl (d1, 6, .inl dd)), (q2, .inl (d2, 46656, .inl a2)), (q3, .inl (d3, 46656, .inl b2))] → va_S A s.heap H locs → ∀ ls : Array Slot, lv_has ls 10 [(0, .ref h0), (1, .int (nI i))] → W p l e (headSpec (ws_ yX1_make cX1_make 10 none) ({ frames := 0, cells := 0, slots := 0, locals := 0 })).room s m ([.ref h0] : List Value).toArray below meth c H locs 0 0 (MQ below (va_Qv (fun (u : (Nat → Int32) × (Nat → Int32)) => zTab N u.1 u.2) (fun (u : (Nat → Int32) × (Nat → Int32)) (t : State) => va_P (dC, dI) vwCl [(h0, .inr (1, [.ref q1, .int (nI N), .int 1, .ref q2, .ref q3])), (q1, .inl (d1, 6, .inl dd)), (q2, .inl (d2, 46656, .inl u.1)), (q3, .inl (d3, 46656, .inl u.2))] t.heap ∧ va_K (dC, dI) vwCl [(d1, .int), (d2, .boolean), (d3, .boolean)] t ∧ va_D A [(h0, .inr (1, [.ref q1, .int (nI N), .int 1, .ref q2, .ref q3])), (q1, .inl (d1, 6, .inl dd)), (q2, .inl (d2, 46656, .inl u.1)), (q3, .inl (d3, 46656, .inl u.2))]) A) ([.ref h0] : List Value).toArray s 0 0 A) (F0 m 15 ls []) := by
    intro j
    induction j with
    | zero =>
      intro i a2 b2 hj hz1 hz2 H locs hP hD hS ls hl
      refine lv_iload_n hx hb dX1_make_15 rfl (lv_at hl 1 rfl) ?_
      refine lv_ldc (v := 46656) hx hb hown (hts _ q147) dX1_make_16 ?_
      refine lv_icmp_ge (tgt := 41) hx hb dX1_make_18 (by decide) (fun c1 => ?_) (fun c1 => ?_)
      · exact tail a2 b2 (fun k hk => ⟨hz1 k (by omega), hz2 k (by omega)⟩) H locs hP hD hS ls (lv_sub hl [0] rfl)
      · exact absurd (show nI 46656 ≤ nI i from nI_le (by omega) (by omega)) c1
    | succ j ih =>
      intro i a2 b2 hj hz1 hz2 H locs hP hD hS ls hl
      refine lv_iload_n hx hb dX1_make_15 rfl (lv_at hl 1 rfl) ?_
      refine lv_ldc (v := 46656) hx hb hown (hts _ q147) dX1_make_16 ?_
      refine lv_icmp_ge (tgt := 41) hx hb dX1_make_18 (by decide) (fun c1 => ?_) (fun c1 => ?_)
      · exact absurd (show nI 46656 ≤ nI i from c1) (nI_ge (by omega) (by omega))
      · refine lv_aload_n hx hb dX1_make_21 rfl (lv_at hl 0 rfl) ?_
        refine va_get (D := (dC, dI)) (ci := 1) (v := .ref q2) (C := RX1) (T := TX1) (N := 5) hx hb hts in_X1 hown hK hP 0 rfl rfl 3 (by decide) (hts _ q151) (fun _ h9 => h9) rfl dX1_make_22 ?_
        refine lv_iload_n hx hb dX1_make_25 rfl (lv_at hl 1 rfl) ?_
        refine lv_iconst (v := 0) hx hb dX1_make_26 (by decide) ?_
        refine my_zast hx hb hK hP hD hS 2 1 rfl rfl i (rfl) (by omega) (by decide) (by decide) dX1_make_27 (fun H locs hP hD hS => ?_)
        have hP : va_P (dC, dI) vwCl [(h0, .inr (1, [.ref q1, .int (nI N), .int 1, .ref q2, .ref q3])), (q1, .inl (d1, 6, .inl dd)), (q2, .inl (d2, 46656, .inl (upd a2 i 0))), (q3, .inl (d3, 46656, .inl b2))] H := hP
        have hD : va_D A [(h0, .inr (1, [.ref q1, .int (nI N), .int 1, .ref q2, .ref q3])), (q1, .inl (d1, 6, .inl dd)), (q2, .inl (d2, 46656, .inl (upd a2 i 0))), (q3, .inl (d3, 46656, .inl b2))] := hD
        refine lv_aload_n hx hb dX1_make_28 rfl (lv_at hl 0 rfl) ?_
        refine va_get (D := (dC, dI)) (ci := 1) (v := .ref q3) (C := RX1) (T := TX1) (N := 5) hx hb hts in_X1 hown hK hP 0 rfl rfl 4 (by decide) (hts _ q152) (fun _ h9 => h9) rfl dX1_make_29 ?_
        refine lv_iload_n hx hb dX1_make_32 rfl (lv_at hl 1 rfl) ?_
        refine lv_iconst (v := 0) hx hb dX1_make_33 (by decide) ?_
        refine my_zast hx hb hK hP hD hS 3 2 rfl rfl i (rfl) (by omega) (by decide) (by decide) dX1_make_34 (fun H locs hP hD hS => ?_)
        have hP : va_P (dC, dI) vwCl [(h0, .inr (1, [.ref q1, .int (nI N), .int 1, .ref q2, .ref q3])), (q1, .inl (d1, 6, .inl dd)), (q2, .inl (d2, 46656, .inl (upd a2 i 0))), (q3, .inl (d3, 46656, .inl (upd b2 i 0)))] H := hP
        have hD : va_D A [(h0, .inr (1, [.ref q1, .int (nI N), .int 1, .ref q2, .ref q3])), (q1, .inl (d1, 6, .inl dd)), (q2, .inl (d2, 46656, .inl (upd a2 i 0))), (q3, .inl (d3, 46656, .inl (upd b2 i 0)))] := hD
        refine lv_iinc (v := nI (i + 1)) (lv' := [(1, .int (nI (i + 1))), (0, .ref h0)]) hx hb dX1_make_35 hl (k := 1) rfl (nI_1 i) (by decide) rfl (fun ls hl => ?_)
        refine lv_goto (tgt := 15) hx hb dX1_make_38 (by decide) ?_
        exact ih (i + 1) (upd a2 i 0) (upd b2 i 0) (by omega) (z_zeros hz1) (z_zeros hz2) H locs hP hD hS ls (lv_sub hl [1, 0] rfl)
  refine lv_aload_n hx hb dX1_make_0 rfl (lv_at hl 0 rfl) ?_
  refine va_get (D := (dC, dI)) (ci := 1) (v := .int x) (C := RX1) (T := TX1) (N := 5) hx hb hts in_X1 hown hK hP 0 rfl rfl 2 (by decide) (hts _ q150) (fun _ h9 => h9) rfl dX1_make_1 ?_
  refine lv_if_eq (tgt := 8) hx hb dX1_make_4 (by decide) (fun c0 => ?_) (fun c0 => ?_)
  · refine lv_aload_n hx hb dX1_make_8 rfl (lv_at hl 0 rfl) ?_
    refine lv_iconst (v := 1) hx hb dX1_make_9 (by decide) ?_
    refine va_put (D := (dC, dI)) (ci := 1) (v := .int 1) (ty := .boolean) (C := RX1) (T := TX1) (N := 5) hx hb hts in_X1 tyX1 tyX1_ok nmX1 hown hK hP hD hS 0 rfl rfl 2 (by decide) (hts _ q150) (fun _ h9 => h9) rfl (by decide +kernel) rfl rfl (Nat.le_of_ble_eq_true rfl) dX1_make_10 (fun H locs hP hD hS => ?_)
    have hP : va_P (dC, dI) vwCl [(h0, .inr (1, [.ref q1, .int (nI N), .int 1, .ref q2, .ref q3])), (q1, .inl (d1, 6, .inl dd)), (q2, .inl (d2, 46656, .inl na)), (q3, .inl (d3, 46656, .inl pl))] H := hP
    have hD : va_D A [(h0, .inr (1, [.ref q1, .int (nI N), .int 1, .ref q2, .ref q3])), (q1, .inl (d1, 6, .inl dd)), (q2, .inl (d2, 46656, .inl na)), (q3, .inl (d3, 46656, .inl pl))] := hD
    refine lv_iconst (v := 0) hx hb dX1_make_13 (by decide) ?_
    refine lv_istore_n (lv' := [(1, .int 0), (0, .ref h0)]) hx hb dX1_make_14 rfl hl (by decide) rfl (fun ls hl => ?_)
    exact loop1 46656 0 na pl (by omega) (fun k hk => absurd hk (Nat.not_lt_zero k)) (fun k hk => absurd hk (Nat.not_lt_zero k)) H locs hP hD hS ls (lv_sub hl [1, 0] rfl)
  · obtain ⟨rfl, htab⟩ := hmk.resolve_left c0
    exact W.vret hx hb hr (fun tS ht hW => ⟨⟨(na, pl), rfl, htab, by rw [ht]; exact hP, va_K.moved hW.alike hK, hD⟩, hS.F ht⟩) hS.2.2 dX1_make_7
end
section
/-! ScoreRowsModel: net, play, nets, plays -/
theorem z_narB (b : Bool) : narrow .boolean (.int (zB b)) = .int (zB b) := by
  cases b <;> rfl
theorem zCd_lt {D : Nat → Nat} : ∀ (i x : Nat), (∀ a, a < i → D a < 6) → zCd D i x < (x + 1) * 6 ^ i := by
  intro i
  induction i with
  | zero => intro x _; simp [zCd]
  | succ i ih =>
    intro x h
    have h1 := ih (6 * x + D i) (fun a ha => h a (by omega))
    have h2 := h i (by omega)
    show zCd D i (6 * x + D i) < _
    calc zCd D i (6 * x + D i) < (6 * x + D i + 1) * 6 ^ i := h1
      _ ≤ ((x + 1) * 6) * 6 ^ i := Nat.mul_le_mul_right _ (by omega)
      _ = (x + 1) * 6 ^ (i + 1) := by rw [Nat.pow_succ, Nat.mul_assoc, Nat.mul_comm 6]
theorem zCn_t {B i : Nat} (h : B.testBit i = true) : zCn B (i + 1) = zCn B i + 1 := by
  show zCn B i + (if B.testBit i = true then 1 else 0) = _
  rw [if_pos h]
theorem zCn_f {B i : Nat} (h : ¬ B.testBit i = true) : zCn B (i + 1) = zCn B i := by
  show zCn B i + (if B.testBit i = true then 1 else 0) = _
  rw [if_neg h, Nat.add_zero]
theorem z_6le {N : Nat} (h : N ≤ 5) : 6 ^ N ≤ 7776 := Nat.pow_le_pow_right (n := 6) (by decide) h
set_option maxHeartbeats 4000000 in
set_option maxRecDepth 100000 in
/-- ScoreRowsModel.net() -/
theorem metX1_net (l : Launch) (dC : Nat → ClassId) (dI : Nat → Nat → Nat) (sz : Nat) (h0 q1 q2 q3 : Nat) (d1 d2 d3 : ClassId) (dd na pl : Nat → Int32) (x : Int32) (N : Nat) (D : Nat → Nat) (hN1 : 1 ≤ N) (hN5 : N ≤ 5) (hmk : x = 0 ∨ (x = 1 ∧ zTab N na pl)) (hDd : ∀ a, a < N → D a < 6 ∧ dd a = nI (D a)) : Met l yX1_net (ws_ yX1_net cX1_net 1 (some .boolean)) ({ frames := 1, cells := 0, slots := 0, locals := 40 }) (va_Pc [.ref h0] (fun U => U.heap.size = sz ∧ va_P (dC, dI) vwCl [(h0, .inr (1, [.ref q1, .int (nI N), .int x, .ref q2, .ref q3])), (q1, .inl (d1, 6, .inl dd)), (q2, .inl (d2, 46656, .inl na)), (q3, .inl (d3, 46656, .inl pl))] U.heap ∧ va_K (dC, dI) vwCl [(d1, .int), (d2, .boolean), (d3, .boolean)] U ∧ va_D (fun _ => True) [(h0, .inr (1, [.ref q1, .int (nI N), .int x, .ref q2, .ref q3])), (q1, .inl (d1, 6, .inl dd)), (q2, .inl (d2, 46656, .inl na)), (q3, .inl (d3, 46656, .inl pl))])) (va_Qi (fun (r : Int32) (u : (Nat → Int32) × (Nat → Int32)) => r = zB ((zNb N (2 ^ zP N)).testBit (zCd D N 0)) ∧ zTab N u.1 u.2) (fun (u : (Nat → Int32) × (Nat → Int32)) (t : State) => va_P (dC, dI) vwCl [(h0, .inr (1, [.ref q1, .int (nI N), .int 1, .ref q2, .ref q3])), (q1, .inl (d1, 6, .inl dd)), (q2, .inl (d2, 46656, .inl u.1)), (q3, .inl (d3, 46656, .inl u.2))] t.heap ∧ va_K (dC, dI) vwCl [(d1, .int), (d2, .boolean), (d3, .boolean)] t ∧ va_D (va_A [(h0, .inr (1, [.ref q1, .int (nI N), .int x, .ref q2, .ref q3])), (q1, .inl (d1, 6, .inl dd)), (q2, .inl (d2, 46656, .inl na)), (q3, .inl (d3, 46656, .inl pl))] sz) [(h0, .inr (1, [.ref q1, .int (nI N), .int 1, .ref q2, .ref q3])), (q1, .inl (d1, 6, .inl dd)), (q2, .inl (d2, 46656, .inl u.1)), (q3, .inl (d3, 46656, .inl u.2))]) (va_A [(h0, .inr (1, [.ref q1, .int (nI N), .int x, .ref q2, .ref q3])), (q1, .inl (d1, 6, .inl dd)), (q2, .inl (d2, 46656, .inl na)), (q3, .inl (d3, 46656, .inl pl))] sz)) 0 0 (va_A [(h0, .inr (1, [.ref q1, .int (nI N), .int x, .ref q2, .ref q3])), (q1, .inl (d1, 6, .inl dd)), (q2, .inl (d2, 46656, .inl na)), (q3, .inl (d3, 46656, .inl pl))] sz) := by
  refine Met.ofW (cc := cX1_net) (maxL := 1) (ret := (some .boolean)) (by decide) rfl ?_
  intro p e s m args below meth c s₁ B hml hv
  obtain ⟨rfl, hsz, hP, hK, hD0⟩ := hv
  have hx := B.exec
  have hb := B.bytes
  have hr := B.returns
  have hts := atoms_spec (ws := ws_ yX1_net cX1_net 1 (some .boolean)) B.pre
  have hts : ∀ w ∈ lw_all, w.before _ s = true := fun w h => hts w (List.mem_cons_of_mem _ h)
  have hown : s.vm.findClass RX1 = some m.cls := findClass_of_methodNamed B.named
  have hlocks := B.notSynchronized
  subst hsz
  have hD := hD0.self (sz := s.heap.size)
  generalize hAe : va_A [(h0, .inr (1, [.ref q1, .int (nI N), .int x, .ref q2, .ref q3])), (q1, .inl (d1, 6, .inl dd)), (q2, .inl (d2, 46656, .inl na)), (q3, .inl (d3, 46656, .inl pl))] s.heap.size = A at hD ⊢
  have hA : ∀ q : Nat, s.heap.size ≤ q → A q := fun q h => by rw [← hAe]; exact Or.inr h
  have hS : va_S A s.heap s.heap [] := va_S.rf
  have hP : va_P (dC, dI) vwCl [(h0, .inr (1, [.ref q1, .int (nI N), .int x, .ref q2, .ref q3])), (q1, .inl (d1, 6, .inl dd)), (q2, .inl (d2, 46656, .inl na)), (q3, .inl (d3, 46656, .inl pl))] s.heap := hP
  have hl := lv_entry ([.ref h0]) (n := 1) (Nat.le_of_ble_eq_true rfl)
  rw [lg_entry_eq]
  generalize (lg_sl ([.ref h0]) ++ List.replicate (1 - (lg_sl ([.ref h0])).length) Slot.unset).toArray = ls at hl ⊢
  have hl : lv_has ls 1 [(0, .ref h0)] := hl
  have hcd : zCd D N 0 < 46656 := by have h1 := zCd_lt N 0 (fun a ha => (hDd a ha).1); have h2 := z_6le hN5; omega
  refine lv_aload_n hx hb dX1_net_0 rfl (lv_at hl 0 rfl) ?_
  have hPc := hP.sub (ws' := [(h0, .inr (1, [.ref q1, .int (nI N), .int x, .ref q2, .ref q3])), (q1, .inl (d1, 6, .inl dd)), (q2, .inl (d2, 46656, .inl na)), (q3, .inl (d3, 46656, .inl pl))]) [0, 1, 2, 3] rfl
  have hDc := hD.sub (ws' := [(h0, .inr (1, [.ref q1, .int (nI N), .int x, .ref q2, .ref q3])), (q1, .inl (d1, 6, .inl dd)), (q2, .inl (d2, 46656, .inl na)), (q3, .inl (d3, 46656, .inl pl))]) [0, 1, 2, 3] (by decide) rfl
  have hKc := hK.sub (tys' := [(d1, .int), (d2, .boolean), (d3, .boolean)]) [0, 1, 2] rfl
  have hFc := va_free (wc := [(h0, .inr (1, [.ref q1, .int (nI N), .int x, .ref q2, .ref q3])), (q1, .inl (d1, 6, .inl dd)), (q2, .inl (d2, 46656, .inl na)), (q3, .inl (d3, 46656, .inl pl))]) hD hS hA [0, 1, 2, 3] rfl
  refine va_callv (va_runV (As := []) (rest := []) ⟨hx, hb, hml, hown, hts⟩ (metX1_make l dC dI s.heap.size h0 q1 q2 q3 d1 d2 d3 dd na pl x N hN1 hN5 hmk) (cwV 0 hts (lw_V q178 q180 qs4 q8 q181) rfl rfl rfl (by decide +kernel) ⟨Nat.le_of_ble_eq_true rfl, Nat.le_of_ble_eq_true rfl⟩) ⟨fun a U g mk q => by obtain ⟨q0, q1, qP, qK, qD⟩ := q; exact ⟨q0, q1, qP, va_K.moved (u := U) (U := U.calling g mk a) (Vm.Alike.refl U.vm) qK, qD⟩, va_recv hKc hPc (ci := 1) (q0 := 0) rfl rfl, fun U hU hW => ⟨rfl, by rw [hU], by rw [hU]; exact hPc, va_K.moved hW.alike hKc, hDc.weaken (fun _ _ _ _ => trivial)⟩⟩ rfl rfl hl.1 rfl (lv_room (Nat.le_of_ble_eq_true rfl)) dX1_net_1 ⟨Nat.le_of_ble_eq_true rfl, Nat.le_of_ble_eq_true rfl⟩) hS (fun q _ h => hFc q h) hFc (fun u tS H1 locs ht hvm htab hB hz1 hk1 hS => ?_)
  obtain ⟨a2, b2⟩ := u
  obtain ⟨hP1, hK1, hD1⟩ := hB
  rw [ht] at hP1
  have hK1 := va_K.moved hvm.symm hK1
  obtain ⟨hP, hD⟩ := va_join (wr := []) (w1 := [(h0, .inr (1, [.ref q1, .int (nI N), .int 1, .ref q2, .ref q3])), (q1, .inl (d1, 6, .inl dd)), (q2, .inl (d2, 46656, .inl a2)), (q3, .inl (d3, 46656, .inl b2))]) hP hD [0, 1, 2, 3] [] rfl rfl (by decide) (by decide) hk1 hFc hP1 hD1
  have hK := (hK.sub (tys' := []) [] rfl).app hK1
  generalize H1 = H at hP hS ⊢
  have hP : va_P (dC, dI) vwCl [(h0, .inr (1, [.ref q1, .int (nI N), .int 1, .ref q2, .ref q3])), (q1, .inl (d1, 6, .inl dd)), (q2, .inl (d2, 46656, .inl a2)), (q3, .inl (d3, 46656, .inl b2))] H := hP
  have hD : va_D A [(h0, .inr (1, [.ref q1, .int (nI N), .int 1, .ref q2, .ref q3])), (q1, .inl (d1, 6, .inl dd)), (q2, .inl (d2, 46656, .inl a2)), (q3, .inl (d3, 46656, .inl b2))] := hD
  have hK : va_K (dC, dI) vwCl [(d1, .int), (d2, .boolean), (d3, .boolean)] s := hK
  refine W.widen (k := 0) (n := 0) (Nat.le_of_ble_eq_true rfl) (Nat.le_of_ble_eq_true rfl) ?_
  have htab : zTab N a2 b2 := htab
  refine lv_aload_n hx hb dX1_net_4 rfl (lv_at hl 0 rfl) ?_
  refine va_get (D := (dC, dI)) (ci := 1) (v := .ref q2) (C := RX1) (T := TX1) (N := 5) hx hb hts in_X1 hown hK hP 0 rfl rfl 3 (by decide) (hts _ q151) (fun _ h9 => h9) rfl dX1_net_5 ?_
  refine lv_aload_n hx hb dX1_net_8 rfl (lv_at hl 0 rfl) ?_
  have hPc := hP.sub (ws' := [(h0, .inr (1, [.ref q1, .int (nI N), .int 1, .ref q2, .ref q3])), (q1, .inl (d1, 6, .inl dd)), (q2, .inl (d2, 46656, .inl a2)), (q3, .inl (d3, 46656, .inl b2))]) [0, 1, 2, 3] rfl
  have hDc := hD.sub (ws' := [(h0, .inr (1, [.ref q1, .int (nI N), .int 1, .ref q2, .ref q3])), (q1, .inl (d1, 6, .inl dd)), (q2, .inl (d2, 46656, .inl a2)), (q3, .inl (d3, 46656, .inl b2))]) [0, 1, 2, 3] (by decide) rfl
  have hKc := hK.sub (tys' := [(d1, .int), (d2, .boolean), (d3, .boolean)]) [0, 1, 2] rfl
  have hFc := va_free (wc := [(h0, .inr (1, [.ref q1, .int (nI N), .int 1, .ref q2, .ref q3])), (q1, .inl (d1, 6, .inl dd)), (q2, .inl (d2, 46656, .inl a2)), (q3, .inl (d3, 46656, .inl b2))]) hD hS hA [0, 1, 2, 3] rfl
  refine va_calli (va_runV (As := []) (rest := [.ref q2]) ⟨hx, hb, hml, hown, hts⟩ (metX1_code l dC dI H.size h0 q1 q2 q3 d1 d2 d3 dd a2 b2 1 N D hN1 hN5 hDd) (cwV 0 hts (lw_V q182 q184 qs5 q8 q185) rfl rfl rfl (by decide +kernel) ⟨Nat.le_of_ble_eq_true rfl, Nat.le_of_ble_eq_true rfl⟩) ⟨fun a U g mk q => by obtain ⟨q0, q1, qP, qK, qD⟩ := q; exact ⟨q0, q1, qP, va_K.moved (u := U) (U := U.calling g mk a) (Vm.Alike.refl U.vm) qK, qD⟩, va_recv hKc hPc (ci := 1) (q0 := 0) rfl rfl, fun U hU hW => ⟨rfl, by rw [hU], by rw [hU]; exact hPc, va_K.moved hW.alike hKc, hDc.weaken (fun _ _ _ _ => trivial)⟩⟩ rfl rfl hl.1 rfl (lv_room (Nat.le_of_ble_eq_true rfl)) dX1_net_9 ⟨Nat.le_of_ble_eq_true rfl, Nat.le_of_ble_eq_true rfl⟩) hS (fun q _ h => hFc q h) hFc (fun r1 u tS H1 locs ht hvm hr1 hB hz1 hk1 hS => ?_)
  obtain ⟨hP1, hK1, hD1⟩ := hB
  rw [ht] at hP1
  have hK1 := va_K.moved hvm.symm hK1
  obtain ⟨hP, hD⟩ := va_join (wr := []) (w1 := [(h0, .inr (1, [.ref q1, .int (nI N), .int 1, .ref q2, .ref q3])), (q1, .inl (d1, 6, .inl dd)), (q2, .inl (d2, 46656, .inl a2)), (q3, .inl (d3, 46656, .inl b2))]) hP hD [0, 1, 2, 3] [] rfl rfl (by decide) (by decide) hk1 hFc hP1 hD1
  have hK := (hK.sub (tys' := []) [] rfl).app hK1
  generalize H1 = H at hP hS ⊢
  have hP : va_P (dC, dI) vwCl [(h0, .inr (1, [.ref q1, .int (nI N), .int 1, .ref q2, .ref q3])), (q1, .inl (d1, 6, .inl dd)), (q2, .inl (d2, 46656, .inl a2)), (q3, .inl (d3, 46656, .inl b2))] H := hP
  have hD : va_D A [(h0, .inr (1, [.ref q1, .int (nI N), .int 1, .ref q2, .ref q3])), (q1, .inl (d1, 6, .inl dd)), (q2, .inl (d2, 46656, .inl a2)), (q3, .inl (d3, 46656, .inl b2))] := hD
  have hK : va_K (dC, dI) vwCl [(d1, .int), (d2, .boolean), (d3, .boolean)] s := hK
  refine W.widen (k := 0) (n := 0) (Nat.le_of_ble_eq_true rfl) (Nat.le_of_ble_eq_true rfl) ?_
  have hr1 : r1 = nI (zCd D N 0) := hr1
  subst hr1
  refine my_zald hx hb hK hP 2 1 rfl rfl (zCd D N 0) (rfl) (hcd) (by decide) dX1_net_12 ?_
  refine w_top (x' := zB ((zNb N (2 ^ zP N)).testBit (zCd D N 0))) ((htab _ hcd).1) ?_
  exact W.zret (v := (zB ((zNb N (2 ^ zP N)).testBit (zCd D N 0)))) hx hb hr (z_narB _) (fun tS ht hW => ⟨⟨zB ((zNb N (2 ^ zP N)).testBit (zCd D N 0)), (a2, b2), rfl, ⟨rfl, htab⟩, by rw [ht]; exact hP, va_K.moved hW.alike hK, hD⟩, hS.F ht⟩) hS.2.2 dX1_net_13
set_option maxHeartbeats 4000000 in
set_option maxRecDepth 100000 in
/-- ScoreRowsModel.play() -/
theorem metX1_play (l : Launch) (dC : Nat → ClassId) (dI : Nat → Nat → Nat) (sz : Nat) (h0 q1 q2 q3 : Nat) (d1 d2 d3 : ClassId) (dd na pl : Nat → Int32) (x : Int32) (N : Nat) (D : Nat → Nat) (hN1 : 1 ≤ N) (hN5 : N ≤ 5) (hmk : x = 0 ∨ (x = 1 ∧ zTab N na pl)) (hDd : ∀ a, a < N → D a < 6 ∧ dd a = nI (D a)) : Met l yX1_play (ws_ yX1_play cX1_play 1 (some .boolean)) ({ frames := 1, cells := 0, slots := 0, locals := 40 }) (va_Pc [.ref h0] (fun U => U.heap.size = sz ∧ va_P (dC, dI) vwCl [(h0, .inr (1, [.ref q1, .int (nI N), .int x, .ref q2, .ref q3])), (q1, .inl (d1, 6, .inl dd)), (q2, .inl (d2, 46656, .inl na)), (q3, .inl (d3, 46656, .inl pl))] U.heap ∧ va_K (dC, dI) vwCl [(d1, .int), (d2, .boolean), (d3, .boolean)] U ∧ va_D (fun _ => True) [(h0, .inr (1, [.ref q1, .int (nI N), .int x, .ref q2, .ref q3])), (q1, .inl (d1, 6, .inl dd)), (q2, .inl (d2, 46656, .inl na)), (q3, .inl (d3, 46656, .inl pl))])) (va_Qi (fun (r : Int32) (u : (Nat → Int32) × (Nat → Int32)) => r = zB ((zPb N (2 ^ zP N)).testBit (zCd D N 0)) ∧ zTab N u.1 u.2) (fun (u : (Nat → Int32) × (Nat → Int32)) (t : State) => va_P (dC, dI) vwCl [(h0, .inr (1, [.ref q1, .int (nI N), .int 1, .ref q2, .ref q3])), (q1, .inl (d1, 6, .inl dd)), (q2, .inl (d2, 46656, .inl u.1)), (q3, .inl (d3, 46656, .inl u.2))] t.heap ∧ va_K (dC, dI) vwCl [(d1, .int), (d2, .boolean), (d3, .boolean)] t ∧ va_D (va_A [(h0, .inr (1, [.ref q1, .int (nI N), .int x, .ref q2, .ref q3])), (q1, .inl (d1, 6, .inl dd)), (q2, .inl (d2, 46656, .inl na)), (q3, .inl (d3, 46656, .inl pl))] sz) [(h0, .inr (1, [.ref q1, .int (nI N), .int 1, .ref q2, .ref q3])), (q1, .inl (d1, 6, .inl dd)), (q2, .inl (d2, 46656, .inl u.1)), (q3, .inl (d3, 46656, .inl u.2))]) (va_A [(h0, .inr (1, [.ref q1, .int (nI N), .int x, .ref q2, .ref q3])), (q1, .inl (d1, 6, .inl dd)), (q2, .inl (d2, 46656, .inl na)), (q3, .inl (d3, 46656, .inl pl))] sz)) 0 0 (va_A [(h0, .inr (1, [.ref q1, .int (nI N), .int x, .ref q2, .ref q3])), (q1, .inl (d1, 6, .inl dd)), (q2, .inl (d2, 46656, .inl na)), (q3, .inl (d3, 46656, .inl pl))] sz) := by
  refine Met.ofW (cc := cX1_play) (maxL := 1) (ret := (some .boolean)) (by decide) rfl ?_
  intro p e s m args below meth c s₁ B hml hv
  obtain ⟨rfl, hsz, hP, hK, hD0⟩ := hv
  have hx := B.exec
  have hb := B.bytes
  have hr := B.returns
  have hts := atoms_spec (ws := ws_ yX1_play cX1_play 1 (some .boolean)) B.pre
  have hts : ∀ w ∈ lw_all, w.before _ s = true := fun w h => hts w (List.mem_cons_of_mem _ h)
  have hown : s.vm.findClass RX1 = some m.cls := findClass_of_methodNamed B.named
  have hlocks := B.notSynchronized
  subst hsz
  have hD := hD0.self (sz := s.heap.size)
  generalize hAe : va_A [(h0, .inr (1, [.ref q1, .int (nI N), .int x, .ref q2, .ref q3])), (q1, .inl (d1, 6, .inl dd)), (q2, .inl (d2, 46656, .inl na)), (q3, .inl (d3, 46656, .inl pl))] s.heap.size = A at hD ⊢
  have hA : ∀ q : Nat, s.heap.size ≤ q → A q := fun q h => by rw [← hAe]; exact Or.inr h
  have hS : va_S A s.heap s.heap [] := va_S.rf
  have hP : va_P (dC, dI) vwCl [(h0, .inr (1, [.ref q1, .int (nI N), .int x, .ref q2, .ref q3])), (q1, .inl (d1, 6, .inl dd)), (q2, .inl (d2, 46656, .inl na)), (q3, .inl (d3, 46656, .inl pl))] s.heap := hP
  have hl := lv_entry ([.ref h0]) (n := 1) (Nat.le_of_ble_eq_true rfl)
  rw [lg_entry_eq]
  generalize (lg_sl ([.ref h0]) ++ List.replicate (1 - (lg_sl ([.ref h0])).length) Slot.unset).toArray = ls at hl ⊢
  have hl : lv_has ls 1 [(0, .ref h0)] := hl
  have hcd : zCd D N 0 < 46656 := by have h1 := zCd_lt N 0 (fun a ha => (hDd a ha).1); have h2 := z_6le hN5; omega
  refine lv_aload_n hx hb dX1_play_0 rfl (lv_at hl 0 rfl) ?_
  have hPc := hP.sub (ws' := [(h0, .inr (1, [.ref q1, .int (nI N), .int x, .ref q2, .ref q3])), (q1, .inl (d1, 6, .inl dd)), (q2, .inl (d2, 46656, .inl na)), (q3, .inl (d3, 46656, .inl pl))]) [0, 1, 2, 3] rfl
  have hDc := hD.sub (ws' := [(h0, .inr (1, [.ref q1, .int (nI N), .int x, .ref q2, .ref q3])), (q1, .inl (d1, 6, .inl dd)), (q2, .inl (d2, 46656, .inl na)), (q3, .inl (d3, 46656, .inl pl))]) [0, 1, 2, 3] (by decide) rfl
  have hKc := hK.sub (tys' := [(d1, .int), (d2, .boolean), (d3, .boolean)]) [0, 1, 2] rfl
  have hFc := va_free (wc := [(h0, .inr (1, [.ref q1, .int (nI N), .int x, .ref q2, .ref q3])), (q1, .inl (d1, 6, .inl dd)), (q2, .inl (d2, 46656, .inl na)), (q3, .inl (d3, 46656, .inl pl))]) hD hS hA [0, 1, 2, 3] rfl
  refine va_callv (va_runV (As := []) (rest := []) ⟨hx, hb, hml, hown, hts⟩ (metX1_make l dC dI s.heap.size h0 q1 q2 q3 d1 d2 d3 dd na pl x N hN1 hN5 hmk) (cwV 0 hts (lw_V q178 q180 qs4 q8 q181) rfl rfl rfl (by decide +kernel) ⟨Nat.le_of_ble_eq_true rfl, Nat.le_of_ble_eq_true rfl⟩) ⟨fun a U g mk q => by obtain ⟨q0, q1, qP, qK, qD⟩ := q; exact ⟨q0, q1, qP, va_K.moved (u := U) (U := U.calling g mk a) (Vm.Alike.refl U.vm) qK, qD⟩, va_recv hKc hPc (ci := 1) (q0 := 0) rfl rfl, fun U hU hW => ⟨rfl, by rw [hU], by rw [hU]; exact hPc, va_K.moved hW.alike hKc, hDc.weaken (fun _ _ _ _ => trivial)⟩⟩ rfl rfl hl.1 rfl (lv_room (Nat.le_of_ble_eq_true rfl)) dX1_play_1 ⟨Nat.le_of_ble_eq_true rfl, Nat.le_of_ble_eq_true rfl⟩) hS (fun q _ h => hFc q h) hFc (fun u tS H1 locs ht hvm htab hB hz1 hk1 hS => ?_)
  obtain ⟨a2, b2⟩ := u
  obtain ⟨hP1, hK1, hD1⟩ := hB
  rw [ht] at hP1
  have hK1 := va_K.moved hvm.symm hK1
  obtain ⟨hP, hD⟩ := va_join (wr := []) (w1 := [(h0, .inr (1, [.ref q1, .int (nI N), .int 1, .ref q2, .ref q3])), (q1, .inl (d1, 6, .inl dd)), (q2, .inl (d2, 46656, .inl a2)), (q3, .inl (d3, 46656, .inl b2))]) hP hD [0, 1, 2, 3] [] rfl rfl (by decide) (by decide) hk1 hFc hP1 hD1
  have hK := (hK.sub (tys' := []) [] rfl).app hK1
  generalize H1 = H at hP hS ⊢
  have hP : va_P (dC, dI) vwCl [(h0, .inr (1, [.ref q1, .int (nI N), .int 1, .ref q2, .ref q3])), (q1, .inl (d1, 6, .inl dd)), (q2, .inl (d2, 46656, .inl a2)), (q3, .inl (d3, 46656, .inl b2))] H := hP
  have hD : va_D A [(h0, .inr (1, [.ref q1, .int (nI N), .int 1, .ref q2, .ref q3])), (q1, .inl (d1, 6, .inl dd)), (q2, .inl (d2, 46656, .inl a2)), (q3, .inl (d3, 46656, .inl b2))] := hD
  have hK : va_K (dC, dI) vwCl [(d1, .int), (d2, .boolean), (d3, .boolean)] s := hK
  refine W.widen (k := 0) (n := 0) (Nat.le_of_ble_eq_true rfl) (Nat.le_of_ble_eq_true rfl) ?_
  have htab : zTab N a2 b2 := htab
  refine lv_aload_n hx hb dX1_play_4 rfl (lv_at hl 0 rfl) ?_
  refine va_get (D := (dC, dI)) (ci := 1) (v := .ref q3) (C := RX1) (T := TX1) (N := 5) hx hb hts in_X1 hown hK hP 0 rfl rfl 4 (by decide) (hts _ q152) (fun _ h9 => h9) rfl dX1_play_5 ?_
  refine lv_aload_n hx hb dX1_play_8 rfl (lv_at hl 0 rfl) ?_
  have hPc := hP.sub (ws' := [(h0, .inr (1, [.ref q1, .int (nI N), .int 1, .ref q2, .ref q3])), (q1, .inl (d1, 6, .inl dd)), (q2, .inl (d2, 46656, .inl a2)), (q3, .inl (d3, 46656, .inl b2))]) [0, 1, 2, 3] rfl
  have hDc := hD.sub (ws' := [(h0, .inr (1, [.ref q1, .int (nI N), .int 1, .ref q2, .ref q3])), (q1, .inl (d1, 6, .inl dd)), (q2, .inl (d2, 46656, .inl a2)), (q3, .inl (d3, 46656, .inl b2))]) [0, 1, 2, 3] (by decide) rfl
  have hKc := hK.sub (tys' := [(d1, .int), (d2, .boolean), (d3, .boolean)]) [0, 1, 2] rfl
  have hFc := va_free (wc := [(h0, .inr (1, [.ref q1, .int (nI N), .int 1, .ref q2, .ref q3])), (q1, .inl (d1, 6, .inl dd)), (q2, .inl (d2, 46656, .inl a2)), (q3, .inl (d3, 46656, .inl b2))]) hD hS hA [0, 1, 2, 3] rfl
  refine va_calli (va_runV (As := []) (rest := [.ref q3]) ⟨hx, hb, hml, hown, hts⟩ (metX1_code l dC dI H.size h0 q1 q2 q3 d1 d2 d3 dd a2 b2 1 N D hN1 hN5 hDd) (cwV 0 hts (lw_V q182 q184 qs5 q8 q185) rfl rfl rfl (by decide +kernel) ⟨Nat.le_of_ble_eq_true rfl, Nat.le_of_ble_eq_true rfl⟩) ⟨fun a U g mk q => by obtain ⟨q0, q1, qP, qK, qD⟩ := q; exact ⟨q0, q1, qP, va_K.moved (u := U) (U := U.calling g mk a) (Vm.Alike.refl U.vm) qK, qD⟩, va_recv hKc hPc (ci := 1) (q0 := 0) rfl rfl, fun U hU hW => ⟨rfl, by rw [hU], by rw [hU]; exact hPc, va_K.moved hW.alike hKc, hDc.weaken (fun _ _ _ _ => trivial)⟩⟩ rfl rfl hl.1 rfl (lv_room (Nat.le_of_ble_eq_true rfl)) dX1_play_9 ⟨Nat.le_of_ble_eq_true rfl, Nat.le_of_ble_eq_true rfl⟩) hS (fun q _ h => hFc q h) hFc (fun r1 u tS H1 locs ht hvm hr1 hB hz1 hk1 hS => ?_)
  obtain ⟨hP1, hK1, hD1⟩ := hB
  rw [ht] at hP1
  have hK1 := va_K.moved hvm.symm hK1
  obtain ⟨hP, hD⟩ := va_join (wr := []) (w1 := [(h0, .inr (1, [.ref q1, .int (nI N), .int 1, .ref q2, .ref q3])), (q1, .inl (d1, 6, .inl dd)), (q2, .inl (d2, 46656, .inl a2)), (q3, .inl (d3, 46656, .inl b2))]) hP hD [0, 1, 2, 3] [] rfl rfl (by decide) (by decide) hk1 hFc hP1 hD1
  have hK := (hK.sub (tys' := []) [] rfl).app hK1
  generalize H1 = H at hP hS ⊢
  have hP : va_P (dC, dI) vwCl [(h0, .inr (1, [.ref q1, .int (nI N), .int 1, .ref q2, .ref q3])), (q1, .inl (d1, 6, .inl dd)), (q2, .inl (d2, 46656, .inl a2)), (q3, .inl (d3, 46656, .inl b2))] H := hP
  have hD : va_D A [(h0, .inr (1, [.ref q1, .int (nI N), .int 1, .ref q2, .ref q3])), (q1, .inl (d1, 6, .inl dd)), (q2, .inl (d2, 46656, .inl a2)), (q3, .inl (d3, 46656, .inl b2))] := hD
  have hK : va_K (dC, dI) vwCl [(d1, .int), (d2, .boolean), (d3, .boolean)] s := hK
  refine W.widen (k := 0) (n := 0) (Nat.le_of_ble_eq_true rfl) (Nat.le_of_ble_eq_true rfl) ?_
  have hr1 : r1 = nI (zCd D N 0) := hr1
  subst hr1
  refine my_zald hx hb hK hP 3 2 rfl rfl (zCd D N 0) (rfl) (hcd) (by decide) dX1_play_12 ?_
  refine w_top (x' := zB ((zPb N (2 ^ zP N)).testBit (zCd D N 0))) ((htab _ hcd).2) ?_
  exact W.zret (v := (zB ((zPb N (2 ^ zP N)).testBit (zCd D N 0)))) hx hb hr (z_narB _) (fun tS ht hW => ⟨⟨zB ((zPb N (2 ^ zP N)).testBit (zCd D N 0)), (a2, b2), rfl, ⟨rfl, htab⟩, by rw [ht]; exact hP, va_K.moved hW.alike hK, hD⟩, hS.F ht⟩) hS.2.2 dX1_play_13
set_option maxHeartbeats 4000000 in
set_option maxRecDepth 100000 in
/-- ScoreRowsModel.nets() -/
theorem metX1_nets (l : Launch) (dC : Nat → ClassId) (dI : Nat → Nat → Nat) (sz : Nat) (h0 q1 q2 q3 : Nat) (d1 d2 d3 : ClassId) (dd na pl : Nat → Int32) (x : Int32) (N : Nat) (hN1 : 1 ≤ N) (hN5 : N ≤ 5) (hmk : x = 0 ∨ (x = 1 ∧ zTab N na pl)) : Met l yX1_nets (ws_ yX1_nets cX1_nets 4 (some .int)) ({ frames := 1, cells := 0, slots := 0, locals := 40 }) (va_Pc [.ref h0] (fun U => U.heap.size = sz ∧ va_P (dC, dI) vwCl [(h0, .inr (1, [.ref q1, .int (nI N), .int x, .ref q2, .ref q3])), (q1, .inl (d1, 6, .inl dd)), (q2, .inl (d2, 46656, .inl na)), (q3, .inl (d3, 46656, .inl pl))] U.heap ∧ va_K (dC, dI) vwCl [(d1, .int), (d2, .boolean), (d3, .boolean)] U ∧ va_D (fun _ => True) [(h0, .inr (1, [.ref q1, .int (nI N), .int x, .ref q2, .ref q3])), (q1, .inl (d1, 6, .inl dd)), (q2, .inl (d2, 46656, .inl na)), (q3, .inl (d3, 46656, .inl pl))])) (va_Qi (fun (r : Int32) (u : (Nat → Int32) × (Nat → Int32)) => r = nI (zCn (zNb N (2 ^ zP N)) (6 ^ N)) ∧ zTab N u.1 u.2) (fun (u : (Nat → Int32) × (Nat → Int32)) (t : State) => va_P (dC, dI) vwCl [(h0, .inr (1, [.ref q1, .int (nI N), .int 1, .ref q2, .ref q3])), (q1, .inl (d1, 6, .inl dd)), (q2, .inl (d2, 46656, .inl u.1)), (q3, .inl (d3, 46656, .inl u.2))] t.heap ∧ va_K (dC, dI) vwCl [(d1, .int), (d2, .boolean), (d3, .boolean)] t ∧ va_D (va_A [(h0, .inr (1, [.ref q1, .int (nI N), .int x, .ref q2, .ref q3])), (q1, .inl (d1, 6, .inl dd)), (q2, .inl (d2, 46656, .inl na)), (q3, .inl (d3, 46656, .inl pl))] sz) [(h0, .inr (1, [.ref q1, .int (nI N), .int 1, .ref q2, .ref q3])), (q1, .inl (d1, 6, .inl dd)), (q2, .inl (d2, 46656, .inl u.1)), (q3, .inl (d3, 46656, .inl u.2))]) (va_A [(h0, .inr (1, [.ref q1, .int (nI N), .int x, .ref q2, .ref q3])), (q1, .inl (d1, 6, .inl dd)), (q2, .inl (d2, 46656, .inl na)), (q3, .inl (d3, 46656, .inl pl))] sz)) 0 0 (va_A [(h0, .inr (1, [.ref q1, .int (nI N), .int x, .ref q2, .ref q3])), (q1, .inl (d1, 6, .inl dd)), (q2, .inl (d2, 46656, .inl na)), (q3, .inl (d3, 46656, .inl pl))] sz) := by
  refine Met.ofW (cc := cX1_nets) (maxL := 4) (ret := (some .int)) (by decide) rfl ?_
  intro p e s m args below meth c s₁ B hml hv
  obtain ⟨rfl, hsz, hP, hK, hD0⟩ := hv
  have hx := B.exec
  have hb := B.bytes
  have hr := B.returns
  have hts := atoms_spec (ws := ws_ yX1_nets cX1_nets 4 (some .int)) B.pre
  have hts : ∀ w ∈ lw_all, w.before _ s = true := fun w h => hts w (List.mem_cons_of_mem _ h)
  have hown : s.vm.findClass RX1 = some m.cls := findClass_of_methodNamed B.named
  have hlocks := B.notSynchronized
  subst hsz
  have hD := hD0.self (sz := s.heap.size)
  generalize hAe : va_A [(h0, .inr (1, [.ref q1, .int (nI N), .int x, .ref q2, .ref q3])), (q1, .inl (d1, 6, .inl dd)), (q2, .inl (d2, 46656, .inl na)), (q3, .inl (d3, 46656, .inl pl))] s.heap.size = A at hD ⊢
  have hA : ∀ q : Nat, s.heap.size ≤ q → A q := fun q h => by rw [← hAe]; exact Or.inr h
  have hS : va_S A s.heap s.heap [] := va_S.rf
  have hP : va_P (dC, dI) vwCl [(h0, .inr (1, [.ref q1, .int (nI N), .int x, .ref q2, .ref q3])), (q1, .inl (d1, 6, .inl dd)), (q2, .inl (d2, 46656, .inl na)), (q3, .inl (d3, 46656, .inl pl))] s.heap := hP
  have hl := lv_entry ([.ref h0]) (n := 4) (Nat.le_of_ble_eq_true rfl)
  rw [lg_entry_eq]
  generalize (lg_sl ([.ref h0]) ++ List.replicate (4 - (lg_sl ([.ref h0])).length) Slot.unset).toArray = ls at hl ⊢
  have hl : lv_has ls 4 [(0, .ref h0)] := hl
  have h6 := z_6le hN5
  refine lv_aload_n hx hb dX1_nets_0 rfl (lv_at hl 0 rfl) ?_
  have hPc := hP.sub (ws' := [(h0, .inr (1, [.ref q1, .int (nI N), .int x, .ref q2, .ref q3])), (q1, .inl (d1, 6, .inl dd)), (q2, .inl (d2, 46656, .inl na)), (q3, .inl (d3, 46656, .inl pl))]) [0, 1, 2, 3] rfl
  have hDc := hD.sub (ws' := [(h0, .inr (1, [.ref q1, .int (nI N), .int x, .ref q2, .ref q3])), (q1, .inl (d1, 6, .inl dd)), (q2, .inl (d2, 46656, .inl na)), (q3, .inl (d3, 46656, .inl pl))]) [0, 1, 2, 3] (by decide) rfl
  have hKc := hK.sub (tys' := [(d1, .int), (d2, .boolean), (d3, .boolean)]) [0, 1, 2] rfl
  have hFc := va_free (wc := [(h0, .inr (1, [.ref q1, .int (nI N), .int x, .ref q2, .ref q3])), (q1, .inl (d1, 6, .inl dd)), (q2, .inl (d2, 46656, .inl na)), (q3, .inl (d3, 46656, .inl pl))]) hD hS hA [0, 1, 2, 3] rfl
  refine va_callv (va_runV (As := []) (rest := []) ⟨hx, hb, hml, hown, hts⟩ (metX1_make l dC dI s.heap.size h0 q1 q2 q3 d1 d2 d3 dd na pl x N hN1 hN5 hmk) (cwV 0 hts (lw_V q178 q180 qs4 q8 q181) rfl rfl rfl (by decide +kernel) ⟨Nat.le_of_ble_eq_true rfl, Nat.le_of_ble_eq_true rfl⟩) ⟨fun a U g mk q => by obtain ⟨q0, q1, qP, qK, qD⟩ := q; exact ⟨q0, q1, qP, va_K.moved (u := U) (U := U.calling g mk a) (Vm.Alike.refl U.vm) qK, qD⟩, va_recv hKc hPc (ci := 1) (q0 := 0) rfl rfl, fun U hU hW => ⟨rfl, by rw [hU], by rw [hU]; exact hPc, va_K.moved hW.alike hKc, hDc.weaken (fun _ _ _ _ => trivial)⟩⟩ rfl rfl hl.1 rfl (lv_room (Nat.le_of_ble_eq_true rfl)) dX1_nets_1 ⟨Nat.le_of_ble_eq_true rfl, Nat.le_of_ble_eq_true rfl⟩) hS (fun q _ h => hFc q h) hFc (fun u tS H1 locs ht hvm htab hB hz1 hk1 hS => ?_)
  obtain ⟨a2, b2⟩ := u
  obtain ⟨hP1, hK1, hD1⟩ := hB
  rw [ht] at hP1
  have hK1 := va_K.moved hvm.symm hK1
  obtain ⟨hP, hD⟩ := va_join (wr := []) (w1 := [(h0, .inr (1, [.ref q1, .int (nI N), .int 1, .ref q2, .ref q3])), (q1, .inl (d1, 6, .inl dd)), (q2, .inl (d2, 46656, .inl a2)), (q3, .inl (d3, 46656, .inl b2))]) hP hD [0, 1, 2, 3] [] rfl rfl (by decide) (by decide) hk1 hFc hP1 hD1
  have hK := (hK.sub (tys' := []) [] rfl).app hK1
  generalize H1 = H at hP hS ⊢
  have hP : va_P (dC, dI) vwCl [(h0, .inr (1, [.ref q1, .int (nI N), .int 1, .ref q2, .ref q3])), (q1, .inl (d1, 6, .inl dd)), (q2, .inl (d2, 46656, .inl a2)), (q3, .inl (d3, 46656, .inl b2))] H := hP
  have hD : va_D A [(h0, .inr (1, [.ref q1, .int (nI N), .int 1, .ref q2, .ref q3])), (q1, .inl (d1, 6, .inl dd)), (q2, .inl (d2, 46656, .inl a2)), (q3, .inl (d3, 46656, .inl b2))] := hD
  have hK : va_K (dC, dI) vwCl [(d1, .int), (d2, .boolean), (d3, .boolean)] s := hK
  refine W.widen (k := 0) (n := 0) (Nat.le_of_ble_eq_true rfl) (Nat.le_of_ble_eq_true rfl) ?_
  have htab : zTab N a2 b2 := htab
  have loopB : ∀ (j i : Nat), j + i = 6 ^ N → ∀ ls : Array Slot, lv_has ls 4 [(0, .ref h0), (1, .int (nI (zCn (zNb N (2 ^ zP N)) i))), (2, .int (nI (6 ^ N))), (3, .int (nI i))] → W p l e (headSpec (ws_ yX1_nets cX1_nets 4 (some .int)) ({ frames := 1, cells := 0, slots := 0, locals := 40 })).room s m ([.ref h0] : List Value).toArray below meth c H locs 0 0 (MQ below (va_Qi (fun (r : Int32) (u : (Nat → Int32) × (Nat → Int32)) => r = nI (zCn (zNb N (2 ^ zP N)) (6 ^ N)) ∧ zTab N u.1 u.2) (fun (u : (Nat → Int32) × (Nat → Int32)) (t : State) => va_P (dC, dI) vwCl [(h0, .inr (1, [.ref q1, .int (nI N), .int 1, .ref q2, .ref q3])), (q1, .inl (d1, 6, .inl dd)), (q2, .inl (d2, 46656, .inl u.1)), (q3, .inl (d3, 46656, .inl u.2))] t.heap ∧ va_K (dC, dI) vwCl [(d1, .int), (d2, .boolean), (d3, .boolean)] t ∧ va_D A [(h0, .inr (1, [.ref q1, .int (nI N), .int 1, .ref q2, .ref q3])), (q1, .inl (d1, 6, .inl dd)), (q2, .inl (d2, 46656, .inl u.1)), (q3, .inl (d3, 46656, .inl u.2))]) A) ([.ref h0] : List Value).toArray s 0 0 A) (F0 m 31 ls []) := by
    intro j
    induction j with
    | zero =>
      intro i hj ls hl
      refine lv_iload_n hx hb dX1_nets_31 rfl (lv_at hl 3 rfl) ?_
      refine lv_iload_n hx hb dX1_nets_32 rfl (lv_at hl 2 rfl) ?_
      refine lv_icmp_ge (tgt := 55) hx hb dX1_nets_33 (by decide) (fun c1 => ?_) (fun c1 => ?_)
      · refine lv_iload_n hx hb dX1_nets_55 rfl (lv_at hl 1 rfl) ?_
        exact W.iret (v := (nI (zCn (zNb N (2 ^ zP N)) i))) hx hb hr (fun tS ht hW => ⟨⟨nI (zCn (zNb N (2 ^ zP N)) i), (a2, b2), rfl, ⟨by rw [show i = 6 ^ N by omega], htab⟩, by rw [ht]; exact hP, va_K.moved hW.alike hK, hD⟩, hS.F ht⟩) hS.2.2 dX1_nets_56
      · exact absurd (nI_le (by omega) (by omega)) c1
    | succ j ih =>
      intro i hj ls hl
      refine lv_iload_n hx hb dX1_nets_31 rfl (lv_at hl 3 rfl) ?_
      refine lv_iload_n hx hb dX1_nets_32 rfl (lv_at hl 2 rfl) ?_
      refine lv_icmp_ge (tgt := 55) hx hb dX1_nets_33 (by decide) (fun c1 => ?_) (fun c1 => ?_)
      · exact absurd c1 (nI_ge (by omega) (by omega))
      · refine lv_aload_n hx hb dX1_nets_36 rfl (lv_at hl 0 rfl) ?_
        refine va_get (D := (dC, dI)) (ci := 1) (v := .ref q2) (C := RX1) (T := TX1) (N := 5) hx hb hts in_X1 hown hK hP 0 rfl rfl 3 (by decide) (hts _ q151) (fun _ h9 => h9) rfl dX1_nets_37 ?_
        refine lv_iload_n hx hb dX1_nets_40 rfl (lv_at hl 3 rfl) ?_
        refine my_zald hx hb hK hP 2 1 rfl rfl i (rfl) (by omega) (by decide) dX1_nets_41 ?_
        refine w_top (x' := zB ((zNb N (2 ^ zP N)).testBit i)) ((htab i (by omega)).1) ?_
        refine lv_if_eq (tgt := 49) hx hb dX1_nets_42 (by decide) (fun c2 => ?_) (fun c2 => ?_)
        · have hbit : ¬ (zNb N (2 ^ zP N)).testBit i = true := fun h => absurd c2 (by rw [h]; decide)
          refine lv_iinc (v := nI (i + 1)) (lv' := [(3, .int (nI (i + 1))), (0, .ref h0), (1, .int (nI (zCn (zNb N (2 ^ zP N)) i))), (2, .int (nI (6 ^ N)))]) hx hb dX1_nets_49 hl (k := 3) rfl (nI_1 i) (by decide) rfl (fun ls hl => ?_)
          refine lv_goto (tgt := 31) hx hb dX1_nets_52 (by decide) ?_
          have hl := lv_sub (l' := [(0, .ref h0), (1, .int (nI (zCn (zNb N (2 ^ zP N)) i))), (2, .int (nI (6 ^ N))), (3, .int (nI (i + 1)))]) hl [1, 2, 3, 0] rfl
          exact ih (i + 1) (by omega) ls (by rw [zCn_f hbit]; exact hl)
        · have hbit : (zNb N (2 ^ zP N)).testBit i = true := by cases h : (zNb N (2 ^ zP N)).testBit i with | true => rfl | false => exact absurd (by rw [h]; rfl) c2
          refine lv_iload_n hx hb dX1_nets_45 rfl (lv_at hl 1 rfl) ?_
          refine lv_iconst (v := 1) hx hb dX1_nets_46 (by decide) ?_
          refine lv_iadd hx hb dX1_nets_47 ?_
          refine w_top (x' := nI (zCn (zNb N (2 ^ zP N)) i + 1)) (nI_1 _) ?_
          refine lv_istore_n (lv' := [(1, .int (nI (zCn (zNb N (2 ^ zP N)) i + 1))), (0, .ref h0), (2, .int (nI (6 ^ N))), (3, .int (nI i))]) hx hb dX1_nets_48 rfl hl (by decide) rfl (fun ls hl => ?_)
          refine lv_iinc (v := nI (i + 1)) (lv' := [(3, .int (nI (i + 1))), (1, .int (nI (zCn (zNb N (2 ^ zP N)) i + 1))), (0, .ref h0), (2, .int (nI (6 ^ N)))]) hx hb dX1_nets_49 hl (k := 3) rfl (nI_1 i) (by decide) rfl (fun ls hl => ?_)
          refine lv_goto (tgt := 31) hx hb dX1_nets_52 (by decide) ?_
          have hl := lv_sub (l' := [(0, .ref h0), (1, .int (nI (zCn (zNb N (2 ^ zP N)) i + 1))), (2, .int (nI (6 ^ N))), (3, .int (nI (i + 1)))]) hl [2, 1, 3, 0] rfl
          exact ih (i + 1) (by omega) ls (by rw [zCn_t hbit]; exact hl)
  have loopA : ∀ (j i : Nat), j + i = N → ∀ ls : Array Slot, lv_has ls 4 [(0, .ref h0), (1, .int 0), (2, .int (nI (6 ^ i))), (3, .int (nI i))] → W p l e (headSpec (ws_ yX1_nets cX1_nets 4 (some .int)) ({ frames := 1, cells := 0, slots := 0, locals := 40 })).room s m ([.ref h0] : List Value).toArray below meth c H locs 0 0 (MQ below (va_Qi (fun (r : Int32) (u : (Nat → Int32) × (Nat → Int32)) => r = nI (zCn (zNb N (2 ^ zP N)) (6 ^ N)) ∧ zTab N u.1 u.2) (fun (u : (Nat → Int32) × (Nat → Int32)) (t : State) => va_P (dC, dI) vwCl [(h0, .inr (1, [.ref q1, .int (nI N), .int 1, .ref q2, .ref q3])), (q1, .inl (d1, 6, .inl dd)), (q2, .inl (d2, 46656, .inl u.1)), (q3, .inl (d3, 46656, .inl u.2))] t.heap ∧ va_K (dC, dI) vwCl [(d1, .int), (d2, .boolean), (d3, .boolean)] t ∧ va_D A [(h0, .inr (1, [.ref q1, .int (nI N), .int 1, .ref q2, .ref q3])), (q1, .inl (d1, 6, .inl dd)), (q2, .inl (d2, 46656, .inl u.1)), (q3, .inl (d3, 46656, .inl u.2))]) A) ([.ref h0] : List Value).toArray s 0 0 A) (F0 m 10 ls []) := by
    intro j
    induction j with
    | zero =>
      intro i hj ls hl
      refine lv_iload_n hx hb dX1_nets_10 rfl (lv_at hl 3 rfl) ?_
      refine lv_aload_n hx hb dX1_nets_11 rfl (lv_at hl 0 rfl) ?_
      refine va_get (D := (dC, dI)) (ci := 1) (v := .int (nI N)) (C := RX1) (T := TX1) (N := 5) hx hb hts in_X1 hown hK hP 0 rfl rfl 1 (by decide) (hts _ q149) (fun _ h9 => h9) rfl dX1_nets_12 ?_
      refine lv_icmp_ge (tgt := 29) hx hb dX1_nets_15 (by decide) (fun c1 => ?_) (fun c1 => ?_)
      · refine lv_iconst (v := 0) hx hb dX1_nets_29 (by decide) ?_
        refine lv_istore_n (lv' := [(3, .int 0), (0, .ref h0), (1, .int 0), (2, .int (nI (6 ^ i)))]) hx hb dX1_nets_30 rfl hl (by decide) rfl (fun ls hl => ?_)
        obtain rfl : N = i := by omega
        exact loopB (6 ^ N) 0 (by omega) ls (lv_sub hl [1, 2, 3, 0] rfl)
      · exact absurd (nI_le (by omega) (by omega)) c1
    | succ j ih =>
      intro i hj ls hl
      refine lv_iload_n hx hb dX1_nets_10 rfl (lv_at hl 3 rfl) ?_
      refine lv_aload_n hx hb dX1_nets_11 rfl (lv_at hl 0 rfl) ?_
      refine va_get (D := (dC, dI)) (ci := 1) (v := .int (nI N)) (C := RX1) (T := TX1) (N := 5) hx hb hts in_X1 hown hK hP 0 rfl rfl 1 (by decide) (hts _ q149) (fun _ h9 => h9) rfl dX1_nets_12 ?_
      refine lv_icmp_ge (tgt := 29) hx hb dX1_nets_15 (by decide) (fun c1 => ?_) (fun c1 => ?_)
      · exact absurd c1 (nI_ge (by omega) (by omega))
      · refine lv_iload_n hx hb dX1_nets_18 rfl (lv_at hl 2 rfl) ?_
        refine lv_bipush (v := 6) hx hb dX1_nets_19 (by decide) ?_
        refine lv_imul hx hb dX1_nets_21 ?_
        refine w_top (x' := nI (6 ^ (i + 1))) (pk_mul (6 ^ i) 6) ?_
        refine lv_istore_n (lv' := [(2, .int (nI (6 ^ (i + 1)))), (0, .ref h0), (1, .int 0), (3, .int (nI i))]) hx hb dX1_nets_22 rfl hl (by decide) rfl (fun ls hl => ?_)
        refine lv_iinc (v := nI (i + 1)) (lv' := [(3, .int (nI (i + 1))), (2, .int (nI (6 ^ (i + 1)))), (0, .ref h0), (1, .int 0)]) hx hb dX1_nets_23 hl (k := 3) rfl (nI_1 i) (by decide) rfl (fun ls hl => ?_)
        refine lv_goto (tgt := 10) hx hb dX1_nets_26 (by decide) ?_
        exact ih (i + 1) (by omega) ls (lv_sub hl [2, 3, 1, 0] rfl)
  refine lv_iconst (v := 0) hx hb dX1_nets_4 (by decide) ?_
  refine lv_istore_n (lv' := [(1, .int 0), (0, .ref h0)]) hx hb dX1_nets_5 rfl hl (by decide) rfl (fun ls hl => ?_)
  refine lv_iconst (v := 1) hx hb dX1_nets_6 (by decide) ?_
  refine lv_istore_n (lv' := [(2, .int 1), (1, .int 0), (0, .ref h0)]) hx hb dX1_nets_7 rfl hl (by decide) rfl (fun ls hl => ?_)
  refine lv_iconst (v := 0) hx hb dX1_nets_8 (by decide) ?_
  refine lv_istore_n (lv' := [(3, .int 0), (2, .int 1), (1, .int 0), (0, .ref h0)]) hx hb dX1_nets_9 rfl hl (by decide) rfl (fun ls hl => ?_)
  exact loopA N 0 (by omega) ls (lv_sub hl [3, 2, 1, 0] rfl)
set_option maxHeartbeats 4000000 in
set_option maxRecDepth 100000 in
/-- ScoreRowsModel.plays() -/
theorem metX1_plays (l : Launch) (dC : Nat → ClassId) (dI : Nat → Nat → Nat) (sz : Nat) (h0 q1 q2 q3 : Nat) (d1 d2 d3 : ClassId) (dd na pl : Nat → Int32) (x : Int32) (N : Nat) (hN1 : 1 ≤ N) (hN5 : N ≤ 5) (hmk : x = 0 ∨ (x = 1 ∧ zTab N na pl)) : Met l yX1_plays (ws_ yX1_plays cX1_plays 4 (some .int)) ({ frames := 1, cells := 0, slots := 0, locals := 40 }) (va_Pc [.ref h0] (fun U => U.heap.size = sz ∧ va_P (dC, dI) vwCl [(h0, .inr (1, [.ref q1, .int (nI N), .int x, .ref q2, .ref q3])), (q1, .inl (d1, 6, .inl dd)), (q2, .inl (d2, 46656, .inl na)), (q3, .inl (d3, 46656, .inl pl))] U.heap ∧ va_K (dC, dI) vwCl [(d1, .int), (d2, .boolean), (d3, .boolean)] U ∧ va_D (fun _ => True) [(h0, .inr (1, [.ref q1, .int (nI N), .int x, .ref q2, .ref q3])), (q1, .inl (d1, 6, .inl dd)), (q2, .inl (d2, 46656, .inl na)), (q3, .inl (d3, 46656, .inl pl))])) (va_Qi (fun (r : Int32) (u : (Nat → Int32) × (Nat → Int32)) => r = nI (zCn (zPb N (2 ^ zP N)) (6 ^ N)) ∧ zTab N u.1 u.2) (fun (u : (Nat → Int32) × (Nat → Int32)) (t : State) => va_P (dC, dI) vwCl [(h0, .inr (1, [.ref q1, .int (nI N), .int 1, .ref q2, .ref q3])), (q1, .inl (d1, 6, .inl dd)), (q2, .inl (d2, 46656, .inl u.1)), (q3, .inl (d3, 46656, .inl u.2))] t.heap ∧ va_K (dC, dI) vwCl [(d1, .int), (d2, .boolean), (d3, .boolean)] t ∧ va_D (va_A [(h0, .inr (1, [.ref q1, .int (nI N), .int x, .ref q2, .ref q3])), (q1, .inl (d1, 6, .inl dd)), (q2, .inl (d2, 46656, .inl na)), (q3, .inl (d3, 46656, .inl pl))] sz) [(h0, .inr (1, [.ref q1, .int (nI N), .int 1, .ref q2, .ref q3])), (q1, .inl (d1, 6, .inl dd)), (q2, .inl (d2, 46656, .inl u.1)), (q3, .inl (d3, 46656, .inl u.2))]) (va_A [(h0, .inr (1, [.ref q1, .int (nI N), .int x, .ref q2, .ref q3])), (q1, .inl (d1, 6, .inl dd)), (q2, .inl (d2, 46656, .inl na)), (q3, .inl (d3, 46656, .inl pl))] sz)) 0 0 (va_A [(h0, .inr (1, [.ref q1, .int (nI N), .int x, .ref q2, .ref q3])), (q1, .inl (d1, 6, .inl dd)), (q2, .inl (d2, 46656, .inl na)), (q3, .inl (d3, 46656, .inl pl))] sz) := by
  refine Met.ofW (cc := cX1_plays) (maxL := 4) (ret := (some .int)) (by decide) rfl ?_
  intro p e s m args below meth c s₁ B hml hv
  obtain ⟨rfl, hsz, hP, hK, hD0⟩ := hv
  have hx := B.exec
  have hb := B.bytes
  have hr := B.returns
  have hts := atoms_spec (ws := ws_ yX1_plays cX1_plays 4 (some .int)) B.pre
  have hts : ∀ w ∈ lw_all, w.before _ s = true := fun w h => hts w (List.mem_cons_of_mem _ h)
  have hown : s.vm.findClass RX1 = some m.cls := findClass_of_methodNamed B.named
  have hlocks := B.notSynchronized
  subst hsz
  have hD := hD0.self (sz := s.heap.size)
  generalize hAe : va_A [(h0, .inr (1, [.ref q1, .int (nI N), .int x, .ref q2, .ref q3])), (q1, .inl (d1, 6, .inl dd)), (q2, .inl (d2, 46656, .inl na)), (q3, .inl (d3, 46656, .inl pl))] s.heap.size = A at hD ⊢
  have hA : ∀ q : Nat, s.heap.size ≤ q → A q := fun q h => by rw [← hAe]; exact Or.inr h
  have hS : va_S A s.heap s.heap [] := va_S.rf
  have hP : va_P (dC, dI) vwCl [(h0, .inr (1, [.ref q1, .int (nI N), .int x, .ref q2, .ref q3])), (q1, .inl (d1, 6, .inl dd)), (q2, .inl (d2, 46656, .inl na)), (q3, .inl (d3, 46656, .inl pl))] s.heap := hP
  have hl := lv_entry ([.ref h0]) (n := 4) (Nat.le_of_ble_eq_true rfl)
  rw [lg_entry_eq]
  generalize (lg_sl ([.ref h0]) ++ List.replicate (4 - (lg_sl ([.ref h0])).length) Slot.unset).toArray = ls at hl ⊢
  have hl : lv_has ls 4 [(0, .ref h0)] := hl
  have h6 := z_6le hN5
  refine lv_aload_n hx hb dX1_plays_0 rfl (lv_at hl 0 rfl) ?_
  have hPc := hP.sub (ws' := [(h0, .inr (1, [.ref q1, .int (nI N), .int x, .ref q2, .ref q3])), (q1, .inl (d1, 6, .inl dd)), (q2, .inl (d2, 46656, .inl na)), (q3, .inl (d3, 46656, .inl pl))]) [0, 1, 2, 3] rfl
  have hDc := hD.sub (ws' := [(h0, .inr (1, [.ref q1, .int (nI N), .int x, .ref q2, .ref q3])), (q1, .inl (d1, 6, .inl dd)), (q2, .inl (d2, 46656, .inl na)), (q3, .inl (d3, 46656, .inl pl))]) [0, 1, 2, 3] (by decide) rfl
  have hKc := hK.sub (tys' := [(d1, .int), (d2, .boolean), (d3, .boolean)]) [0, 1, 2] rfl
  have hFc := va_free (wc := [(h0, .inr (1, [.ref q1, .int (nI N), .int x, .ref q2, .ref q3])), (q1, .inl (d1, 6, .inl dd)), (q2, .inl (d2, 46656, .inl na)), (q3, .inl (d3, 46656, .inl pl))]) hD hS hA [0, 1, 2, 3] rfl
  refine va_callv (va_runV (As := []) (rest := []) ⟨hx, hb, hml, hown, hts⟩ (metX1_make l dC dI s.heap.size h0 q1 q2 q3 d1 d2 d3 dd na pl x N hN1 hN5 hmk) (cwV 0 hts (lw_V q178 q180 qs4 q8 q181) rfl rfl rfl (by decide +kernel) ⟨Nat.le_of_ble_eq_true rfl, Nat.le_of_ble_eq_true rfl⟩) ⟨fun a U g mk q => by obtain ⟨q0, q1, qP, qK, qD⟩ := q; exact ⟨q0, q1, qP, va_K.moved (u := U) (U := U.calling g mk a) (Vm.Alike.refl U.vm) qK, qD⟩, va_recv hKc hPc (ci := 1) (q0 := 0) rfl rfl, fun U hU hW => ⟨rfl, by rw [hU], by rw [hU]; exact hPc, va_K.moved hW.alike hKc, hDc.weaken (fun _ _ _ _ => trivial)⟩⟩ rfl rfl hl.1 rfl (lv_room (Nat.le_of_ble_eq_true rfl)) dX1_plays_1 ⟨Nat.le_of_ble_eq_true rfl, Nat.le_of_ble_eq_true rfl⟩) hS (fun q _ h => hFc q h) hFc (fun u tS H1 locs ht hvm htab hB hz1 hk1 hS => ?_)
  obtain ⟨a2, b2⟩ := u
  obtain ⟨hP1, hK1, hD1⟩ := hB
  rw [ht] at hP1
  have hK1 := va_K.moved hvm.symm hK1
  obtain ⟨hP, hD⟩ := va_join (wr := []) (w1 := [(h0, .inr (1, [.ref q1, .int (nI N), .int 1, .ref q2, .ref q3])), (q1, .inl (d1, 6, .inl dd)), (q2, .inl (d2, 46656, .inl a2)), (q3, .inl (d3, 46656, .inl b2))]) hP hD [0, 1, 2, 3] [] rfl rfl (by decide) (by decide) hk1 hFc hP1 hD1
  have hK := (hK.sub (tys' := []) [] rfl).app hK1
  generalize H1 = H at hP hS ⊢
  have hP : va_P (dC, dI) vwCl [(h0, .inr (1, [.ref q1, .int (nI N), .int 1, .ref q2, .ref q3])), (q1, .inl (d1, 6, .inl dd)), (q2, .inl (d2, 46656, .inl a2)), (q3, .inl (d3, 46656, .inl b2))] H := hP
  have hD : va_D A [(h0, .inr (1, [.ref q1, .int (nI N), .int 1, .ref q2, .ref q3])), (q1, .inl (d1, 6, .inl dd)), (q2, .inl (d2, 46656, .inl a2)), (q3, .inl (d3, 46656, .inl b2))] := hD
  have hK : va_K (dC, dI) vwCl [(d1, .int), (d2, .boolean), (d3, .boolean)] s := hK
  refine W.widen (k := 0) (n := 0) (Nat.le_of_ble_eq_true rfl) (Nat.le_of_ble_eq_true rfl) ?_
  have htab : zTab N a2 b2 := htab
  have loopB : ∀ (j i : Nat), j + i = 6 ^ N → ∀ ls : Array Slot, lv_has ls 4 [(0, .ref h0), (1, .int (nI (zCn (zPb N (2 ^ zP N)) i))), (2, .int (nI (6 ^ N))), (3, .int (nI i))] → W p l e (headSpec (ws_ yX1_plays cX1_plays 4 (some .int)) ({ frames := 1, cells := 0, slots := 0, locals := 40 })).room s m ([.ref h0] : List Value).toArray below meth c H locs 0 0 (MQ below (va_Qi (fun (r : Int32) (u : (Nat → Int32) × (Nat → Int32)) => r = nI (zCn (zPb N (2 ^ zP N)) (6 ^ N)) ∧ zTab N u.1 u.2) (fun (u : (Nat → Int32) × (Nat → Int32)) (t : State) => va_P (dC, dI) vwCl [(h0, .inr (1, [.ref q1, .int (nI N), .int 1, .ref q2, .ref q3])), (q1, .inl (d1, 6, .inl dd)), (q2, .inl (d2, 46656, .inl u.1)), (q3, .inl (d3, 46656, .inl u.2))] t.heap ∧ va_K (dC, dI) vwCl [(d1, .int), (d2, .boolean), (d3, .boolean)] t ∧ va_D A [(h0, .inr (1, [.ref q1, .int (nI N), .int 1, .ref q2, .ref q3])), (q1, .inl (d1, 6, .inl dd)), (q2, .inl (d2, 46656, .inl u.1)), (q3, .inl (d3, 46656, .inl u.2))]) A) ([.ref h0] : List Value).toArray s 0 0 A) (F0 m 31 ls []) := by
    intro j
    induction j with
    | zero =>
      intro i hj ls hl
      refine lv_iload_n hx hb dX1_plays_31 rfl (lv_at hl 3 rfl) ?_
      refine lv_iload_n hx hb dX1_plays_32 rfl (lv_at hl 2 rfl) ?_
      refine lv_icmp_ge (tgt := 55) hx hb dX1_plays_33 (by decide) (fun c1 => ?_) (fun c1 => ?_)
      · refine lv_iload_n hx hb dX1_plays_55 rfl (lv_at hl 1 rfl) ?_
        exact W.iret (v := (nI (zCn (zPb N (2 ^ zP N)) i))) hx hb hr (fun tS ht hW => ⟨⟨nI (zCn (zPb N (2 ^ zP N)) i), (a2, b2), rfl, ⟨by rw [show i = 6 ^ N by omega], htab⟩, by rw [ht]; exact hP, va_K.moved hW.alike hK, hD⟩, hS.F ht⟩) hS.2.2 dX1_plays_56
      · exact absurd (nI_le (by omega) (by omega)) c1
    | succ j ih =>
      intro i hj ls hl
      refine lv_iload_n hx hb dX1_plays_31 rfl (lv_at hl 3 rfl) ?_
      refine lv_iload_n hx hb dX1_plays_32 rfl (lv_at hl 2 rfl) ?_
      refine lv_icmp_ge (tgt := 55) hx hb dX1_plays_33 (by decide) (fun c1 => ?_) (fun c1 => ?_)
      · exact absurd c1 (nI_ge (by omega) (by omega))
      · refine lv_aload_n hx hb dX1_plays_36 rfl (lv_at hl 0 rfl) ?_
        refine va_get (D := (dC, dI)) (ci := 1) (v := .ref q3) (C := RX1) (T := TX1) (N := 5) hx hb hts in_X1 hown hK hP 0 rfl rfl 4 (by decide) (hts _ q152) (fun _ h9 => h9) rfl dX1_plays_37 ?_
        refine lv_iload_n hx hb dX1_plays_40 rfl (lv_at hl 3 rfl) ?_
        refine my_zald hx hb hK hP 3 2 rfl rfl i (rfl) (by omega) (by decide) dX1_plays_41 ?_
        refine w_top (x' := zB ((zPb N (2 ^ zP N)).testBit i)) ((htab i (by omega)).2) ?_
        refine lv_if_eq (tgt := 49) hx hb dX1_plays_42 (by decide) (fun c2 => ?_) (fun c2 => ?_)
        · have hbit : ¬ (zPb N (2 ^ zP N)).testBit i = true := fun h => absurd c2 (by rw [h]; decide)
          refine lv_iinc (v := nI (i + 1)) (lv' := [(3, .int (nI (i + 1))), (0, .ref h0), (1, .int (nI (zCn (zPb N (2 ^ zP N)) i))), (2, .int (nI (6 ^ N)))]) hx hb dX1_plays_49 hl (k := 3) rfl (nI_1 i) (by decide) rfl (fun ls hl => ?_)
          refine lv_goto (tgt := 31) hx hb dX1_plays_52 (by decide) ?_
          have hl := lv_sub (l' := [(0, .ref h0), (1, .int (nI (zCn (zPb N (2 ^ zP N)) i))), (2, .int (nI (6 ^ N))), (3, .int (nI (i + 1)))]) hl [1, 2, 3, 0] rfl
          exact ih (i + 1) (by omega) ls (by rw [zCn_f hbit]; exact hl)
        · have hbit : (zPb N (2 ^ zP N)).testBit i = true := by cases h : (zPb N (2 ^ zP N)).testBit i with | true => rfl | false => exact absurd (by rw [h]; rfl) c2
          refine lv_iload_n hx hb dX1_plays_45 rfl (lv_at hl 1 rfl) ?_
          refine lv_iconst (v := 1) hx hb dX1_plays_46 (by decide) ?_
          refine lv_iadd hx hb dX1_plays_47 ?_
          refine w_top (x' := nI (zCn (zPb N (2 ^ zP N)) i + 1)) (nI_1 _) ?_
          refine lv_istore_n (lv' := [(1, .int (nI (zCn (zPb N (2 ^ zP N)) i + 1))), (0, .ref h0), (2, .int (nI (6 ^ N))), (3, .int (nI i))]) hx hb dX1_plays_48 rfl hl (by decide) rfl (fun ls hl => ?_)
          refine lv_iinc (v := nI (i + 1)) (lv' := [(3, .int (nI (i + 1))), (1, .int (nI (zCn (zPb N (2 ^ zP N)) i + 1))), (0, .ref h0), (2, .int (nI (6 ^ N)))]) hx hb dX1_plays_49 hl (k := 3) rfl (nI_1 i) (by decide) rfl (fun ls hl => ?_)
          refine lv_goto (tgt := 31) hx hb dX1_plays_52 (by decide) ?_
          have hl := lv_sub (l' := [(0, .ref h0), (1, .int (nI (zCn (zPb N (2 ^ zP N)) i + 1))), (2, .int (nI (6 ^ N))), (3, .int (nI (i + 1)))]) hl [2, 1, 3, 0] rfl
          exact ih (i + 1) (by omega) ls (by rw [zCn_t hbit]; exact hl)
  have loopA : ∀ (j i : Nat), j + i = N → ∀ ls : Array Slot, lv_has ls 4 [(0, .ref h0), (1, .int 0), (2, .int (nI (6 ^ i))), (3, .int (nI i))] → W p l e (headSpec (ws_ yX1_plays cX1_plays 4 (some .int)) ({ frames := 1, cells := 0, slots := 0, locals := 40 })).room s m ([.ref h0] : List Value).toArray below meth c H locs 0 0 (MQ below (va_Qi (fun (r : Int32) (u : (Nat → Int32) × (Nat → Int32)) => r = nI (zCn (zPb N (2 ^ zP N)) (6 ^ N)) ∧ zTab N u.1 u.2) (fun (u : (Nat → Int32) × (Nat → Int32)) (t : State) => va_P (dC, dI) vwCl [(h0, .inr (1, [.ref q1, .int (nI N), .int 1, .ref q2, .ref q3])), (q1, .inl (d1, 6, .inl dd)), (q2, .inl (d2, 46656, .inl u.1)), (q3, .inl (d3, 46656, .inl u.2))] t.heap ∧ va_K (dC, dI) vwCl [(d1, .int), (d2, .boolean), (d3, .boolean)] t ∧ va_D A [(h0, .inr (1, [.ref q1, .int (nI N), .int 1, .ref q2, .ref q3])), (q1, .inl (d1, 6, .inl dd)), (q2, .inl (d2, 46656, .inl u.1)), (q3, .inl (d3, 46656, .inl u.2))]) A) ([.ref h0] : List Value).toArray s 0 0 A) (F0 m 10 ls []) := by
    intro j
    induction j with
    | zero =>
      intro i hj ls hl
      refine lv_iload_n hx hb dX1_plays_10 rfl (lv_at hl 3 rfl) ?_
      refine lv_aload_n hx hb dX1_plays_11 rfl (lv_at hl 0 rfl) ?_
      refine va_get (D := (dC, dI)) (ci := 1) (v := .int (nI N)) (C := RX1) (T := TX1) (N := 5) hx hb hts in_X1 hown hK hP 0 rfl rfl 1 (by decide) (hts _ q149) (fun _ h9 => h9) rfl dX1_plays_12 ?_
      refine lv_icmp_ge (tgt := 29) hx hb dX1_plays_15 (by decide) (fun c1 => ?_) (fun c1 => ?_)
      · refine lv_iconst (v := 0) hx hb dX1_plays_29 (by decide) ?_
        refine lv_istore_n (lv' := [(3, .int 0), (0, .ref h0), (1, .int 0), (2, .int (nI (6 ^ i)))]) hx hb dX1_plays_30 rfl hl (by decide) rfl (fun ls hl => ?_)
        obtain rfl : N = i := by omega
        exact loopB (6 ^ N) 0 (by omega) ls (lv_sub hl [1, 2, 3, 0] rfl)
      · exact absurd (nI_le (by omega) (by omega)) c1
    | succ j ih =>
      intro i hj ls hl
      refine lv_iload_n hx hb dX1_plays_10 rfl (lv_at hl 3 rfl) ?_
      refine lv_aload_n hx hb dX1_plays_11 rfl (lv_at hl 0 rfl) ?_
      refine va_get (D := (dC, dI)) (ci := 1) (v := .int (nI N)) (C := RX1) (T := TX1) (N := 5) hx hb hts in_X1 hown hK hP 0 rfl rfl 1 (by decide) (hts _ q149) (fun _ h9 => h9) rfl dX1_plays_12 ?_
      refine lv_icmp_ge (tgt := 29) hx hb dX1_plays_15 (by decide) (fun c1 => ?_) (fun c1 => ?_)
      · exact absurd c1 (nI_ge (by omega) (by omega))
      · refine lv_iload_n hx hb dX1_plays_18 rfl (lv_at hl 2 rfl) ?_
        refine lv_bipush (v := 6) hx hb dX1_plays_19 (by decide) ?_
        refine lv_imul hx hb dX1_plays_21 ?_
        refine w_top (x' := nI (6 ^ (i + 1))) (pk_mul (6 ^ i) 6) ?_
        refine lv_istore_n (lv' := [(2, .int (nI (6 ^ (i + 1)))), (0, .ref h0), (1, .int 0), (3, .int (nI i))]) hx hb dX1_plays_22 rfl hl (by decide) rfl (fun ls hl => ?_)
        refine lv_iinc (v := nI (i + 1)) (lv' := [(3, .int (nI (i + 1))), (2, .int (nI (6 ^ (i + 1)))), (0, .ref h0), (1, .int 0)]) hx hb dX1_plays_23 hl (k := 3) rfl (nI_1 i) (by decide) rfl (fun ls hl => ?_)
        refine lv_goto (tgt := 10) hx hb dX1_plays_26 (by decide) ?_
        exact ih (i + 1) (by omega) ls (lv_sub hl [2, 3, 1, 0] rfl)
  refine lv_iconst (v := 0) hx hb dX1_plays_4 (by decide) ?_
  refine lv_istore_n (lv' := [(1, .int 0), (0, .ref h0)]) hx hb dX1_plays_5 rfl hl (by decide) rfl (fun ls hl => ?_)
  refine lv_iconst (v := 1) hx hb dX1_plays_6 (by decide) ?_
  refine lv_istore_n (lv' := [(2, .int 1), (1, .int 0), (0, .ref h0)]) hx hb dX1_plays_7 rfl hl (by decide) rfl (fun ls hl => ?_)
  refine lv_iconst (v := 0) hx hb dX1_plays_8 (by decide) ?_
  refine lv_istore_n (lv' := [(3, .int 0), (2, .int 1), (1, .int 0), (0, .ref h0)]) hx hb dX1_plays_9 rfl hl (by decide) rfl (fun ls hl => ?_)
  exact loopA N 0 (by omega) ls (lv_sub hl [3, 2, 1, 0] rfl)
end
section
/-! the plain law, first half: rows, counts, codes -/
theorem zSum_cg {f g : Nat → Int32} (h : ∀ v, 1 ≤ v → v ≤ 5 → f v = g v) : ∀ (j : Nat) (x : Int32), j ≤ 5 → zSum f j x = zSum g j x := by
  intro j
  induction j with
  | zero => intro x _; rfl
  | succ j ih =>
    intro x hj
    unfold zSum
    rw [h (5 - j) (by omega) (by omega)]
    exact ih _ (by omega)
theorem zGr_cg {f g : Nat → Int32} (h : ∀ v, 1 ≤ v → v ≤ 5 → f v = g v) : ∀ (v : Nat) (x y : Int32), v ≤ 5 → zGr f v x y = zGr g v x y := by
  intro v
  induction v with
  | zero => intro x y _; rfl
  | succ v ih =>
    intro x y hv
    unfold zGr
    rw [h (v + 1) (by omega) (by omega), ih _ _ (by omega)]
theorem zGv_cg {f g : Nat → Int32} (h : ∀ v, 1 ≤ v → v ≤ 5 → f v = g v) (k : Int32) : ∀ (v : Nat) (x y : Int32), v ≤ 5 → zGv f k v x y = zGv g k v x y := by
  intro v
  induction v with
  | zero => intro x y _; rfl
  | succ v ih =>
    intro x y hv
    unfold zGv
    rw [h (v + 1) (by omega) (by omega), ih _ _ (by omega)]
theorem zNetL_cg {f g : Nat → Int32} (h : ∀ v, 1 ≤ v → v ≤ 5 → f v = g v) (N : Nat) : ∀ j : Nat, zNetL f N j = zNetL g N j := by
  intro j
  induction j with
  | zero => rfl
  | succ j ih =>
    unfold zNetL
    rw [zGr_cg h 5 _ _ (by decide), zGv_cg h _ 5 _ _ (by decide), ih]
theorem zNet_cg {f g : Nat → Int32} (h : ∀ v, 1 ≤ v → v ≤ 5 → f v = g v) (N : Nat) : zNet f N = zNet g N := by
  unfold zNet
  rw [zSum_cg h 5 _ (by decide), zNetL_cg h N N]
theorem zPlayL_cg {f g : Nat → Int32} (h : ∀ v, 1 ≤ v → v ≤ 5 → f v = g v) (N : Nat) : ∀ j : Nat, zPlayL f N j = zPlayL g N j := by
  intro j
  induction j with
  | zero =>
    unfold zPlayL
    rw [zSum_cg h 5 _ (by decide)]
  | succ j ih =>
    unfold zPlayL
    rw [zSum_cg h 5 _ (by decide), zGr_cg h 5 _ _ (by decide), ih]
theorem zPlay_cg {f g : Nat → Int32} (h : ∀ v, 1 ≤ v → v ≤ 5 → f v = g v) (N : Nat) : zPlay f N = zPlay g N := zPlayL_cg h N (N - 1)
/-- how often v is among the first i of D -/
def gCt (D : Nat → Nat) : Nat → Nat → Nat
  | 0, _ => 0
  | i + 1, v => gCt D i v + (if v = D i then 1 else 0)
theorem zCt_nat (D : Nat → Nat) : ∀ i v : Nat, zCt D i v = nI (gCt D i v) := by
  intro i
  induction i with
  | zero => intro v; rfl
  | succ i ih =>
    intro v
    show upd (zCt D i) (D i) (zCt D i (D i) + 1) v = nI (gCt D i v + (if v = D i then 1 else 0))
    unfold upd
    by_cases e : v = D i
    · rw [if_pos e, if_pos e, ih, ← e, nI_1]
    · rw [if_neg e, if_neg e, ih, Nat.add_zero]
/-- the place of a row in the table of counts -/
def gW (D : Nat → Nat) : Nat → Nat
  | 0 => 0
  | i + 1 => gW D i + 6 ^ D i / 6
theorem gCt_sum {D : Nat → Nat} : ∀ i : Nat, (∀ a, a < i → D a < 6) → gCt D i 1 + gCt D i 2 + gCt D i 3 + gCt D i 4 + gCt D i 5 ≤ i ∧ gCt D i 1 + 6 * gCt D i 2 + 36 * gCt D i 3 + 216 * gCt D i 4 + 1296 * gCt D i 5 = gW D i := by
  intro i
  induction i with
  | zero => intro _; exact ⟨Nat.le_refl 0, rfl⟩
  | succ i ih =>
    intro h
    have h1 := ih (fun a ha => h a (by omega))
    have h2 := h i (by omega)
    rcases (show D i = 0 ∨ D i = 1 ∨ D i = 2 ∨ D i = 3 ∨ D i = 4 ∨ D i = 5 by omega) with e | e | e | e | e | e <;> simp [gCt, gW, e] <;> omega
/-- the code of a row -/
def gCd (D : Nat → Nat) : Nat → Nat
  | 0 => 0
  | i + 1 => gCd D i + D i * 6 ^ i
theorem zCd_eq (D : Nat → Nat) : ∀ i x : Nat, zCd D i x = gCd D i + x * 6 ^ i := by
  intro i
  induction i with
  | zero => intro x; simp [zCd, gCd]
  | succ i ih =>
    intro x
    show zCd D i (6 * x + D i) = gCd D i + D i * 6 ^ i + x * 6 ^ (i + 1)
    rw [ih, Nat.add_mul, Nat.pow_succ]
    generalize 6 ^ i = P
    rw [show 6 * x * P = x * (P * 6) by rw [Nat.mul_comm 6 x, Nat.mul_assoc, Nat.mul_comm 6 P]]
    first | omega | grind
/-- every row of j places: B at its code is T at its counts -/
def zChk (B T : Nat) : Nat → Nat → Nat → Bool
  | 0, x, i => B.testBit x == T.testBit i
  | j + 1, x, i => zChk B T j x i && (zChk B T j (x + 6 ^ j) (i + 1) && (zChk B T j (x + 2 * 6 ^ j) (i + 6) && (zChk B T j (x + 3 * 6 ^ j) (i + 36) && (zChk B T j (x + 4 * 6 ^ j) (i + 216) && zChk B T j (x + 5 * 6 ^ j) (i + 1296)))))
theorem zChk_spec {B T : Nat} {D : Nat → Nat} : ∀ (j x i : Nat), zChk B T j x i = true → (∀ a, a < j → D a < 6) → B.testBit (x + gCd D j) = T.testBit (i + gW D j) := by
  intro j
  induction j with
  | zero =>
    intro x i h _
    exact eq_of_beq h
  | succ j ih =>
    intro x i h hD
    unfold zChk at h
    simp only [Bool.and_eq_true] at h
    have h2 := hD j (by omega)
    have hD2 : ∀ a, a < j → D a < 6 := fun a ha => hD a (by omega)
    show B.testBit (x + (gCd D j + D j * 6 ^ j)) = T.testBit (i + (gW D j + 6 ^ D j / 6))
    rcases (show D j = 0 ∨ D j = 1 ∨ D j = 2 ∨ D j = 3 ∨ D j = 4 ∨ D j = 5 by omega) with e | e | e | e | e | e
    · have q := ih _ _ h.1 hD2
      rw [e, show 6 ^ 0 / 6 = 0 by decide]
      rw [show x + (gCd D j + 0 * 6 ^ j) = x + gCd D j by omega, show i + (gW D j + 0) = i + gW D j by omega]
      exact q
    · have q := ih _ _ h.2.1 hD2
      rw [e, show 6 ^ 1 / 6 = 1 by decide]
      rw [show x + (gCd D j + 1 * 6 ^ j) = x + 6 ^ j + gCd D j by omega, show i + (gW D j + 1) = i + 1 + gW D j by omega]
      exact q
    · have q := ih _ _ h.2.2.1 hD2
      rw [e, show 6 ^ 2 / 6 = 6 by decide]
      rw [show x + (gCd D j + 2 * 6 ^ j) = x + 2 * 6 ^ j + gCd D j by omega, show i + (gW D j + 6) = i + 6 + gW D j by omega]
      exact q
    · have q := ih _ _ h.2.2.2.1 hD2
      rw [e, show 6 ^ 3 / 6 = 36 by decide]
      rw [show x + (gCd D j + 3 * 6 ^ j) = x + 3 * 6 ^ j + gCd D j by omega, show i + (gW D j + 36) = i + 36 + gW D j by omega]
      exact q
    · have q := ih _ _ h.2.2.2.2.1 hD2
      rw [e, show 6 ^ 4 / 6 = 216 by decide]
      rw [show x + (gCd D j + 4 * 6 ^ j) = x + 4 * 6 ^ j + gCd D j by omega, show i + (gW D j + 216) = i + 216 + gW D j by omega]
      exact q
    · have q := ih _ _ h.2.2.2.2.2 hD2
      rw [e, show 6 ^ 5 / 6 = 1296 by decide]
      rw [show x + (gCd D j + 5 * 6 ^ j) = x + 5 * 6 ^ j + gCd D j by omega, show i + (gW D j + 1296) = i + 1296 + gW D j by omega]
      exact q
def zC (c1 c2 c3 c4 c5 : Nat) (v : Nat) : Nat := if v = 1 then c1 else if v = 2 then c2 else if v = 3 then c3 else if v = 4 then c4 else if v = 5 then c5 else 0
def zFn (c1 c2 c3 c4 c5 : Nat) (v : Nat) : Int32 := nI (zC c1 c2 c3 c4 c5 v)
/-- T is the table of g over all counts of at most N -/
def zTb (g : (Nat → Int32) → Nat → Int32) (N T : Nat) : Bool := zAll (fun c1 => zAll (fun c2 => zAll (fun c3 => zAll (fun c4 => zAll (fun c5 => decide (g (zFn c1 c2 c3 c4 c5) N = zB (T.testBit (c1 + 6 * c2 + 36 * c3 + 216 * c4 + 1296 * c5)))) (N + 1 - c1 - c2 - c3 - c4)) (N + 1 - c1 - c2 - c3)) (N + 1 - c1 - c2)) (N + 1 - c1)) (N + 1)
theorem zTb_spec {g : (Nat → Int32) → Nat → Int32} {N T : Nat} (h : zTb g N T = true) {c1 c2 c3 c4 c5 : Nat} (hc : c1 + c2 + c3 + c4 + c5 ≤ N) : g (zFn c1 c2 c3 c4 c5) N = zB (T.testBit (c1 + 6 * c2 + 36 * c3 + 216 * c4 + 1296 * c5)) := by
  unfold zTb at h
  have h1 := zAll_spec h c1 (by omega)
  have h2 := zAll_spec h1 c2 (by omega)
  have h3 := zAll_spec h2 c3 (by omega)
  have h4 := zAll_spec h3 c4 (by omega)
  have h5 := zAll_spec h4 c5 (by omega)
  exact of_decide_eq_true h5
theorem law_of {g : (Nat → Int32) → Nat → Int32} (hg : ∀ (f f2 : Nat → Int32), (∀ v, 1 ≤ v → v ≤ 5 → f v = f2 v) → ∀ N, g f N = g f2 N) {N B T : Nat} (hT : zTb g N T = true) (hC : zChk B T N 0 0 = true) {D : Nat → Nat} (hD : ∀ a, a < N → D a < 6) : g (zCt D N) N = zB (B.testBit (zCd D N 0)) := by
  have h1 := zChk_spec N 0 0 hC hD
  have h2 := gCt_sum N hD
  have h3 := zTb_spec hT h2.1
  rw [zCd_eq, Nat.zero_mul, Nat.add_zero, ← Nat.zero_add (gCd D N), h1, Nat.zero_add, ← h2.2, ← h3]
  refine hg _ _ (fun v hv1 hv5 => ?_) N
  rw [zCt_nat]
  unfold zFn zC
  rcases (show v = 1 ∨ v = 2 ∨ v = 3 ∨ v = 4 ∨ v = 5 by omega) with rfl | rfl | rfl | rfl | rfl <;> rfl
/-- bits of B from i on, 6 ^ j of them -/
def zC6 (B : Nat) : Nat → Nat → Nat
  | 0, i => if B.testBit i = true then 1 else 0
  | j + 1, i => zC6 B j i + zC6 B j (i + 6 ^ j) + zC6 B j (i + 2 * 6 ^ j) + zC6 B j (i + 3 * 6 ^ j) + zC6 B j (i + 4 * 6 ^ j) + zC6 B j (i + 5 * 6 ^ j)
theorem zC6_spec (B : Nat) : ∀ (j i : Nat), zCn B (i + 6 ^ j) = zCn B i + zC6 B j i := by
  intro j
  induction j with
  | zero => intro i; rfl
  | succ j ih =>
    intro i
    have e0 := ih i
    have e1 := ih (i + 6 ^ j)
    have e2 := ih (i + 2 * 6 ^ j)
    have e3 := ih (i + 3 * 6 ^ j)
    have e4 := ih (i + 4 * 6 ^ j)
    have e5 := ih (i + 5 * 6 ^ j)
    rw [show i + 6 ^ j + 6 ^ j = i + 2 * 6 ^ j by omega] at e1
    rw [show i + 2 * 6 ^ j + 6 ^ j = i + 3 * 6 ^ j by omega] at e2
    rw [show i + 3 * 6 ^ j + 6 ^ j = i + 4 * 6 ^ j by omega] at e3
    rw [show i + 4 * 6 ^ j + 6 ^ j = i + 5 * 6 ^ j by omega] at e4
    rw [Nat.pow_succ, show i + 6 ^ j * 6 = i + 5 * 6 ^ j + 6 ^ j by omega, e5, e4, e3, e2, e1, e0]
    show _ = zCn B i + (zC6 B j i + zC6 B j (i + 6 ^ j) + zC6 B j (i + 2 * 6 ^ j) + zC6 B j (i + 3 * 6 ^ j) + zC6 B j (i + 4 * 6 ^ j) + zC6 B j (i + 5 * 6 ^ j))
    omega
theorem zCn_6 (B j : Nat) : zCn B (6 ^ j) = zC6 B j 0 := by
  have h := zC6_spec B j 0
  rw [Nat.zero_add] at h
  rw [h]
  exact Nat.zero_add _
end
section
/-! the plain law, second half: by computation -/
set_option maxRecDepth 100000
def tN1 : Nat := 1
def tP1 : Nat := 1
def bN1 : Nat := 1
def bP1 : Nat := 1
theorem eN1 : zNb 1 (2 ^ zP 1) = bN1 := by decide +kernel
theorem eP1 : zPb 1 (2 ^ zP 1) = bP1 := by decide +kernel
theorem kN1 : zChk bN1 tN1 1 0 0 = true := by decide +kernel
theorem kP1 : zChk bP1 tP1 1 0 0 = true := by decide +kernel
theorem cN1 : zC6 bN1 1 0 = 1 := by decide +kernel
theorem cP1 : zC6 bP1 1 0 = 1 := by decide +kernel
def tN2 : Nat := 5
def tP2 : Nat := 2
def bN2 : Nat := 129
def bP2 : Nat := 66
theorem eN2 : zNb 2 (2 ^ zP 2) = bN2 := by decide +kernel
theorem eP2 : zPb 2 (2 ^ zP 2) = bP2 := by decide +kernel
theorem kN2 : zChk bN2 tN2 2 0 0 = true := by decide +kernel
theorem kP2 : zChk bP2 tP2 2 0 0 = true := by decide +kernel
theorem cN2 : zC6 bN2 2 0 = 2 := by decide +kernel
theorem cP2 : zC6 bP2 2 0 = 2 := by decide +kernel
def tN3 : Nat := 262405
def tP3 : Nat := 136
def bN3 : Nat := 77975715365728659393478785
def bP3 : Nat := 311676188159942531752192
theorem eN3 : zNb 3 (2 ^ zP 3) = bN3 := by decide +kernel
theorem eP3 : zPb 3 (2 ^ zP 3) = bP3 := by decide +kernel
theorem kN3 : zChk bN3 tN3 3 0 0 = true := by decide +kernel
theorem kP3 : zChk bP3 tP3 3 0 0 = true := by decide +kernel
theorem cN3 : zC6 bN3 3 0 = 8 := by decide +kernel
theorem cP3 : zC6 bP3 3 0 = 7 := by decide +kernel
def tN4 : Nat := 22300745198530623160878531387045928027570453
def tP4 : Nat := 9345849114624
def bN4 : Nat := 801099335633176724247985182296585816488229551816887893181544621874611349988212693632250077851320509197256414729408534233683141442137985725779825393926551154797554949553177013939100340599849082258225741223384844791920344296952319443073
def bP4 : Nat := 364033049704084411722095448067724161012062654087127381259556399568083126662861014345459835911062502186673470807677469557781964118842684075755378306514471270342990522233671134373806645587066005674342195805439937910669312
theorem eN4 : zNb 4 (2 ^ zP 4) = bN4 := by decide +kernel
theorem eP4 : zPb 4 (2 ^ zP 4) = bP4 := by decide +kernel
theorem kN4 : zChk bN4 tN4 4 0 0 = true := by decide +kernel
theorem kP4 : zChk bP4 tP4 4 0 0 = true := by decide +kernel
theorem cN4 : zC6 bN4 4 0 = 54 := by decide +kernel
theorem cP4 : zC6 bP4 4 0 = 38 := by decide +kernel
def tN5 : Nat := 12953744211667879574559702190010707651171625584905095574841686913755541732351702201085464556891975967691972988831928225430935057921418989950402653204320373720089468050969646695476752005359063775360493809119937585309551078934175836999241561629222995285823967227567974293136425748542580635245111446971648080798819686888722679061
def tP5 : Nat := 984232787849609634960249469171559631430153043224195053928124746551795656949760
def bN5 : Nat := 2570116268270188442587076438957456236687068064104378525340530998491432578147927791544099835464585102031772065266210827904701488394163135618548114651118201302038617883952863843285191812976243637301623403188404794551135470932071428802243329555857411109398125046178031598650398425260396659648826404230882448493509551686519748160755167789183271174829943369389613456606466152134054155589177132800909832285264862588895157800735950152997052740294920313836570564555864583691130493148977281410104312111260579341572878597408592333226567125736170203015256507906936092768778516608232521457594855599250363874060583775366952169797205730300788877820691798435634383518696221638584452721567967149328968663523315346152961867830505284289646260181781742568146096084757595342300165102467851820104498125436710443088461678010880756881020906354594113685435225975756628164339924344361615799639672799165894393358142287875375989216401244350096428919753248869708837147740944773731568390401965932842854295830938823694123168021707089353208492975987664151353746560278403454540079240891430566775525960788200214508171302058711893660923306806727324196012988875178787814171442719611107723440414446178793628055178097033557756455746411423480163149754479540837008281494562272292186882525505411938045653022377941854042650623218075850123070101322508214781626337543711581721678810184190103292770450570303977034083231080666479041759167355899516383961431044399384237587706951328108523683778241152081936852870317004794586470020978461517498062408066316468770231662307315325262317067354745153678856171693793315435704086639026469816422964976627020528416248012765995240900835438163660444938977840208653197055365658016519524876878413890214062241893833167041864392740487529286092551154249403682676163553460307707479865458172805957771248835956761416430478338378313245910569971778130351077180044645750453540333362900774158465
def bP5 : Nat := 1260777170077780439016338258603282624139436171394315176616296822079634258613392343798297118462166739049617722732695861393494156939718147033649463785364591388139882724018605197765110563612651368155628826088920166247588718068182312452860359529691388911768634570852448880723915190757298626651922742496570419517971885880050932549606640158566644595228881963464229759720960205305191010896186810080397573119975179369665930251858095419971571365619070937173438083836278112385080715494407566102267344575858900801309043789374037904405687054958438257077300175950945611429163675988619505684898512331421061676030430135700176040613774798108027854404528392349702140948885520873474403709634218705852230868347995067768466732829851475777449262863245294539155726625958702801718469067417405330180691421457430168446542526513082117477198305669747696403125548374249324821474492724127700894768967740668343482550879334073842800302831537513938493357180813349664632976753683690254869842056122799242545340785485981704837722516012806150545881519212469976644496879722230715287029396426796262693479102115751886218290748737772891045516146976516657699352035080953380952598131777552688310373995364892603341817575193456926638508039849369692640254991409825222963582754079259495897886747054190283559410340952732620333325771856992687557069698316427166985657368141390314374871166607242472815993760279892207725350705020208375749983677649655898778928327914882913647192335415319240404765010040482874683663558613928860086500144066579985013323936722225894214633845078966192913892068699645040742780661613242345789166275933880514566752354146097741613028124626579614897117426502759757852540606779880808527468309387179581814396049319694185086342279345660689498626711954306920083327924289538408563110622853204182267289829080301568
theorem eN5 : zNb 5 (2 ^ zP 5) = bN5 := by decide +kernel
theorem eP5 : zPb 5 (2 ^ zP 5) = bP5 := by decide +kernel
theorem kN5 : zChk bN5 tN5 5 0 0 = true := by decide +kernel
theorem kP5 : zChk bP5 tP5 5 0 0 = true := by decide +kernel
theorem cN5 : zC6 bN5 5 0 = 533 := by decide +kernel
theorem cP5 : zC6 bP5 5 0 = 291 := by decide +kernel
end
section
/-! the plain law: tables of counts -/
set_option maxRecDepth 100000
theorem uN1 : zTb zNet 1 tN1 = true := by decide +kernel
theorem uP1 : zTb zPlay 1 tP1 = true := by decide +kernel
theorem uN2 : zTb zNet 2 tN2 = true := by decide +kernel
theorem uP2 : zTb zPlay 2 tP2 = true := by decide +kernel
theorem uN3 : zTb zNet 3 tN3 = true := by decide +kernel
theorem uP3 : zTb zPlay 3 tP3 = true := by decide +kernel
theorem uN4 : zTb zNet 4 tN4 = true := by decide +kernel
theorem uP4 : zTb zPlay 4 tP4 = true := by decide +kernel
theorem uN5 : zTb zNet 5 tN5 = true := by decide +kernel
theorem uP5 : zTb zPlay 5 tP5 = true := by decide +kernel
end
section
/-! the plain law: all rows counted -/
set_option maxRecDepth 100000
theorem fN1 : zFr true 6 (fun _ => 0) 0 1 = nI 1 := by decide +kernel
theorem fP1 : zFr false 6 (fun _ => 0) 0 1 = nI 1 := by decide +kernel
theorem fN2 : zFr true 6 (fun _ => 0) 0 2 = nI 2 := by decide +kernel
theorem fP2 : zFr false 6 (fun _ => 0) 0 2 = nI 2 := by decide +kernel
theorem fN3 : zFr true 6 (fun _ => 0) 0 3 = nI 8 := by decide +kernel
theorem fP3 : zFr false 6 (fun _ => 0) 0 3 = nI 7 := by decide +kernel
theorem fN4 : zFr true 6 (fun _ => 0) 0 4 = nI 54 := by decide +kernel
theorem fP4 : zFr false 6 (fun _ => 0) 0 4 = nI 38 := by decide +kernel
theorem fN5 : zFr true 6 (fun _ => 0) 0 5 = nI 533 := by decide +kernel
theorem fP5 : zFr false 6 (fun _ => 0) 0 5 = nI 291 := by decide +kernel
theorem law_N {N : Nat} (h1 : 1 ≤ N) (h5 : N ≤ 5) {D : Nat → Nat} (hD : ∀ a, a < N → D a < 6) : zNet (zCt D N) N = zB ((zNb N (2 ^ zP N)).testBit (zCd D N 0)) := by
  rcases (show N = 1 ∨ N = 2 ∨ N = 3 ∨ N = 4 ∨ N = 5 by omega) with rfl | rfl | rfl | rfl | rfl
  · rw [eN1]; exact law_of (fun f f2 h N => zNet_cg h N) uN1 kN1 hD
  · rw [eN2]; exact law_of (fun f f2 h N => zNet_cg h N) uN2 kN2 hD
  · rw [eN3]; exact law_of (fun f f2 h N => zNet_cg h N) uN3 kN3 hD
  · rw [eN4]; exact law_of (fun f f2 h N => zNet_cg h N) uN4 kN4 hD
  · rw [eN5]; exact law_of (fun f f2 h N => zNet_cg h N) uN5 kN5 hD
theorem law_Ns {N : Nat} (h1 : 1 ≤ N) (h5 : N ≤ 5) : zFr true 6 (fun _ => 0) 0 N = nI (zCn (zNb N (2 ^ zP N)) (6 ^ N)) := by
  rcases (show N = 1 ∨ N = 2 ∨ N = 3 ∨ N = 4 ∨ N = 5 by omega) with rfl | rfl | rfl | rfl | rfl
  · rw [eN1, zCn_6, cN1]; exact fN1
  · rw [eN2, zCn_6, cN2]; exact fN2
  · rw [eN3, zCn_6, cN3]; exact fN3
  · rw [eN4, zCn_6, cN4]; exact fN4
  · rw [eN5, zCn_6, cN5]; exact fN5
theorem law_P {N : Nat} (h1 : 1 ≤ N) (h5 : N ≤ 5) {D : Nat → Nat} (hD : ∀ a, a < N → D a < 6) : zPlay (zCt D N) N = zB ((zPb N (2 ^ zP N)).testBit (zCd D N 0)) := by
  rcases (show N = 1 ∨ N = 2 ∨ N = 3 ∨ N = 4 ∨ N = 5 by omega) with rfl | rfl | rfl | rfl | rfl
  · rw [eP1]; exact law_of (fun f f2 h N => zPlay_cg h N) uP1 kP1 hD
  · rw [eP2]; exact law_of (fun f f2 h N => zPlay_cg h N) uP2 kP2 hD
  · rw [eP3]; exact law_of (fun f f2 h N => zPlay_cg h N) uP3 kP3 hD
  · rw [eP4]; exact law_of (fun f f2 h N => zPlay_cg h N) uP4 kP4 hD
  · rw [eP5]; exact law_of (fun f f2 h N => zPlay_cg h N) uP5 kP5 hD
theorem law_Ps {N : Nat} (h1 : 1 ≤ N) (h5 : N ≤ 5) : zFr false 6 (fun _ => 0) 0 N = nI (zCn (zPb N (2 ^ zP N)) (6 ^ N)) := by
  rcases (show N = 1 ∨ N = 2 ∨ N = 3 ∨ N = 4 ∨ N = 5 by omega) with rfl | rfl | rfl | rfl | rfl
  · rw [eP1, zCn_6, cP1]; exact fP1
  · rw [eP2, zCn_6, cP2]; exact fP2
  · rw [eP3, zCn_6, cP3]; exact fP3
  · rw [eP4, zCn_6, cP4]; exact fP4
  · rw [eP5, zCn_6, cP5]; exact fP5
end
section
/-! the law's invariant -/
theorem my_sld {p : Program} {l : Launch} {e : Env} {R : Room} {s : State} {m : MethodId} {args : Array Value} {below : List Frame} {meth : Method} {c : Code} {H H0 : Heap} {locs : List Loc} {cells slots : Nat} {Q : State → Prop} {pc : Nat} {ls : Array Slot} {rest : List Value} {A : Nat → Prop} {cc : ByteArray} (hexec : p.tables.exec = Jvm.exec) (hb : c.code = cc) {b L : Nat} {xs : Nat → Int32} (hX : va_X b L xs s H0) (hbl : b < H0.size) (hbA : ¬ A b) (hS : va_S A H0 H locs) {i : Int32} (j : Nat) (hi : i = nI j) (hj : j < L) (hn : L < 2 ^ 31) (hdg : decode cc pc = .ok (.iaload, 1))
    (kk : W p l e R s m args below meth c H locs cells slots Q (F0 m (pc + 1) ls (.int (xs j) :: rest))) : W p l e R s m args below meth c H locs cells slots Q (F0 m pc ls (.int i :: .ref b :: rest)) := by
  subst hi
  refine va_sld hexec hb hX hbl hbA hS (vp_in_nI hj hn) hdg ?_
  rw [nI_clamp (Nat.lt_trans hj hn)]
  exact kk
theorem z_cmp {L i : Nat} (hL : L < 2 ^ 30) (hi : i < 2 ^ 30) : nI L - 3 < nI i ↔ L < i + 3 := by
  rw [Int32.lt_iff_toInt_lt, show (3 : Int32) = nI 3 from rfl, pk_sub_toInt hL (by decide), nI_toInt (Nat.lt_trans hi (by decide))]
  omega
/-- the law's own invariant: both sides hold the same row, the counts kept are right, the tables are made or not -/
def zInv (N : Nat) (D : Nat → Nat) (row known dd : Nat → Int32) (x : Int32) (na pl : Nat → Int32) : Prop :=
  1 ≤ N ∧ N ≤ 5 ∧ (∀ a, a < 5 → D a < 6 ∧ row a = nI (D a) ∧ dd a = nI (D a)) ∧ (∀ (M : Nat) (bb : Bool), 1 ≤ M → M ≤ 5 → known (zK bb M) = 0 ∨ known (zK bb M) = 1 + zFr bb 6 (fun _ => 0) 0 M) ∧ (x = 0 ∨ (x = 1 ∧ zTab N na pl))
theorem zK_inj {b b2 : Bool} {M N : Nat} (hM : M ≤ 5) (hN : N ≤ 5) (hM1 : 1 ≤ M) (hN1 : 1 ≤ N) (h : zK b M = zK b2 N) : b = b2 ∧ M = N := by
  unfold zK at h
  cases b <;> cases b2 <;> simp at h <;> constructor <;> first | rfl | omega
theorem zInv_size {N D row known dd x na pl} (h : zInv N D row known dd x na pl) (k : Int32) {row2 dd2 : Nat → Int32} (h1 : ∀ a, a < 5 → row2 a = 0) (h2 : ∀ a, a < 6 → dd2 a = 0) : zInv (1 + zIx k 5) (fun _ => 0) row2 known dd2 0 na pl := by
  have hk := zIx_lt k (N := 5) (by decide)
  exact ⟨by omega, by omega, fun a ha => ⟨show 0 < 6 by decide, h1 a ha, h2 a (by omega)⟩, h.2.2.2.1, Or.inl rfl⟩
theorem zInv_set {N D row known dd x na pl} (h : zInv N D row known dd x na pl) (i v : Int32) : zInv N (fun a => if a = zIx i N then zIx v 6 else D a) (upd row (zIx i N) (nI (zIx v 6))) known (upd dd (zIx i N) (nI (zIx v 6))) x na pl := by
  refine ⟨h.1, h.2.1, fun a ha => ?_, h.2.2.2.1, h.2.2.2.2⟩
  have h3 := h.2.2.1 a ha
  by_cases e : a = zIx i N
  · refine ⟨?_, ?_, ?_⟩
    · show (if a = zIx i N then zIx v 6 else D a) < 6
      rw [if_pos e]
      exact zIx_lt v (by decide)
    · show (if a = zIx i N then nI (zIx v 6) else row a) = nI (if a = zIx i N then zIx v 6 else D a)
      rw [if_pos e, if_pos e]
    · show (if a = zIx i N then nI (zIx v 6) else dd a) = nI (if a = zIx i N then zIx v 6 else D a)
      rw [if_pos e, if_pos e]
  · refine ⟨?_, ?_, ?_⟩
    · show (if a = zIx i N then zIx v 6 else D a) < 6
      rw [if_neg e]
      exact h3.1
    · show (if a = zIx i N then nI (zIx v 6) else row a) = nI (if a = zIx i N then zIx v 6 else D a)
      rw [if_neg e, if_neg e]
      exact h3.2.1
    · show (if a = zIx i N then nI (zIx v 6) else dd a) = nI (if a = zIx i N then zIx v 6 else D a)
      rw [if_neg e, if_neg e]
      exact h3.2.2
theorem zInv_tab {N D row known dd x na pl} (h : zInv N D row known dd x na pl) {na2 pl2 : Nat → Int32} (ht : zTab N na2 pl2) : zInv N D row known dd 1 na2 pl2 := ⟨h.1, h.2.1, h.2.2.1, h.2.2.2.1, Or.inr ⟨rfl, ht⟩⟩
theorem zInv_known {N D row known dd x na pl} (h : zInv N D row known dd x na pl) {bb : Bool} {kn2 : Nat → Int32} (hk : kn2 = known ∨ kn2 = upd known (zK bb N) (1 + zFr bb 6 (fun _ => 0) 0 N)) : zInv N D row kn2 dd x na pl := by
  refine ⟨h.1, h.2.1, h.2.2.1, fun M b hM1 hM5 => ?_, h.2.2.2.2⟩
  rcases hk with rfl | rfl
  · exact h.2.2.2.1 M b hM1 hM5
  · unfold upd
    by_cases e : zK b M = zK bb N
    · obtain ⟨rfl, rfl⟩ := zK_inj hM5 h.2.1 hM1 h.1 e
      rw [if_pos rfl]
      exact Or.inr rfl
    · rw [if_neg e]
      exact h.2.2.2.1 M b hM1 hM5
end
section
/-! the law's loop -/
set_option maxHeartbeats 4000000 in
set_option maxRecDepth 100000 in
/-- the law's loop, k calls made -/
theorem law_loop {p : Program} {l : Launch} {e : Env} {s : State} {m : MethodId} {below : List Frame} {meth : Method} {c : Code} {dC : Nat → ClassId} {dI : Nat → Nat → Nat} {b L : Nat} {xs : Nat → Int32} (hL : L ≤ 192) (C0 : lw_At p s m meth c b L xs) (hNa : va_Nw (.methodLinkNest "ScoreRows" 23 yX2_init "ScoreRows") s) (hNb : va_Nw (.methodLinkNest "ScoreRows$Counter" 9 yX2_init "ScoreRows") s) {h0 q1 q2 g0 q3 q4 q5 : Nat} {d1 d2 d3 d4 d5 : ClassId} (hK : va_K (dC, dI) vwCl [(d1, .int), (d2, .int), (d3, .int), (d4, .boolean), (d5, .boolean)] s) : ∀ (n k : Nat), 3 * k ≤ L + 2 → L < 3 * (k + n) + 3 → ∀ (N : Nat) (D : Nat → Nat) (row known dd : Nat → Int32) (x : Int32) (na pl : Nat → Int32), zInv N D row known dd x na pl → ∀ (H : Heap) (locs : List Loc), va_P (dC, dI) vwCl [(h0, .inr (0, [.ref q1, .ref q2, .int (nI N)])), (q1, .inl (d1, 5, .inl row)), (q2, .inl (d2, 12, .inl known)), (g0, .inr (1, [.ref q3, .int (nI N), .int x, .ref q4, .ref q5])), (q3, .inl (d3, 6, .inl dd)), (q4, .inl (d4, 46656, .inl na)), (q5, .inl (d5, 46656, .inl pl))] H → va_D (fun q : Nat => s.heap.size ≤ q) [(h0, .inr (0, [.ref q1, .ref q2, .int (nI N)])), (q1, .inl (d1, 5, .inl row)), (q2, .inl (d2, 12, .inl known)), (g0, .inr (1, [.ref q3, .int (nI N), .int x, .ref q4, .ref q5])), (q3, .inl (d3, 6, .inl dd)), (q4, .inl (d4, 46656, .inl na)), (q5, .inl (d5, 46656, .inl pl))] → va_S (fun q : Nat => s.heap.size ≤ q) s.heap H locs → ∀ ls : Array Slot, lv_has ls 4 [(0, .ref b), (1, .ref h0), (2, .ref g0), (3, .int (nI (3 * k)))] → W p l e room_1 s m #[Value.ref b] below meth c H locs (7 + 3 * k) (93343 + 10 * k) (lw_Z below #[Value.ref b] s) (F0 m 18 ls []) := by
  obtain ⟨hx, hb, hr, hml, hown, hts0, hX, hbl, hlocks, hgv⟩ := id C0
  have hts : ∀ w ∈ lw_all, w.before #[Value.ref b] s = true := fun w h => hts0 w (lw_all_tbl h)
  have hA : ∀ q : Nat, s.heap.size ≤ q → (fun q : Nat => s.heap.size ≤ q) q := fun _ h => h
  have hbA : ¬ (fun q : Nat => s.heap.size ≤ q) b := Nat.not_le.mpr hbl
  intro n
  induction n with
  | zero =>
    intro k hk hn N D row known dd x na pl hI H locs hP hD hS ls hl
    refine lv_iload_n hx hb dL_law_18 rfl (lv_at hl 3 rfl) ?_
    refine lv_aload_n hx hb dL_law_19 rfl (lv_at hl 0 rfl) ?_
    refine va_slen hx hb hX hbl hbA hS dL_law_20 ?_
    refine w_top (x' := nI L) (rfl) ?_
    refine lv_iconst (v := 3) hx hb dL_law_21 (by decide) ?_
    refine lv_isub hx hb dL_law_22 ?_
    refine lv_icmp_gt (tgt := 209) hx hb dL_law_23 (by decide) (fun c0 => ?_) (fun c0 => ?_)
    · refine lv_iconst (v := 1) hx hb dL_law_209 (by decide) ?_
      refine va_forget (fun q hq => hS.2.2 q hq) ?_
      refine W.widen (k := 600000) (n := 7302250) (by omega) (by omega) ?_
      exact lw_ret hx hb hr hlocks dL_law_210
    · exact absurd ((z_cmp (by omega) (by omega)).mpr (by omega)) c0
  | succ n ih =>
    intro k hk hn N D row known dd x na pl hI H locs hP hD hS ls hl
    refine lv_iload_n hx hb dL_law_18 rfl (lv_at hl 3 rfl) ?_
    refine lv_aload_n hx hb dL_law_19 rfl (lv_at hl 0 rfl) ?_
    refine va_slen hx hb hX hbl hbA hS dL_law_20 ?_
    refine w_top (x' := nI L) (rfl) ?_
    refine lv_iconst (v := 3) hx hb dL_law_21 (by decide) ?_
    refine lv_isub hx hb dL_law_22 ?_
    refine lv_icmp_gt (tgt := 209) hx hb dL_law_23 (by decide) (fun c0 => ?_) (fun c0 => ?_)
    · refine lv_iconst (v := 1) hx hb dL_law_209 (by decide) ?_
      refine va_forget (fun q hq => hS.2.2 q hq) ?_
      refine W.widen (k := 600000) (n := 7302250) (by omega) (by omega) ?_
      exact lw_ret hx hb hr hlocks dL_law_210
    · have hkL : 3 * k + 3 ≤ L := by have h9 := mt (z_cmp (L := L) (i := 3 * k) (by omega) (by omega)).mpr c0; omega
      have next : ∀ (N : Nat) (D : Nat → Nat) (row known dd : Nat → Int32) (x : Int32) (na pl : Nat → Int32), zInv N D row known dd x na pl → ∀ (H : Heap) (locs : List Loc), va_P (dC, dI) vwCl [(h0, .inr (0, [.ref q1, .ref q2, .int (nI N)])), (q1, .inl (d1, 5, .inl row)), (q2, .inl (d2, 12, .inl known)), (g0, .inr (1, [.ref q3, .int (nI N), .int x, .ref q4, .ref q5])), (q3, .inl (d3, 6, .inl dd)), (q4, .inl (d4, 46656, .inl na)), (q5, .inl (d5, 46656, .inl pl))] H → va_D (fun q : Nat => s.heap.size ≤ q) [(h0, .inr (0, [.ref q1, .ref q2, .int (nI N)])), (q1, .inl (d1, 5, .inl row)), (q2, .inl (d2, 12, .inl known)), (g0, .inr (1, [.ref q3, .int (nI N), .int x, .ref q4, .ref q5])), (q3, .inl (d3, 6, .inl dd)), (q4, .inl (d4, 46656, .inl na)), (q5, .inl (d5, 46656, .inl pl))] → va_S (fun q : Nat => s.heap.size ≤ q) s.heap H locs → ∀ ls : Array Slot, lv_has ls 4 [(0, .ref b), (1, .ref h0), (2, .ref g0), (3, .int (nI (3 * k)))] → W p l e room_1 s m #[Value.ref b] below meth c H locs (7 + 3 * (k + 1)) (93343 + 10 * (k + 1)) (lw_Z below #[Value.ref b] s) (F0 m 203 ls []) := by
        intro N D row known dd x na pl hI H locs hP hD hS ls hl
        refine lv_iinc (v := nI (3 * (k + 1))) (lv' := [(3, .int (nI (3 * (k + 1)))), (0, .ref b), (1, .ref h0), (2, .ref g0)]) hx hb dL_law_203 hl (k := 3) rfl (nI_add (3 * k) 3) (by decide) rfl (fun ls hl => ?_)
        refine lv_goto (tgt := 18) hx hb dL_law_206 (by decide) ?_
        exact ih (k + 1) (by omega) (by omega) N D row known dd x na pl hI H locs hP hD hS ls (lv_sub hl [1, 2, 3, 0] rfl)
      obtain ⟨hN1, hN5, hrow, hkno, hmk⟩ := id hI
      have hDr : ∀ a, a < N → D a < 6 ∧ row a = nI (D a) := fun a ha => ⟨(hrow a (by omega)).1, (hrow a (by omega)).2.1⟩
      have hDd : ∀ a, a < N → D a < 6 ∧ dd a = nI (D a) := fun a ha => ⟨(hrow a (by omega)).1, (hrow a (by omega)).2.2⟩
      refine lv_aload_n hx hb dL_law_26 rfl (lv_at hl 0 rfl) ?_
      refine lv_iload_n hx hb dL_law_27 rfl (lv_at hl 3 rfl) ?_
      refine my_sld hx hb hX hbl hbA hS (3 * k) (rfl) (by omega) (by omega) dL_law_28 ?_
      refine lv_bipush (v := 7) hx hb dL_law_29 (by decide) ?_
      refine lv_iand hx hb dL_law_31 ?_
      obtain ⟨v, hv8, ev⟩ := pk_andE (xs (3 * k)) (m := 7) 3 (by decide)
      refine w_top (x' := nI v) (ev) ?_
      rcases (show v = 0 ∨ v = 1 ∨ v = 2 ∨ v = 3 ∨ v = 4 ∨ v = 5 ∨ v = 6 ∨ v = 7 by omega) with rfl | rfl | rfl | rfl | rfl | rfl | rfl | rfl
      · refine lv_tableIn (tgt := 76) hx hb dL_law_32 (by decide +kernel) (by decide +kernel) (off := 44) (by decide +kernel) (by decide) ?_
        refine lv_aload_n hx hb dL_law_76 rfl (lv_at hl 1 rfl) ?_
        refine lv_aload_n hx hb dL_law_77 rfl (lv_at hl 0 rfl) ?_
        refine lv_iload_n hx hb dL_law_78 rfl (lv_at hl 3 rfl) ?_
        refine lv_iconst (v := 1) hx hb dL_law_79 (by decide) ?_
        refine lv_iadd hx hb dL_law_80 ?_
        refine w_top (x' := nI (3 * k + 1)) (nI_add (3 * k) 1) ?_
        refine my_sld hx hb hX hbl hbA hS (3 * k + 1) (rfl) (by omega) (by omega) dL_law_81 ?_
        have hPc := hP.sub (ws' := [(h0, .inr (0, [.ref q1, .ref q2, .int (nI N)])), (q1, .inl (d1, 5, .inl row)), (q2, .inl (d2, 12, .inl known))]) [0, 1, 2] rfl
        have hDc := hD.sub (ws' := [(h0, .inr (0, [.ref q1, .ref q2, .int (nI N)])), (q1, .inl (d1, 5, .inl row)), (q2, .inl (d2, 12, .inl known))]) [0, 1, 2] (by decide) rfl
        have hKc := hK.sub (tys' := [(d1, .int), (d2, .int)]) [0, 1] rfl
        have hFc := va_free (wc := [(h0, .inr (0, [.ref q1, .ref q2, .int (nI N)])), (q1, .inl (d1, 5, .inl row)), (q2, .inl (d2, 12, .inl known))]) hD hS hA [0, 1, 2] rfl
        refine va_callv (va_runV (As := [.int (xs (3 * k + 1))]) (rest := []) ⟨hx, hb, hml, hown, hts⟩ (metX0_size l dC dI H.size h0 q1 q2 d1 d2 row known (nI N) (xs (3 * k + 1))) (cwV 1 hts (lw_V q31 q32 q33 q7 q34) rfl rfl rfl (by decide +kernel) ⟨Nat.le_of_ble_eq_true rfl, Nat.le_of_ble_eq_true rfl⟩) ⟨fun a U g mk q => by obtain ⟨q0, q1, qP, qK, qD⟩ := q; exact ⟨q0, q1, qP, va_K.moved (u := U) (U := U.calling g mk a) (Vm.Alike.refl U.vm) qK, qD⟩, va_recv hKc hPc (ci := 0) (q0 := 0) rfl rfl, fun U hU hW => ⟨rfl, by rw [hU], by rw [hU]; exact hPc, va_K.moved hW.alike hKc, hDc.weaken (fun _ _ _ _ => trivial)⟩⟩ rfl rfl hl.1 rfl (lv_room (Nat.le_of_ble_eq_true rfl)) dL_law_82 ⟨by show 7 + 3 * k + 0 ≤ 600000; omega, by show 93343 + 10 * k + 0 ≤ 7302250; omega⟩) hS (fun q _ h => hFc q h) hFc (fun row2 tS H1 locs ht hvm hw1 hB hz1 hk1 hS => ?_)
        obtain ⟨hP1, hK1, hD1⟩ := hB
        rw [ht] at hP1
        have hK1 := va_K.moved hvm.symm hK1
        obtain ⟨hP, hD⟩ := va_join (wr := [(g0, .inr (1, [.ref q3, .int (nI N), .int x, .ref q4, .ref q5])), (q3, .inl (d3, 6, .inl dd)), (q4, .inl (d4, 46656, .inl na)), (q5, .inl (d5, 46656, .inl pl))]) (w1 := [(h0, .inr (0, [.ref q1, .ref q2, .int (nI (1 + zIx (xs (3 * k + 1)) 5))])), (q1, .inl (d1, 5, .inl row2)), (q2, .inl (d2, 12, .inl known))]) hP hD [0, 1, 2] [3, 4, 5, 6] rfl rfl (by decide) (by decide) hk1 hFc hP1 hD1
        have hK := (hK.sub (tys' := [(d3, .int), (d4, .boolean), (d5, .boolean)]) [2, 3, 4] rfl).app hK1
        generalize H1 = H at hP hS ⊢
        have hP : va_P (dC, dI) vwCl [(g0, .inr (1, [.ref q3, .int (nI N), .int x, .ref q4, .ref q5])), (q3, .inl (d3, 6, .inl dd)), (q4, .inl (d4, 46656, .inl na)), (q5, .inl (d5, 46656, .inl pl)), (h0, .inr (0, [.ref q1, .ref q2, .int (nI (1 + zIx (xs (3 * k + 1)) 5))])), (q1, .inl (d1, 5, .inl row2)), (q2, .inl (d2, 12, .inl known))] H := hP
        have hD : va_D (fun q : Nat => s.heap.size ≤ q) [(g0, .inr (1, [.ref q3, .int (nI N), .int x, .ref q4, .ref q5])), (q3, .inl (d3, 6, .inl dd)), (q4, .inl (d4, 46656, .inl na)), (q5, .inl (d5, 46656, .inl pl)), (h0, .inr (0, [.ref q1, .ref q2, .int (nI (1 + zIx (xs (3 * k + 1)) 5))])), (q1, .inl (d1, 5, .inl row2)), (q2, .inl (d2, 12, .inl known))] := hD
        have hK : va_K (dC, dI) vwCl [(d3, .int), (d4, .boolean), (d5, .boolean), (d1, .int), (d2, .int)] s := hK
        refine lv_aload_n hx hb dL_law_85 rfl (lv_at hl 2 rfl) ?_
        refine lv_aload_n hx hb dL_law_86 rfl (lv_at hl 0 rfl) ?_
        refine lv_iload_n hx hb dL_law_87 rfl (lv_at hl 3 rfl) ?_
        refine lv_iconst (v := 1) hx hb dL_law_88 (by decide) ?_
        refine lv_iadd hx hb dL_law_89 ?_
        refine w_top (x' := nI (3 * k + 1)) (nI_add (3 * k) 1) ?_
        refine my_sld hx hb hX hbl hbA hS (3 * k + 1) (rfl) (by omega) (by omega) dL_law_90 ?_
        have hPc := hP.sub (ws' := [(g0, .inr (1, [.ref q3, .int (nI N), .int x, .ref q4, .ref q5])), (q3, .inl (d3, 6, .inl dd)), (q4, .inl (d4, 46656, .inl na)), (q5, .inl (d5, 46656, .inl pl))]) [0, 1, 2, 3] rfl
        have hDc := hD.sub (ws' := [(g0, .inr (1, [.ref q3, .int (nI N), .int x, .ref q4, .ref q5])), (q3, .inl (d3, 6, .inl dd)), (q4, .inl (d4, 46656, .inl na)), (q5, .inl (d5, 46656, .inl pl))]) [0, 1, 2, 3] (by decide) rfl
        have hKc := hK.sub (tys' := [(d3, .int), (d4, .boolean), (d5, .boolean)]) [0, 1, 2] rfl
        have hFc := va_free (wc := [(g0, .inr (1, [.ref q3, .int (nI N), .int x, .ref q4, .ref q5])), (q3, .inl (d3, 6, .inl dd)), (q4, .inl (d4, 46656, .inl na)), (q5, .inl (d5, 46656, .inl pl))]) hD hS hA [0, 1, 2, 3] rfl
        refine va_callv (va_runV (As := [.int (xs (3 * k + 1))]) (rest := []) ⟨hx, hb, hml, hown, hts⟩ (metX1_size l dC dI H.size g0 q3 q4 q5 d3 d4 d5 dd na pl x (nI N) (xs (3 * k + 1))) (cwV 1 hts (lw_V q165 q166 q167 q8 q168) rfl rfl rfl (by decide +kernel) ⟨Nat.le_of_ble_eq_true rfl, Nat.le_of_ble_eq_true rfl⟩) ⟨fun a U g mk q => by obtain ⟨q0, q1, qP, qK, qD⟩ := q; exact ⟨q0, q1, qP, va_K.moved (u := U) (U := U.calling g mk a) (Vm.Alike.refl U.vm) qK, qD⟩, va_recv hKc hPc (ci := 1) (q0 := 0) rfl rfl, fun U hU hW => ⟨rfl, by rw [hU], by rw [hU]; exact hPc, va_K.moved hW.alike hKc, hDc.weaken (fun _ _ _ _ => trivial)⟩⟩ rfl rfl hl.1 rfl (lv_room (Nat.le_of_ble_eq_true rfl)) dL_law_91 ⟨by show 7 + 3 * k + 0 + 0 ≤ 600000; omega, by show 93343 + 10 * k + 0 + 0 ≤ 7302250; omega⟩) hS (fun q _ h => hFc q h) hFc (fun dd2 tS H1 locs ht hvm hw2 hB hz1 hk1 hS => ?_)
        obtain ⟨hP1, hK1, hD1⟩ := hB
        rw [ht] at hP1
        have hK1 := va_K.moved hvm.symm hK1
        obtain ⟨hP, hD⟩ := va_join (wr := [(h0, .inr (0, [.ref q1, .ref q2, .int (nI (1 + zIx (xs (3 * k + 1)) 5))])), (q1, .inl (d1, 5, .inl row2)), (q2, .inl (d2, 12, .inl known))]) (w1 := [(g0, .inr (1, [.ref q3, .int (nI (1 + zIx (xs (3 * k + 1)) 5)), .int 0, .ref q4, .ref q5])), (q3, .inl (d3, 6, .inl dd2)), (q4, .inl (d4, 46656, .inl na)), (q5, .inl (d5, 46656, .inl pl))]) hP hD [0, 1, 2, 3] [4, 5, 6] rfl rfl (by decide) (by decide) hk1 hFc hP1 hD1
        have hK := (hK.sub (tys' := [(d1, .int), (d2, .int)]) [3, 4] rfl).app hK1
        generalize H1 = H at hP hS ⊢
        have hP : va_P (dC, dI) vwCl [(h0, .inr (0, [.ref q1, .ref q2, .int (nI (1 + zIx (xs (3 * k + 1)) 5))])), (q1, .inl (d1, 5, .inl row2)), (q2, .inl (d2, 12, .inl known)), (g0, .inr (1, [.ref q3, .int (nI (1 + zIx (xs (3 * k + 1)) 5)), .int 0, .ref q4, .ref q5])), (q3, .inl (d3, 6, .inl dd2)), (q4, .inl (d4, 46656, .inl na)), (q5, .inl (d5, 46656, .inl pl))] H := hP
        have hD : va_D (fun q : Nat => s.heap.size ≤ q) [(h0, .inr (0, [.ref q1, .ref q2, .int (nI (1 + zIx (xs (3 * k + 1)) 5))])), (q1, .inl (d1, 5, .inl row2)), (q2, .inl (d2, 12, .inl known)), (g0, .inr (1, [.ref q3, .int (nI (1 + zIx (xs (3 * k + 1)) 5)), .int 0, .ref q4, .ref q5])), (q3, .inl (d3, 6, .inl dd2)), (q4, .inl (d4, 46656, .inl na)), (q5, .inl (d5, 46656, .inl pl))] := hD
        have hK : va_K (dC, dI) vwCl [(d1, .int), (d2, .int), (d3, .int), (d4, .boolean), (d5, .boolean)] s := hK
        refine lv_goto (tgt := 203) hx hb dL_law_94 (by decide) ?_
        refine W.widen (k := 7 + 3 * (k + 1)) (n := 93343 + 10 * (k + 1)) (by omega) (by omega) ?_
        exact next (1 + zIx (xs (3 * k + 1)) 5) (fun _ => 0) row2 known dd2 0 na pl (zInv_size hI _ hw1 hw2) H locs hP hD hS ls (lv_sub hl [0, 1, 2, 3] rfl)
      · refine lv_tableIn (tgt := 97) hx hb dL_law_32 (by decide +kernel) (by decide +kernel) (off := 65) (by decide +kernel) (by decide) ?_
        refine lv_aload_n hx hb dL_law_97 rfl (lv_at hl 1 rfl) ?_
        refine lv_aload_n hx hb dL_law_98 rfl (lv_at hl 0 rfl) ?_
        refine lv_iload_n hx hb dL_law_99 rfl (lv_at hl 3 rfl) ?_
        refine lv_iconst (v := 1) hx hb dL_law_100 (by decide) ?_
        refine lv_iadd hx hb dL_law_101 ?_
        refine w_top (x' := nI (3 * k + 1)) (nI_add (3 * k) 1) ?_
        refine my_sld hx hb hX hbl hbA hS (3 * k + 1) (rfl) (by omega) (by omega) dL_law_102 ?_
        refine lv_aload_n hx hb dL_law_103 rfl (lv_at hl 0 rfl) ?_
        refine lv_iload_n hx hb dL_law_104 rfl (lv_at hl 3 rfl) ?_
        refine lv_iconst (v := 2) hx hb dL_law_105 (by decide) ?_
        refine lv_iadd hx hb dL_law_106 ?_
        refine w_top (x' := nI (3 * k + 2)) (nI_add (3 * k) 2) ?_
        refine my_sld hx hb hX hbl hbA hS (3 * k + 2) (rfl) (by omega) (by omega) dL_law_107 ?_
        have hPc := hP.sub (ws' := [(h0, .inr (0, [.ref q1, .ref q2, .int (nI N)])), (q1, .inl (d1, 5, .inl row)), (q2, .inl (d2, 12, .inl known))]) [0, 1, 2] rfl
        have hDc := hD.sub (ws' := [(h0, .inr (0, [.ref q1, .ref q2, .int (nI N)])), (q1, .inl (d1, 5, .inl row)), (q2, .inl (d2, 12, .inl known))]) [0, 1, 2] (by decide) rfl
        have hKc := hK.sub (tys' := [(d1, .int), (d2, .int)]) [0, 1] rfl
        have hFc := va_free (wc := [(h0, .inr (0, [.ref q1, .ref q2, .int (nI N)])), (q1, .inl (d1, 5, .inl row)), (q2, .inl (d2, 12, .inl known))]) hD hS hA [0, 1, 2] rfl
        refine va_callv (va_runV (As := [.int (xs (3 * k + 1)), .int (xs (3 * k + 2))]) (rest := []) ⟨hx, hb, hml, hown, hts⟩ (metX0_set l dC dI H.size h0 q1 q2 d1 d2 row known N (xs (3 * k + 1)) (xs (3 * k + 2)) hN1 hN5) (cwV 2 hts (lw_V q36 q37 q38 q7 q39) rfl rfl rfl (by decide +kernel) ⟨Nat.le_of_ble_eq_true rfl, Nat.le_of_ble_eq_true rfl⟩) ⟨fun a U g mk q => by obtain ⟨q0, q1, qP, qK, qD⟩ := q; exact ⟨q0, q1, qP, va_K.moved (u := U) (U := U.calling g mk a) (Vm.Alike.refl U.vm) qK, qD⟩, va_recv hKc hPc (ci := 0) (q0 := 0) rfl rfl, fun U hU hW => ⟨rfl, by rw [hU], by rw [hU]; exact hPc, va_K.moved hW.alike hKc, hDc.weaken (fun _ _ _ _ => trivial)⟩⟩ rfl rfl hl.1 rfl (lv_room (Nat.le_of_ble_eq_true rfl)) dL_law_108 ⟨by show 7 + 3 * k + 0 ≤ 600000; omega, by show 93343 + 10 * k + 0 ≤ 7302250; omega⟩) hS (fun q _ h => hFc q h) hFc (fun u tS H1 locs ht hvm hw1 hB hz1 hk1 hS => ?_)
        obtain ⟨hP1, hK1, hD1⟩ := hB
        rw [ht] at hP1
        have hK1 := va_K.moved hvm.symm hK1
        obtain ⟨hP, hD⟩ := va_join (wr := [(g0, .inr (1, [.ref q3, .int (nI N), .int x, .ref q4, .ref q5])), (q3, .inl (d3, 6, .inl dd)), (q4, .inl (d4, 46656, .inl na)), (q5, .inl (d5, 46656, .inl pl))]) (w1 := [(h0, .inr (0, [.ref q1, .ref q2, .int (nI N)])), (q1, .inl (d1, 5, .inl (upd row (zIx (xs (3 * k + 1)) N) (nI (zIx (xs (3 * k + 2)) 6))))), (q2, .inl (d2, 12, .inl known))]) hP hD [0, 1, 2] [3, 4, 5, 6] rfl rfl (by decide) (by decide) hk1 hFc hP1 hD1
        have hK := (hK.sub (tys' := [(d3, .int), (d4, .boolean), (d5, .boolean)]) [2, 3, 4] rfl).app hK1
        generalize H1 = H at hP hS ⊢
        have hP : va_P (dC, dI) vwCl [(g0, .inr (1, [.ref q3, .int (nI N), .int x, .ref q4, .ref q5])), (q3, .inl (d3, 6, .inl dd)), (q4, .inl (d4, 46656, .inl na)), (q5, .inl (d5, 46656, .inl pl)), (h0, .inr (0, [.ref q1, .ref q2, .int (nI N)])), (q1, .inl (d1, 5, .inl (upd row (zIx (xs (3 * k + 1)) N) (nI (zIx (xs (3 * k + 2)) 6))))), (q2, .inl (d2, 12, .inl known))] H := hP
        have hD : va_D (fun q : Nat => s.heap.size ≤ q) [(g0, .inr (1, [.ref q3, .int (nI N), .int x, .ref q4, .ref q5])), (q3, .inl (d3, 6, .inl dd)), (q4, .inl (d4, 46656, .inl na)), (q5, .inl (d5, 46656, .inl pl)), (h0, .inr (0, [.ref q1, .ref q2, .int (nI N)])), (q1, .inl (d1, 5, .inl (upd row (zIx (xs (3 * k + 1)) N) (nI (zIx (xs (3 * k + 2)) 6))))), (q2, .inl (d2, 12, .inl known))] := hD
        have hK : va_K (dC, dI) vwCl [(d3, .int), (d4, .boolean), (d5, .boolean), (d1, .int), (d2, .int)] s := hK
        refine lv_aload_n hx hb dL_law_111 rfl (lv_at hl 2 rfl) ?_
        refine lv_aload_n hx hb dL_law_112 rfl (lv_at hl 0 rfl) ?_
        refine lv_iload_n hx hb dL_law_113 rfl (lv_at hl 3 rfl) ?_
        refine lv_iconst (v := 1) hx hb dL_law_114 (by decide) ?_
        refine lv_iadd hx hb dL_law_115 ?_
        refine w_top (x' := nI (3 * k + 1)) (nI_add (3 * k) 1) ?_
        refine my_sld hx hb hX hbl hbA hS (3 * k + 1) (rfl) (by omega) (by omega) dL_law_116 ?_
        refine lv_aload_n hx hb dL_law_117 rfl (lv_at hl 0 rfl) ?_
        refine lv_iload_n hx hb dL_law_118 rfl (lv_at hl 3 rfl) ?_
        refine lv_iconst (v := 2) hx hb dL_law_119 (by decide) ?_
        refine lv_iadd hx hb dL_law_120 ?_
        refine w_top (x' := nI (3 * k + 2)) (nI_add (3 * k) 2) ?_
        refine my_sld hx hb hX hbl hbA hS (3 * k + 2) (rfl) (by omega) (by omega) dL_law_121 ?_
        have hPc := hP.sub (ws' := [(g0, .inr (1, [.ref q3, .int (nI N), .int x, .ref q4, .ref q5])), (q3, .inl (d3, 6, .inl dd)), (q4, .inl (d4, 46656, .inl na)), (q5, .inl (d5, 46656, .inl pl))]) [0, 1, 2, 3] rfl
        have hDc := hD.sub (ws' := [(g0, .inr (1, [.ref q3, .int (nI N), .int x, .ref q4, .ref q5])), (q3, .inl (d3, 6, .inl dd)), (q4, .inl (d4, 46656, .inl na)), (q5, .inl (d5, 46656, .inl pl))]) [0, 1, 2, 3] (by decide) rfl
        have hKc := hK.sub (tys' := [(d3, .int), (d4, .boolean), (d5, .boolean)]) [0, 1, 2] rfl
        have hFc := va_free (wc := [(g0, .inr (1, [.ref q3, .int (nI N), .int x, .ref q4, .ref q5])), (q3, .inl (d3, 6, .inl dd)), (q4, .inl (d4, 46656, .inl na)), (q5, .inl (d5, 46656, .inl pl))]) hD hS hA [0, 1, 2, 3] rfl
        refine va_callv (va_runV (As := [.int (xs (3 * k + 1)), .int (xs (3 * k + 2))]) (rest := []) ⟨hx, hb, hml, hown, hts⟩ (metX1_set l dC dI H.size g0 q3 q4 q5 d3 d4 d5 dd na pl x N (xs (3 * k + 1)) (xs (3 * k + 2)) hN1 hN5) (cwV 2 hts (lw_V q170 q171 q172 q8 q173) rfl rfl rfl (by decide +kernel) ⟨Nat.le_of_ble_eq_true rfl, Nat.le_of_ble_eq_true rfl⟩) ⟨fun a U g mk q => by obtain ⟨q0, q1, qP, qK, qD⟩ := q; exact ⟨q0, q1, qP, va_K.moved (u := U) (U := U.calling g mk a) (Vm.Alike.refl U.vm) qK, qD⟩, va_recv hKc hPc (ci := 1) (q0 := 0) rfl rfl, fun U hU hW => ⟨rfl, by rw [hU], by rw [hU]; exact hPc, va_K.moved hW.alike hKc, hDc.weaken (fun _ _ _ _ => trivial)⟩⟩ rfl rfl hl.1 rfl (lv_room (Nat.le_of_ble_eq_true rfl)) dL_law_122 ⟨by show 7 + 3 * k + 0 + 0 ≤ 600000; omega, by show 93343 + 10 * k + 0 + 0 ≤ 7302250; omega⟩) hS (fun q _ h => hFc q h) hFc (fun u tS H1 locs ht hvm hw2 hB hz1 hk1 hS => ?_)
        obtain ⟨hP1, hK1, hD1⟩ := hB
        rw [ht] at hP1
        have hK1 := va_K.moved hvm.symm hK1
        obtain ⟨hP, hD⟩ := va_join (wr := [(h0, .inr (0, [.ref q1, .ref q2, .int (nI N)])), (q1, .inl (d1, 5, .inl (upd row (zIx (xs (3 * k + 1)) N) (nI (zIx (xs (3 * k + 2)) 6))))), (q2, .inl (d2, 12, .inl known))]) (w1 := [(g0, .inr (1, [.ref q3, .int (nI N), .int x, .ref q4, .ref q5])), (q3, .inl (d3, 6, .inl (upd dd (zIx (xs (3 * k + 1)) N) (nI (zIx (xs (3 * k + 2)) 6))))), (q4, .inl (d4, 46656, .inl na)), (q5, .inl (d5, 46656, .inl pl))]) hP hD [0, 1, 2, 3] [4, 5, 6] rfl rfl (by decide) (by decide) hk1 hFc hP1 hD1
        have hK := (hK.sub (tys' := [(d1, .int), (d2, .int)]) [3, 4] rfl).app hK1
        generalize H1 = H at hP hS ⊢
        have hP : va_P (dC, dI) vwCl [(h0, .inr (0, [.ref q1, .ref q2, .int (nI N)])), (q1, .inl (d1, 5, .inl (upd row (zIx (xs (3 * k + 1)) N) (nI (zIx (xs (3 * k + 2)) 6))))), (q2, .inl (d2, 12, .inl known)), (g0, .inr (1, [.ref q3, .int (nI N), .int x, .ref q4, .ref q5])), (q3, .inl (d3, 6, .inl (upd dd (zIx (xs (3 * k + 1)) N) (nI (zIx (xs (3 * k + 2)) 6))))), (q4, .inl (d4, 46656, .inl na)), (q5, .inl (d5, 46656, .inl pl))] H := hP
        have hD : va_D (fun q : Nat => s.heap.size ≤ q) [(h0, .inr (0, [.ref q1, .ref q2, .int (nI N)])), (q1, .inl (d1, 5, .inl (upd row (zIx (xs (3 * k + 1)) N) (nI (zIx (xs (3 * k + 2)) 6))))), (q2, .inl (d2, 12, .inl known)), (g0, .inr (1, [.ref q3, .int (nI N), .int x, .ref q4, .ref q5])), (q3, .inl (d3, 6, .inl (upd dd (zIx (xs (3 * k + 1)) N) (nI (zIx (xs (3 * k + 2)) 6))))), (q4, .inl (d4, 46656, .inl na)), (q5, .inl (d5, 46656, .inl pl))] := hD
        have hK : va_K (dC, dI) vwCl [(d1, .int), (d2, .int), (d3, .int), (d4, .boolean), (d5, .boolean)] s := hK
        refine lv_goto (tgt := 203) hx hb dL_law_125 (by decide) ?_
        refine W.widen (k := 7 + 3 * (k + 1)) (n := 93343 + 10 * (k + 1)) (by omega) (by omega) ?_
        exact next N (fun a => if a = zIx (xs (3 * k + 1)) N then zIx (xs (3 * k + 2)) 6 else D a) _ known _ x na pl (zInv_set hI _ _) H locs hP hD hS ls (lv_sub hl [0, 1, 2, 3] rfl)
      · refine lv_tableIn (tgt := 128) hx hb dL_law_32 (by decide +kernel) (by decide +kernel) (off := 96) (by decide +kernel) (by decide) ?_
        refine lv_aload_n hx hb dL_law_128 rfl (lv_at hl 1 rfl) ?_
        have hN := hNa
        have hPc := hP.sub (ws' := [(h0, .inr (0, [.ref q1, .ref q2, .int (nI N)])), (q1, .inl (d1, 5, .inl row)), (q2, .inl (d2, 12, .inl known))]) [0, 1, 2] rfl
        have hDc := hD.sub (ws' := [(h0, .inr (0, [.ref q1, .ref q2, .int (nI N)])), (q1, .inl (d1, 5, .inl row)), (q2, .inl (d2, 12, .inl known))]) [0, 1, 2] (by decide) rfl
        have hKc := hK.sub (tys' := [(d1, .int), (d2, .int)]) [0, 1] rfl
        have hFc := va_free (wc := [(h0, .inr (0, [.ref q1, .ref q2, .int (nI N)])), (q1, .inl (d1, 5, .inl row)), (q2, .inl (d2, 12, .inl known))]) hD hS hA [0, 1, 2] rfl
        refine va_calli (va_runV (As := []) (rest := []) ⟨hx, hb, hml, hown, hts⟩ (metX0_net l dC dI H.size h0 q1 q2 d1 d2 row known N D hN1 hN5 hDr) (cwV 0 hts (lw_V q40 q41 q42 q7 q43) rfl rfl rfl (by decide +kernel) ⟨Nat.le_of_ble_eq_true rfl, Nat.le_of_ble_eq_true rfl⟩) ⟨fun a U g mk q => by obtain ⟨q0, q1, qP, qK, qD, qN⟩ := q; exact ⟨q0, q1, qP, va_K.moved (u := U) (U := U.calling g mk a) (Vm.Alike.refl U.vm) qK, qD, va_Nw.same rfl rfl qN⟩, va_recv hKc hPc (ci := 0) (q0 := 0) rfl rfl, fun U hU hW => ⟨rfl, by rw [hU], by rw [hU]; exact hPc, va_K.moved hW.alike hKc, hDc.weaken (fun _ _ _ _ => trivial), va_Nw.warmM hW hN⟩⟩ rfl rfl hl.1 rfl (lv_room (Nat.le_of_ble_eq_true rfl)) dL_law_129 ⟨by show 7 + 3 * k + 2 ≤ 600000; omega, by show 93343 + 10 * k + 8 ≤ 7302250; omega⟩) hS (fun q _ h => hFc q h) hFc (fun r1 u tS H1 locs ht hvm hw1 hB hz1 hk1 hS => ?_)
        obtain ⟨hP1, hK1, hD1⟩ := hB
        rw [ht] at hP1
        have hK1 := va_K.moved hvm.symm hK1
        obtain ⟨hP, hD⟩ := va_join (wr := [(g0, .inr (1, [.ref q3, .int (nI N), .int x, .ref q4, .ref q5])), (q3, .inl (d3, 6, .inl dd)), (q4, .inl (d4, 46656, .inl na)), (q5, .inl (d5, 46656, .inl pl))]) (w1 := [(h0, .inr (0, [.ref q1, .ref q2, .int (nI N)])), (q1, .inl (d1, 5, .inl row)), (q2, .inl (d2, 12, .inl known))]) hP hD [0, 1, 2] [3, 4, 5, 6] rfl rfl (by decide) (by decide) hk1 hFc hP1 hD1
        have hK := (hK.sub (tys' := [(d3, .int), (d4, .boolean), (d5, .boolean)]) [2, 3, 4] rfl).app hK1
        generalize H1 = H at hP hS ⊢
        have hP : va_P (dC, dI) vwCl [(g0, .inr (1, [.ref q3, .int (nI N), .int x, .ref q4, .ref q5])), (q3, .inl (d3, 6, .inl dd)), (q4, .inl (d4, 46656, .inl na)), (q5, .inl (d5, 46656, .inl pl)), (h0, .inr (0, [.ref q1, .ref q2, .int (nI N)])), (q1, .inl (d1, 5, .inl row)), (q2, .inl (d2, 12, .inl known))] H := hP
        have hD : va_D (fun q : Nat => s.heap.size ≤ q) [(g0, .inr (1, [.ref q3, .int (nI N), .int x, .ref q4, .ref q5])), (q3, .inl (d3, 6, .inl dd)), (q4, .inl (d4, 46656, .inl na)), (q5, .inl (d5, 46656, .inl pl)), (h0, .inr (0, [.ref q1, .ref q2, .int (nI N)])), (q1, .inl (d1, 5, .inl row)), (q2, .inl (d2, 12, .inl known))] := hD
        have hK : va_K (dC, dI) vwCl [(d3, .int), (d4, .boolean), (d5, .boolean), (d1, .int), (d2, .int)] s := hK
        refine lv_aload_n hx hb dL_law_132 rfl (lv_at hl 2 rfl) ?_
        have hPc := hP.sub (ws' := [(g0, .inr (1, [.ref q3, .int (nI N), .int x, .ref q4, .ref q5])), (q3, .inl (d3, 6, .inl dd)), (q4, .inl (d4, 46656, .inl na)), (q5, .inl (d5, 46656, .inl pl))]) [0, 1, 2, 3] rfl
        have hDc := hD.sub (ws' := [(g0, .inr (1, [.ref q3, .int (nI N), .int x, .ref q4, .ref q5])), (q3, .inl (d3, 6, .inl dd)), (q4, .inl (d4, 46656, .inl na)), (q5, .inl (d5, 46656, .inl pl))]) [0, 1, 2, 3] (by decide) rfl
        have hKc := hK.sub (tys' := [(d3, .int), (d4, .boolean), (d5, .boolean)]) [0, 1, 2] rfl
        have hFc := va_free (wc := [(g0, .inr (1, [.ref q3, .int (nI N), .int x, .ref q4, .ref q5])), (q3, .inl (d3, 6, .inl dd)), (q4, .inl (d4, 46656, .inl na)), (q5, .inl (d5, 46656, .inl pl))]) hD hS hA [0, 1, 2, 3] rfl
        refine va_calli (va_runV (As := []) (rest := [.int r1]) ⟨hx, hb, hml, hown, hts⟩ (metX1_net l dC dI H.size g0 q3 q4 q5 d3 d4 d5 dd na pl x N D hN1 hN5 hmk hDd) (cwV 0 hts (lw_V q174 q175 q176 q8 q177) rfl rfl rfl (by decide +kernel) ⟨Nat.le_of_ble_eq_true rfl, Nat.le_of_ble_eq_true rfl⟩) ⟨fun a U g mk q => by obtain ⟨q0, q1, qP, qK, qD⟩ := q; exact ⟨q0, q1, qP, va_K.moved (u := U) (U := U.calling g mk a) (Vm.Alike.refl U.vm) qK, qD⟩, va_recv hKc hPc (ci := 1) (q0 := 0) rfl rfl, fun U hU hW => ⟨rfl, by rw [hU], by rw [hU]; exact hPc, va_K.moved hW.alike hKc, hDc.weaken (fun _ _ _ _ => trivial)⟩⟩ rfl rfl hl.1 rfl (lv_room (Nat.le_of_ble_eq_true rfl)) dL_law_133 ⟨by show 7 + 3 * k + 2 + 0 ≤ 600000; omega, by show 93343 + 10 * k + 8 + 0 ≤ 7302250; omega⟩) hS (fun q _ h => hFc q h) hFc (fun r2 u tS H1 locs ht hvm hw2 hB hz1 hk1 hS => ?_)
        obtain ⟨na2, pl2⟩ := u
        obtain ⟨hP1, hK1, hD1⟩ := hB
        rw [ht] at hP1
        have hK1 := va_K.moved hvm.symm hK1
        obtain ⟨hP, hD⟩ := va_join (wr := [(h0, .inr (0, [.ref q1, .ref q2, .int (nI N)])), (q1, .inl (d1, 5, .inl row)), (q2, .inl (d2, 12, .inl known))]) (w1 := [(g0, .inr (1, [.ref q3, .int (nI N), .int 1, .ref q4, .ref q5])), (q3, .inl (d3, 6, .inl dd)), (q4, .inl (d4, 46656, .inl na2)), (q5, .inl (d5, 46656, .inl pl2))]) hP hD [0, 1, 2, 3] [4, 5, 6] rfl rfl (by decide) (by decide) hk1 hFc hP1 hD1
        have hK := (hK.sub (tys' := [(d1, .int), (d2, .int)]) [3, 4] rfl).app hK1
        generalize H1 = H at hP hS ⊢
        have hP : va_P (dC, dI) vwCl [(h0, .inr (0, [.ref q1, .ref q2, .int (nI N)])), (q1, .inl (d1, 5, .inl row)), (q2, .inl (d2, 12, .inl known)), (g0, .inr (1, [.ref q3, .int (nI N), .int 1, .ref q4, .ref q5])), (q3, .inl (d3, 6, .inl dd)), (q4, .inl (d4, 46656, .inl na2)), (q5, .inl (d5, 46656, .inl pl2))] H := hP
        have hD : va_D (fun q : Nat => s.heap.size ≤ q) [(h0, .inr (0, [.ref q1, .ref q2, .int (nI N)])), (q1, .inl (d1, 5, .inl row)), (q2, .inl (d2, 12, .inl known)), (g0, .inr (1, [.ref q3, .int (nI N), .int 1, .ref q4, .ref q5])), (q3, .inl (d3, 6, .inl dd)), (q4, .inl (d4, 46656, .inl na2)), (q5, .inl (d5, 46656, .inl pl2))] := hD
        have hK : va_K (dC, dI) vwCl [(d1, .int), (d2, .int), (d3, .int), (d4, .boolean), (d5, .boolean)] s := hK
        refine lv_icmp_eq (tgt := 203) hx hb dL_law_136 (by decide) (fun c1 => ?_) (fun c1 => ?_)
        · refine W.widen (k := 7 + 3 * (k + 1)) (n := 93343 + 10 * (k + 1)) (by omega) (by omega) ?_
          exact next N D row known dd 1 na2 pl2 (zInv_tab hI hw2.2) H locs hP hD hS ls (lv_sub hl [0, 1, 2, 3] rfl)
        · exact absurd (hw1.trans ((law_N hN1 hN5 (fun a ha => (hDr a ha).1)).trans hw2.1.symm)) c1
      · refine lv_tableIn (tgt := 141) hx hb dL_law_32 (by decide +kernel) (by decide +kernel) (off := 109) (by decide +kernel) (by decide) ?_
        refine lv_aload_n hx hb dL_law_141 rfl (lv_at hl 1 rfl) ?_
        have hN := hNa
        have hPc := hP.sub (ws' := [(h0, .inr (0, [.ref q1, .ref q2, .int (nI N)])), (q1, .inl (d1, 5, .inl row)), (q2, .inl (d2, 12, .inl known))]) [0, 1, 2] rfl
        have hDc := hD.sub (ws' := [(h0, .inr (0, [.ref q1, .ref q2, .int (nI N)])), (q1, .inl (d1, 5, .inl row)), (q2, .inl (d2, 12, .inl known))]) [0, 1, 2] (by decide) rfl
        have hKc := hK.sub (tys' := [(d1, .int), (d2, .int)]) [0, 1] rfl
        have hFc := va_free (wc := [(h0, .inr (0, [.ref q1, .ref q2, .int (nI N)])), (q1, .inl (d1, 5, .inl row)), (q2, .inl (d2, 12, .inl known))]) hD hS hA [0, 1, 2] rfl
        refine va_calli (va_runV (As := []) (rest := []) ⟨hx, hb, hml, hown, hts⟩ (metX0_play l dC dI H.size h0 q1 q2 d1 d2 row known N D hN1 hN5 hDr) (cwV 0 hts (lw_V q87 q88 q89 q7 q90) rfl rfl rfl (by decide +kernel) ⟨Nat.le_of_ble_eq_true rfl, Nat.le_of_ble_eq_true rfl⟩) ⟨fun a U g mk q => by obtain ⟨q0, q1, qP, qK, qD, qN⟩ := q; exact ⟨q0, q1, qP, va_K.moved (u := U) (U := U.calling g mk a) (Vm.Alike.refl U.vm) qK, qD, va_Nw.same rfl rfl qN⟩, va_recv hKc hPc (ci := 0) (q0 := 0) rfl rfl, fun U hU hW => ⟨rfl, by rw [hU], by rw [hU]; exact hPc, va_K.moved hW.alike hKc, hDc.weaken (fun _ _ _ _ => trivial), va_Nw.warmM hW hN⟩⟩ rfl rfl hl.1 rfl (lv_room (Nat.le_of_ble_eq_true rfl)) dL_law_142 ⟨by show 7 + 3 * k + 2 ≤ 600000; omega, by show 93343 + 10 * k + 8 ≤ 7302250; omega⟩) hS (fun q _ h => hFc q h) hFc (fun r1 u tS H1 locs ht hvm hw1 hB hz1 hk1 hS => ?_)
        obtain ⟨hP1, hK1, hD1⟩ := hB
        rw [ht] at hP1
        have hK1 := va_K.moved hvm.symm hK1
        obtain ⟨hP, hD⟩ := va_join (wr := [(g0, .inr (1, [.ref q3, .int (nI N), .int x, .ref q4, .ref q5])), (q3, .inl (d3, 6, .inl dd)), (q4, .inl (d4, 46656, .inl na)), (q5, .inl (d5, 46656, .inl pl))]) (w1 := [(h0, .inr (0, [.ref q1, .ref q2, .int (nI N)])), (q1, .inl (d1, 5, .inl row)), (q2, .inl (d2, 12, .inl known))]) hP hD [0, 1, 2] [3, 4, 5, 6] rfl rfl (by decide) (by decide) hk1 hFc hP1 hD1
        have hK := (hK.sub (tys' := [(d3, .int), (d4, .boolean), (d5, .boolean)]) [2, 3, 4] rfl).app hK1
        generalize H1 = H at hP hS ⊢
        have hP : va_P (dC, dI) vwCl [(g0, .inr (1, [.ref q3, .int (nI N), .int x, .ref q4, .ref q5])), (q3, .inl (d3, 6, .inl dd)), (q4, .inl (d4, 46656, .inl na)), (q5, .inl (d5, 46656, .inl pl)), (h0, .inr (0, [.ref q1, .ref q2, .int (nI N)])), (q1, .inl (d1, 5, .inl row)), (q2, .inl (d2, 12, .inl known))] H := hP
        have hD : va_D (fun q : Nat => s.heap.size ≤ q) [(g0, .inr (1, [.ref q3, .int (nI N), .int x, .ref q4, .ref q5])), (q3, .inl (d3, 6, .inl dd)), (q4, .inl (d4, 46656, .inl na)), (q5, .inl (d5, 46656, .inl pl)), (h0, .inr (0, [.ref q1, .ref q2, .int (nI N)])), (q1, .inl (d1, 5, .inl row)), (q2, .inl (d2, 12, .inl known))] := hD
        have hK : va_K (dC, dI) vwCl [(d3, .int), (d4, .boolean), (d5, .boolean), (d1, .int), (d2, .int)] s := hK
        refine lv_aload_n hx hb dL_law_145 rfl (lv_at hl 2 rfl) ?_
        have hPc := hP.sub (ws' := [(g0, .inr (1, [.ref q3, .int (nI N), .int x, .ref q4, .ref q5])), (q3, .inl (d3, 6, .inl dd)), (q4, .inl (d4, 46656, .inl na)), (q5, .inl (d5, 46656, .inl pl))]) [0, 1, 2, 3] rfl
        have hDc := hD.sub (ws' := [(g0, .inr (1, [.ref q3, .int (nI N), .int x, .ref q4, .ref q5])), (q3, .inl (d3, 6, .inl dd)), (q4, .inl (d4, 46656, .inl na)), (q5, .inl (d5, 46656, .inl pl))]) [0, 1, 2, 3] (by decide) rfl
        have hKc := hK.sub (tys' := [(d3, .int), (d4, .boolean), (d5, .boolean)]) [0, 1, 2] rfl
        have hFc := va_free (wc := [(g0, .inr (1, [.ref q3, .int (nI N), .int x, .ref q4, .ref q5])), (q3, .inl (d3, 6, .inl dd)), (q4, .inl (d4, 46656, .inl na)), (q5, .inl (d5, 46656, .inl pl))]) hD hS hA [0, 1, 2, 3] rfl
        refine va_calli (va_runV (As := []) (rest := [.int r1]) ⟨hx, hb, hml, hown, hts⟩ (metX1_play l dC dI H.size g0 q3 q4 q5 d3 d4 d5 dd na pl x N D hN1 hN5 hmk hDd) (cwV 0 hts (lw_V q186 q187 q188 q8 q189) rfl rfl rfl (by decide +kernel) ⟨Nat.le_of_ble_eq_true rfl, Nat.le_of_ble_eq_true rfl⟩) ⟨fun a U g mk q => by obtain ⟨q0, q1, qP, qK, qD⟩ := q; exact ⟨q0, q1, qP, va_K.moved (u := U) (U := U.calling g mk a) (Vm.Alike.refl U.vm) qK, qD⟩, va_recv hKc hPc (ci := 1) (q0 := 0) rfl rfl, fun U hU hW => ⟨rfl, by rw [hU], by rw [hU]; exact hPc, va_K.moved hW.alike hKc, hDc.weaken (fun _ _ _ _ => trivial)⟩⟩ rfl rfl hl.1 rfl (lv_room (Nat.le_of_ble_eq_true rfl)) dL_law_146 ⟨by show 7 + 3 * k + 2 + 0 ≤ 600000; omega, by show 93343 + 10 * k + 8 + 0 ≤ 7302250; omega⟩) hS (fun q _ h => hFc q h) hFc (fun r2 u tS H1 locs ht hvm hw2 hB hz1 hk1 hS => ?_)
        obtain ⟨na2, pl2⟩ := u
        obtain ⟨hP1, hK1, hD1⟩ := hB
        rw [ht] at hP1
        have hK1 := va_K.moved hvm.symm hK1
        obtain ⟨hP, hD⟩ := va_join (wr := [(h0, .inr (0, [.ref q1, .ref q2, .int (nI N)])), (q1, .inl (d1, 5, .inl row)), (q2, .inl (d2, 12, .inl known))]) (w1 := [(g0, .inr (1, [.ref q3, .int (nI N), .int 1, .ref q4, .ref q5])), (q3, .inl (d3, 6, .inl dd)), (q4, .inl (d4, 46656, .inl na2)), (q5, .inl (d5, 46656, .inl pl2))]) hP hD [0, 1, 2, 3] [4, 5, 6] rfl rfl (by decide) (by decide) hk1 hFc hP1 hD1
        have hK := (hK.sub (tys' := [(d1, .int), (d2, .int)]) [3, 4] rfl).app hK1
        generalize H1 = H at hP hS ⊢
        have hP : va_P (dC, dI) vwCl [(h0, .inr (0, [.ref q1, .ref q2, .int (nI N)])), (q1, .inl (d1, 5, .inl row)), (q2, .inl (d2, 12, .inl known)), (g0, .inr (1, [.ref q3, .int (nI N), .int 1, .ref q4, .ref q5])), (q3, .inl (d3, 6, .inl dd)), (q4, .inl (d4, 46656, .inl na2)), (q5, .inl (d5, 46656, .inl pl2))] H := hP
        have hD : va_D (fun q : Nat => s.heap.size ≤ q) [(h0, .inr (0, [.ref q1, .ref q2, .int (nI N)])), (q1, .inl (d1, 5, .inl row)), (q2, .inl (d2, 12, .inl known)), (g0, .inr (1, [.ref q3, .int (nI N), .int 1, .ref q4, .ref q5])), (q3, .inl (d3, 6, .inl dd)), (q4, .inl (d4, 46656, .inl na2)), (q5, .inl (d5, 46656, .inl pl2))] := hD
        have hK : va_K (dC, dI) vwCl [(d1, .int), (d2, .int), (d3, .int), (d4, .boolean), (d5, .boolean)] s := hK
        refine lv_icmp_eq (tgt := 203) hx hb dL_law_149 (by decide) (fun c1 => ?_) (fun c1 => ?_)
        · refine W.widen (k := 7 + 3 * (k + 1)) (n := 93343 + 10 * (k + 1)) (by omega) (by omega) ?_
          exact next N D row known dd 1 na2 pl2 (zInv_tab hI hw2.2) H locs hP hD hS ls (lv_sub hl [0, 1, 2, 3] rfl)
        · exact absurd (hw1.trans ((law_P hN1 hN5 (fun a ha => (hDr a ha).1)).trans hw2.1.symm)) c1
      · refine lv_tableIn (tgt := 154) hx hb dL_law_32 (by decide +kernel) (by decide +kernel) (off := 122) (by decide +kernel) (by decide) ?_
        refine lv_aload_n hx hb dL_law_154 rfl (lv_at hl 1 rfl) ?_
        have hN := hNb
        have hPc := hP.sub (ws' := [(h0, .inr (0, [.ref q1, .ref q2, .int (nI N)])), (q1, .inl (d1, 5, .inl row)), (q2, .inl (d2, 12, .inl known))]) [0, 1, 2] rfl
        have hDc := hD.sub (ws' := [(h0, .inr (0, [.ref q1, .ref q2, .int (nI N)])), (q1, .inl (d1, 5, .inl row)), (q2, .inl (d2, 12, .inl known))]) [0, 1, 2] (by decide) rfl
        have hKc := hK.sub (tys' := [(d1, .int), (d2, .int)]) [0, 1] rfl
        have hFc := va_free (wc := [(h0, .inr (0, [.ref q1, .ref q2, .int (nI N)])), (q1, .inl (d1, 5, .inl row)), (q2, .inl (d2, 12, .inl known))]) hD hS hA [0, 1, 2] rfl
        refine va_calli (va_runV (As := []) (rest := []) ⟨hx, hb, hml, hown, hts⟩ (metX0_nets l dC dI H.size h0 q1 q2 d1 d2 row known N hN1 hN5 (hkno N true hN1 hN5)) (cwV 0 hts (lw_V q95 q96 q97 q7 q98) rfl rfl rfl (by decide +kernel) ⟨Nat.le_of_ble_eq_true rfl, Nat.le_of_ble_eq_true rfl⟩) ⟨fun a U g mk q => by obtain ⟨q0, q1, qP, qK, qD, qN⟩ := q; exact ⟨q0, q1, qP, va_K.moved (u := U) (U := U.calling g mk a) (Vm.Alike.refl U.vm) qK, qD, va_Nw.same rfl rfl qN⟩, va_recv hKc hPc (ci := 0) (q0 := 0) rfl rfl, fun U hU hW => ⟨rfl, by rw [hU], by rw [hU]; exact hPc, va_K.moved hW.alike hKc, hDc.weaken (fun _ _ _ _ => trivial), va_Nw.warmM hW hN⟩⟩ rfl rfl hl.1 rfl (lv_room (Nat.le_of_ble_eq_true rfl)) dL_law_155 ⟨by show 7 + 3 * k + 3 ≤ 600000; omega, by show 93343 + 10 * k + 10 ≤ 7302250; omega⟩) hS (fun q _ h => hFc q h) hFc (fun r1 kn2 tS H1 locs ht hvm hw1 hB hz1 hk1 hS => ?_)
        obtain ⟨hP1, hK1, hD1⟩ := hB
        rw [ht] at hP1
        have hK1 := va_K.moved hvm.symm hK1
        obtain ⟨hP, hD⟩ := va_join (wr := [(g0, .inr (1, [.ref q3, .int (nI N), .int x, .ref q4, .ref q5])), (q3, .inl (d3, 6, .inl dd)), (q4, .inl (d4, 46656, .inl na)), (q5, .inl (d5, 46656, .inl pl))]) (w1 := [(h0, .inr (0, [.ref q1, .ref q2, .int (nI N)])), (q1, .inl (d1, 5, .inl row)), (q2, .inl (d2, 12, .inl kn2))]) hP hD [0, 1, 2] [3, 4, 5, 6] rfl rfl (by decide) (by decide) hk1 hFc hP1 hD1
        have hK := (hK.sub (tys' := [(d3, .int), (d4, .boolean), (d5, .boolean)]) [2, 3, 4] rfl).app hK1
        generalize H1 = H at hP hS ⊢
        have hP : va_P (dC, dI) vwCl [(g0, .inr (1, [.ref q3, .int (nI N), .int x, .ref q4, .ref q5])), (q3, .inl (d3, 6, .inl dd)), (q4, .inl (d4, 46656, .inl na)), (q5, .inl (d5, 46656, .inl pl)), (h0, .inr (0, [.ref q1, .ref q2, .int (nI N)])), (q1, .inl (d1, 5, .inl row)), (q2, .inl (d2, 12, .inl kn2))] H := hP
        have hD : va_D (fun q : Nat => s.heap.size ≤ q) [(g0, .inr (1, [.ref q3, .int (nI N), .int x, .ref q4, .ref q5])), (q3, .inl (d3, 6, .inl dd)), (q4, .inl (d4, 46656, .inl na)), (q5, .inl (d5, 46656, .inl pl)), (h0, .inr (0, [.ref q1, .ref q2, .int (nI N)])), (q1, .inl (d1, 5, .inl row)), (q2, .inl (d2, 12, .inl kn2))] := hD
        have hK : va_K (dC, dI) vwCl [(d3, .int), (d4, .boolean), (d5, .boolean), (d1, .int), (d2, .int)] s := hK
        refine lv_aload_n hx hb dL_law_158 rfl (lv_at hl 2 rfl) ?_
        have hPc := hP.sub (ws' := [(g0, .inr (1, [.ref q3, .int (nI N), .int x, .ref q4, .ref q5])), (q3, .inl (d3, 6, .inl dd)), (q4, .inl (d4, 46656, .inl na)), (q5, .inl (d5, 46656, .inl pl))]) [0, 1, 2, 3] rfl
        have hDc := hD.sub (ws' := [(g0, .inr (1, [.ref q3, .int (nI N), .int x, .ref q4, .ref q5])), (q3, .inl (d3, 6, .inl dd)), (q4, .inl (d4, 46656, .inl na)), (q5, .inl (d5, 46656, .inl pl))]) [0, 1, 2, 3] (by decide) rfl
        have hKc := hK.sub (tys' := [(d3, .int), (d4, .boolean), (d5, .boolean)]) [0, 1, 2] rfl
        have hFc := va_free (wc := [(g0, .inr (1, [.ref q3, .int (nI N), .int x, .ref q4, .ref q5])), (q3, .inl (d3, 6, .inl dd)), (q4, .inl (d4, 46656, .inl na)), (q5, .inl (d5, 46656, .inl pl))]) hD hS hA [0, 1, 2, 3] rfl
        refine va_calli (va_runV (As := []) (rest := [.int r1]) ⟨hx, hb, hml, hown, hts⟩ (metX1_nets l dC dI H.size g0 q3 q4 q5 d3 d4 d5 dd na pl x N hN1 hN5 hmk) (cwV 0 hts (lw_V q190 q191 q192 q8 q193) rfl rfl rfl (by decide +kernel) ⟨Nat.le_of_ble_eq_true rfl, Nat.le_of_ble_eq_true rfl⟩) ⟨fun a U g mk q => by obtain ⟨q0, q1, qP, qK, qD⟩ := q; exact ⟨q0, q1, qP, va_K.moved (u := U) (U := U.calling g mk a) (Vm.Alike.refl U.vm) qK, qD⟩, va_recv hKc hPc (ci := 1) (q0 := 0) rfl rfl, fun U hU hW => ⟨rfl, by rw [hU], by rw [hU]; exact hPc, va_K.moved hW.alike hKc, hDc.weaken (fun _ _ _ _ => trivial)⟩⟩ rfl rfl hl.1 rfl (lv_room (Nat.le_of_ble_eq_true rfl)) dL_law_159 ⟨by show 7 + 3 * k + 3 + 0 ≤ 600000; omega, by show 93343 + 10 * k + 10 + 0 ≤ 7302250; omega⟩) hS (fun q _ h => hFc q h) hFc (fun r2 u tS H1 locs ht hvm hw2 hB hz1 hk1 hS => ?_)
        obtain ⟨na2, pl2⟩ := u
        obtain ⟨hP1, hK1, hD1⟩ := hB
        rw [ht] at hP1
        have hK1 := va_K.moved hvm.symm hK1
        obtain ⟨hP, hD⟩ := va_join (wr := [(h0, .inr (0, [.ref q1, .ref q2, .int (nI N)])), (q1, .inl (d1, 5, .inl row)), (q2, .inl (d2, 12, .inl kn2))]) (w1 := [(g0, .inr (1, [.ref q3, .int (nI N), .int 1, .ref q4, .ref q5])), (q3, .inl (d3, 6, .inl dd)), (q4, .inl (d4, 46656, .inl na2)), (q5, .inl (d5, 46656, .inl pl2))]) hP hD [0, 1, 2, 3] [4, 5, 6] rfl rfl (by decide) (by decide) hk1 hFc hP1 hD1
        have hK := (hK.sub (tys' := [(d1, .int), (d2, .int)]) [3, 4] rfl).app hK1
        generalize H1 = H at hP hS ⊢
        have hP : va_P (dC, dI) vwCl [(h0, .inr (0, [.ref q1, .ref q2, .int (nI N)])), (q1, .inl (d1, 5, .inl row)), (q2, .inl (d2, 12, .inl kn2)), (g0, .inr (1, [.ref q3, .int (nI N), .int 1, .ref q4, .ref q5])), (q3, .inl (d3, 6, .inl dd)), (q4, .inl (d4, 46656, .inl na2)), (q5, .inl (d5, 46656, .inl pl2))] H := hP
        have hD : va_D (fun q : Nat => s.heap.size ≤ q) [(h0, .inr (0, [.ref q1, .ref q2, .int (nI N)])), (q1, .inl (d1, 5, .inl row)), (q2, .inl (d2, 12, .inl kn2)), (g0, .inr (1, [.ref q3, .int (nI N), .int 1, .ref q4, .ref q5])), (q3, .inl (d3, 6, .inl dd)), (q4, .inl (d4, 46656, .inl na2)), (q5, .inl (d5, 46656, .inl pl2))] := hD
        have hK : va_K (dC, dI) vwCl [(d1, .int), (d2, .int), (d3, .int), (d4, .boolean), (d5, .boolean)] s := hK
        refine lv_icmp_eq (tgt := 203) hx hb dL_law_162 (by decide) (fun c1 => ?_) (fun c1 => ?_)
        · refine W.widen (k := 7 + 3 * (k + 1)) (n := 93343 + 10 * (k + 1)) (by omega) (by omega) ?_
          exact next N D row kn2 dd 1 na2 pl2 (zInv_tab (zInv_known hI hw1.2) hw2.2) H locs hP hD hS ls (lv_sub hl [0, 1, 2, 3] rfl)
        · exact absurd (hw1.1.trans ((law_Ns hN1 hN5).trans hw2.1.symm)) c1
      · refine lv_tableIn (tgt := 167) hx hb dL_law_32 (by decide +kernel) (by decide +kernel) (off := 135) (by decide +kernel) (by decide) ?_
        refine lv_aload_n hx hb dL_law_167 rfl (lv_at hl 1 rfl) ?_
        have hN := hNb
        have hPc := hP.sub (ws' := [(h0, .inr (0, [.ref q1, .ref q2, .int (nI N)])), (q1, .inl (d1, 5, .inl row)), (q2, .inl (d2, 12, .inl known))]) [0, 1, 2] rfl
        have hDc := hD.sub (ws' := [(h0, .inr (0, [.ref q1, .ref q2, .int (nI N)])), (q1, .inl (d1, 5, .inl row)), (q2, .inl (d2, 12, .inl known))]) [0, 1, 2] (by decide) rfl
        have hKc := hK.sub (tys' := [(d1, .int), (d2, .int)]) [0, 1] rfl
        have hFc := va_free (wc := [(h0, .inr (0, [.ref q1, .ref q2, .int (nI N)])), (q1, .inl (d1, 5, .inl row)), (q2, .inl (d2, 12, .inl known))]) hD hS hA [0, 1, 2] rfl
        refine va_calli (va_runV (As := []) (rest := []) ⟨hx, hb, hml, hown, hts⟩ (metX0_plays l dC dI H.size h0 q1 q2 d1 d2 row known N hN1 hN5 (hkno N false hN1 hN5)) (cwV 0 hts (lw_V q133 q134 q135 q7 q136) rfl rfl rfl (by decide +kernel) ⟨Nat.le_of_ble_eq_true rfl, Nat.le_of_ble_eq_true rfl⟩) ⟨fun a U g mk q => by obtain ⟨q0, q1, qP, qK, qD, qN⟩ := q; exact ⟨q0, q1, qP, va_K.moved (u := U) (U := U.calling g mk a) (Vm.Alike.refl U.vm) qK, qD, va_Nw.same rfl rfl qN⟩, va_recv hKc hPc (ci := 0) (q0 := 0) rfl rfl, fun U hU hW => ⟨rfl, by rw [hU], by rw [hU]; exact hPc, va_K.moved hW.alike hKc, hDc.weaken (fun _ _ _ _ => trivial), va_Nw.warmM hW hN⟩⟩ rfl rfl hl.1 rfl (lv_room (Nat.le_of_ble_eq_true rfl)) dL_law_168 ⟨by show 7 + 3 * k + 3 ≤ 600000; omega, by show 93343 + 10 * k + 10 ≤ 7302250; omega⟩) hS (fun q _ h => hFc q h) hFc (fun r1 kn2 tS H1 locs ht hvm hw1 hB hz1 hk1 hS => ?_)
        obtain ⟨hP1, hK1, hD1⟩ := hB
        rw [ht] at hP1
        have hK1 := va_K.moved hvm.symm hK1
        obtain ⟨hP, hD⟩ := va_join (wr := [(g0, .inr (1, [.ref q3, .int (nI N), .int x, .ref q4, .ref q5])), (q3, .inl (d3, 6, .inl dd)), (q4, .inl (d4, 46656, .inl na)), (q5, .inl (d5, 46656, .inl pl))]) (w1 := [(h0, .inr (0, [.ref q1, .ref q2, .int (nI N)])), (q1, .inl (d1, 5, .inl row)), (q2, .inl (d2, 12, .inl kn2))]) hP hD [0, 1, 2] [3, 4, 5, 6] rfl rfl (by decide) (by decide) hk1 hFc hP1 hD1
        have hK := (hK.sub (tys' := [(d3, .int), (d4, .boolean), (d5, .boolean)]) [2, 3, 4] rfl).app hK1
        generalize H1 = H at hP hS ⊢
        have hP : va_P (dC, dI) vwCl [(g0, .inr (1, [.ref q3, .int (nI N), .int x, .ref q4, .ref q5])), (q3, .inl (d3, 6, .inl dd)), (q4, .inl (d4, 46656, .inl na)), (q5, .inl (d5, 46656, .inl pl)), (h0, .inr (0, [.ref q1, .ref q2, .int (nI N)])), (q1, .inl (d1, 5, .inl row)), (q2, .inl (d2, 12, .inl kn2))] H := hP
        have hD : va_D (fun q : Nat => s.heap.size ≤ q) [(g0, .inr (1, [.ref q3, .int (nI N), .int x, .ref q4, .ref q5])), (q3, .inl (d3, 6, .inl dd)), (q4, .inl (d4, 46656, .inl na)), (q5, .inl (d5, 46656, .inl pl)), (h0, .inr (0, [.ref q1, .ref q2, .int (nI N)])), (q1, .inl (d1, 5, .inl row)), (q2, .inl (d2, 12, .inl kn2))] := hD
        have hK : va_K (dC, dI) vwCl [(d3, .int), (d4, .boolean), (d5, .boolean), (d1, .int), (d2, .int)] s := hK
        refine lv_aload_n hx hb dL_law_171 rfl (lv_at hl 2 rfl) ?_
        have hPc := hP.sub (ws' := [(g0, .inr (1, [.ref q3, .int (nI N), .int x, .ref q4, .ref q5])), (q3, .inl (d3, 6, .inl dd)), (q4, .inl (d4, 46656, .inl na)), (q5, .inl (d5, 46656, .inl pl))]) [0, 1, 2, 3] rfl
        have hDc := hD.sub (ws' := [(g0, .inr (1, [.ref q3, .int (nI N), .int x, .ref q4, .ref q5])), (q3, .inl (d3, 6, .inl dd)), (q4, .inl (d4, 46656, .inl na)), (q5, .inl (d5, 46656, .inl pl))]) [0, 1, 2, 3] (by decide) rfl
        have hKc := hK.sub (tys' := [(d3, .int), (d4, .boolean), (d5, .boolean)]) [0, 1, 2] rfl
        have hFc := va_free (wc := [(g0, .inr (1, [.ref q3, .int (nI N), .int x, .ref q4, .ref q5])), (q3, .inl (d3, 6, .inl dd)), (q4, .inl (d4, 46656, .inl na)), (q5, .inl (d5, 46656, .inl pl))]) hD hS hA [0, 1, 2, 3] rfl
        refine va_calli (va_runV (As := []) (rest := [.int r1]) ⟨hx, hb, hml, hown, hts⟩ (metX1_plays l dC dI H.size g0 q3 q4 q5 d3 d4 d5 dd na pl x N hN1 hN5 hmk) (cwV 0 hts (lw_V q194 q195 q196 q8 q197) rfl rfl rfl (by decide +kernel) ⟨Nat.le_of_ble_eq_true rfl, Nat.le_of_ble_eq_true rfl⟩) ⟨fun a U g mk q => by obtain ⟨q0, q1, qP, qK, qD⟩ := q; exact ⟨q0, q1, qP, va_K.moved (u := U) (U := U.calling g mk a) (Vm.Alike.refl U.vm) qK, qD⟩, va_recv hKc hPc (ci := 1) (q0 := 0) rfl rfl, fun U hU hW => ⟨rfl, by rw [hU], by rw [hU]; exact hPc, va_K.moved hW.alike hKc, hDc.weaken (fun _ _ _ _ => trivial)⟩⟩ rfl rfl hl.1 rfl (lv_room (Nat.le_of_ble_eq_true rfl)) dL_law_172 ⟨by show 7 + 3 * k + 3 + 0 ≤ 600000; omega, by show 93343 + 10 * k + 10 + 0 ≤ 7302250; omega⟩) hS (fun q _ h => hFc q h) hFc (fun r2 u tS H1 locs ht hvm hw2 hB hz1 hk1 hS => ?_)
        obtain ⟨na2, pl2⟩ := u
        obtain ⟨hP1, hK1, hD1⟩ := hB
        rw [ht] at hP1
        have hK1 := va_K.moved hvm.symm hK1
        obtain ⟨hP, hD⟩ := va_join (wr := [(h0, .inr (0, [.ref q1, .ref q2, .int (nI N)])), (q1, .inl (d1, 5, .inl row)), (q2, .inl (d2, 12, .inl kn2))]) (w1 := [(g0, .inr (1, [.ref q3, .int (nI N), .int 1, .ref q4, .ref q5])), (q3, .inl (d3, 6, .inl dd)), (q4, .inl (d4, 46656, .inl na2)), (q5, .inl (d5, 46656, .inl pl2))]) hP hD [0, 1, 2, 3] [4, 5, 6] rfl rfl (by decide) (by decide) hk1 hFc hP1 hD1
        have hK := (hK.sub (tys' := [(d1, .int), (d2, .int)]) [3, 4] rfl).app hK1
        generalize H1 = H at hP hS ⊢
        have hP : va_P (dC, dI) vwCl [(h0, .inr (0, [.ref q1, .ref q2, .int (nI N)])), (q1, .inl (d1, 5, .inl row)), (q2, .inl (d2, 12, .inl kn2)), (g0, .inr (1, [.ref q3, .int (nI N), .int 1, .ref q4, .ref q5])), (q3, .inl (d3, 6, .inl dd)), (q4, .inl (d4, 46656, .inl na2)), (q5, .inl (d5, 46656, .inl pl2))] H := hP
        have hD : va_D (fun q : Nat => s.heap.size ≤ q) [(h0, .inr (0, [.ref q1, .ref q2, .int (nI N)])), (q1, .inl (d1, 5, .inl row)), (q2, .inl (d2, 12, .inl kn2)), (g0, .inr (1, [.ref q3, .int (nI N), .int 1, .ref q4, .ref q5])), (q3, .inl (d3, 6, .inl dd)), (q4, .inl (d4, 46656, .inl na2)), (q5, .inl (d5, 46656, .inl pl2))] := hD
        have hK : va_K (dC, dI) vwCl [(d1, .int), (d2, .int), (d3, .int), (d4, .boolean), (d5, .boolean)] s := hK
        refine lv_icmp_eq (tgt := 203) hx hb dL_law_175 (by decide) (fun c1 => ?_) (fun c1 => ?_)
        · refine W.widen (k := 7 + 3 * (k + 1)) (n := 93343 + 10 * (k + 1)) (by omega) (by omega) ?_
          exact next N D row kn2 dd 1 na2 pl2 (zInv_tab (zInv_known hI hw1.2) hw2.2) H locs hP hD hS ls (lv_sub hl [0, 1, 2, 3] rfl)
        · exact absurd (hw1.1.trans ((law_Ps hN1 hN5).trans hw2.1.symm)) c1
      · refine lv_tableIn (tgt := 180) hx hb dL_law_32 (by decide +kernel) (by decide +kernel) (off := 148) (by decide +kernel) (by decide) ?_
        refine lv_aload_n hx hb dL_law_180 rfl (lv_at hl 1 rfl) ?_
        refine lv_aload_n hx hb dL_law_181 rfl (lv_at hl 0 rfl) ?_
        refine lv_iload_n hx hb dL_law_182 rfl (lv_at hl 3 rfl) ?_
        refine lv_iconst (v := 1) hx hb dL_law_183 (by decide) ?_
        refine lv_iadd hx hb dL_law_184 ?_
        refine w_top (x' := nI (3 * k + 1)) (nI_add (3 * k) 1) ?_
        refine my_sld hx hb hX hbl hbA hS (3 * k + 1) (rfl) (by omega) (by omega) dL_law_185 ?_
        have hPc := hP.sub (ws' := [(h0, .inr (0, [.ref q1, .ref q2, .int (nI N)])), (q1, .inl (d1, 5, .inl row)), (q2, .inl (d2, 12, .inl known))]) [0, 1, 2] rfl
        have hDc := hD.sub (ws' := [(h0, .inr (0, [.ref q1, .ref q2, .int (nI N)])), (q1, .inl (d1, 5, .inl row)), (q2, .inl (d2, 12, .inl known))]) [0, 1, 2] (by decide) rfl
        have hKc := hK.sub (tys' := [(d1, .int), (d2, .int)]) [0, 1] rfl
        have hFc := va_free (wc := [(h0, .inr (0, [.ref q1, .ref q2, .int (nI N)])), (q1, .inl (d1, 5, .inl row)), (q2, .inl (d2, 12, .inl known))]) hD hS hA [0, 1, 2] rfl
        refine va_calli (va_runV (As := [.int (xs (3 * k + 1))]) (rest := []) ⟨hx, hb, hml, hown, hts⟩ (metX0_at l dC dI H.size h0 q1 q2 d1 d2 row known N (xs (3 * k + 1)) hN1 hN5) (cwV 1 hts (lw_V q137 q138 q139 q7 q140) rfl rfl rfl (by decide +kernel) ⟨Nat.le_of_ble_eq_true rfl, Nat.le_of_ble_eq_true rfl⟩) ⟨fun a U g mk q => by obtain ⟨q0, q1, qP, qK, qD⟩ := q; exact ⟨q0, q1, qP, va_K.moved (u := U) (U := U.calling g mk a) (Vm.Alike.refl U.vm) qK, qD⟩, va_recv hKc hPc (ci := 0) (q0 := 0) rfl rfl, fun U hU hW => ⟨rfl, by rw [hU], by rw [hU]; exact hPc, va_K.moved hW.alike hKc, hDc.weaken (fun _ _ _ _ => trivial)⟩⟩ rfl rfl hl.1 rfl (lv_room (Nat.le_of_ble_eq_true rfl)) dL_law_186 ⟨by show 7 + 3 * k + 0 ≤ 600000; omega, by show 93343 + 10 * k + 0 ≤ 7302250; omega⟩) hS (fun q _ h => hFc q h) hFc (fun r1 u tS H1 locs ht hvm hw1 hB hz1 hk1 hS => ?_)
        obtain ⟨hP1, hK1, hD1⟩ := hB
        rw [ht] at hP1
        have hK1 := va_K.moved hvm.symm hK1
        obtain ⟨hP, hD⟩ := va_join (wr := [(g0, .inr (1, [.ref q3, .int (nI N), .int x, .ref q4, .ref q5])), (q3, .inl (d3, 6, .inl dd)), (q4, .inl (d4, 46656, .inl na)), (q5, .inl (d5, 46656, .inl pl))]) (w1 := [(h0, .inr (0, [.ref q1, .ref q2, .int (nI N)])), (q1, .inl (d1, 5, .inl row)), (q2, .inl (d2, 12, .inl known))]) hP hD [0, 1, 2] [3, 4, 5, 6] rfl rfl (by decide) (by decide) hk1 hFc hP1 hD1
        have hK := (hK.sub (tys' := [(d3, .int), (d4, .boolean), (d5, .boolean)]) [2, 3, 4] rfl).app hK1
        generalize H1 = H at hP hS ⊢
        have hP : va_P (dC, dI) vwCl [(g0, .inr (1, [.ref q3, .int (nI N), .int x, .ref q4, .ref q5])), (q3, .inl (d3, 6, .inl dd)), (q4, .inl (d4, 46656, .inl na)), (q5, .inl (d5, 46656, .inl pl)), (h0, .inr (0, [.ref q1, .ref q2, .int (nI N)])), (q1, .inl (d1, 5, .inl row)), (q2, .inl (d2, 12, .inl known))] H := hP
        have hD : va_D (fun q : Nat => s.heap.size ≤ q) [(g0, .inr (1, [.ref q3, .int (nI N), .int x, .ref q4, .ref q5])), (q3, .inl (d3, 6, .inl dd)), (q4, .inl (d4, 46656, .inl na)), (q5, .inl (d5, 46656, .inl pl)), (h0, .inr (0, [.ref q1, .ref q2, .int (nI N)])), (q1, .inl (d1, 5, .inl row)), (q2, .inl (d2, 12, .inl known))] := hD
        have hK : va_K (dC, dI) vwCl [(d3, .int), (d4, .boolean), (d5, .boolean), (d1, .int), (d2, .int)] s := hK
        refine lv_aload_n hx hb dL_law_189 rfl (lv_at hl 2 rfl) ?_
        refine lv_aload_n hx hb dL_law_190 rfl (lv_at hl 0 rfl) ?_
        refine lv_iload_n hx hb dL_law_191 rfl (lv_at hl 3 rfl) ?_
        refine lv_iconst (v := 1) hx hb dL_law_192 (by decide) ?_
        refine lv_iadd hx hb dL_law_193 ?_
        refine w_top (x' := nI (3 * k + 1)) (nI_add (3 * k) 1) ?_
        refine my_sld hx hb hX hbl hbA hS (3 * k + 1) (rfl) (by omega) (by omega) dL_law_194 ?_
        have hPc := hP.sub (ws' := [(g0, .inr (1, [.ref q3, .int (nI N), .int x, .ref q4, .ref q5])), (q3, .inl (d3, 6, .inl dd)), (q4, .inl (d4, 46656, .inl na)), (q5, .inl (d5, 46656, .inl pl))]) [0, 1, 2, 3] rfl
        have hDc := hD.sub (ws' := [(g0, .inr (1, [.ref q3, .int (nI N), .int x, .ref q4, .ref q5])), (q3, .inl (d3, 6, .inl dd)), (q4, .inl (d4, 46656, .inl na)), (q5, .inl (d5, 46656, .inl pl))]) [0, 1, 2, 3] (by decide) rfl
        have hKc := hK.sub (tys' := [(d3, .int), (d4, .boolean), (d5, .boolean)]) [0, 1, 2] rfl
        have hFc := va_free (wc := [(g0, .inr (1, [.ref q3, .int (nI N), .int x, .ref q4, .ref q5])), (q3, .inl (d3, 6, .inl dd)), (q4, .inl (d4, 46656, .inl na)), (q5, .inl (d5, 46656, .inl pl))]) hD hS hA [0, 1, 2, 3] rfl
        refine va_calli (va_runV (As := [.int (xs (3 * k + 1))]) (rest := [.int r1]) ⟨hx, hb, hml, hown, hts⟩ (metX1_at l dC dI H.size g0 q3 q4 q5 d3 d4 d5 dd na pl x N (xs (3 * k + 1)) hN1 hN5) (cwV 1 hts (lw_V q198 q199 q200 q8 q201) rfl rfl rfl (by decide +kernel) ⟨Nat.le_of_ble_eq_true rfl, Nat.le_of_ble_eq_true rfl⟩) ⟨fun a U g mk q => by obtain ⟨q0, q1, qP, qK, qD⟩ := q; exact ⟨q0, q1, qP, va_K.moved (u := U) (U := U.calling g mk a) (Vm.Alike.refl U.vm) qK, qD⟩, va_recv hKc hPc (ci := 1) (q0 := 0) rfl rfl, fun U hU hW => ⟨rfl, by rw [hU], by rw [hU]; exact hPc, va_K.moved hW.alike hKc, hDc.weaken (fun _ _ _ _ => trivial)⟩⟩ rfl rfl hl.1 rfl (lv_room (Nat.le_of_ble_eq_true rfl)) dL_law_195 ⟨by show 7 + 3 * k + 0 + 0 ≤ 600000; omega, by show 93343 + 10 * k + 0 + 0 ≤ 7302250; omega⟩) hS (fun q _ h => hFc q h) hFc (fun r2 u tS H1 locs ht hvm hw2 hB hz1 hk1 hS => ?_)
        obtain ⟨hP1, hK1, hD1⟩ := hB
        rw [ht] at hP1
        have hK1 := va_K.moved hvm.symm hK1
        obtain ⟨hP, hD⟩ := va_join (wr := [(h0, .inr (0, [.ref q1, .ref q2, .int (nI N)])), (q1, .inl (d1, 5, .inl row)), (q2, .inl (d2, 12, .inl known))]) (w1 := [(g0, .inr (1, [.ref q3, .int (nI N), .int x, .ref q4, .ref q5])), (q3, .inl (d3, 6, .inl dd)), (q4, .inl (d4, 46656, .inl na)), (q5, .inl (d5, 46656, .inl pl))]) hP hD [0, 1, 2, 3] [4, 5, 6] rfl rfl (by decide) (by decide) hk1 hFc hP1 hD1
        have hK := (hK.sub (tys' := [(d1, .int), (d2, .int)]) [3, 4] rfl).app hK1
        generalize H1 = H at hP hS ⊢
        have hP : va_P (dC, dI) vwCl [(h0, .inr (0, [.ref q1, .ref q2, .int (nI N)])), (q1, .inl (d1, 5, .inl row)), (q2, .inl (d2, 12, .inl known)), (g0, .inr (1, [.ref q3, .int (nI N), .int x, .ref q4, .ref q5])), (q3, .inl (d3, 6, .inl dd)), (q4, .inl (d4, 46656, .inl na)), (q5, .inl (d5, 46656, .inl pl))] H := hP
        have hD : va_D (fun q : Nat => s.heap.size ≤ q) [(h0, .inr (0, [.ref q1, .ref q2, .int (nI N)])), (q1, .inl (d1, 5, .inl row)), (q2, .inl (d2, 12, .inl known)), (g0, .inr (1, [.ref q3, .int (nI N), .int x, .ref q4, .ref q5])), (q3, .inl (d3, 6, .inl dd)), (q4, .inl (d4, 46656, .inl na)), (q5, .inl (d5, 46656, .inl pl))] := hD
        have hK : va_K (dC, dI) vwCl [(d1, .int), (d2, .int), (d3, .int), (d4, .boolean), (d5, .boolean)] s := hK
        refine lv_icmp_eq (tgt := 203) hx hb dL_law_198 (by decide) (fun c1 => ?_) (fun c1 => ?_)
        · refine W.widen (k := 7 + 3 * (k + 1)) (n := 93343 + 10 * (k + 1)) (by omega) (by omega) ?_
          exact next N D row known dd x na pl hI H locs hP hD hS ls (lv_sub hl [0, 1, 2, 3] rfl)
        · have hix := hrow (zIx (xs (3 * k + 1)) N) (Nat.lt_of_lt_of_le (zIx_lt _ (by omega)) hN5)
          exact absurd (hw1.trans (hix.2.1.trans (hix.2.2.symm.trans hw2.symm))) c1
      · refine lv_tableOut (tgt := 203) hx hb dL_law_32 (Or.inr (by decide +kernel)) (by decide) ?_
        refine W.widen (k := 7 + 3 * (k + 1)) (n := 93343 + 10 * (k + 1)) (by omega) (by omega) ?_
        exact next N D row known dd x na pl hI H locs hP hD hS ls (lv_sub hl [0, 1, 2, 3] rfl)
end
section
/-! the law, from its entry -/
set_option maxHeartbeats 4000000 in
set_option maxRecDepth 100000 in
/-- the law, from its entry -/
theorem whole_start {p : Program} {e : Env} {s : State} {m : MethodId} {below : List Frame} {meth : Method} {c : Code} (l : Launch) {b L : Nat} {xs : Nat → Int32} (hL : L ≤ 192) (C0 : lw_At p s m meth c b L xs) : W p l e room_1 s m #[Value.ref b] below meth c s.heap [] 0 0 (lw_Z below #[Value.ref b] s) (entryFrame m ([Value.ref b] : List Value).toArray 4) := by
  obtain ⟨hx, hb, hr, hml, hown, hts0, hX, hbl, hlocks, hgv⟩ := id C0
  have hts : ∀ w ∈ lw_all, w.before #[Value.ref b] s = true := fun w h => hts0 w (lw_all_tbl h)
  have hA : ∀ q : Nat, s.heap.size ≤ q → (fun q : Nat => s.heap.size ≤ q) q := fun _ h => h
  have hbA : ¬ (fun q : Nat => s.heap.size ≤ q) b := Nat.not_le.mpr hbl
  obtain ⟨k0, i0, hKn0⟩ := u_known (C := RX0) (T := TX0) (N := 3) (n := 3) hts in_X0 (hts _ q13)
  obtain ⟨k1, i1, hKn1⟩ := u_known (C := RX1) (T := TX1) (N := 5) (n := 5) hts in_X1 (hts _ q142)
  obtain ⟨k2, i2, hKn2⟩ := u_known (C := RX2) (T := TX2) (N := 2) (n := 2) hts in_X2 (hts _ q49)
  obtain ⟨k3, i3, hKn3⟩ := u_known (C := RX3) (T := TX3) (N := 2) (n := 2) hts in_X3 (hts _ q104)
  obtain ⟨dC, dI, hKc⟩ : ∃ (dC : Nat → ClassId) (dI : Nat → Nat → Nat), ∀ (k : Nat) (q : vw_C), vwCl[k]? = some q → u_Kn s q.1 q.2.1 q.2.2 (dC k) (dI k) := by
    refine ⟨fun k => if k = 0 then k0 else if k = 1 then k1 else if k = 2 then k2 else k3, fun k => if k = 0 then i0 else if k = 1 then i1 else if k = 2 then i2 else i3, ?_⟩
    intro k q hq
    match k, hq with
    | 0, hq => cases hq; exact hKn0
    | 1, hq => cases hq; exact hKn1
    | 2, hq => cases hq; exact hKn2
    | 3, hq => cases hq; exact hKn3
    | k + 4, hq => simp [vwCl] at hq
  have hS : va_S (fun q : Nat => s.heap.size ≤ q) s.heap s.heap [] := va_S.rf
  have hK : va_K (dC, dI) vwCl [] s := ⟨hKc, fun k q h => by simp at h⟩
  have hP : va_P (dC, dI) vwCl [] s.heap := fun k q h => by simp at h
  have hD : va_D (fun q : Nat => s.heap.size ≤ q) [] := ⟨fun i j p q h => by simp at h, fun k q h => by simp at h⟩
  have hl := lv_entry ([.ref b]) (n := 4) (Nat.le_of_ble_eq_true rfl)
  rw [lg_entry_eq]
  generalize (lg_sl ([.ref b]) ++ List.replicate (4 - (lg_sl ([.ref b])).length) Slot.unset).toArray = ls at hl ⊢
  have hl : lv_has ls 4 [(0, .ref b)] := hl
  refine va_new (ci := 0) (fs := [.null, .null, .int 0]) (C := RX0) (T := TX0) (N := 3) hx hb hts in_X0 tyX0 tyX0_ok hown (hts _ q12) (hts _ q13) (hts _ q7) hK hP hD hS hA rfl (fun j hj => by rcases (show j = 0 ∨ j = 1 ∨ j = 2 by omega) with rfl | rfl | rfl <;> rfl) (Nat.le_of_ble_eq_true rfl) (Nat.le_of_ble_eq_true rfl) dL_law_0 (fun h0 H hP hD hS => ?_)
  have hP : va_P (dC, dI) vwCl [(h0, .inr (0, [.null, .null, .int 0]))] H := hP
  have hD : va_D (fun q : Nat => s.heap.size ≤ q) [(h0, .inr (0, [.null, .null, .int 0]))] := hD
  refine W.widen (k := 1) (n := 3) (Nat.le_of_ble_eq_true rfl) (Nat.le_of_ble_eq_true rfl) ?_
  refine lv_dup hx hb dL_law_3 rfl ?_
  have hPc := hP.sub (ws' := [(h0, .inr (0, [.null, .null, .int 0]))]) [0] rfl
  have hDc := hD.sub (ws' := [(h0, .inr (0, [.null, .null, .int 0]))]) [0] (by decide) rfl
  have hKc := hK.sub (tys' := []) [] rfl
  have hFc := va_free (wc := [(h0, .inr (0, [.null, .null, .int 0]))]) hD hS hA [0] rfl
  refine va_callv (va_runI (As := []) (rest := [.ref h0]) ⟨hx, hb, hml, hown, hts⟩ (metX0_init l dC dI H.size h0) (cwI 0 hts (lw_meth q16) rfl rfl rfl (hts _ q7) (hts _ q14) (hts _ q15) rfl (by decide +kernel) ⟨Nat.le_of_ble_eq_true rfl, Nat.le_of_ble_eq_true rfl⟩) ⟨fun a U g mk q => by obtain ⟨q0, q1, qP, qK, qD⟩ := q; exact ⟨q0, q1, qP, va_K.moved (u := U) (U := U.calling g mk a) (Vm.Alike.refl U.vm) qK, qD⟩, fun U hU hW => ⟨rfl, by rw [hU], by rw [hU]; exact hPc, va_K.moved hW.alike hKc, hDc.weaken (fun _ _ _ _ => trivial)⟩⟩ rfl rfl hl.1 rfl (lv_room (Nat.le_of_ble_eq_true rfl)) dL_law_4 ⟨Nat.le_of_ble_eq_true rfl, Nat.le_of_ble_eq_true rfl⟩) hS (fun q _ h => hFc q h) hFc (fun u tS H1 locs ht hvm hw hB hz1 hk1 hS => ?_)
  obtain ⟨q1, q2, d1, d2⟩ := u
  obtain ⟨hP1, hK1, hD1⟩ := hB
  rw [ht] at hP1
  have hK1 := va_K.moved hvm.symm hK1
  obtain ⟨hP, hD⟩ := va_join (wr := []) (w1 := [(h0, .inr (0, [.ref q1, .ref q2, .int 4])), (q1, .inl (d1, 5, .inl (fun _ => 0))), (q2, .inl (d2, 12, .inl (fun _ => 0)))]) hP hD [0] [] rfl rfl (by decide) (by decide) hk1 hFc hP1 hD1
  have hK := (hK.sub (tys' := []) [] rfl).app hK1
  generalize H1 = H at hP hS ⊢
  have hP : va_P (dC, dI) vwCl [(h0, .inr (0, [.ref q1, .ref q2, .int 4])), (q1, .inl (d1, 5, .inl (fun _ => 0))), (q2, .inl (d2, 12, .inl (fun _ => 0)))] H := hP
  have hD : va_D (fun q : Nat => s.heap.size ≤ q) [(h0, .inr (0, [.ref q1, .ref q2, .int 4])), (q1, .inl (d1, 5, .inl (fun _ => 0))), (q2, .inl (d2, 12, .inl (fun _ => 0)))] := hD
  have hK : va_K (dC, dI) vwCl [(d1, .int), (d2, .int)] s := hK
  refine W.widen (k := 3) (n := 20) (Nat.le_of_ble_eq_true rfl) (Nat.le_of_ble_eq_true rfl) ?_
  refine lv_astore_n (lv' := [(1, .ref h0), (0, .ref b)]) hx hb dL_law_7 rfl hl (by decide) rfl (fun ls hl => ?_)
  refine va_new (ci := 1) (fs := [.null, .int 0, .int 0, .null, .null]) (C := RX1) (T := TX1) (N := 5) hx hb hts in_X1 tyX1 tyX1_ok hown (hts _ q141) (hts _ q142) (hts _ q8) hK hP hD hS hA rfl (fun j hj => by rcases (show j = 0 ∨ j = 1 ∨ j = 2 ∨ j = 3 ∨ j = 4 by omega) with rfl | rfl | rfl | rfl | rfl <;> rfl) (Nat.le_of_ble_eq_true rfl) (Nat.le_of_ble_eq_true rfl) dL_law_8 (fun g0 H hP hD hS => ?_)
  have hP : va_P (dC, dI) vwCl [(h0, .inr (0, [.ref q1, .ref q2, .int 4])), (q1, .inl (d1, 5, .inl (fun _ => 0))), (q2, .inl (d2, 12, .inl (fun _ => 0))), (g0, .inr (1, [.null, .int 0, .int 0, .null, .null]))] H := hP
  have hD : va_D (fun q : Nat => s.heap.size ≤ q) [(h0, .inr (0, [.ref q1, .ref q2, .int 4])), (q1, .inl (d1, 5, .inl (fun _ => 0))), (q2, .inl (d2, 12, .inl (fun _ => 0))), (g0, .inr (1, [.null, .int 0, .int 0, .null, .null]))] := hD
  refine W.widen (k := 4) (n := 25) (Nat.le_of_ble_eq_true rfl) (Nat.le_of_ble_eq_true rfl) ?_
  refine lv_dup hx hb dL_law_11 rfl ?_
  have hPc := hP.sub (ws' := [(g0, .inr (1, [.null, .int 0, .int 0, .null, .null]))]) [3] rfl
  have hDc := hD.sub (ws' := [(g0, .inr (1, [.null, .int 0, .int 0, .null, .null]))]) [3] (by decide) rfl
  have hKc := hK.sub (tys' := []) [] rfl
  have hFc := va_free (wc := [(g0, .inr (1, [.null, .int 0, .int 0, .null, .null]))]) hD hS hA [3] rfl
  refine va_callv (va_runI (As := []) (rest := [.ref g0]) ⟨hx, hb, hml, hown, hts⟩ (metX1_init l dC dI H.size g0) (cwI 0 hts (lw_meth q145) rfl rfl rfl (hts _ q8) (hts _ q143) (hts _ q144) rfl (by decide +kernel) ⟨Nat.le_of_ble_eq_true rfl, Nat.le_of_ble_eq_true rfl⟩) ⟨fun a U g mk q => by obtain ⟨q0, q1, qP, qK, qD⟩ := q; exact ⟨q0, q1, qP, va_K.moved (u := U) (U := U.calling g mk a) (Vm.Alike.refl U.vm) qK, qD⟩, fun U hU hW => ⟨rfl, by rw [hU], by rw [hU]; exact hPc, va_K.moved hW.alike hKc, hDc.weaken (fun _ _ _ _ => trivial)⟩⟩ rfl rfl hl.1 rfl (lv_room (Nat.le_of_ble_eq_true rfl)) dL_law_12 ⟨Nat.le_of_ble_eq_true rfl, Nat.le_of_ble_eq_true rfl⟩) hS (fun q _ h => hFc q h) hFc (fun u tS H1 locs ht hvm hw hB hz1 hk1 hS => ?_)
  obtain ⟨q3, q4, q5, d3, d4, d5⟩ := u
  obtain ⟨hP1, hK1, hD1⟩ := hB
  rw [ht] at hP1
  have hK1 := va_K.moved hvm.symm hK1
  obtain ⟨hP, hD⟩ := va_join (wr := [(h0, .inr (0, [.ref q1, .ref q2, .int 4])), (q1, .inl (d1, 5, .inl (fun _ => 0))), (q2, .inl (d2, 12, .inl (fun _ => 0)))]) (w1 := [(g0, .inr (1, [.ref q3, .int 4, .int 0, .ref q4, .ref q5])), (q3, .inl (d3, 6, .inl (fun _ => 0))), (q4, .inl (d4, 46656, .inl (fun _ => 0))), (q5, .inl (d5, 46656, .inl (fun _ => 0)))]) hP hD [3] [0, 1, 2] rfl rfl (by decide) (by decide) hk1 hFc hP1 hD1
  have hK := (hK.sub (tys' := [(d1, .int), (d2, .int)]) [0, 1] rfl).app hK1
  generalize H1 = H at hP hS ⊢
  have hP : va_P (dC, dI) vwCl [(h0, .inr (0, [.ref q1, .ref q2, .int 4])), (q1, .inl (d1, 5, .inl (fun _ => 0))), (q2, .inl (d2, 12, .inl (fun _ => 0))), (g0, .inr (1, [.ref q3, .int 4, .int 0, .ref q4, .ref q5])), (q3, .inl (d3, 6, .inl (fun _ => 0))), (q4, .inl (d4, 46656, .inl (fun _ => 0))), (q5, .inl (d5, 46656, .inl (fun _ => 0)))] H := hP
  have hD : va_D (fun q : Nat => s.heap.size ≤ q) [(h0, .inr (0, [.ref q1, .ref q2, .int 4])), (q1, .inl (d1, 5, .inl (fun _ => 0))), (q2, .inl (d2, 12, .inl (fun _ => 0))), (g0, .inr (1, [.ref q3, .int 4, .int 0, .ref q4, .ref q5])), (q3, .inl (d3, 6, .inl (fun _ => 0))), (q4, .inl (d4, 46656, .inl (fun _ => 0))), (q5, .inl (d5, 46656, .inl (fun _ => 0)))] := hD
  have hK : va_K (dC, dI) vwCl [(d1, .int), (d2, .int), (d3, .int), (d4, .boolean), (d5, .boolean)] s := hK
  refine W.widen (k := 7) (n := 93343) (Nat.le_of_ble_eq_true rfl) (Nat.le_of_ble_eq_true rfl) ?_
  refine lv_astore_n (lv' := [(2, .ref g0), (1, .ref h0), (0, .ref b)]) hx hb dL_law_15 rfl hl (by decide) rfl (fun ls hl => ?_)
  refine lv_iconst (v := 0) hx hb dL_law_16 (by decide) ?_
  refine lv_istore_n (lv' := [(3, .int 0), (2, .ref g0), (1, .ref h0), (0, .ref b)]) hx hb dL_law_17 rfl hl (by decide) rfl (fun ls hl => ?_)
  have hI : zInv 4 (fun _ => 0) (fun _ => 0) (fun _ => 0) (fun _ => 0) 0 (fun _ => 0) (fun _ => 0) := ⟨by decide, by decide, fun a _ => ⟨show 0 < 6 by decide, rfl, rfl⟩, fun M bb _ _ => Or.inl rfl, Or.inl rfl⟩
  have hNa : va_Nw (.methodLinkNest "ScoreRows" 23 yX2_init "ScoreRows") s := va_Nw.of rfl (hts0 _ q50)
  have hNb : va_Nw (.methodLinkNest "ScoreRows$Counter" 9 yX2_init "ScoreRows") s := va_Nw.of rfl (hts0 _ q110)
  exact law_loop hL C0 hNa hNb hK (L + 1) 0 (by omega) (by omega) 4 (fun _ => 0) (fun _ => 0) (fun _ => 0) (fun _ => 0) 0 (fun _ => 0) (fun _ => 0) hI H locs hP hD hS ls (lv_sub hl [3, 2, 1, 0] rfl)
end
section
set_option maxHeartbeats 4000000 in
theorem lw_walk (l : Launch) (b : Addr) (xs : List Int32) : MetFree l x (headSpec (Jvm.Cond.code x code maxLocals ret :: tables_1) room_1) (lw_P b xs) (fun _ _ _ _ _ => True) lw_Q := by
  refine MetFree.of_bodyS (code := code) (maxLocals := maxLocals) (ret := ret) (by decide) ?_ ?_
  · intro args s m h hn
    obtain ⟨meth, c, h1, h2, h3, h4, h5, h6, -, -⟩ := Cond.code_spec hn (atoms_spec (ws := Jvm.Cond.code x code maxLocals ret :: tables_1) h _ List.mem_cons_self)
    exact ⟨meth, c, h1, h2, h3, h4, h5, h6⟩
  · intro p e s m args below meth c s₁ B hml0 hP _
    obtain ⟨rfl, hx, hbd, hgv⟩ := hP
    obtain ⟨scr, harrAt, hlist, hof, hsmall⟩ := hx
    obtain ⟨hcb, hkn, -, -⟩ := State.arrayAt?_spec harrAt
    have hown : s.vm.findClass R_law = some m.cls := findClass_of_methodNamed B.named
    have hts0 : ∀ c ∈ (Jvm.Cond.code x code maxLocals ret :: tables_1), c.before #[Value.ref b] s = true := atoms_spec (ws := Jvm.Cond.code x code maxLocals ret :: tables_1) B.pre
    have hts : ∀ w ∈ lw_tbl, w.before #[Value.ref b] s = true := k2_hts_sels lw_privs (fun w hw => hts0 w (List.mem_cons_of_mem _ hw)) lw_privs_ok
    have hml : c.maxLocals = 4 := B.maxLocals_eq (hts0 _ List.mem_cons_self)
    have X₀ : Stand p l e room_1 s m #[Value.ref b] below meth c s₁ [] 0 0 := Stand.of_body B
    have hh0 : s₁.heap = s.heap := by rw [B.state]; rfl
    have hsz : scr.slots.size = xs.length := by rw [← Array.length_toList, hlist, List.length_map]
    have hval : ∀ j : Nat, j < xs.length → scr.slots[j]? = some (.int (xs.getD j 0)) := fun j hj => by
      rw [← Array.getElem?_toList, hlist]
      simp [hj]
    have hbl : b < s.heap.size := (Array.getElem?_eq_some_iff.mp hcb).1
    have hX : va_X b xs.length (fun j => xs.getD j 0) s s.heap := ⟨scr, hcb, hof, hkn, hsz, hval⟩
    have K : W p l e room_1 s m #[Value.ref b] below meth c s₁.heap [] 0 0 (lw_Z below #[Value.ref b] s) (entryFrame m ([Value.ref b] : List Value).toArray 4) := by
      rw [hh0]
      exact whole_start l hbd ⟨B.exec, B.bytes, B.returns, hml, hown, hts, hX, hbl, B.notSynchronized, hgv⟩
    obtain ⟨t, a1, o, b1, b2, b3⟩ := K s₁ rfl X₀
    exact ⟨t, o, a1, b1, b2, b3⟩
theorem lw_pre_spec {args : Array Value} {s : State} (h : (Jvm.Cond.and given_1 narrow_1).before args s = true) (hr : rest_1_c.before args s = true) : ∃ (b : Addr) (xs : List Int32), lw_P b xs args s := by
  have hs := flat_of_before _ h
  have hq := flat_of_before _ hr
  have hc : (Cond.count 1).before args s = true := hs _ (by decide +kernel)
  have harr : (Cond.arrayOf (.arg 0) .int).before args s = true := hs _ (by decide +kernel)
  have hle : (Cond.le (.length (.arg 0)) (.int 192)).before args s = true := hs _ (by decide +kernel)
  have hlen : (Cond.isInt (.length (.arg 0))).before args s = true := hq _ (by decide +kernel)
  have hall : (Cond.all (.arg 0) (.isInt (.elem (.arg 0) (.index 0)))).before args s = true := hq _ (by decide +kernel)
  obtain ⟨b, xs, hb, hx⟩ := State.ints_of_pre rfl harr hlen hall
  have hsm : xs.length < 2 ^ 31 := hx.choose_spec.2.2.2
  have hev : (Term.length (.arg 0)).eval args s none [] s = some (.int xs.length.toInt32) := hx.length_eval hb
  have hv := Cond.le_ints hev (show (Term.int 192).eval args s none [] s = some (.int 192) from rfl)
  have hd : xs.length.toInt32 ≤ 192 := by
    simpa [Cond.before, Cond.holds, hv] using hle
  have hN : xs.length ≤ 192 := (Int32.ofNat_le_ofNat hsm (by decide)).mp (show Int32.ofNat xs.length ≤ Int32.ofNat 192 from hd)
  exact ⟨b, xs, Cond.one_arg hc (show args[0]? = some (.ref b) from hb), hx, hN, h⟩
theorem lw_comes (l : Launch) : Comes l x (Jvm.Cond.code x code maxLocals ret :: tables_1) room_1 (fun tb e args s => Calls_1 tb e args s ∧ rest_1 tb e args s ∧ Pre_1 tb e args s)
    (fun _ _ args s o t => lw_Q args s o t) := by
  intro p e ha hc hk s m args below hf hfit hheap happ hpre
  obtain ⟨b, xs, hP⟩ := lw_pre_spec hpre.2.2 hpre.2.1
  obtain ⟨k, o, h1, h2, h3, hQ⟩ := lw_walk l b xs p e ha hc hk s m args below hf ((Spec.applies_iff_loose hf).mp happ).1 hP trivial
  exact ⟨k, o, h1, h2, h3, hQ⟩
theorem lw_frame {s t : State} {o : Outcome} {args : Array Value} (h : Framed s o t [] 600000 7302250) :
    Framed s o t (fieldLocs frame_1_writes args s ++ arrayLocs frame_1_arrays args s ++ staticLocs frame_1_statics s) 600000 7302250 := h
theorem lw_limb (L : Cond) (hL : ∀ (args : Array Value) (s t : State), L.after args s (.returned (some (.int 1))) t = true) :
    ArmFor flags0 classFile x code maxLocals ret World_1 tables_1 room_1 Calls_1 rest_1 Pre_1
      (fun tb e a s o t => postC L tb e a s o t ∧ Framed s o t (fieldLocs frame_1_writes a s ++ arrayLocs frame_1_arrays a s ++ staticLocs frame_1_statics s) 600000 7302250) := by
  intro l _ _ _ p e ha hc hk s m args below hf hfit hheap happ hpre
  obtain ⟨k, o, h1, h2, h3, rfl, hF⟩ := lw_comes l p e ha hc hk s m args below hf hfit hheap happ hpre
  exact ⟨k, _, h1, h2, h3, hL args s _, lw_frame hF⟩
theorem i_vc : Claimed_1_1 ∧ Claimed_1_2 := ⟨lw_limb limb_1_1 (fun args s t => by simp [limb_1_1, Cond.after, Cond.holds, Cond.value]), lw_limb limb_1_2 (fun args s t => Cond.after_iff.mpr (by
  first | (rw [show limb_1_2 = Cond.eq .result (.int 1) from rfl, Cond.eq_ints (x := 1) (y := 1) rfl rfl]; simp; done) | (simp [limb_1_2, Cond.value, Term.eval]; done)))⟩
end
