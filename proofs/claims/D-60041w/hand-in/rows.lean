section
-- ===== PART A: goes FIRST, ahead of the names: the tables' words, and 'selects' of the private methods out of them =====
/-- a private method of a class that the tables say can be made, by its rows of tables_1 -/
def lw_okq (q : MethodName × Nat) : Prop := (q.1.cls ≠ "java/lang/invoke/MethodHandle" ∧ q.1.cls ≠ "java/lang/invoke/VarHandle") ∧ Cond.instantiable q.1.cls q.2 ∈ tables_1 ∧ Cond.privateMethod q.1 ∈ tables_1 ∧ Cond.instanceMethod q.1 ∈ tables_1
set_option maxRecDepth 100000
theorem lw_p0 : lw_okq (⟨"ExactSum", "take", "(JIZ)V"⟩, 4) := ⟨⟨by decide +kernel, by decide +kernel⟩, List.mem_of_getElem? (i := 4) rfl, List.mem_of_getElem? (i := 33) rfl, List.mem_of_getElem? (i := 34) rfl⟩
theorem lw_p1 : lw_okq (⟨"ExactSum", "step", "(IJJZ)J"⟩, 4) := ⟨⟨by decide +kernel, by decide +kernel⟩, List.mem_of_getElem? (i := 4) rfl, List.mem_of_getElem? (i := 37) rfl, List.mem_of_getElem? (i := 38) rfl⟩
theorem lw_p2 : lw_okq (⟨"ExactSum", "measure", "(Z)I"⟩, 4) := ⟨⟨by decide +kernel, by decide +kernel⟩, List.mem_of_getElem? (i := 4) rfl, List.mem_of_getElem? (i := 54) rfl, List.mem_of_getElem? (i := 55) rfl⟩
theorem lw_p3 : lw_okq (⟨"ExactSum", "nought", "(I)J"⟩, 4) := ⟨⟨by decide +kernel, by decide +kernel⟩, List.mem_of_getElem? (i := 4) rfl, List.mem_of_getElem? (i := 61) rfl, List.mem_of_getElem? (i := 62) rfl⟩
theorem lw_p4 : lw_okq (⟨"ExactSum", "read", "(II)J"⟩, 4) := ⟨⟨by decide +kernel, by decide +kernel⟩, List.mem_of_getElem? (i := 4) rfl, List.mem_of_getElem? (i := 66) rfl, List.mem_of_getElem? (i := 67) rfl⟩
theorem lw_p5 : lw_okq (⟨"ExactSum", "bit", "(I)I"⟩, 4) := ⟨⟨by decide +kernel, by decide +kernel⟩, List.mem_of_getElem? (i := 4) rfl, List.mem_of_getElem? (i := 70) rfl, List.mem_of_getElem? (i := 71) rfl⟩
theorem lw_p6 : lw_okq (⟨"ExactSum", "grows", "(IZIJ)Z"⟩, 4) := ⟨⟨by decide +kernel, by decide +kernel⟩, List.mem_of_getElem? (i := 4) rfl, List.mem_of_getElem? (i := 74) rfl, List.mem_of_getElem? (i := 75) rfl⟩
theorem lw_p7 : lw_okq (⟨"ExactSum", "some", "(I)Z"⟩, 4) := ⟨⟨by decide +kernel, by decide +kernel⟩, List.mem_of_getElem? (i := 4) rfl, List.mem_of_getElem? (i := 78) rfl, List.mem_of_getElem? (i := 79) rfl⟩
theorem lw_p8 : lw_okq (⟨"ExactSumModel", "one", "(JI)V"⟩, 4) := ⟨⟨by decide +kernel, by decide +kernel⟩, List.mem_of_getElem? (i := 85) rfl, List.mem_of_getElem? (i := 109) rfl, List.mem_of_getElem? (i := 110) rfl⟩
theorem lw_p9 : lw_okq (⟨"ExactSumModel", "bit", "(I)Z"⟩, 4) := ⟨⟨by decide +kernel, by decide +kernel⟩, List.mem_of_getElem? (i := 85) rfl, List.mem_of_getElem? (i := 130) rfl, List.mem_of_getElem? (i := 131) rfl⟩
def lw_privs_1 : List (MethodName × Nat) := [(⟨"ExactSum", "take", "(JIZ)V"⟩, 4), (⟨"ExactSum", "step", "(IJJZ)J"⟩, 4), (⟨"ExactSum", "measure", "(Z)I"⟩, 4), (⟨"ExactSum", "nought", "(I)J"⟩, 4), (⟨"ExactSum", "read", "(II)J"⟩, 4), (⟨"ExactSum", "bit", "(I)I"⟩, 4), (⟨"ExactSum", "grows", "(IZIJ)Z"⟩, 4), (⟨"ExactSum", "some", "(I)Z"⟩, 4), (⟨"ExactSumModel", "one", "(JI)V"⟩, 4), (⟨"ExactSumModel", "bit", "(I)Z"⟩, 4)]
theorem lw_r1 : ∀ q ∈ lw_privs_1, lw_okq q := List.forall_mem_cons.mpr ⟨lw_p0, List.forall_mem_cons.mpr ⟨lw_p1, List.forall_mem_cons.mpr ⟨lw_p2, List.forall_mem_cons.mpr ⟨lw_p3, List.forall_mem_cons.mpr ⟨lw_p4, List.forall_mem_cons.mpr ⟨lw_p5, List.forall_mem_cons.mpr ⟨lw_p6, List.forall_mem_cons.mpr ⟨lw_p7, List.forall_mem_cons.mpr ⟨lw_p8, List.forall_mem_cons.mpr ⟨lw_p9, fun _ h => absurd h List.not_mem_nil⟩⟩⟩⟩⟩⟩⟩⟩⟩⟩
def lw_privs : List (MethodName × Nat) := lw_privs_1
def lw_tbl : List Cond := k2_sels lw_privs ++ tables_1
theorem lw_privs_ok : ∀ q ∈ lw_privs, lw_okq q := lw_r1
-- ===== ONE list of words for every method: the tables' words that hold all through a run =====
def lw_all : List Cond := lw_tbl.filter goodWord
/-- a word of the tables by its place: claim/WORDS.tsv -/
theorem lw_w {w : Cond} (i : Nat) (h : lw_tbl[i]? = some w) (g : goodWord w = true) : w ∈ lw_all := List.mem_filter.mpr ⟨List.mem_of_getElem? h, g⟩
theorem lw_all_tbl {w : Cond} (h : w ∈ lw_all) : w ∈ lw_tbl := (List.mem_filter.mp h).1
theorem lw_self : GoodIn lw_all lw_all := fun w h => ⟨h, good_of_word (List.mem_filter.mp h).2⟩
/-- a class's field words, by their places -/
theorem lw_in (ws : List Cond) (ps : List Nat) (hp : ws = ps.filterMap (fun i => lw_tbl[i]?)) (hg : ws.all goodWord = true) : ∀ w ∈ ws, w ∈ lw_all := by
  intro w h
  have h1 := List.all_eq_true.mp hg w h
  rw [hp] at h
  obtain ⟨i, -, hi⟩ := List.mem_filterMap.mp h
  exact lw_w i hi h1
/-- the words of a contract for the method y with code b, L locals, answer r -/
abbrev ws_ (y : MethodName) (b : ByteArray) (L : Nat) (r : Option FieldType) : List Cond := Cond.code y b L r :: lw_all
theorem lw_meth {y : MethodName} {b : ByteArray} {L : Nat} {r : Option FieldType} (h : Cond.code y b L r ∈ lw_all) : GoodIn lw_all (ws_ y b L r) := by
  intro w hw
  rcases List.mem_cons.mp hw with e | e
  · rw [e]
    exact lw_self _ h
  · exact lw_self _ e
theorem lw_app {a c : List Cond} (ha : ∀ w ∈ a, w ∈ lw_all) (hc : GoodIn lw_all c) : GoodIn lw_all (a ++ c) := by
  intro w hw
  rcases List.mem_append.mp hw with e | e
  · exact lw_self w (ha w e)
  · exact hc w e
/-- what a call through an object asks: cwV n hts (lw_V ..) -/
theorem lw_V {own : String} {idx : Nat} {C : String} {y : MethodName} {b : ByteArray} {L : Nat} {r : Option FieldType} (h1 : Cond.methodLink own idx y ∈ lw_all) (h2 : Cond.instanceMethod y ∈ lw_all) (h3 : Cond.selects C y y ∈ lw_all) (h4 : Cond.initialized C ∈ lw_all) (h5 : Cond.code y b L r ∈ lw_all) : GoodIn lw_all (wsV own idx C y (ws_ y b L r)) := by
  refine lw_app ?_ (lw_meth h5)
  intro w hw
  simp only [List.mem_cons, List.not_mem_nil, or_false] at hw
  rcases hw with e | e | e | e
  · rw [e]; exact h1
  · rw [e]; exact h2
  · rw [e]; exact h3
  · rw [e]; exact h4
/-- what a static call asks: va_cwS n hts (lw_S ..) -/
theorem lw_S {own : String} {idx : Nat} {y : MethodName} {b : ByteArray} {L : Nat} {r : Option FieldType} (h1 : Cond.methodLink own idx y ∈ lw_all) (h2 : Cond.static y ∈ lw_all) (h3 : Cond.initialized y.cls ∈ lw_all) (h4 : Cond.code y b L r ∈ lw_all) : GoodIn lw_all (va_wsS own idx y (ws_ y b L r)) := by
  refine lw_app ?_ (lw_meth h4)
  intro w hw
  simp only [List.mem_cons, List.not_mem_nil, or_false] at hw
  rcases hw with e | e | e
  · rw [e]; exact h1
  · rw [e]; exact h2
  · rw [e]; exact h3
/-- the words of a contract for a method WITH HANDLERS (hh: its table) -/
abbrev wsW_ (y : MethodName) (b : ByteArray) (L : Nat) (r : Option FieldType) (hh : List (Nat × Nat × Nat × Nat)) : List Cond := Cond.codeWith y b L r hh :: lw_all
theorem lw_methW {y : MethodName} {b : ByteArray} {L : Nat} {r : Option FieldType} {hh : List (Nat × Nat × Nat × Nat)} (h : Cond.codeWith y b L r hh ∈ lw_all) : GoodIn lw_all (wsW_ y b L r hh) := by
  intro w hw
  rcases List.mem_cons.mp hw with e | e
  · rw [e]
    exact lw_self _ h
  · exact lw_self _ e
/-- any list of words by their places (lw_in), good -/
theorem lw_good {ws : List Cond} (h : ∀ w ∈ ws, w ∈ lw_all) : GoodIn lw_all ws := fun w hw => lw_self w (h w hw)
/-- what a call of a method with handlers asks: vx_cwVW n hts (lw_VW ..), vx_cwSW n hts (lw_SW ..) -/
theorem lw_VW {own : String} {idx : Nat} {C : String} {y : MethodName} {b : ByteArray} {L : Nat} {r : Option FieldType} {hh : List (Nat × Nat × Nat × Nat)} (h1 : Cond.methodLink own idx y ∈ lw_all) (h2 : Cond.instanceMethod y ∈ lw_all) (h3 : Cond.selects C y y ∈ lw_all) (h4 : Cond.initialized C ∈ lw_all) (h5 : Cond.codeWith y b L r hh ∈ lw_all) : GoodIn lw_all (wsV own idx C y (wsW_ y b L r hh)) := by
  refine lw_app ?_ (lw_methW h5)
  intro w hw
  simp only [List.mem_cons, List.not_mem_nil, or_false] at hw
  rcases hw with e | e | e | e
  · rw [e]; exact h1
  · rw [e]; exact h2
  · rw [e]; exact h3
  · rw [e]; exact h4
theorem lw_SW {own : String} {idx : Nat} {y : MethodName} {b : ByteArray} {L : Nat} {r : Option FieldType} {hh : List (Nat × Nat × Nat × Nat)} (h1 : Cond.methodLink own idx y ∈ lw_all) (h2 : Cond.static y ∈ lw_all) (h3 : Cond.initialized y.cls ∈ lw_all) (h4 : Cond.codeWith y b L r hh ∈ lw_all) : GoodIn lw_all (va_wsS own idx y (wsW_ y b L r hh)) := by
  refine lw_app ?_ (lw_methW h4)
  intro w hw
  simp only [List.mem_cons, List.not_mem_nil, or_false] at hw
  rcases hw with e | e | e
  · rw [e]; exact h1
  · rw [e]; exact h2
  · rw [e]; exact h3
/-- a word by its place in its run of the tables -/
theorem lw_at {r : List Cond} (hr : ∀ w ∈ r, w ∈ lw_tbl) {w : Cond} (i : Nat) (h : r[i]? = some w) : w ∈ lw_tbl := hr w (List.mem_of_getElem? h)
theorem lw_g {w : Cond} (h : w ∈ lw_tbl) (g : goodWord w = true) : w ∈ lw_all := List.mem_filter.mpr ⟨h, g⟩
theorem lw_ms : ∀ w ∈ k2_sels lw_privs, w ∈ lw_tbl := fun w h => show w ∈ k2_sels lw_privs ++ tables_1 from List.mem_append_left _ h
theorem lw_m0 : ∀ w ∈ tables_1, w ∈ lw_tbl := fun w h => show w ∈ k2_sels lw_privs ++ tables_1 from List.mem_append_right (k2_sels lw_privs) h
theorem qs0 : (Cond.selects "ExactSum" ⟨"ExactSum", "take", "(JIZ)V"⟩ ⟨"ExactSum", "take", "(JIZ)V"⟩) ∈ lw_all := lw_g (lw_at lw_ms 0 rfl) rfl
theorem qs1 : (Cond.selects "ExactSum" ⟨"ExactSum", "step", "(IJJZ)J"⟩ ⟨"ExactSum", "step", "(IJJZ)J"⟩) ∈ lw_all := lw_g (lw_at lw_ms 1 rfl) rfl
theorem qs2 : (Cond.selects "ExactSum" ⟨"ExactSum", "measure", "(Z)I"⟩ ⟨"ExactSum", "measure", "(Z)I"⟩) ∈ lw_all := lw_g (lw_at lw_ms 2 rfl) rfl
theorem qs3 : (Cond.selects "ExactSum" ⟨"ExactSum", "nought", "(I)J"⟩ ⟨"ExactSum", "nought", "(I)J"⟩) ∈ lw_all := lw_g (lw_at lw_ms 3 rfl) rfl
theorem qs4 : (Cond.selects "ExactSum" ⟨"ExactSum", "read", "(II)J"⟩ ⟨"ExactSum", "read", "(II)J"⟩) ∈ lw_all := lw_g (lw_at lw_ms 4 rfl) rfl
theorem qs5 : (Cond.selects "ExactSum" ⟨"ExactSum", "bit", "(I)I"⟩ ⟨"ExactSum", "bit", "(I)I"⟩) ∈ lw_all := lw_g (lw_at lw_ms 5 rfl) rfl
theorem qs6 : (Cond.selects "ExactSum" ⟨"ExactSum", "grows", "(IZIJ)Z"⟩ ⟨"ExactSum", "grows", "(IZIJ)Z"⟩) ∈ lw_all := lw_g (lw_at lw_ms 6 rfl) rfl
theorem qs7 : (Cond.selects "ExactSum" ⟨"ExactSum", "some", "(I)Z"⟩ ⟨"ExactSum", "some", "(I)Z"⟩) ∈ lw_all := lw_g (lw_at lw_ms 7 rfl) rfl
theorem qs8 : (Cond.selects "ExactSumModel" ⟨"ExactSumModel", "one", "(JI)V"⟩ ⟨"ExactSumModel", "one", "(JI)V"⟩) ∈ lw_all := lw_g (lw_at lw_ms 8 rfl) rfl
theorem qs9 : (Cond.selects "ExactSumModel" ⟨"ExactSumModel", "bit", "(I)Z"⟩ ⟨"ExactSumModel", "bit", "(I)Z"⟩) ∈ lw_all := lw_g (lw_at lw_ms 9 rfl) rfl
end
section
/-! ExactSum -/
set_option maxRecDepth 100000
def RX0 : String := "ExactSum"
def TX0 : u_T := fun k => match k with
  | 0 => ("ExactSum", "words", "[I", true)
  | 1 => ("ExactSum", "size", "[I", true)
  | 2 => ("ExactSum", "many", "I", false)
  | _ => ("ExactSum", "minusNoughts", "I", false)
def tyX0 : Nat → FieldType := fun k => match k with
  | 0 => .array .int
  | 1 => .array .int
  | 2 => .int
  | _ => .int
abbrev wsX00 : List Cond := u_ws RX0 TX0 4
theorem nmX0 : ∀ a, a < 4 → ∀ b, b < 4 → a ≠ b → (TX0 a).2.1 ≠ (TX0 b).2.1 := by decide +kernel
theorem tyX0_ok : ∀ k, k < 4 → parseFieldDescriptor (TX0 k).2.2.1 = some (tyX0 k) := by decide +kernel
abbrev cX0_init : ByteArray := prog_1_method_1_code
def yX0_init : MethodName := ⟨RX0, "<init>", "()V"⟩
theorem dX0_init_0 : decode cX0_init 0 = .ok (.aload_n 0, 1) := by decide +kernel
theorem dX0_init_1 : decode cX0_init 1 = .ok (.invokespecial 3, 3) := by decide +kernel
theorem dX0_init_4 : decode cX0_init 4 = .ok (.aload_n 0, 1) := by decide +kernel
theorem dX0_init_5 : decode cX0_init 5 = .ok (.bipush 67, 2) := by decide +kernel
theorem dX0_init_7 : decode cX0_init 7 = .ok (.newarray .int, 2) := by decide +kernel
theorem dX0_init_9 : decode cX0_init 9 = .ok (.putfield 9, 3) := by decide +kernel
theorem dX0_init_12 : decode cX0_init 12 = .ok (.aload_n 0, 1) := by decide +kernel
theorem dX0_init_13 : decode cX0_init 13 = .ok (.bipush 67, 2) := by decide +kernel
theorem dX0_init_15 : decode cX0_init 15 = .ok (.newarray .int, 2) := by decide +kernel
theorem dX0_init_17 : decode cX0_init 17 = .ok (.putfield 13, 3) := by decide +kernel
theorem dX0_init_20 : decode cX0_init 20 = .ok (.return_, 1) := by decide +kernel
abbrev cX0_add : ByteArray := prog_1_method_2_code
def yX0_add : MethodName := ⟨RX0, "add", "(II)Z"⟩
theorem dX0_add_0 : decode cX0_add 0 = .ok (.iload_n 1, 1) := by decide +kernel
theorem dX0_add_1 : decode cX0_add 1 = .ok (.bipush 20, 2) := by decide +kernel
theorem dX0_add_3 : decode cX0_add 3 = .ok (.iushr, 1) := by decide +kernel
theorem dX0_add_4 : decode cX0_add 4 = .ok (.sipush 2047, 3) := by decide +kernel
theorem dX0_add_7 : decode cX0_add 7 = .ok (.iand, 1) := by decide +kernel
theorem dX0_add_8 : decode cX0_add 8 = .ok (.istore_n 3, 1) := by decide +kernel
theorem dX0_add_9 : decode cX0_add 9 = .ok (.iload_n 3, 1) := by decide +kernel
theorem dX0_add_10 : decode cX0_add 10 = .ok (.sipush 2047, 3) := by decide +kernel
theorem dX0_add_13 : decode cX0_add 13 = .ok (.if_icmp .eq 13, 3) := by decide +kernel
theorem dX0_add_16 : decode cX0_add 16 = .ok (.aload_n 0, 1) := by decide +kernel
theorem dX0_add_17 : decode cX0_add 17 = .ok (.getfield 16, 3) := by decide +kernel
theorem dX0_add_20 : decode cX0_add 20 = .ok (.sipush 4096, 3) := by decide +kernel
theorem dX0_add_23 : decode cX0_add 23 = .ok (.if_icmp .ne 5, 3) := by decide +kernel
theorem dX0_add_26 : decode cX0_add 26 = .ok (.iconst 0, 1) := by decide +kernel
theorem dX0_add_27 : decode cX0_add 27 = .ok (.ireturn, 1) := by decide +kernel
theorem dX0_add_28 : decode cX0_add 28 = .ok (.iload_n 1, 1) := by decide +kernel
theorem dX0_add_29 : decode cX0_add 29 = .ok (.ldc 20, 2) := by decide +kernel
theorem dX0_add_31 : decode cX0_add 31 = .ok (.iand, 1) := by decide +kernel
theorem dX0_add_32 : decode cX0_add 32 = .ok (.i2l, 1) := by decide +kernel
theorem dX0_add_33 : decode cX0_add 33 = .ok (.bipush 32, 2) := by decide +kernel
theorem dX0_add_35 : decode cX0_add 35 = .ok (.lshl, 1) := by decide +kernel
theorem dX0_add_36 : decode cX0_add 36 = .ok (.iload_n 2, 1) := by decide +kernel
theorem dX0_add_37 : decode cX0_add 37 = .ok (.i2l, 1) := by decide +kernel
theorem dX0_add_38 : decode cX0_add 38 = .ok (.ldc2_w 21, 3) := by decide +kernel
theorem dX0_add_41 : decode cX0_add 41 = .ok (.land, 1) := by decide +kernel
theorem dX0_add_42 : decode cX0_add 42 = .ok (.lor, 1) := by decide +kernel
theorem dX0_add_43 : decode cX0_add 43 = .ok (.lstore 4, 2) := by decide +kernel
theorem dX0_add_45 : decode cX0_add 45 = .ok (.iload_n 3, 1) := by decide +kernel
theorem dX0_add_46 : decode cX0_add 46 = .ok (.ifCond .ne 8, 3) := by decide +kernel
theorem dX0_add_49 : decode cX0_add 49 = .ok (.lload 4, 2) := by decide +kernel
theorem dX0_add_51 : decode cX0_add 51 = .ok (.goto 9, 3) := by decide +kernel
theorem dX0_add_54 : decode cX0_add 54 = .ok (.ldc2_w 23, 3) := by decide +kernel
theorem dX0_add_57 : decode cX0_add 57 = .ok (.lload 4, 2) := by decide +kernel
theorem dX0_add_59 : decode cX0_add 59 = .ok (.lor, 1) := by decide +kernel
theorem dX0_add_60 : decode cX0_add 60 = .ok (.lstore 6, 2) := by decide +kernel
theorem dX0_add_62 : decode cX0_add 62 = .ok (.iload_n 1, 1) := by decide +kernel
theorem dX0_add_63 : decode cX0_add 63 = .ok (.ifCond .ge 7, 3) := by decide +kernel
theorem dX0_add_66 : decode cX0_add 66 = .ok (.iconst 1, 1) := by decide +kernel
theorem dX0_add_67 : decode cX0_add 67 = .ok (.goto 4, 3) := by decide +kernel
theorem dX0_add_70 : decode cX0_add 70 = .ok (.iconst 0, 1) := by decide +kernel
theorem dX0_add_71 : decode cX0_add 71 = .ok (.istore 8, 2) := by decide +kernel
theorem dX0_add_73 : decode cX0_add 73 = .ok (.aload_n 0, 1) := by decide +kernel
theorem dX0_add_74 : decode cX0_add 74 = .ok (.dup, 1) := by decide +kernel
theorem dX0_add_75 : decode cX0_add 75 = .ok (.getfield 16, 3) := by decide +kernel
theorem dX0_add_78 : decode cX0_add 78 = .ok (.iconst 1, 1) := by decide +kernel
theorem dX0_add_79 : decode cX0_add 79 = .ok (.iadd, 1) := by decide +kernel
theorem dX0_add_80 : decode cX0_add 80 = .ok (.putfield 16, 3) := by decide +kernel
theorem dX0_add_83 : decode cX0_add 83 = .ok (.lload 6, 2) := by decide +kernel
theorem dX0_add_85 : decode cX0_add 85 = .ok (.lconst 0, 1) := by decide +kernel
theorem dX0_add_86 : decode cX0_add 86 = .ok (.lcmp, 1) := by decide +kernel
theorem dX0_add_87 : decode cX0_add 87 = .ok (.ifCond .ne 18, 3) := by decide +kernel
theorem dX0_add_90 : decode cX0_add 90 = .ok (.iload 8, 2) := by decide +kernel
theorem dX0_add_92 : decode cX0_add 92 = .ok (.ifCond .eq 13, 3) := by decide +kernel
theorem dX0_add_95 : decode cX0_add 95 = .ok (.aload_n 0, 1) := by decide +kernel
theorem dX0_add_96 : decode cX0_add 96 = .ok (.dup, 1) := by decide +kernel
theorem dX0_add_97 : decode cX0_add 97 = .ok (.getfield 25, 3) := by decide +kernel
theorem dX0_add_100 : decode cX0_add 100 = .ok (.iconst 1, 1) := by decide +kernel
theorem dX0_add_101 : decode cX0_add 101 = .ok (.iadd, 1) := by decide +kernel
theorem dX0_add_102 : decode cX0_add 102 = .ok (.putfield 25, 3) := by decide +kernel
theorem dX0_add_105 : decode cX0_add 105 = .ok (.aload_n 0, 1) := by decide +kernel
theorem dX0_add_106 : decode cX0_add 106 = .ok (.lload 6, 2) := by decide +kernel
theorem dX0_add_108 : decode cX0_add 108 = .ok (.iload_n 3, 1) := by decide +kernel
theorem dX0_add_109 : decode cX0_add 109 = .ok (.ifCond .ne 7, 3) := by decide +kernel
theorem dX0_add_112 : decode cX0_add 112 = .ok (.iconst 0, 1) := by decide +kernel
theorem dX0_add_113 : decode cX0_add 113 = .ok (.goto 6, 3) := by decide +kernel
theorem dX0_add_116 : decode cX0_add 116 = .ok (.iload_n 3, 1) := by decide +kernel
theorem dX0_add_117 : decode cX0_add 117 = .ok (.iconst 1, 1) := by decide +kernel
theorem dX0_add_118 : decode cX0_add 118 = .ok (.isub, 1) := by decide +kernel
theorem dX0_add_119 : decode cX0_add 119 = .ok (.iload 8, 2) := by decide +kernel
theorem dX0_add_121 : decode cX0_add 121 = .ok (.invokevirtual 28, 3) := by decide +kernel
theorem dX0_add_124 : decode cX0_add 124 = .ok (.iconst 1, 1) := by decide +kernel
theorem dX0_add_125 : decode cX0_add 125 = .ok (.ireturn, 1) := by decide +kernel
abbrev cX0_take : ByteArray := prog_1_method_3_code
def yX0_take : MethodName := ⟨RX0, "take", "(JIZ)V"⟩
theorem dX0_take_0 : decode cX0_take 0 = .ok (.iload_n 3, 1) := by decide +kernel
theorem dX0_take_1 : decode cX0_take 1 = .ok (.iconst 5, 1) := by decide +kernel
theorem dX0_take_2 : decode cX0_take 2 = .ok (.ishr, 1) := by decide +kernel
theorem dX0_take_3 : decode cX0_take 3 = .ok (.istore 5, 2) := by decide +kernel
theorem dX0_take_5 : decode cX0_take 5 = .ok (.iload_n 3, 1) := by decide +kernel
theorem dX0_take_6 : decode cX0_take 6 = .ok (.bipush 31, 2) := by decide +kernel
theorem dX0_take_8 : decode cX0_take 8 = .ok (.iand, 1) := by decide +kernel
theorem dX0_take_9 : decode cX0_take 9 = .ok (.istore 6, 2) := by decide +kernel
theorem dX0_take_11 : decode cX0_take 11 = .ok (.lload_n 1, 1) := by decide +kernel
theorem dX0_take_12 : decode cX0_take 12 = .ok (.iload 6, 2) := by decide +kernel
theorem dX0_take_14 : decode cX0_take 14 = .ok (.lshl, 1) := by decide +kernel
theorem dX0_take_15 : decode cX0_take 15 = .ok (.lstore 7, 2) := by decide +kernel
theorem dX0_take_17 : decode cX0_take 17 = .ok (.iload 6, 2) := by decide +kernel
theorem dX0_take_19 : decode cX0_take 19 = .ok (.ifCond .ne 7, 3) := by decide +kernel
theorem dX0_take_22 : decode cX0_take 22 = .ok (.lconst 0, 1) := by decide +kernel
theorem dX0_take_23 : decode cX0_take 23 = .ok (.goto 10, 3) := by decide +kernel
theorem dX0_take_26 : decode cX0_take 26 = .ok (.lload_n 1, 1) := by decide +kernel
theorem dX0_take_27 : decode cX0_take 27 = .ok (.bipush 64, 2) := by decide +kernel
theorem dX0_take_29 : decode cX0_take 29 = .ok (.iload 6, 2) := by decide +kernel
theorem dX0_take_31 : decode cX0_take 31 = .ok (.isub, 1) := by decide +kernel
theorem dX0_take_32 : decode cX0_take 32 = .ok (.lushr, 1) := by decide +kernel
theorem dX0_take_33 : decode cX0_take 33 = .ok (.lstore 9, 2) := by decide +kernel
theorem dX0_take_35 : decode cX0_take 35 = .ok (.aload_n 0, 1) := by decide +kernel
theorem dX0_take_36 : decode cX0_take 36 = .ok (.iload 5, 2) := by decide +kernel
theorem dX0_take_38 : decode cX0_take 38 = .ok (.lload 7, 2) := by decide +kernel
theorem dX0_take_40 : decode cX0_take 40 = .ok (.ldc2_w 21, 3) := by decide +kernel
theorem dX0_take_43 : decode cX0_take 43 = .ok (.land, 1) := by decide +kernel
theorem dX0_take_44 : decode cX0_take 44 = .ok (.lconst 0, 1) := by decide +kernel
theorem dX0_take_45 : decode cX0_take 45 = .ok (.iload 4, 2) := by decide +kernel
theorem dX0_take_47 : decode cX0_take 47 = .ok (.invokevirtual 32, 3) := by decide +kernel
theorem dX0_take_50 : decode cX0_take 50 = .ok (.lstore 11, 2) := by decide +kernel
theorem dX0_take_52 : decode cX0_take 52 = .ok (.aload_n 0, 1) := by decide +kernel
theorem dX0_take_53 : decode cX0_take 53 = .ok (.iload 5, 2) := by decide +kernel
theorem dX0_take_55 : decode cX0_take 55 = .ok (.iconst 1, 1) := by decide +kernel
theorem dX0_take_56 : decode cX0_take 56 = .ok (.iadd, 1) := by decide +kernel
theorem dX0_take_57 : decode cX0_take 57 = .ok (.lload 7, 2) := by decide +kernel
theorem dX0_take_59 : decode cX0_take 59 = .ok (.bipush 32, 2) := by decide +kernel
theorem dX0_take_61 : decode cX0_take 61 = .ok (.lushr, 1) := by decide +kernel
theorem dX0_take_62 : decode cX0_take 62 = .ok (.lload 11, 2) := by decide +kernel
theorem dX0_take_64 : decode cX0_take 64 = .ok (.iload 4, 2) := by decide +kernel
theorem dX0_take_66 : decode cX0_take 66 = .ok (.invokevirtual 32, 3) := by decide +kernel
theorem dX0_take_69 : decode cX0_take 69 = .ok (.lstore 11, 2) := by decide +kernel
theorem dX0_take_71 : decode cX0_take 71 = .ok (.aload_n 0, 1) := by decide +kernel
theorem dX0_take_72 : decode cX0_take 72 = .ok (.iload 5, 2) := by decide +kernel
theorem dX0_take_74 : decode cX0_take 74 = .ok (.iconst 2, 1) := by decide +kernel
theorem dX0_take_75 : decode cX0_take 75 = .ok (.iadd, 1) := by decide +kernel
theorem dX0_take_76 : decode cX0_take 76 = .ok (.lload 9, 2) := by decide +kernel
theorem dX0_take_78 : decode cX0_take 78 = .ok (.lload 11, 2) := by decide +kernel
theorem dX0_take_80 : decode cX0_take 80 = .ok (.iload 4, 2) := by decide +kernel
theorem dX0_take_82 : decode cX0_take 82 = .ok (.invokevirtual 32, 3) := by decide +kernel
theorem dX0_take_85 : decode cX0_take 85 = .ok (.lstore 11, 2) := by decide +kernel
theorem dX0_take_87 : decode cX0_take 87 = .ok (.iload 5, 2) := by decide +kernel
theorem dX0_take_89 : decode cX0_take 89 = .ok (.iconst 3, 1) := by decide +kernel
theorem dX0_take_90 : decode cX0_take 90 = .ok (.iadd, 1) := by decide +kernel
theorem dX0_take_91 : decode cX0_take 91 = .ok (.istore 13, 2) := by decide +kernel
theorem dX0_take_93 : decode cX0_take 93 = .ok (.iload 13, 2) := by decide +kernel
theorem dX0_take_95 : decode cX0_take 95 = .ok (.bipush 67, 2) := by decide +kernel
theorem dX0_take_97 : decode cX0_take 97 = .ok (.if_icmp .ge 29, 3) := by decide +kernel
theorem dX0_take_100 : decode cX0_take 100 = .ok (.lload 11, 2) := by decide +kernel
theorem dX0_take_102 : decode cX0_take 102 = .ok (.lconst 0, 1) := by decide +kernel
theorem dX0_take_103 : decode cX0_take 103 = .ok (.lcmp, 1) := by decide +kernel
theorem dX0_take_104 : decode cX0_take 104 = .ok (.ifCond .eq 22, 3) := by decide +kernel
theorem dX0_take_107 : decode cX0_take 107 = .ok (.aload_n 0, 1) := by decide +kernel
theorem dX0_take_108 : decode cX0_take 108 = .ok (.iload 13, 2) := by decide +kernel
theorem dX0_take_110 : decode cX0_take 110 = .ok (.lconst 0, 1) := by decide +kernel
theorem dX0_take_111 : decode cX0_take 111 = .ok (.lload 11, 2) := by decide +kernel
theorem dX0_take_113 : decode cX0_take 113 = .ok (.iload 4, 2) := by decide +kernel
theorem dX0_take_115 : decode cX0_take 115 = .ok (.invokevirtual 32, 3) := by decide +kernel
theorem dX0_take_118 : decode cX0_take 118 = .ok (.lstore 11, 2) := by decide +kernel
theorem dX0_take_120 : decode cX0_take 120 = .ok (.iinc 13 1, 3) := by decide +kernel
theorem dX0_take_123 : decode cX0_take 123 = .ok (.goto (-30), 3) := by decide +kernel
theorem dX0_take_126 : decode cX0_take 126 = .ok (.return_, 1) := by decide +kernel
abbrev cX0_step : ByteArray := prog_1_method_4_code
def yX0_step : MethodName := ⟨RX0, "step", "(IJJZ)J"⟩
theorem dX0_step_0 : decode cX0_step 0 = .ok (.iload_n 1, 1) := by decide +kernel
theorem dX0_step_1 : decode cX0_step 1 = .ok (.bipush 67, 2) := by decide +kernel
theorem dX0_step_3 : decode cX0_step 3 = .ok (.if_icmp .lt 5, 3) := by decide +kernel
theorem dX0_step_6 : decode cX0_step 6 = .ok (.lconst 0, 1) := by decide +kernel
theorem dX0_step_7 : decode cX0_step 7 = .ok (.lreturn, 1) := by decide +kernel
theorem dX0_step_8 : decode cX0_step 8 = .ok (.aload_n 0, 1) := by decide +kernel
theorem dX0_step_9 : decode cX0_step 9 = .ok (.getfield 9, 3) := by decide +kernel
theorem dX0_step_12 : decode cX0_step 12 = .ok (.iload_n 1, 1) := by decide +kernel
theorem dX0_step_13 : decode cX0_step 13 = .ok (.iaload, 1) := by decide +kernel
theorem dX0_step_14 : decode cX0_step 14 = .ok (.i2l, 1) := by decide +kernel
theorem dX0_step_15 : decode cX0_step 15 = .ok (.ldc2_w 21, 3) := by decide +kernel
theorem dX0_step_18 : decode cX0_step 18 = .ok (.land, 1) := by decide +kernel
theorem dX0_step_19 : decode cX0_step 19 = .ok (.lstore 7, 2) := by decide +kernel
theorem dX0_step_21 : decode cX0_step 21 = .ok (.iload 6, 2) := by decide +kernel
theorem dX0_step_23 : decode cX0_step 23 = .ok (.ifCond .eq 13, 3) := by decide +kernel
theorem dX0_step_26 : decode cX0_step 26 = .ok (.lload 7, 2) := by decide +kernel
theorem dX0_step_28 : decode cX0_step 28 = .ok (.lload_n 2, 1) := by decide +kernel
theorem dX0_step_29 : decode cX0_step 29 = .ok (.lsub, 1) := by decide +kernel
theorem dX0_step_30 : decode cX0_step 30 = .ok (.lload 4, 2) := by decide +kernel
theorem dX0_step_32 : decode cX0_step 32 = .ok (.lsub, 1) := by decide +kernel
theorem dX0_step_33 : decode cX0_step 33 = .ok (.goto 10, 3) := by decide +kernel
theorem dX0_step_36 : decode cX0_step 36 = .ok (.lload 7, 2) := by decide +kernel
theorem dX0_step_38 : decode cX0_step 38 = .ok (.lload_n 2, 1) := by decide +kernel
theorem dX0_step_39 : decode cX0_step 39 = .ok (.ladd, 1) := by decide +kernel
theorem dX0_step_40 : decode cX0_step 40 = .ok (.lload 4, 2) := by decide +kernel
theorem dX0_step_42 : decode cX0_step 42 = .ok (.ladd, 1) := by decide +kernel
theorem dX0_step_43 : decode cX0_step 43 = .ok (.lstore 9, 2) := by decide +kernel
theorem dX0_step_45 : decode cX0_step 45 = .ok (.aload_n 0, 1) := by decide +kernel
theorem dX0_step_46 : decode cX0_step 46 = .ok (.getfield 9, 3) := by decide +kernel
theorem dX0_step_49 : decode cX0_step 49 = .ok (.iload_n 1, 1) := by decide +kernel
theorem dX0_step_50 : decode cX0_step 50 = .ok (.lload 9, 2) := by decide +kernel
theorem dX0_step_52 : decode cX0_step 52 = .ok (.l2i, 1) := by decide +kernel
theorem dX0_step_53 : decode cX0_step 53 = .ok (.iastore, 1) := by decide +kernel
theorem dX0_step_54 : decode cX0_step 54 = .ok (.iload 6, 2) := by decide +kernel
theorem dX0_step_56 : decode cX0_step 56 = .ok (.ifCond .eq 18, 3) := by decide +kernel
theorem dX0_step_59 : decode cX0_step 59 = .ok (.lload 9, 2) := by decide +kernel
theorem dX0_step_61 : decode cX0_step 61 = .ok (.lconst 0, 1) := by decide +kernel
theorem dX0_step_62 : decode cX0_step 62 = .ok (.lcmp, 1) := by decide +kernel
theorem dX0_step_63 : decode cX0_step 63 = .ok (.ifCond .ge 7, 3) := by decide +kernel
theorem dX0_step_66 : decode cX0_step 66 = .ok (.lconst 1, 1) := by decide +kernel
theorem dX0_step_67 : decode cX0_step 67 = .ok (.goto 12, 3) := by decide +kernel
theorem dX0_step_70 : decode cX0_step 70 = .ok (.lconst 0, 1) := by decide +kernel
theorem dX0_step_71 : decode cX0_step 71 = .ok (.goto 8, 3) := by decide +kernel
theorem dX0_step_74 : decode cX0_step 74 = .ok (.lload 9, 2) := by decide +kernel
theorem dX0_step_76 : decode cX0_step 76 = .ok (.bipush 32, 2) := by decide +kernel
theorem dX0_step_78 : decode cX0_step 78 = .ok (.lushr, 1) := by decide +kernel
theorem dX0_step_79 : decode cX0_step 79 = .ok (.lreturn, 1) := by decide +kernel
abbrev cX0_many : ByteArray := prog_1_method_5_code
def yX0_many : MethodName := ⟨RX0, "many", "()I"⟩
theorem dX0_many_0 : decode cX0_many 0 = .ok (.aload_n 0, 1) := by decide +kernel
theorem dX0_many_1 : decode cX0_many 1 = .ok (.getfield 16, 3) := by decide +kernel
theorem dX0_many_4 : decode cX0_many 4 = .ok (.ireturn, 1) := by decide +kernel
abbrev cX0_wipe : ByteArray := prog_1_method_6_code
def yX0_wipe : MethodName := ⟨RX0, "wipe", "()V"⟩
theorem dX0_wipe_0 : decode cX0_wipe 0 = .ok (.iconst 0, 1) := by decide +kernel
theorem dX0_wipe_1 : decode cX0_wipe 1 = .ok (.istore_n 1, 1) := by decide +kernel
theorem dX0_wipe_2 : decode cX0_wipe 2 = .ok (.iload_n 1, 1) := by decide +kernel
theorem dX0_wipe_3 : decode cX0_wipe 3 = .ok (.bipush 67, 2) := by decide +kernel
theorem dX0_wipe_5 : decode cX0_wipe 5 = .ok (.if_icmp .ge 16, 3) := by decide +kernel
theorem dX0_wipe_8 : decode cX0_wipe 8 = .ok (.aload_n 0, 1) := by decide +kernel
theorem dX0_wipe_9 : decode cX0_wipe 9 = .ok (.getfield 9, 3) := by decide +kernel
theorem dX0_wipe_12 : decode cX0_wipe 12 = .ok (.iload_n 1, 1) := by decide +kernel
theorem dX0_wipe_13 : decode cX0_wipe 13 = .ok (.iconst 0, 1) := by decide +kernel
theorem dX0_wipe_14 : decode cX0_wipe 14 = .ok (.iastore, 1) := by decide +kernel
theorem dX0_wipe_15 : decode cX0_wipe 15 = .ok (.iinc 1 1, 3) := by decide +kernel
theorem dX0_wipe_18 : decode cX0_wipe 18 = .ok (.goto (-16), 3) := by decide +kernel
theorem dX0_wipe_21 : decode cX0_wipe 21 = .ok (.aload_n 0, 1) := by decide +kernel
theorem dX0_wipe_22 : decode cX0_wipe 22 = .ok (.iconst 0, 1) := by decide +kernel
theorem dX0_wipe_23 : decode cX0_wipe 23 = .ok (.putfield 16, 3) := by decide +kernel
theorem dX0_wipe_26 : decode cX0_wipe 26 = .ok (.aload_n 0, 1) := by decide +kernel
theorem dX0_wipe_27 : decode cX0_wipe 27 = .ok (.iconst 0, 1) := by decide +kernel
theorem dX0_wipe_28 : decode cX0_wipe 28 = .ok (.putfield 25, 3) := by decide +kernel
theorem dX0_wipe_31 : decode cX0_wipe 31 = .ok (.return_, 1) := by decide +kernel
abbrev cX0_sum : ByteArray := prog_1_method_7_code
def yX0_sum : MethodName := ⟨RX0, "sum", "(I)J"⟩
theorem dX0_sum_0 : decode cX0_sum 0 = .ok (.iload_n 1, 1) := by decide +kernel
theorem dX0_sum_1 : decode cX0_sum 1 = .ok (.ldc 36, 2) := by decide +kernel
theorem dX0_sum_3 : decode cX0_sum 3 = .ok (.iand, 1) := by decide +kernel
theorem dX0_sum_4 : decode cX0_sum 4 = .ok (.iconst 5, 1) := by decide +kernel
theorem dX0_sum_5 : decode cX0_sum 5 = .ok (.irem, 1) := by decide +kernel
theorem dX0_sum_6 : decode cX0_sum 6 = .ok (.istore_n 2, 1) := by decide +kernel
theorem dX0_sum_7 : decode cX0_sum 7 = .ok (.aload_n 0, 1) := by decide +kernel
theorem dX0_sum_8 : decode cX0_sum 8 = .ok (.getfield 9, 3) := by decide +kernel
theorem dX0_sum_11 : decode cX0_sum 11 = .ok (.bipush 66, 2) := by decide +kernel
theorem dX0_sum_13 : decode cX0_sum 13 = .ok (.iaload, 1) := by decide +kernel
theorem dX0_sum_14 : decode cX0_sum 14 = .ok (.ifCond .ge 7, 3) := by decide +kernel
theorem dX0_sum_17 : decode cX0_sum 17 = .ok (.iconst 1, 1) := by decide +kernel
theorem dX0_sum_18 : decode cX0_sum 18 = .ok (.goto 4, 3) := by decide +kernel
theorem dX0_sum_21 : decode cX0_sum 21 = .ok (.iconst 0, 1) := by decide +kernel
theorem dX0_sum_22 : decode cX0_sum 22 = .ok (.istore_n 3, 1) := by decide +kernel
theorem dX0_sum_23 : decode cX0_sum 23 = .ok (.aload_n 0, 1) := by decide +kernel
theorem dX0_sum_24 : decode cX0_sum 24 = .ok (.iload_n 3, 1) := by decide +kernel
theorem dX0_sum_25 : decode cX0_sum 25 = .ok (.invokevirtual 37, 3) := by decide +kernel
theorem dX0_sum_28 : decode cX0_sum 28 = .ok (.istore 4, 2) := by decide +kernel
theorem dX0_sum_30 : decode cX0_sum 30 = .ok (.iload 4, 2) := by decide +kernel
theorem dX0_sum_32 : decode cX0_sum 32 = .ok (.ifCond .ge 9, 3) := by decide +kernel
theorem dX0_sum_35 : decode cX0_sum 35 = .ok (.aload_n 0, 1) := by decide +kernel
theorem dX0_sum_36 : decode cX0_sum 36 = .ok (.iload_n 2, 1) := by decide +kernel
theorem dX0_sum_37 : decode cX0_sum 37 = .ok (.invokevirtual 41, 3) := by decide +kernel
theorem dX0_sum_40 : decode cX0_sum 40 = .ok (.lreturn, 1) := by decide +kernel
theorem dX0_sum_41 : decode cX0_sum 41 = .ok (.iload_n 3, 1) := by decide +kernel
theorem dX0_sum_42 : decode cX0_sum 42 = .ok (.ifCond .eq 9, 3) := by decide +kernel
theorem dX0_sum_45 : decode cX0_sum 45 = .ok (.ldc2_w 45, 3) := by decide +kernel
theorem dX0_sum_48 : decode cX0_sum 48 = .ok (.goto 4, 3) := by decide +kernel
theorem dX0_sum_51 : decode cX0_sum 51 = .ok (.lconst 0, 1) := by decide +kernel
theorem dX0_sum_52 : decode cX0_sum 52 = .ok (.lstore 5, 2) := by decide +kernel
theorem dX0_sum_54 : decode cX0_sum 54 = .ok (.iload 4, 2) := by decide +kernel
theorem dX0_sum_56 : decode cX0_sum 56 = .ok (.bipush 52, 2) := by decide +kernel
theorem dX0_sum_58 : decode cX0_sum 58 = .ok (.if_icmp .gt 16, 3) := by decide +kernel
theorem dX0_sum_61 : decode cX0_sum 61 = .ok (.lload 5, 2) := by decide +kernel
theorem dX0_sum_63 : decode cX0_sum 63 = .ok (.aload_n 0, 1) := by decide +kernel
theorem dX0_sum_64 : decode cX0_sum 64 = .ok (.iconst 0, 1) := by decide +kernel
theorem dX0_sum_65 : decode cX0_sum 65 = .ok (.iload 4, 2) := by decide +kernel
theorem dX0_sum_67 : decode cX0_sum 67 = .ok (.iconst 1, 1) := by decide +kernel
theorem dX0_sum_68 : decode cX0_sum 68 = .ok (.iadd, 1) := by decide +kernel
theorem dX0_sum_69 : decode cX0_sum 69 = .ok (.invokevirtual 47, 3) := by decide +kernel
theorem dX0_sum_72 : decode cX0_sum 72 = .ok (.lor, 1) := by decide +kernel
theorem dX0_sum_73 : decode cX0_sum 73 = .ok (.lreturn, 1) := by decide +kernel
theorem dX0_sum_74 : decode cX0_sum 74 = .ok (.iload 4, 2) := by decide +kernel
theorem dX0_sum_76 : decode cX0_sum 76 = .ok (.bipush 52, 2) := by decide +kernel
theorem dX0_sum_78 : decode cX0_sum 78 = .ok (.isub, 1) := by decide +kernel
theorem dX0_sum_79 : decode cX0_sum 79 = .ok (.istore 7, 2) := by decide +kernel
theorem dX0_sum_81 : decode cX0_sum 81 = .ok (.aload_n 0, 1) := by decide +kernel
theorem dX0_sum_82 : decode cX0_sum 82 = .ok (.iload 7, 2) := by decide +kernel
theorem dX0_sum_84 : decode cX0_sum 84 = .ok (.bipush 53, 2) := by decide +kernel
theorem dX0_sum_86 : decode cX0_sum 86 = .ok (.invokevirtual 47, 3) := by decide +kernel
theorem dX0_sum_89 : decode cX0_sum 89 = .ok (.lstore 8, 2) := by decide +kernel
theorem dX0_sum_91 : decode cX0_sum 91 = .ok (.aload_n 0, 1) := by decide +kernel
theorem dX0_sum_92 : decode cX0_sum 92 = .ok (.iload_n 2, 1) := by decide +kernel
theorem dX0_sum_93 : decode cX0_sum 93 = .ok (.iload_n 3, 1) := by decide +kernel
theorem dX0_sum_94 : decode cX0_sum 94 = .ok (.iload 7, 2) := by decide +kernel
theorem dX0_sum_96 : decode cX0_sum 96 = .ok (.lload 8, 2) := by decide +kernel
theorem dX0_sum_98 : decode cX0_sum 98 = .ok (.invokevirtual 51, 3) := by decide +kernel
theorem dX0_sum_101 : decode cX0_sum 101 = .ok (.ifCond .eq 9, 3) := by decide +kernel
theorem dX0_sum_104 : decode cX0_sum 104 = .ok (.lload 8, 2) := by decide +kernel
theorem dX0_sum_106 : decode cX0_sum 106 = .ok (.lconst 1, 1) := by decide +kernel
theorem dX0_sum_107 : decode cX0_sum 107 = .ok (.ladd, 1) := by decide +kernel
theorem dX0_sum_108 : decode cX0_sum 108 = .ok (.lstore 8, 2) := by decide +kernel
theorem dX0_sum_110 : decode cX0_sum 110 = .ok (.lload 8, 2) := by decide +kernel
theorem dX0_sum_112 : decode cX0_sum 112 = .ok (.ldc2_w 55, 3) := by decide +kernel
theorem dX0_sum_115 : decode cX0_sum 115 = .ok (.lcmp, 1) := by decide +kernel
theorem dX0_sum_116 : decode cX0_sum 116 = .ok (.ifCond .ne 11, 3) := by decide +kernel
theorem dX0_sum_119 : decode cX0_sum 119 = .ok (.ldc2_w 23, 3) := by decide +kernel
theorem dX0_sum_122 : decode cX0_sum 122 = .ok (.lstore 8, 2) := by decide +kernel
theorem dX0_sum_124 : decode cX0_sum 124 = .ok (.iinc 7 1, 3) := by decide +kernel
theorem dX0_sum_127 : decode cX0_sum 127 = .ok (.iload 7, 2) := by decide +kernel
theorem dX0_sum_129 : decode cX0_sum 129 = .ok (.iconst 1, 1) := by decide +kernel
theorem dX0_sum_130 : decode cX0_sum 130 = .ok (.iadd, 1) := by decide +kernel
theorem dX0_sum_131 : decode cX0_sum 131 = .ok (.istore 10, 2) := by decide +kernel
theorem dX0_sum_133 : decode cX0_sum 133 = .ok (.iload 10, 2) := by decide +kernel
theorem dX0_sum_135 : decode cX0_sum 135 = .ok (.sipush 2047, 3) := by decide +kernel
theorem dX0_sum_138 : decode cX0_sum 138 = .ok (.if_icmp .ge 20, 3) := by decide +kernel
theorem dX0_sum_141 : decode cX0_sum 141 = .ok (.lload 5, 2) := by decide +kernel
theorem dX0_sum_143 : decode cX0_sum 143 = .ok (.iload 10, 2) := by decide +kernel
theorem dX0_sum_145 : decode cX0_sum 145 = .ok (.i2l, 1) := by decide +kernel
theorem dX0_sum_146 : decode cX0_sum 146 = .ok (.bipush 52, 2) := by decide +kernel
theorem dX0_sum_148 : decode cX0_sum 148 = .ok (.lshl, 1) := by decide +kernel
theorem dX0_sum_149 : decode cX0_sum 149 = .ok (.lor, 1) := by decide +kernel
theorem dX0_sum_150 : decode cX0_sum 150 = .ok (.lload 8, 2) := by decide +kernel
theorem dX0_sum_152 : decode cX0_sum 152 = .ok (.ldc2_w 23, 3) := by decide +kernel
theorem dX0_sum_155 : decode cX0_sum 155 = .ok (.lsub, 1) := by decide +kernel
theorem dX0_sum_156 : decode cX0_sum 156 = .ok (.lor, 1) := by decide +kernel
theorem dX0_sum_157 : decode cX0_sum 157 = .ok (.lreturn, 1) := by decide +kernel
theorem dX0_sum_158 : decode cX0_sum 158 = .ok (.iload_n 2, 1) := by decide +kernel
theorem dX0_sum_159 : decode cX0_sum 159 = .ok (.ifCond .eq 21, 3) := by decide +kernel
theorem dX0_sum_162 : decode cX0_sum 162 = .ok (.iload_n 2, 1) := by decide +kernel
theorem dX0_sum_163 : decode cX0_sum 163 = .ok (.iconst 4, 1) := by decide +kernel
theorem dX0_sum_164 : decode cX0_sum 164 = .ok (.if_icmp .eq 16, 3) := by decide +kernel
theorem dX0_sum_167 : decode cX0_sum 167 = .ok (.iload_n 2, 1) := by decide +kernel
theorem dX0_sum_168 : decode cX0_sum 168 = .ok (.iload_n 3, 1) := by decide +kernel
theorem dX0_sum_169 : decode cX0_sum 169 = .ok (.ifCond .eq 7, 3) := by decide +kernel
theorem dX0_sum_172 : decode cX0_sum 172 = .ok (.iconst 3, 1) := by decide +kernel
theorem dX0_sum_173 : decode cX0_sum 173 = .ok (.goto 4, 3) := by decide +kernel
theorem dX0_sum_176 : decode cX0_sum 176 = .ok (.iconst 2, 1) := by decide +kernel
theorem dX0_sum_177 : decode cX0_sum 177 = .ok (.if_icmp .ne 7, 3) := by decide +kernel
theorem dX0_sum_180 : decode cX0_sum 180 = .ok (.iconst 1, 1) := by decide +kernel
theorem dX0_sum_181 : decode cX0_sum 181 = .ok (.goto 4, 3) := by decide +kernel
theorem dX0_sum_184 : decode cX0_sum 184 = .ok (.iconst 0, 1) := by decide +kernel
theorem dX0_sum_185 : decode cX0_sum 185 = .ok (.istore 11, 2) := by decide +kernel
theorem dX0_sum_187 : decode cX0_sum 187 = .ok (.lload 5, 2) := by decide +kernel
theorem dX0_sum_189 : decode cX0_sum 189 = .ok (.iload 11, 2) := by decide +kernel
theorem dX0_sum_191 : decode cX0_sum 191 = .ok (.ifCond .eq 9, 3) := by decide +kernel
theorem dX0_sum_194 : decode cX0_sum 194 = .ok (.ldc2_w 57, 3) := by decide +kernel
theorem dX0_sum_197 : decode cX0_sum 197 = .ok (.goto 6, 3) := by decide +kernel
theorem dX0_sum_200 : decode cX0_sum 200 = .ok (.ldc2_w 59, 3) := by decide +kernel
theorem dX0_sum_203 : decode cX0_sum 203 = .ok (.lor, 1) := by decide +kernel
theorem dX0_sum_204 : decode cX0_sum 204 = .ok (.lreturn, 1) := by decide +kernel
abbrev cX0_measure : ByteArray := prog_1_method_9_code
def yX0_measure : MethodName := ⟨RX0, "measure", "(Z)I"⟩
theorem dX0_measure_0 : decode cX0_measure 0 = .ok (.iload_n 1, 1) := by decide +kernel
theorem dX0_measure_1 : decode cX0_measure 1 = .ok (.ifCond .eq 7, 3) := by decide +kernel
theorem dX0_measure_4 : decode cX0_measure 4 = .ok (.lconst 1, 1) := by decide +kernel
theorem dX0_measure_5 : decode cX0_measure 5 = .ok (.goto 4, 3) := by decide +kernel
theorem dX0_measure_8 : decode cX0_measure 8 = .ok (.lconst 0, 1) := by decide +kernel
theorem dX0_measure_9 : decode cX0_measure 9 = .ok (.lstore_n 2, 1) := by decide +kernel
theorem dX0_measure_10 : decode cX0_measure 10 = .ok (.iconst (-1), 1) := by decide +kernel
theorem dX0_measure_11 : decode cX0_measure 11 = .ok (.istore 4, 2) := by decide +kernel
theorem dX0_measure_13 : decode cX0_measure 13 = .ok (.iconst 0, 1) := by decide +kernel
theorem dX0_measure_14 : decode cX0_measure 14 = .ok (.istore 5, 2) := by decide +kernel
theorem dX0_measure_16 : decode cX0_measure 16 = .ok (.iload 5, 2) := by decide +kernel
theorem dX0_measure_18 : decode cX0_measure 18 = .ok (.bipush 67, 2) := by decide +kernel
theorem dX0_measure_20 : decode cX0_measure 20 = .ok (.if_icmp .ge 89, 3) := by decide +kernel
theorem dX0_measure_23 : decode cX0_measure 23 = .ok (.iload_n 1, 1) := by decide +kernel
theorem dX0_measure_24 : decode cX0_measure 24 = .ok (.ifCond .eq 15, 3) := by decide +kernel
theorem dX0_measure_27 : decode cX0_measure 27 = .ok (.aload_n 0, 1) := by decide +kernel
theorem dX0_measure_28 : decode cX0_measure 28 = .ok (.getfield 9, 3) := by decide +kernel
theorem dX0_measure_31 : decode cX0_measure 31 = .ok (.iload 5, 2) := by decide +kernel
theorem dX0_measure_33 : decode cX0_measure 33 = .ok (.iaload, 1) := by decide +kernel
theorem dX0_measure_34 : decode cX0_measure 34 = .ok (.iconst (-1), 1) := by decide +kernel
theorem dX0_measure_35 : decode cX0_measure 35 = .ok (.ixor, 1) := by decide +kernel
theorem dX0_measure_36 : decode cX0_measure 36 = .ok (.goto 10, 3) := by decide +kernel
theorem dX0_measure_39 : decode cX0_measure 39 = .ok (.aload_n 0, 1) := by decide +kernel
theorem dX0_measure_40 : decode cX0_measure 40 = .ok (.getfield 9, 3) := by decide +kernel
theorem dX0_measure_43 : decode cX0_measure 43 = .ok (.iload 5, 2) := by decide +kernel
theorem dX0_measure_45 : decode cX0_measure 45 = .ok (.iaload, 1) := by decide +kernel
theorem dX0_measure_46 : decode cX0_measure 46 = .ok (.i2l, 1) := by decide +kernel
theorem dX0_measure_47 : decode cX0_measure 47 = .ok (.ldc2_w 21, 3) := by decide +kernel
theorem dX0_measure_50 : decode cX0_measure 50 = .ok (.land, 1) := by decide +kernel
theorem dX0_measure_51 : decode cX0_measure 51 = .ok (.lstore 6, 2) := by decide +kernel
theorem dX0_measure_53 : decode cX0_measure 53 = .ok (.lload 6, 2) := by decide +kernel
theorem dX0_measure_55 : decode cX0_measure 55 = .ok (.lload_n 2, 1) := by decide +kernel
theorem dX0_measure_56 : decode cX0_measure 56 = .ok (.ladd, 1) := by decide +kernel
theorem dX0_measure_57 : decode cX0_measure 57 = .ok (.lstore 6, 2) := by decide +kernel
theorem dX0_measure_59 : decode cX0_measure 59 = .ok (.lload 6, 2) := by decide +kernel
theorem dX0_measure_61 : decode cX0_measure 61 = .ok (.bipush 32, 2) := by decide +kernel
theorem dX0_measure_63 : decode cX0_measure 63 = .ok (.lushr, 1) := by decide +kernel
theorem dX0_measure_64 : decode cX0_measure 64 = .ok (.lstore_n 2, 1) := by decide +kernel
theorem dX0_measure_65 : decode cX0_measure 65 = .ok (.aload_n 0, 1) := by decide +kernel
theorem dX0_measure_66 : decode cX0_measure 66 = .ok (.getfield 13, 3) := by decide +kernel
theorem dX0_measure_69 : decode cX0_measure 69 = .ok (.iload 5, 2) := by decide +kernel
theorem dX0_measure_71 : decode cX0_measure 71 = .ok (.lload 6, 2) := by decide +kernel
theorem dX0_measure_73 : decode cX0_measure 73 = .ok (.l2i, 1) := by decide +kernel
theorem dX0_measure_74 : decode cX0_measure 74 = .ok (.iastore, 1) := by decide +kernel
theorem dX0_measure_75 : decode cX0_measure 75 = .ok (.aload_n 0, 1) := by decide +kernel
theorem dX0_measure_76 : decode cX0_measure 76 = .ok (.getfield 13, 3) := by decide +kernel
theorem dX0_measure_79 : decode cX0_measure 79 = .ok (.iload 5, 2) := by decide +kernel
theorem dX0_measure_81 : decode cX0_measure 81 = .ok (.iaload, 1) := by decide +kernel
theorem dX0_measure_82 : decode cX0_measure 82 = .ok (.ifCond .eq 21, 3) := by decide +kernel
theorem dX0_measure_85 : decode cX0_measure 85 = .ok (.bipush 32, 2) := by decide +kernel
theorem dX0_measure_87 : decode cX0_measure 87 = .ok (.iload 5, 2) := by decide +kernel
theorem dX0_measure_89 : decode cX0_measure 89 = .ok (.imul, 1) := by decide +kernel
theorem dX0_measure_90 : decode cX0_measure 90 = .ok (.aload_n 0, 1) := by decide +kernel
theorem dX0_measure_91 : decode cX0_measure 91 = .ok (.getfield 13, 3) := by decide +kernel
theorem dX0_measure_94 : decode cX0_measure 94 = .ok (.iload 5, 2) := by decide +kernel
theorem dX0_measure_96 : decode cX0_measure 96 = .ok (.iaload, 1) := by decide +kernel
theorem dX0_measure_97 : decode cX0_measure 97 = .ok (.invokestatic 61, 3) := by decide +kernel
theorem dX0_measure_100 : decode cX0_measure 100 = .ok (.iadd, 1) := by decide +kernel
theorem dX0_measure_101 : decode cX0_measure 101 = .ok (.istore 4, 2) := by decide +kernel
theorem dX0_measure_103 : decode cX0_measure 103 = .ok (.iinc 5 1, 3) := by decide +kernel
theorem dX0_measure_106 : decode cX0_measure 106 = .ok (.goto (-90), 3) := by decide +kernel
theorem dX0_measure_109 : decode cX0_measure 109 = .ok (.iload 4, 2) := by decide +kernel
theorem dX0_measure_111 : decode cX0_measure 111 = .ok (.ireturn, 1) := by decide +kernel
abbrev cX0_highest : ByteArray := prog_1_method_10_code
def yX0_highest : MethodName := ⟨RX0, "highest", "(I)I"⟩
theorem dX0_highest_0 : decode cX0_highest 0 = .ok (.iconst 0, 1) := by decide +kernel
theorem dX0_highest_1 : decode cX0_highest 1 = .ok (.istore_n 1, 1) := by decide +kernel
theorem dX0_highest_2 : decode cX0_highest 2 = .ok (.iload_n 0, 1) := by decide +kernel
theorem dX0_highest_3 : decode cX0_highest 3 = .ok (.iconst 1, 1) := by decide +kernel
theorem dX0_highest_4 : decode cX0_highest 4 = .ok (.iushr, 1) := by decide +kernel
theorem dX0_highest_5 : decode cX0_highest 5 = .ok (.istore_n 2, 1) := by decide +kernel
theorem dX0_highest_6 : decode cX0_highest 6 = .ok (.iload_n 2, 1) := by decide +kernel
theorem dX0_highest_7 : decode cX0_highest 7 = .ok (.ifCond .eq 13, 3) := by decide +kernel
theorem dX0_highest_10 : decode cX0_highest 10 = .ok (.iinc 1 1, 3) := by decide +kernel
theorem dX0_highest_13 : decode cX0_highest 13 = .ok (.iload_n 2, 1) := by decide +kernel
theorem dX0_highest_14 : decode cX0_highest 14 = .ok (.iconst 1, 1) := by decide +kernel
theorem dX0_highest_15 : decode cX0_highest 15 = .ok (.iushr, 1) := by decide +kernel
theorem dX0_highest_16 : decode cX0_highest 16 = .ok (.istore_n 2, 1) := by decide +kernel
theorem dX0_highest_17 : decode cX0_highest 17 = .ok (.goto (-11), 3) := by decide +kernel
theorem dX0_highest_20 : decode cX0_highest 20 = .ok (.iload_n 1, 1) := by decide +kernel
theorem dX0_highest_21 : decode cX0_highest 21 = .ok (.ireturn, 1) := by decide +kernel
abbrev cX0_nought : ByteArray := prog_1_method_8_code
def yX0_nought : MethodName := ⟨RX0, "nought", "(I)J"⟩
theorem dX0_nought_0 : decode cX0_nought 0 = .ok (.aload_n 0, 1) := by decide +kernel
theorem dX0_nought_1 : decode cX0_nought 1 = .ok (.getfield 16, 3) := by decide +kernel
theorem dX0_nought_4 : decode cX0_nought 4 = .ok (.ifCond .le 23, 3) := by decide +kernel
theorem dX0_nought_7 : decode cX0_nought 7 = .ok (.aload_n 0, 1) := by decide +kernel
theorem dX0_nought_8 : decode cX0_nought 8 = .ok (.getfield 25, 3) := by decide +kernel
theorem dX0_nought_11 : decode cX0_nought 11 = .ok (.aload_n 0, 1) := by decide +kernel
theorem dX0_nought_12 : decode cX0_nought 12 = .ok (.getfield 16, 3) := by decide +kernel
theorem dX0_nought_15 : decode cX0_nought 15 = .ok (.if_icmp .eq 8, 3) := by decide +kernel
theorem dX0_nought_18 : decode cX0_nought 18 = .ok (.iload_n 1, 1) := by decide +kernel
theorem dX0_nought_19 : decode cX0_nought 19 = .ok (.iconst 3, 1) := by decide +kernel
theorem dX0_nought_20 : decode cX0_nought 20 = .ok (.if_icmp .ne 7, 3) := by decide +kernel
theorem dX0_nought_23 : decode cX0_nought 23 = .ok (.iconst 1, 1) := by decide +kernel
theorem dX0_nought_24 : decode cX0_nought 24 = .ok (.goto 4, 3) := by decide +kernel
theorem dX0_nought_27 : decode cX0_nought 27 = .ok (.iconst 0, 1) := by decide +kernel
theorem dX0_nought_28 : decode cX0_nought 28 = .ok (.istore_n 2, 1) := by decide +kernel
theorem dX0_nought_29 : decode cX0_nought 29 = .ok (.iload_n 2, 1) := by decide +kernel
theorem dX0_nought_30 : decode cX0_nought 30 = .ok (.ifCond .eq 9, 3) := by decide +kernel
theorem dX0_nought_33 : decode cX0_nought 33 = .ok (.ldc2_w 45, 3) := by decide +kernel
theorem dX0_nought_36 : decode cX0_nought 36 = .ok (.goto 4, 3) := by decide +kernel
theorem dX0_nought_39 : decode cX0_nought 39 = .ok (.lconst 0, 1) := by decide +kernel
theorem dX0_nought_40 : decode cX0_nought 40 = .ok (.lreturn, 1) := by decide +kernel
abbrev cX0_read : ByteArray := prog_1_method_12_code
def yX0_read : MethodName := ⟨RX0, "read", "(II)J"⟩
theorem dX0_read_0 : decode cX0_read 0 = .ok (.lconst 0, 1) := by decide +kernel
theorem dX0_read_1 : decode cX0_read 1 = .ok (.lstore_n 3, 1) := by decide +kernel
theorem dX0_read_2 : decode cX0_read 2 = .ok (.iload_n 1, 1) := by decide +kernel
theorem dX0_read_3 : decode cX0_read 3 = .ok (.iload_n 2, 1) := by decide +kernel
theorem dX0_read_4 : decode cX0_read 4 = .ok (.iadd, 1) := by decide +kernel
theorem dX0_read_5 : decode cX0_read 5 = .ok (.iconst 1, 1) := by decide +kernel
theorem dX0_read_6 : decode cX0_read 6 = .ok (.isub, 1) := by decide +kernel
theorem dX0_read_7 : decode cX0_read 7 = .ok (.istore 5, 2) := by decide +kernel
theorem dX0_read_9 : decode cX0_read 9 = .ok (.iload 5, 2) := by decide +kernel
theorem dX0_read_11 : decode cX0_read 11 = .ok (.iload_n 1, 1) := by decide +kernel
theorem dX0_read_12 : decode cX0_read 12 = .ok (.if_icmp .lt 21, 3) := by decide +kernel
theorem dX0_read_15 : decode cX0_read 15 = .ok (.lload_n 3, 1) := by decide +kernel
theorem dX0_read_16 : decode cX0_read 16 = .ok (.iconst 1, 1) := by decide +kernel
theorem dX0_read_17 : decode cX0_read 17 = .ok (.lshl, 1) := by decide +kernel
theorem dX0_read_18 : decode cX0_read 18 = .ok (.aload_n 0, 1) := by decide +kernel
theorem dX0_read_19 : decode cX0_read 19 = .ok (.iload 5, 2) := by decide +kernel
theorem dX0_read_21 : decode cX0_read 21 = .ok (.invokevirtual 65, 3) := by decide +kernel
theorem dX0_read_24 : decode cX0_read 24 = .ok (.i2l, 1) := by decide +kernel
theorem dX0_read_25 : decode cX0_read 25 = .ok (.lor, 1) := by decide +kernel
theorem dX0_read_26 : decode cX0_read 26 = .ok (.lstore_n 3, 1) := by decide +kernel
theorem dX0_read_27 : decode cX0_read 27 = .ok (.iinc 5 (-1), 3) := by decide +kernel
theorem dX0_read_30 : decode cX0_read 30 = .ok (.goto (-21), 3) := by decide +kernel
theorem dX0_read_33 : decode cX0_read 33 = .ok (.lload_n 3, 1) := by decide +kernel
theorem dX0_read_34 : decode cX0_read 34 = .ok (.lreturn, 1) := by decide +kernel
abbrev cX0_bit : ByteArray := prog_1_method_11_code
def yX0_bit : MethodName := ⟨RX0, "bit", "(I)I"⟩
theorem dX0_bit_0 : decode cX0_bit 0 = .ok (.aload_n 0, 1) := by decide +kernel
theorem dX0_bit_1 : decode cX0_bit 1 = .ok (.getfield 13, 3) := by decide +kernel
theorem dX0_bit_4 : decode cX0_bit 4 = .ok (.iload_n 1, 1) := by decide +kernel
theorem dX0_bit_5 : decode cX0_bit 5 = .ok (.iconst 5, 1) := by decide +kernel
theorem dX0_bit_6 : decode cX0_bit 6 = .ok (.ishr, 1) := by decide +kernel
theorem dX0_bit_7 : decode cX0_bit 7 = .ok (.iaload, 1) := by decide +kernel
theorem dX0_bit_8 : decode cX0_bit 8 = .ok (.iload_n 1, 1) := by decide +kernel
theorem dX0_bit_9 : decode cX0_bit 9 = .ok (.bipush 31, 2) := by decide +kernel
theorem dX0_bit_11 : decode cX0_bit 11 = .ok (.iand, 1) := by decide +kernel
theorem dX0_bit_12 : decode cX0_bit 12 = .ok (.iushr, 1) := by decide +kernel
theorem dX0_bit_13 : decode cX0_bit 13 = .ok (.iconst 1, 1) := by decide +kernel
theorem dX0_bit_14 : decode cX0_bit 14 = .ok (.iand, 1) := by decide +kernel
theorem dX0_bit_15 : decode cX0_bit 15 = .ok (.ireturn, 1) := by decide +kernel
abbrev cX0_grows : ByteArray := prog_1_method_13_code
def yX0_grows : MethodName := ⟨RX0, "grows", "(IZIJ)Z"⟩
theorem dX0_grows_0 : decode cX0_grows 0 = .ok (.aload_n 0, 1) := by decide +kernel
theorem dX0_grows_1 : decode cX0_grows 1 = .ok (.iload_n 3, 1) := by decide +kernel
theorem dX0_grows_2 : decode cX0_grows 2 = .ok (.iconst 1, 1) := by decide +kernel
theorem dX0_grows_3 : decode cX0_grows 3 = .ok (.isub, 1) := by decide +kernel
theorem dX0_grows_4 : decode cX0_grows 4 = .ok (.invokevirtual 65, 3) := by decide +kernel
theorem dX0_grows_7 : decode cX0_grows 7 = .ok (.iconst 1, 1) := by decide +kernel
theorem dX0_grows_8 : decode cX0_grows 8 = .ok (.if_icmp .ne 7, 3) := by decide +kernel
theorem dX0_grows_11 : decode cX0_grows 11 = .ok (.iconst 1, 1) := by decide +kernel
theorem dX0_grows_12 : decode cX0_grows 12 = .ok (.goto 4, 3) := by decide +kernel
theorem dX0_grows_15 : decode cX0_grows 15 = .ok (.iconst 0, 1) := by decide +kernel
theorem dX0_grows_16 : decode cX0_grows 16 = .ok (.istore 6, 2) := by decide +kernel
theorem dX0_grows_18 : decode cX0_grows 18 = .ok (.aload_n 0, 1) := by decide +kernel
theorem dX0_grows_19 : decode cX0_grows 19 = .ok (.iload_n 3, 1) := by decide +kernel
theorem dX0_grows_20 : decode cX0_grows 20 = .ok (.iconst 1, 1) := by decide +kernel
theorem dX0_grows_21 : decode cX0_grows 21 = .ok (.isub, 1) := by decide +kernel
theorem dX0_grows_22 : decode cX0_grows 22 = .ok (.invokevirtual 68, 3) := by decide +kernel
theorem dX0_grows_25 : decode cX0_grows 25 = .ok (.istore 7, 2) := by decide +kernel
theorem dX0_grows_27 : decode cX0_grows 27 = .ok (.iload_n 1, 1) := by decide +kernel
theorem dX0_grows_28 : decode cX0_grows 28 = .ok (.ifCond .ne 28, 3) := by decide +kernel
theorem dX0_grows_31 : decode cX0_grows 31 = .ok (.iload 6, 2) := by decide +kernel
theorem dX0_grows_33 : decode cX0_grows 33 = .ok (.ifCond .eq 21, 3) := by decide +kernel
theorem dX0_grows_36 : decode cX0_grows 36 = .ok (.iload 7, 2) := by decide +kernel
theorem dX0_grows_38 : decode cX0_grows 38 = .ok (.ifCond .ne 12, 3) := by decide +kernel
theorem dX0_grows_41 : decode cX0_grows 41 = .ok (.lload 4, 2) := by decide +kernel
theorem dX0_grows_43 : decode cX0_grows 43 = .ok (.lconst 1, 1) := by decide +kernel
theorem dX0_grows_44 : decode cX0_grows 44 = .ok (.land, 1) := by decide +kernel
theorem dX0_grows_45 : decode cX0_grows 45 = .ok (.lconst 1, 1) := by decide +kernel
theorem dX0_grows_46 : decode cX0_grows 46 = .ok (.lcmp, 1) := by decide +kernel
theorem dX0_grows_47 : decode cX0_grows 47 = .ok (.ifCond .ne 7, 3) := by decide +kernel
theorem dX0_grows_50 : decode cX0_grows 50 = .ok (.iconst 1, 1) := by decide +kernel
theorem dX0_grows_51 : decode cX0_grows 51 = .ok (.goto 4, 3) := by decide +kernel
theorem dX0_grows_54 : decode cX0_grows 54 = .ok (.iconst 0, 1) := by decide +kernel
theorem dX0_grows_55 : decode cX0_grows 55 = .ok (.ireturn, 1) := by decide +kernel
theorem dX0_grows_56 : decode cX0_grows 56 = .ok (.iload_n 1, 1) := by decide +kernel
theorem dX0_grows_57 : decode cX0_grows 57 = .ok (.iconst 4, 1) := by decide +kernel
theorem dX0_grows_58 : decode cX0_grows 58 = .ok (.if_icmp .ne 6, 3) := by decide +kernel
theorem dX0_grows_61 : decode cX0_grows 61 = .ok (.iload 6, 2) := by decide +kernel
theorem dX0_grows_63 : decode cX0_grows 63 = .ok (.ireturn, 1) := by decide +kernel
theorem dX0_grows_64 : decode cX0_grows 64 = .ok (.iload 6, 2) := by decide +kernel
theorem dX0_grows_66 : decode cX0_grows 66 = .ok (.ifCond .ne 8, 3) := by decide +kernel
theorem dX0_grows_69 : decode cX0_grows 69 = .ok (.iload 7, 2) := by decide +kernel
theorem dX0_grows_71 : decode cX0_grows 71 = .ok (.ifCond .eq 20, 3) := by decide +kernel
theorem dX0_grows_74 : decode cX0_grows 74 = .ok (.iload_n 1, 1) := by decide +kernel
theorem dX0_grows_75 : decode cX0_grows 75 = .ok (.iload_n 2, 1) := by decide +kernel
theorem dX0_grows_76 : decode cX0_grows 76 = .ok (.ifCond .eq 7, 3) := by decide +kernel
theorem dX0_grows_79 : decode cX0_grows 79 = .ok (.iconst 3, 1) := by decide +kernel
theorem dX0_grows_80 : decode cX0_grows 80 = .ok (.goto 4, 3) := by decide +kernel
theorem dX0_grows_83 : decode cX0_grows 83 = .ok (.iconst 2, 1) := by decide +kernel
theorem dX0_grows_84 : decode cX0_grows 84 = .ok (.if_icmp .ne 7, 3) := by decide +kernel
theorem dX0_grows_87 : decode cX0_grows 87 = .ok (.iconst 1, 1) := by decide +kernel
theorem dX0_grows_88 : decode cX0_grows 88 = .ok (.goto 4, 3) := by decide +kernel
theorem dX0_grows_91 : decode cX0_grows 91 = .ok (.iconst 0, 1) := by decide +kernel
theorem dX0_grows_92 : decode cX0_grows 92 = .ok (.ireturn, 1) := by decide +kernel
abbrev cX0_some : ByteArray := prog_1_method_14_code
def yX0_some : MethodName := ⟨RX0, "some", "(I)Z"⟩
theorem dX0_some_0 : decode cX0_some 0 = .ok (.iload_n 1, 1) := by decide +kernel
theorem dX0_some_1 : decode cX0_some 1 = .ok (.iconst 5, 1) := by decide +kernel
theorem dX0_some_2 : decode cX0_some 2 = .ok (.ishr, 1) := by decide +kernel
theorem dX0_some_3 : decode cX0_some 3 = .ok (.istore_n 2, 1) := by decide +kernel
theorem dX0_some_4 : decode cX0_some 4 = .ok (.iconst 0, 1) := by decide +kernel
theorem dX0_some_5 : decode cX0_some 5 = .ok (.istore_n 3, 1) := by decide +kernel
theorem dX0_some_6 : decode cX0_some 6 = .ok (.iload_n 3, 1) := by decide +kernel
theorem dX0_some_7 : decode cX0_some 7 = .ok (.iload_n 2, 1) := by decide +kernel
theorem dX0_some_8 : decode cX0_some 8 = .ok (.if_icmp .ge 20, 3) := by decide +kernel
theorem dX0_some_11 : decode cX0_some 11 = .ok (.aload_n 0, 1) := by decide +kernel
theorem dX0_some_12 : decode cX0_some 12 = .ok (.getfield 13, 3) := by decide +kernel
theorem dX0_some_15 : decode cX0_some 15 = .ok (.iload_n 3, 1) := by decide +kernel
theorem dX0_some_16 : decode cX0_some 16 = .ok (.iaload, 1) := by decide +kernel
theorem dX0_some_17 : decode cX0_some 17 = .ok (.ifCond .eq 5, 3) := by decide +kernel
theorem dX0_some_20 : decode cX0_some 20 = .ok (.iconst 1, 1) := by decide +kernel
theorem dX0_some_21 : decode cX0_some 21 = .ok (.ireturn, 1) := by decide +kernel
theorem dX0_some_22 : decode cX0_some 22 = .ok (.iinc 3 1, 3) := by decide +kernel
theorem dX0_some_25 : decode cX0_some 25 = .ok (.goto (-19), 3) := by decide +kernel
theorem dX0_some_28 : decode cX0_some 28 = .ok (.aload_n 0, 1) := by decide +kernel
theorem dX0_some_29 : decode cX0_some 29 = .ok (.getfield 13, 3) := by decide +kernel
theorem dX0_some_32 : decode cX0_some 32 = .ok (.iload_n 2, 1) := by decide +kernel
theorem dX0_some_33 : decode cX0_some 33 = .ok (.iaload, 1) := by decide +kernel
theorem dX0_some_34 : decode cX0_some 34 = .ok (.iconst 1, 1) := by decide +kernel
theorem dX0_some_35 : decode cX0_some 35 = .ok (.iload_n 1, 1) := by decide +kernel
theorem dX0_some_36 : decode cX0_some 36 = .ok (.bipush 31, 2) := by decide +kernel
theorem dX0_some_38 : decode cX0_some 38 = .ok (.iand, 1) := by decide +kernel
theorem dX0_some_39 : decode cX0_some 39 = .ok (.ishl, 1) := by decide +kernel
theorem dX0_some_40 : decode cX0_some 40 = .ok (.iconst 1, 1) := by decide +kernel
theorem dX0_some_41 : decode cX0_some 41 = .ok (.isub, 1) := by decide +kernel
theorem dX0_some_42 : decode cX0_some 42 = .ok (.iand, 1) := by decide +kernel
theorem dX0_some_43 : decode cX0_some 43 = .ok (.ifCond .eq 7, 3) := by decide +kernel
theorem dX0_some_46 : decode cX0_some 46 = .ok (.iconst 1, 1) := by decide +kernel
theorem dX0_some_47 : decode cX0_some 47 = .ok (.goto 4, 3) := by decide +kernel
theorem dX0_some_50 : decode cX0_some 50 = .ok (.iconst 0, 1) := by decide +kernel
theorem dX0_some_51 : decode cX0_some 51 = .ok (.ireturn, 1) := by decide +kernel
theorem q11 : (Jvm.Cond.initialized "ExactSum") ∈ lw_all := lw_g (lw_at lw_m0 1 rfl) rfl
theorem q14 : (Jvm.Cond.instantiable "ExactSum" (4 : Nat)) ∈ lw_all := lw_g (lw_at lw_m0 4 rfl) rfl
theorem q16 : (Jvm.Cond.instanceMethod ({ cls := "ExactSum", name := "<init>", desc := "()V" } : Jvm.MethodName)) ∈ lw_all := lw_g (lw_at lw_m0 6 rfl) rfl
theorem q17 : (Jvm.Cond.code ({ cls := "ExactSum", name := "<init>", desc := "()V" } : Jvm.MethodName) prog_1_method_1_code (1 : Nat) (Option.none : Option Jvm.ClassFile.FieldType)) ∈ lw_all := lw_g (lw_at lw_m0 7 rfl) rfl
theorem q18 : (Jvm.Cond.methodLink "ExactSum" (3 : Nat) ({ cls := "java/lang/Object", name := "<init>", desc := "()V" } : Jvm.MethodName)) ∈ lw_all := lw_g (lw_at lw_m0 8 rfl) rfl
theorem q21 : (Jvm.Cond.fieldLink "ExactSum" (9 : Nat) "ExactSum" "words" "[I") ∈ lw_all := lw_g (lw_at lw_m0 11 rfl) rfl
theorem q22 : (Jvm.Cond.fieldLink "ExactSum" (13 : Nat) "ExactSum" "size" "[I") ∈ lw_all := lw_g (lw_at lw_m0 12 rfl) rfl
theorem q23 : (Jvm.Cond.fieldLink "ExactSum" (16 : Nat) "ExactSum" "many" "I") ∈ lw_all := lw_g (lw_at lw_m0 13 rfl) rfl
theorem q24 : (Jvm.Cond.fieldLink "ExactSum" (25 : Nat) "ExactSum" "minusNoughts" "I") ∈ lw_all := lw_g (lw_at lw_m0 14 rfl) rfl
theorem q25 : (Jvm.Cond.laysFinal "ExactSum" "ExactSum" "words" "[I") ∈ lw_all := lw_g (lw_at lw_m0 15 rfl) rfl
theorem q26 : (Jvm.Cond.soleField "ExactSum" "words") ∈ lw_all := lw_g (lw_at lw_m0 16 rfl) rfl
theorem q27 : (Jvm.Cond.laysFinal "ExactSum" "ExactSum" "size" "[I") ∈ lw_all := lw_g (lw_at lw_m0 17 rfl) rfl
theorem q28 : (Jvm.Cond.soleField "ExactSum" "size") ∈ lw_all := lw_g (lw_at lw_m0 18 rfl) rfl
theorem q29 : (Jvm.Cond.lays "ExactSum" "ExactSum" "many" "I") ∈ lw_all := lw_g (lw_at lw_m0 19 rfl) rfl
theorem q30 : (Jvm.Cond.soleField "ExactSum" "many") ∈ lw_all := lw_g (lw_at lw_m0 20 rfl) rfl
theorem q31 : (Jvm.Cond.lays "ExactSum" "ExactSum" "minusNoughts" "I") ∈ lw_all := lw_g (lw_at lw_m0 21 rfl) rfl
theorem q32 : (Jvm.Cond.soleField "ExactSum" "minusNoughts") ∈ lw_all := lw_g (lw_at lw_m0 22 rfl) rfl
theorem q33 : (Jvm.Cond.superclass "ExactSum" "java/lang/Object") ∈ lw_all := lw_g (lw_at lw_m0 23 rfl) rfl
theorem q36 : (Jvm.Cond.instanceMethod ({ cls := "ExactSum", name := "add", desc := "(II)Z" } : Jvm.MethodName)) ∈ lw_all := lw_g (lw_at lw_m0 26 rfl) rfl
theorem q37 : (Jvm.Cond.selects "ExactSum" ({ cls := "ExactSum", name := "add", desc := "(II)Z" } : Jvm.MethodName) ({ cls := "ExactSum", name := "add", desc := "(II)Z" } : Jvm.MethodName)) ∈ lw_all := lw_g (lw_at lw_m0 27 rfl) rfl
theorem q38 : (Jvm.Cond.code ({ cls := "ExactSum", name := "add", desc := "(II)Z" } : Jvm.MethodName) prog_1_method_2_code (9 : Nat) (Option.some Jvm.ClassFile.FieldType.boolean)) ∈ lw_all := lw_g (lw_at lw_m0 28 rfl) rfl
theorem q39 : (Jvm.Cond.constant "ExactSum" (20 : Nat) (1048575 : Int32)) ∈ lw_all := lw_g (lw_at lw_m0 29 rfl) rfl
theorem q40 : (Jvm.Cond.constantLong "ExactSum" (21 : Nat) (4294967295 : Int64)) ∈ lw_all := lw_g (lw_at lw_m0 30 rfl) rfl
theorem q41 : (Jvm.Cond.constantLong "ExactSum" (23 : Nat) (4503599627370496 : Int64)) ∈ lw_all := lw_g (lw_at lw_m0 31 rfl) rfl
theorem q42 : (Jvm.Cond.methodLink "ExactSum" (28 : Nat) ({ cls := "ExactSum", name := "take", desc := "(JIZ)V" } : Jvm.MethodName)) ∈ lw_all := lw_g (lw_at lw_m0 32 rfl) rfl
theorem q43 : (Jvm.Cond.privateMethod ({ cls := "ExactSum", name := "take", desc := "(JIZ)V" } : Jvm.MethodName)) ∈ lw_tbl := lw_at lw_m0 33 rfl
theorem q44 : (Jvm.Cond.instanceMethod ({ cls := "ExactSum", name := "take", desc := "(JIZ)V" } : Jvm.MethodName)) ∈ lw_all := lw_g (lw_at lw_m0 34 rfl) rfl
theorem q45 : (Jvm.Cond.code ({ cls := "ExactSum", name := "take", desc := "(JIZ)V" } : Jvm.MethodName) prog_1_method_3_code (14 : Nat) (Option.none : Option Jvm.ClassFile.FieldType)) ∈ lw_all := lw_g (lw_at lw_m0 35 rfl) rfl
theorem q46 : (Jvm.Cond.methodLink "ExactSum" (32 : Nat) ({ cls := "ExactSum", name := "step", desc := "(IJJZ)J" } : Jvm.MethodName)) ∈ lw_all := lw_g (lw_at lw_m0 36 rfl) rfl
theorem q47 : (Jvm.Cond.privateMethod ({ cls := "ExactSum", name := "step", desc := "(IJJZ)J" } : Jvm.MethodName)) ∈ lw_tbl := lw_at lw_m0 37 rfl
theorem q48 : (Jvm.Cond.instanceMethod ({ cls := "ExactSum", name := "step", desc := "(IJJZ)J" } : Jvm.MethodName)) ∈ lw_all := lw_g (lw_at lw_m0 38 rfl) rfl
theorem q49 : (Jvm.Cond.code ({ cls := "ExactSum", name := "step", desc := "(IJJZ)J" } : Jvm.MethodName) prog_1_method_4_code (11 : Nat) (Option.some Jvm.ClassFile.FieldType.long)) ∈ lw_all := lw_g (lw_at lw_m0 39 rfl) rfl
theorem q51 : (Jvm.Cond.instanceMethod ({ cls := "ExactSum", name := "many", desc := "()I" } : Jvm.MethodName)) ∈ lw_all := lw_g (lw_at lw_m0 41 rfl) rfl
theorem q52 : (Jvm.Cond.selects "ExactSum" ({ cls := "ExactSum", name := "many", desc := "()I" } : Jvm.MethodName) ({ cls := "ExactSum", name := "many", desc := "()I" } : Jvm.MethodName)) ∈ lw_all := lw_g (lw_at lw_m0 42 rfl) rfl
theorem q53 : (Jvm.Cond.code ({ cls := "ExactSum", name := "many", desc := "()I" } : Jvm.MethodName) prog_1_method_5_code (1 : Nat) (Option.some Jvm.ClassFile.FieldType.int)) ∈ lw_all := lw_g (lw_at lw_m0 43 rfl) rfl
theorem q55 : (Jvm.Cond.instanceMethod ({ cls := "ExactSum", name := "wipe", desc := "()V" } : Jvm.MethodName)) ∈ lw_all := lw_g (lw_at lw_m0 45 rfl) rfl
theorem q56 : (Jvm.Cond.selects "ExactSum" ({ cls := "ExactSum", name := "wipe", desc := "()V" } : Jvm.MethodName) ({ cls := "ExactSum", name := "wipe", desc := "()V" } : Jvm.MethodName)) ∈ lw_all := lw_g (lw_at lw_m0 46 rfl) rfl
theorem q57 : (Jvm.Cond.code ({ cls := "ExactSum", name := "wipe", desc := "()V" } : Jvm.MethodName) prog_1_method_6_code (2 : Nat) (Option.none : Option Jvm.ClassFile.FieldType)) ∈ lw_all := lw_g (lw_at lw_m0 47 rfl) rfl
theorem q59 : (Jvm.Cond.instanceMethod ({ cls := "ExactSum", name := "sum", desc := "(I)J" } : Jvm.MethodName)) ∈ lw_all := lw_g (lw_at lw_m0 49 rfl) rfl
theorem q60 : (Jvm.Cond.selects "ExactSum" ({ cls := "ExactSum", name := "sum", desc := "(I)J" } : Jvm.MethodName) ({ cls := "ExactSum", name := "sum", desc := "(I)J" } : Jvm.MethodName)) ∈ lw_all := lw_g (lw_at lw_m0 50 rfl) rfl
theorem q61 : (Jvm.Cond.code ({ cls := "ExactSum", name := "sum", desc := "(I)J" } : Jvm.MethodName) prog_1_method_7_code (12 : Nat) (Option.some Jvm.ClassFile.FieldType.long)) ∈ lw_all := lw_g (lw_at lw_m0 51 rfl) rfl
theorem q62 : (Jvm.Cond.constant "ExactSum" (36 : Nat) (2147483647 : Int32)) ∈ lw_all := lw_g (lw_at lw_m0 52 rfl) rfl
theorem q63 : (Jvm.Cond.methodLink "ExactSum" (37 : Nat) ({ cls := "ExactSum", name := "measure", desc := "(Z)I" } : Jvm.MethodName)) ∈ lw_all := lw_g (lw_at lw_m0 53 rfl) rfl
theorem q64 : (Jvm.Cond.privateMethod ({ cls := "ExactSum", name := "measure", desc := "(Z)I" } : Jvm.MethodName)) ∈ lw_tbl := lw_at lw_m0 54 rfl
theorem q65 : (Jvm.Cond.instanceMethod ({ cls := "ExactSum", name := "measure", desc := "(Z)I" } : Jvm.MethodName)) ∈ lw_all := lw_g (lw_at lw_m0 55 rfl) rfl
theorem q66 : (Jvm.Cond.code ({ cls := "ExactSum", name := "measure", desc := "(Z)I" } : Jvm.MethodName) prog_1_method_9_code (8 : Nat) (Option.some Jvm.ClassFile.FieldType.int)) ∈ lw_all := lw_g (lw_at lw_m0 56 rfl) rfl
theorem q67 : (Jvm.Cond.methodLink "ExactSum" (61 : Nat) ({ cls := "ExactSum", name := "highest", desc := "(I)I" } : Jvm.MethodName)) ∈ lw_all := lw_g (lw_at lw_m0 57 rfl) rfl
theorem q68 : (Jvm.Cond.static ({ cls := "ExactSum", name := "highest", desc := "(I)I" } : Jvm.MethodName)) ∈ lw_all := lw_g (lw_at lw_m0 58 rfl) rfl
theorem q69 : (Jvm.Cond.code ({ cls := "ExactSum", name := "highest", desc := "(I)I" } : Jvm.MethodName) prog_1_method_10_code (3 : Nat) (Option.some Jvm.ClassFile.FieldType.int)) ∈ lw_all := lw_g (lw_at lw_m0 59 rfl) rfl
theorem q70 : (Jvm.Cond.methodLink "ExactSum" (41 : Nat) ({ cls := "ExactSum", name := "nought", desc := "(I)J" } : Jvm.MethodName)) ∈ lw_all := lw_g (lw_at lw_m0 60 rfl) rfl
theorem q71 : (Jvm.Cond.privateMethod ({ cls := "ExactSum", name := "nought", desc := "(I)J" } : Jvm.MethodName)) ∈ lw_tbl := lw_at lw_m0 61 rfl
theorem q72 : (Jvm.Cond.instanceMethod ({ cls := "ExactSum", name := "nought", desc := "(I)J" } : Jvm.MethodName)) ∈ lw_all := lw_g (lw_at lw_m0 62 rfl) rfl
theorem q73 : (Jvm.Cond.code ({ cls := "ExactSum", name := "nought", desc := "(I)J" } : Jvm.MethodName) prog_1_method_8_code (3 : Nat) (Option.some Jvm.ClassFile.FieldType.long)) ∈ lw_all := lw_g (lw_at lw_m0 63 rfl) rfl
theorem q74 : (Jvm.Cond.constantLong "ExactSum" (45 : Nat) (-9223372036854775808 : Int64)) ∈ lw_all := lw_g (lw_at lw_m0 64 rfl) rfl
theorem q75 : (Jvm.Cond.methodLink "ExactSum" (47 : Nat) ({ cls := "ExactSum", name := "read", desc := "(II)J" } : Jvm.MethodName)) ∈ lw_all := lw_g (lw_at lw_m0 65 rfl) rfl
theorem q76 : (Jvm.Cond.privateMethod ({ cls := "ExactSum", name := "read", desc := "(II)J" } : Jvm.MethodName)) ∈ lw_tbl := lw_at lw_m0 66 rfl
theorem q77 : (Jvm.Cond.instanceMethod ({ cls := "ExactSum", name := "read", desc := "(II)J" } : Jvm.MethodName)) ∈ lw_all := lw_g (lw_at lw_m0 67 rfl) rfl
theorem q78 : (Jvm.Cond.code ({ cls := "ExactSum", name := "read", desc := "(II)J" } : Jvm.MethodName) prog_1_method_12_code (6 : Nat) (Option.some Jvm.ClassFile.FieldType.long)) ∈ lw_all := lw_g (lw_at lw_m0 68 rfl) rfl
theorem q79 : (Jvm.Cond.methodLink "ExactSum" (65 : Nat) ({ cls := "ExactSum", name := "bit", desc := "(I)I" } : Jvm.MethodName)) ∈ lw_all := lw_g (lw_at lw_m0 69 rfl) rfl
theorem q80 : (Jvm.Cond.privateMethod ({ cls := "ExactSum", name := "bit", desc := "(I)I" } : Jvm.MethodName)) ∈ lw_tbl := lw_at lw_m0 70 rfl
theorem q81 : (Jvm.Cond.instanceMethod ({ cls := "ExactSum", name := "bit", desc := "(I)I" } : Jvm.MethodName)) ∈ lw_all := lw_g (lw_at lw_m0 71 rfl) rfl
theorem q82 : (Jvm.Cond.code ({ cls := "ExactSum", name := "bit", desc := "(I)I" } : Jvm.MethodName) prog_1_method_11_code (2 : Nat) (Option.some Jvm.ClassFile.FieldType.int)) ∈ lw_all := lw_g (lw_at lw_m0 72 rfl) rfl
theorem q83 : (Jvm.Cond.methodLink "ExactSum" (51 : Nat) ({ cls := "ExactSum", name := "grows", desc := "(IZIJ)Z" } : Jvm.MethodName)) ∈ lw_all := lw_g (lw_at lw_m0 73 rfl) rfl
theorem q84 : (Jvm.Cond.privateMethod ({ cls := "ExactSum", name := "grows", desc := "(IZIJ)Z" } : Jvm.MethodName)) ∈ lw_tbl := lw_at lw_m0 74 rfl
theorem q85 : (Jvm.Cond.instanceMethod ({ cls := "ExactSum", name := "grows", desc := "(IZIJ)Z" } : Jvm.MethodName)) ∈ lw_all := lw_g (lw_at lw_m0 75 rfl) rfl
theorem q86 : (Jvm.Cond.code ({ cls := "ExactSum", name := "grows", desc := "(IZIJ)Z" } : Jvm.MethodName) prog_1_method_13_code (8 : Nat) (Option.some Jvm.ClassFile.FieldType.boolean)) ∈ lw_all := lw_g (lw_at lw_m0 76 rfl) rfl
theorem q87 : (Jvm.Cond.methodLink "ExactSum" (68 : Nat) ({ cls := "ExactSum", name := "some", desc := "(I)Z" } : Jvm.MethodName)) ∈ lw_all := lw_g (lw_at lw_m0 77 rfl) rfl
theorem q88 : (Jvm.Cond.privateMethod ({ cls := "ExactSum", name := "some", desc := "(I)Z" } : Jvm.MethodName)) ∈ lw_tbl := lw_at lw_m0 78 rfl
theorem q89 : (Jvm.Cond.instanceMethod ({ cls := "ExactSum", name := "some", desc := "(I)Z" } : Jvm.MethodName)) ∈ lw_all := lw_g (lw_at lw_m0 79 rfl) rfl
theorem q90 : (Jvm.Cond.code ({ cls := "ExactSum", name := "some", desc := "(I)Z" } : Jvm.MethodName) prog_1_method_14_code (4 : Nat) (Option.some Jvm.ClassFile.FieldType.boolean)) ∈ lw_all := lw_g (lw_at lw_m0 80 rfl) rfl
theorem q91 : (Jvm.Cond.constantLong "ExactSum" (55 : Nat) (9007199254740992 : Int64)) ∈ lw_all := lw_g (lw_at lw_m0 81 rfl) rfl
theorem q92 : (Jvm.Cond.constantLong "ExactSum" (57 : Nat) (9218868437227405312 : Int64)) ∈ lw_all := lw_g (lw_at lw_m0 82 rfl) rfl
theorem q93 : (Jvm.Cond.constantLong "ExactSum" (59 : Nat) (9218868437227405311 : Int64)) ∈ lw_all := lw_g (lw_at lw_m0 83 rfl) rfl
theorem in_X0 : ∀ w ∈ wsX00, w ∈ lw_all := lw_in wsX00 [25, 27, 29, 31] (by decide +kernel) (by decide +kernel)
end
section
/-! ExactSumModel -/
set_option maxRecDepth 100000
def RX1 : String := "ExactSumModel"
def TX1 : u_T := fun k => match k with
  | 0 => ("ExactSumModel", "acc", "[I", true)
  | 1 => ("ExactSumModel", "many", "I", false)
  | 2 => ("ExactSumModel", "onlyMinus", "Z", false)
  | _ => ("ExactSumModel", "size", "[I", true)
def tyX1 : Nat → FieldType := fun k => match k with
  | 0 => .array .int
  | 1 => .int
  | 2 => .boolean
  | _ => .array .int
abbrev wsX10 : List Cond := u_ws RX1 TX1 4
theorem nmX1 : ∀ a, a < 4 → ∀ b, b < 4 → a ≠ b → (TX1 a).2.1 ≠ (TX1 b).2.1 := by decide +kernel
theorem tyX1_ok : ∀ k, k < 4 → parseFieldDescriptor (TX1 k).2.2.1 = some (tyX1 k) := by decide +kernel
abbrev cX1_init : ByteArray := prog_3_method_1_code
def yX1_init : MethodName := ⟨RX1, "<init>", "()V"⟩
theorem dX1_init_0 : decode cX1_init 0 = .ok (.aload_n 0, 1) := by decide +kernel
theorem dX1_init_1 : decode cX1_init 1 = .ok (.invokespecial 1, 3) := by decide +kernel
theorem dX1_init_4 : decode cX1_init 4 = .ok (.aload_n 0, 1) := by decide +kernel
theorem dX1_init_5 : decode cX1_init 5 = .ok (.sipush 136, 3) := by decide +kernel
theorem dX1_init_8 : decode cX1_init 8 = .ok (.newarray .int, 2) := by decide +kernel
theorem dX1_init_10 : decode cX1_init 10 = .ok (.putfield 7, 3) := by decide +kernel
theorem dX1_init_13 : decode cX1_init 13 = .ok (.aload_n 0, 1) := by decide +kernel
theorem dX1_init_14 : decode cX1_init 14 = .ok (.iconst 1, 1) := by decide +kernel
theorem dX1_init_15 : decode cX1_init 15 = .ok (.putfield 13, 3) := by decide +kernel
theorem dX1_init_18 : decode cX1_init 18 = .ok (.aload_n 0, 1) := by decide +kernel
theorem dX1_init_19 : decode cX1_init 19 = .ok (.sipush 136, 3) := by decide +kernel
theorem dX1_init_22 : decode cX1_init 22 = .ok (.newarray .int, 2) := by decide +kernel
theorem dX1_init_24 : decode cX1_init 24 = .ok (.putfield 17, 3) := by decide +kernel
theorem dX1_init_27 : decode cX1_init 27 = .ok (.return_, 1) := by decide +kernel
abbrev cX1_add : ByteArray := prog_3_method_3_code
def yX1_add : MethodName := ⟨RX1, "add", "(II)Z"⟩
theorem dX1_add_0 : decode cX1_add 0 = .ok (.iload_n 1, 1) := by decide +kernel
theorem dX1_add_1 : decode cX1_add 1 = .ok (.i2l, 1) := by decide +kernel
theorem dX1_add_2 : decode cX1_add 2 = .ok (.bipush 32, 2) := by decide +kernel
theorem dX1_add_4 : decode cX1_add 4 = .ok (.lshl, 1) := by decide +kernel
theorem dX1_add_5 : decode cX1_add 5 = .ok (.iload_n 2, 1) := by decide +kernel
theorem dX1_add_6 : decode cX1_add 6 = .ok (.i2l, 1) := by decide +kernel
theorem dX1_add_7 : decode cX1_add 7 = .ok (.ldc2_w 25, 3) := by decide +kernel
theorem dX1_add_10 : decode cX1_add 10 = .ok (.land, 1) := by decide +kernel
theorem dX1_add_11 : decode cX1_add 11 = .ok (.lor, 1) := by decide +kernel
theorem dX1_add_12 : decode cX1_add 12 = .ok (.lstore_n 3, 1) := by decide +kernel
theorem dX1_add_13 : decode cX1_add 13 = .ok (.lload_n 3, 1) := by decide +kernel
theorem dX1_add_14 : decode cX1_add 14 = .ok (.bipush 52, 2) := by decide +kernel
theorem dX1_add_16 : decode cX1_add 16 = .ok (.lushr, 1) := by decide +kernel
theorem dX1_add_17 : decode cX1_add 17 = .ok (.l2i, 1) := by decide +kernel
theorem dX1_add_18 : decode cX1_add 18 = .ok (.sipush 2047, 3) := by decide +kernel
theorem dX1_add_21 : decode cX1_add 21 = .ok (.iand, 1) := by decide +kernel
theorem dX1_add_22 : decode cX1_add 22 = .ok (.sipush 2047, 3) := by decide +kernel
theorem dX1_add_25 : decode cX1_add 25 = .ok (.if_icmp .eq 13, 3) := by decide +kernel
theorem dX1_add_28 : decode cX1_add 28 = .ok (.aload_n 0, 1) := by decide +kernel
theorem dX1_add_29 : decode cX1_add 29 = .ok (.getfield 27, 3) := by decide +kernel
theorem dX1_add_32 : decode cX1_add 32 = .ok (.sipush 4096, 3) := by decide +kernel
theorem dX1_add_35 : decode cX1_add 35 = .ok (.if_icmp .lt 5, 3) := by decide +kernel
theorem dX1_add_38 : decode cX1_add 38 = .ok (.iconst 0, 1) := by decide +kernel
theorem dX1_add_39 : decode cX1_add 39 = .ok (.ireturn, 1) := by decide +kernel
theorem dX1_add_40 : decode cX1_add 40 = .ok (.aload_n 0, 1) := by decide +kernel
theorem dX1_add_41 : decode cX1_add 41 = .ok (.lload_n 3, 1) := by decide +kernel
theorem dX1_add_42 : decode cX1_add 42 = .ok (.iconst 1, 1) := by decide +kernel
theorem dX1_add_43 : decode cX1_add 43 = .ok (.invokevirtual 31, 3) := by decide +kernel
theorem dX1_add_46 : decode cX1_add 46 = .ok (.aload_n 0, 1) := by decide +kernel
theorem dX1_add_47 : decode cX1_add 47 = .ok (.aload_n 0, 1) := by decide +kernel
theorem dX1_add_48 : decode cX1_add 48 = .ok (.getfield 27, 3) := by decide +kernel
theorem dX1_add_51 : decode cX1_add 51 = .ok (.iconst 1, 1) := by decide +kernel
theorem dX1_add_52 : decode cX1_add 52 = .ok (.iadd, 1) := by decide +kernel
theorem dX1_add_53 : decode cX1_add 53 = .ok (.putfield 27, 3) := by decide +kernel
theorem dX1_add_56 : decode cX1_add 56 = .ok (.aload_n 0, 1) := by decide +kernel
theorem dX1_add_57 : decode cX1_add 57 = .ok (.aload_n 0, 1) := by decide +kernel
theorem dX1_add_58 : decode cX1_add 58 = .ok (.getfield 13, 3) := by decide +kernel
theorem dX1_add_61 : decode cX1_add 61 = .ok (.ifCond .eq 15, 3) := by decide +kernel
theorem dX1_add_64 : decode cX1_add 64 = .ok (.lload_n 3, 1) := by decide +kernel
theorem dX1_add_65 : decode cX1_add 65 = .ok (.ldc2_w 35, 3) := by decide +kernel
theorem dX1_add_68 : decode cX1_add 68 = .ok (.lcmp, 1) := by decide +kernel
theorem dX1_add_69 : decode cX1_add 69 = .ok (.ifCond .ne 7, 3) := by decide +kernel
theorem dX1_add_72 : decode cX1_add 72 = .ok (.iconst 1, 1) := by decide +kernel
theorem dX1_add_73 : decode cX1_add 73 = .ok (.goto 4, 3) := by decide +kernel
theorem dX1_add_76 : decode cX1_add 76 = .ok (.iconst 0, 1) := by decide +kernel
theorem dX1_add_77 : decode cX1_add 77 = .ok (.putfield 13, 3) := by decide +kernel
theorem dX1_add_80 : decode cX1_add 80 = .ok (.iconst 1, 1) := by decide +kernel
theorem dX1_add_81 : decode cX1_add 81 = .ok (.ireturn, 1) := by decide +kernel
abbrev cX1_one : ByteArray := prog_3_method_2_code
def yX1_one : MethodName := ⟨RX1, "one", "(JI)V"⟩
theorem dX1_one_0 : decode cX1_one 0 = .ok (.lload_n 1, 1) := by decide +kernel
theorem dX1_one_1 : decode cX1_one 1 = .ok (.bipush 52, 2) := by decide +kernel
theorem dX1_one_3 : decode cX1_one 3 = .ok (.lushr, 1) := by decide +kernel
theorem dX1_one_4 : decode cX1_one 4 = .ok (.l2i, 1) := by decide +kernel
theorem dX1_one_5 : decode cX1_one 5 = .ok (.sipush 2047, 3) := by decide +kernel
theorem dX1_one_8 : decode cX1_one 8 = .ok (.iand, 1) := by decide +kernel
theorem dX1_one_9 : decode cX1_one 9 = .ok (.istore 4, 2) := by decide +kernel
theorem dX1_one_11 : decode cX1_one 11 = .ok (.lload_n 1, 1) := by decide +kernel
theorem dX1_one_12 : decode cX1_one 12 = .ok (.ldc2_w 20, 3) := by decide +kernel
theorem dX1_one_15 : decode cX1_one 15 = .ok (.land, 1) := by decide +kernel
theorem dX1_one_16 : decode cX1_one 16 = .ok (.lstore 5, 2) := by decide +kernel
theorem dX1_one_18 : decode cX1_one 18 = .ok (.iload 4, 2) := by decide +kernel
theorem dX1_one_20 : decode cX1_one 20 = .ok (.ifCond .le 11, 3) := by decide +kernel
theorem dX1_one_23 : decode cX1_one 23 = .ok (.lload 5, 2) := by decide +kernel
theorem dX1_one_25 : decode cX1_one 25 = .ok (.ldc2_w 22, 3) := by decide +kernel
theorem dX1_one_28 : decode cX1_one 28 = .ok (.ladd, 1) := by decide +kernel
theorem dX1_one_29 : decode cX1_one 29 = .ok (.lstore 5, 2) := by decide +kernel
theorem dX1_one_31 : decode cX1_one 31 = .ok (.iload 4, 2) := by decide +kernel
theorem dX1_one_33 : decode cX1_one 33 = .ok (.iconst 1, 1) := by decide +kernel
theorem dX1_one_34 : decode cX1_one 34 = .ok (.if_icmp .le 10, 3) := by decide +kernel
theorem dX1_one_37 : decode cX1_one 37 = .ok (.iload 4, 2) := by decide +kernel
theorem dX1_one_39 : decode cX1_one 39 = .ok (.iconst 1, 1) := by decide +kernel
theorem dX1_one_40 : decode cX1_one 40 = .ok (.isub, 1) := by decide +kernel
theorem dX1_one_41 : decode cX1_one 41 = .ok (.goto 4, 3) := by decide +kernel
theorem dX1_one_44 : decode cX1_one 44 = .ok (.iconst 0, 1) := by decide +kernel
theorem dX1_one_45 : decode cX1_one 45 = .ok (.istore 7, 2) := by decide +kernel
theorem dX1_one_47 : decode cX1_one 47 = .ok (.lload_n 1, 1) := by decide +kernel
theorem dX1_one_48 : decode cX1_one 48 = .ok (.lconst 0, 1) := by decide +kernel
theorem dX1_one_49 : decode cX1_one 49 = .ok (.lcmp, 1) := by decide +kernel
theorem dX1_one_50 : decode cX1_one 50 = .ok (.ifCond .ge 8, 3) := by decide +kernel
theorem dX1_one_53 : decode cX1_one 53 = .ok (.iload_n 3, 1) := by decide +kernel
theorem dX1_one_54 : decode cX1_one 54 = .ok (.ineg, 1) := by decide +kernel
theorem dX1_one_55 : decode cX1_one 55 = .ok (.goto 4, 3) := by decide +kernel
theorem dX1_one_58 : decode cX1_one 58 = .ok (.iload_n 3, 1) := by decide +kernel
theorem dX1_one_59 : decode cX1_one 59 = .ok (.istore 8, 2) := by decide +kernel
theorem dX1_one_61 : decode cX1_one 61 = .ok (.iconst 0, 1) := by decide +kernel
theorem dX1_one_62 : decode cX1_one 62 = .ok (.istore 9, 2) := by decide +kernel
theorem dX1_one_64 : decode cX1_one 64 = .ok (.iconst 0, 1) := by decide +kernel
theorem dX1_one_65 : decode cX1_one 65 = .ok (.istore 10, 2) := by decide +kernel
theorem dX1_one_67 : decode cX1_one 67 = .ok (.iload 10, 2) := by decide +kernel
theorem dX1_one_69 : decode cX1_one 69 = .ok (.sipush 136, 3) := by decide +kernel
theorem dX1_one_72 : decode cX1_one 72 = .ok (.if_icmp .ge 106, 3) := by decide +kernel
theorem dX1_one_75 : decode cX1_one 75 = .ok (.iconst 0, 1) := by decide +kernel
theorem dX1_one_76 : decode cX1_one 76 = .ok (.istore 11, 2) := by decide +kernel
theorem dX1_one_78 : decode cX1_one 78 = .ok (.iconst 0, 1) := by decide +kernel
theorem dX1_one_79 : decode cX1_one 79 = .ok (.istore 12, 2) := by decide +kernel
theorem dX1_one_81 : decode cX1_one 81 = .ok (.iload 12, 2) := by decide +kernel
theorem dX1_one_83 : decode cX1_one 83 = .ok (.bipush 16, 2) := by decide +kernel
theorem dX1_one_85 : decode cX1_one 85 = .ok (.if_icmp .ge 50, 3) := by decide +kernel
theorem dX1_one_88 : decode cX1_one 88 = .ok (.bipush 16, 2) := by decide +kernel
theorem dX1_one_90 : decode cX1_one 90 = .ok (.iload 10, 2) := by decide +kernel
theorem dX1_one_92 : decode cX1_one 92 = .ok (.imul, 1) := by decide +kernel
theorem dX1_one_93 : decode cX1_one 93 = .ok (.iload 12, 2) := by decide +kernel
theorem dX1_one_95 : decode cX1_one 95 = .ok (.iadd, 1) := by decide +kernel
theorem dX1_one_96 : decode cX1_one 96 = .ok (.iload 7, 2) := by decide +kernel
theorem dX1_one_98 : decode cX1_one 98 = .ok (.isub, 1) := by decide +kernel
theorem dX1_one_99 : decode cX1_one 99 = .ok (.istore 13, 2) := by decide +kernel
theorem dX1_one_101 : decode cX1_one 101 = .ok (.iload 13, 2) := by decide +kernel
theorem dX1_one_103 : decode cX1_one 103 = .ok (.ifCond .lt 26, 3) := by decide +kernel
theorem dX1_one_106 : decode cX1_one 106 = .ok (.iload 13, 2) := by decide +kernel
theorem dX1_one_108 : decode cX1_one 108 = .ok (.bipush 53, 2) := by decide +kernel
theorem dX1_one_110 : decode cX1_one 110 = .ok (.if_icmp .ge 19, 3) := by decide +kernel
theorem dX1_one_113 : decode cX1_one 113 = .ok (.iload 11, 2) := by decide +kernel
theorem dX1_one_115 : decode cX1_one 115 = .ok (.lload 5, 2) := by decide +kernel
theorem dX1_one_117 : decode cX1_one 117 = .ok (.iload 13, 2) := by decide +kernel
theorem dX1_one_119 : decode cX1_one 119 = .ok (.lushr, 1) := by decide +kernel
theorem dX1_one_120 : decode cX1_one 120 = .ok (.lconst 1, 1) := by decide +kernel
theorem dX1_one_121 : decode cX1_one 121 = .ok (.land, 1) := by decide +kernel
theorem dX1_one_122 : decode cX1_one 122 = .ok (.l2i, 1) := by decide +kernel
theorem dX1_one_123 : decode cX1_one 123 = .ok (.iload 12, 2) := by decide +kernel
theorem dX1_one_125 : decode cX1_one 125 = .ok (.ishl, 1) := by decide +kernel
theorem dX1_one_126 : decode cX1_one 126 = .ok (.ior, 1) := by decide +kernel
theorem dX1_one_127 : decode cX1_one 127 = .ok (.istore 11, 2) := by decide +kernel
theorem dX1_one_129 : decode cX1_one 129 = .ok (.iinc 12 1, 3) := by decide +kernel
theorem dX1_one_132 : decode cX1_one 132 = .ok (.goto (-51), 3) := by decide +kernel
theorem dX1_one_135 : decode cX1_one 135 = .ok (.aload_n 0, 1) := by decide +kernel
theorem dX1_one_136 : decode cX1_one 136 = .ok (.getfield 7, 3) := by decide +kernel
theorem dX1_one_139 : decode cX1_one 139 = .ok (.iload 10, 2) := by decide +kernel
theorem dX1_one_141 : decode cX1_one 141 = .ok (.iaload, 1) := by decide +kernel
theorem dX1_one_142 : decode cX1_one 142 = .ok (.iload 8, 2) := by decide +kernel
theorem dX1_one_144 : decode cX1_one 144 = .ok (.iload 11, 2) := by decide +kernel
theorem dX1_one_146 : decode cX1_one 146 = .ok (.imul, 1) := by decide +kernel
theorem dX1_one_147 : decode cX1_one 147 = .ok (.iadd, 1) := by decide +kernel
theorem dX1_one_148 : decode cX1_one 148 = .ok (.iload 9, 2) := by decide +kernel
theorem dX1_one_150 : decode cX1_one 150 = .ok (.iadd, 1) := by decide +kernel
theorem dX1_one_151 : decode cX1_one 151 = .ok (.istore 12, 2) := by decide +kernel
theorem dX1_one_153 : decode cX1_one 153 = .ok (.aload_n 0, 1) := by decide +kernel
theorem dX1_one_154 : decode cX1_one 154 = .ok (.getfield 7, 3) := by decide +kernel
theorem dX1_one_157 : decode cX1_one 157 = .ok (.iload 10, 2) := by decide +kernel
theorem dX1_one_159 : decode cX1_one 159 = .ok (.iload 12, 2) := by decide +kernel
theorem dX1_one_161 : decode cX1_one 161 = .ok (.ldc 24, 2) := by decide +kernel
theorem dX1_one_163 : decode cX1_one 163 = .ok (.iand, 1) := by decide +kernel
theorem dX1_one_164 : decode cX1_one 164 = .ok (.iastore, 1) := by decide +kernel
theorem dX1_one_165 : decode cX1_one 165 = .ok (.iload 12, 2) := by decide +kernel
theorem dX1_one_167 : decode cX1_one 167 = .ok (.bipush 16, 2) := by decide +kernel
theorem dX1_one_169 : decode cX1_one 169 = .ok (.ishr, 1) := by decide +kernel
theorem dX1_one_170 : decode cX1_one 170 = .ok (.istore 9, 2) := by decide +kernel
theorem dX1_one_172 : decode cX1_one 172 = .ok (.iinc 10 1, 3) := by decide +kernel
theorem dX1_one_175 : decode cX1_one 175 = .ok (.goto (-108), 3) := by decide +kernel
theorem dX1_one_178 : decode cX1_one 178 = .ok (.return_, 1) := by decide +kernel
abbrev cX1_many : ByteArray := prog_3_method_4_code
def yX1_many : MethodName := ⟨RX1, "many", "()I"⟩
theorem dX1_many_0 : decode cX1_many 0 = .ok (.aload_n 0, 1) := by decide +kernel
theorem dX1_many_1 : decode cX1_many 1 = .ok (.getfield 27, 3) := by decide +kernel
theorem dX1_many_4 : decode cX1_many 4 = .ok (.ireturn, 1) := by decide +kernel
abbrev cX1_wipe : ByteArray := prog_3_method_5_code
def yX1_wipe : MethodName := ⟨RX1, "wipe", "()V"⟩
theorem dX1_wipe_0 : decode cX1_wipe 0 = .ok (.iconst 0, 1) := by decide +kernel
theorem dX1_wipe_1 : decode cX1_wipe 1 = .ok (.istore_n 1, 1) := by decide +kernel
theorem dX1_wipe_2 : decode cX1_wipe 2 = .ok (.iload_n 1, 1) := by decide +kernel
theorem dX1_wipe_3 : decode cX1_wipe 3 = .ok (.sipush 136, 3) := by decide +kernel
theorem dX1_wipe_6 : decode cX1_wipe 6 = .ok (.if_icmp .ge 16, 3) := by decide +kernel
theorem dX1_wipe_9 : decode cX1_wipe 9 = .ok (.aload_n 0, 1) := by decide +kernel
theorem dX1_wipe_10 : decode cX1_wipe 10 = .ok (.getfield 7, 3) := by decide +kernel
theorem dX1_wipe_13 : decode cX1_wipe 13 = .ok (.iload_n 1, 1) := by decide +kernel
theorem dX1_wipe_14 : decode cX1_wipe 14 = .ok (.iconst 0, 1) := by decide +kernel
theorem dX1_wipe_15 : decode cX1_wipe 15 = .ok (.iastore, 1) := by decide +kernel
theorem dX1_wipe_16 : decode cX1_wipe 16 = .ok (.iinc 1 1, 3) := by decide +kernel
theorem dX1_wipe_19 : decode cX1_wipe 19 = .ok (.goto (-17), 3) := by decide +kernel
theorem dX1_wipe_22 : decode cX1_wipe 22 = .ok (.aload_n 0, 1) := by decide +kernel
theorem dX1_wipe_23 : decode cX1_wipe 23 = .ok (.iconst 0, 1) := by decide +kernel
theorem dX1_wipe_24 : decode cX1_wipe 24 = .ok (.putfield 27, 3) := by decide +kernel
theorem dX1_wipe_27 : decode cX1_wipe 27 = .ok (.aload_n 0, 1) := by decide +kernel
theorem dX1_wipe_28 : decode cX1_wipe 28 = .ok (.iconst 1, 1) := by decide +kernel
theorem dX1_wipe_29 : decode cX1_wipe 29 = .ok (.putfield 13, 3) := by decide +kernel
theorem dX1_wipe_32 : decode cX1_wipe 32 = .ok (.return_, 1) := by decide +kernel
abbrev cX1_sum : ByteArray := prog_3_method_7_code
def yX1_sum : MethodName := ⟨RX1, "sum", "(I)J"⟩
theorem dX1_sum_0 : decode cX1_sum 0 = .ok (.iload_n 1, 1) := by decide +kernel
theorem dX1_sum_1 : decode cX1_sum 1 = .ok (.ldc 37, 2) := by decide +kernel
theorem dX1_sum_3 : decode cX1_sum 3 = .ok (.iand, 1) := by decide +kernel
theorem dX1_sum_4 : decode cX1_sum 4 = .ok (.iconst 5, 1) := by decide +kernel
theorem dX1_sum_5 : decode cX1_sum 5 = .ok (.irem, 1) := by decide +kernel
theorem dX1_sum_6 : decode cX1_sum 6 = .ok (.istore_n 2, 1) := by decide +kernel
theorem dX1_sum_7 : decode cX1_sum 7 = .ok (.aload_n 0, 1) := by decide +kernel
theorem dX1_sum_8 : decode cX1_sum 8 = .ok (.getfield 7, 3) := by decide +kernel
theorem dX1_sum_11 : decode cX1_sum 11 = .ok (.sipush 135, 3) := by decide +kernel
theorem dX1_sum_14 : decode cX1_sum 14 = .ok (.iaload, 1) := by decide +kernel
theorem dX1_sum_15 : decode cX1_sum 15 = .ok (.bipush 15, 2) := by decide +kernel
theorem dX1_sum_17 : decode cX1_sum 17 = .ok (.ishr, 1) := by decide +kernel
theorem dX1_sum_18 : decode cX1_sum 18 = .ok (.ifCond .eq 7, 3) := by decide +kernel
theorem dX1_sum_21 : decode cX1_sum 21 = .ok (.iconst 1, 1) := by decide +kernel
theorem dX1_sum_22 : decode cX1_sum 22 = .ok (.goto 4, 3) := by decide +kernel
theorem dX1_sum_25 : decode cX1_sum 25 = .ok (.iconst 0, 1) := by decide +kernel
theorem dX1_sum_26 : decode cX1_sum 26 = .ok (.istore_n 3, 1) := by decide +kernel
theorem dX1_sum_27 : decode cX1_sum 27 = .ok (.iload_n 3, 1) := by decide +kernel
theorem dX1_sum_28 : decode cX1_sum 28 = .ok (.ifCond .eq 7, 3) := by decide +kernel
theorem dX1_sum_31 : decode cX1_sum 31 = .ok (.iconst 1, 1) := by decide +kernel
theorem dX1_sum_32 : decode cX1_sum 32 = .ok (.goto 4, 3) := by decide +kernel
theorem dX1_sum_35 : decode cX1_sum 35 = .ok (.iconst 0, 1) := by decide +kernel
theorem dX1_sum_36 : decode cX1_sum 36 = .ok (.istore 4, 2) := by decide +kernel
theorem dX1_sum_38 : decode cX1_sum 38 = .ok (.iconst 0, 1) := by decide +kernel
theorem dX1_sum_39 : decode cX1_sum 39 = .ok (.istore 5, 2) := by decide +kernel
theorem dX1_sum_41 : decode cX1_sum 41 = .ok (.iload 5, 2) := by decide +kernel
theorem dX1_sum_43 : decode cX1_sum 43 = .ok (.sipush 136, 3) := by decide +kernel
theorem dX1_sum_46 : decode cX1_sum 46 = .ok (.if_icmp .ge 57, 3) := by decide +kernel
theorem dX1_sum_49 : decode cX1_sum 49 = .ok (.iload_n 3, 1) := by decide +kernel
theorem dX1_sum_50 : decode cX1_sum 50 = .ok (.ifCond .eq 16, 3) := by decide +kernel
theorem dX1_sum_53 : decode cX1_sum 53 = .ok (.ldc 24, 2) := by decide +kernel
theorem dX1_sum_55 : decode cX1_sum 55 = .ok (.aload_n 0, 1) := by decide +kernel
theorem dX1_sum_56 : decode cX1_sum 56 = .ok (.getfield 7, 3) := by decide +kernel
theorem dX1_sum_59 : decode cX1_sum 59 = .ok (.iload 5, 2) := by decide +kernel
theorem dX1_sum_61 : decode cX1_sum 61 = .ok (.iaload, 1) := by decide +kernel
theorem dX1_sum_62 : decode cX1_sum 62 = .ok (.isub, 1) := by decide +kernel
theorem dX1_sum_63 : decode cX1_sum 63 = .ok (.goto 10, 3) := by decide +kernel
theorem dX1_sum_66 : decode cX1_sum 66 = .ok (.aload_n 0, 1) := by decide +kernel
theorem dX1_sum_67 : decode cX1_sum 67 = .ok (.getfield 7, 3) := by decide +kernel
theorem dX1_sum_70 : decode cX1_sum 70 = .ok (.iload 5, 2) := by decide +kernel
theorem dX1_sum_72 : decode cX1_sum 72 = .ok (.iaload, 1) := by decide +kernel
theorem dX1_sum_73 : decode cX1_sum 73 = .ok (.iload 4, 2) := by decide +kernel
theorem dX1_sum_75 : decode cX1_sum 75 = .ok (.iadd, 1) := by decide +kernel
theorem dX1_sum_76 : decode cX1_sum 76 = .ok (.istore 6, 2) := by decide +kernel
theorem dX1_sum_78 : decode cX1_sum 78 = .ok (.aload_n 0, 1) := by decide +kernel
theorem dX1_sum_79 : decode cX1_sum 79 = .ok (.getfield 17, 3) := by decide +kernel
theorem dX1_sum_82 : decode cX1_sum 82 = .ok (.iload 5, 2) := by decide +kernel
theorem dX1_sum_84 : decode cX1_sum 84 = .ok (.iload 6, 2) := by decide +kernel
theorem dX1_sum_86 : decode cX1_sum 86 = .ok (.ldc 24, 2) := by decide +kernel
theorem dX1_sum_88 : decode cX1_sum 88 = .ok (.iand, 1) := by decide +kernel
theorem dX1_sum_89 : decode cX1_sum 89 = .ok (.iastore, 1) := by decide +kernel
theorem dX1_sum_90 : decode cX1_sum 90 = .ok (.iload 6, 2) := by decide +kernel
theorem dX1_sum_92 : decode cX1_sum 92 = .ok (.bipush 16, 2) := by decide +kernel
theorem dX1_sum_94 : decode cX1_sum 94 = .ok (.ishr, 1) := by decide +kernel
theorem dX1_sum_95 : decode cX1_sum 95 = .ok (.istore 4, 2) := by decide +kernel
theorem dX1_sum_97 : decode cX1_sum 97 = .ok (.iinc 5 1, 3) := by decide +kernel
theorem dX1_sum_100 : decode cX1_sum 100 = .ok (.goto (-59), 3) := by decide +kernel
theorem dX1_sum_103 : decode cX1_sum 103 = .ok (.sipush 2175, 3) := by decide +kernel
theorem dX1_sum_106 : decode cX1_sum 106 = .ok (.istore 5, 2) := by decide +kernel
theorem dX1_sum_108 : decode cX1_sum 108 = .ok (.iload 5, 2) := by decide +kernel
theorem dX1_sum_110 : decode cX1_sum 110 = .ok (.ifCond .lt 21, 3) := by decide +kernel
theorem dX1_sum_113 : decode cX1_sum 113 = .ok (.aload_n 0, 1) := by decide +kernel
theorem dX1_sum_114 : decode cX1_sum 114 = .ok (.iload 5, 2) := by decide +kernel
theorem dX1_sum_116 : decode cX1_sum 116 = .ok (.invokevirtual 38, 3) := by decide +kernel
theorem dX1_sum_119 : decode cX1_sum 119 = .ok (.ifCond .ne 12, 3) := by decide +kernel
theorem dX1_sum_122 : decode cX1_sum 122 = .ok (.iload 5, 2) := by decide +kernel
theorem dX1_sum_124 : decode cX1_sum 124 = .ok (.iconst 1, 1) := by decide +kernel
theorem dX1_sum_125 : decode cX1_sum 125 = .ok (.isub, 1) := by decide +kernel
theorem dX1_sum_126 : decode cX1_sum 126 = .ok (.istore 5, 2) := by decide +kernel
theorem dX1_sum_128 : decode cX1_sum 128 = .ok (.goto (-20), 3) := by decide +kernel
theorem dX1_sum_131 : decode cX1_sum 131 = .ok (.iload 5, 2) := by decide +kernel
theorem dX1_sum_133 : decode cX1_sum 133 = .ok (.ifCond .ge 37, 3) := by decide +kernel
theorem dX1_sum_136 : decode cX1_sum 136 = .ok (.aload_n 0, 1) := by decide +kernel
theorem dX1_sum_137 : decode cX1_sum 137 = .ok (.getfield 27, 3) := by decide +kernel
theorem dX1_sum_140 : decode cX1_sum 140 = .ok (.ifCond .le 10, 3) := by decide +kernel
theorem dX1_sum_143 : decode cX1_sum 143 = .ok (.aload_n 0, 1) := by decide +kernel
theorem dX1_sum_144 : decode cX1_sum 144 = .ok (.getfield 13, 3) := by decide +kernel
theorem dX1_sum_147 : decode cX1_sum 147 = .ok (.ifCond .ne 15, 3) := by decide +kernel
theorem dX1_sum_150 : decode cX1_sum 150 = .ok (.aload_n 0, 1) := by decide +kernel
theorem dX1_sum_151 : decode cX1_sum 151 = .ok (.getfield 27, 3) := by decide +kernel
theorem dX1_sum_154 : decode cX1_sum 154 = .ok (.ifCond .le 14, 3) := by decide +kernel
theorem dX1_sum_157 : decode cX1_sum 157 = .ok (.iload_n 2, 1) := by decide +kernel
theorem dX1_sum_158 : decode cX1_sum 158 = .ok (.iconst 3, 1) := by decide +kernel
theorem dX1_sum_159 : decode cX1_sum 159 = .ok (.if_icmp .ne 9, 3) := by decide +kernel
theorem dX1_sum_162 : decode cX1_sum 162 = .ok (.ldc2_w 35, 3) := by decide +kernel
theorem dX1_sum_165 : decode cX1_sum 165 = .ok (.goto 4, 3) := by decide +kernel
theorem dX1_sum_168 : decode cX1_sum 168 = .ok (.lconst 0, 1) := by decide +kernel
theorem dX1_sum_169 : decode cX1_sum 169 = .ok (.lreturn, 1) := by decide +kernel
theorem dX1_sum_170 : decode cX1_sum 170 = .ok (.iload 5, 2) := by decide +kernel
theorem dX1_sum_172 : decode cX1_sum 172 = .ok (.bipush 52, 2) := by decide +kernel
theorem dX1_sum_174 : decode cX1_sum 174 = .ok (.if_icmp .le 11, 3) := by decide +kernel
theorem dX1_sum_177 : decode cX1_sum 177 = .ok (.iload 5, 2) := by decide +kernel
theorem dX1_sum_179 : decode cX1_sum 179 = .ok (.bipush 52, 2) := by decide +kernel
theorem dX1_sum_181 : decode cX1_sum 181 = .ok (.isub, 1) := by decide +kernel
theorem dX1_sum_182 : decode cX1_sum 182 = .ok (.goto 4, 3) := by decide +kernel
theorem dX1_sum_185 : decode cX1_sum 185 = .ok (.iconst 0, 1) := by decide +kernel
theorem dX1_sum_186 : decode cX1_sum 186 = .ok (.istore 6, 2) := by decide +kernel
theorem dX1_sum_188 : decode cX1_sum 188 = .ok (.lconst 0, 1) := by decide +kernel
theorem dX1_sum_189 : decode cX1_sum 189 = .ok (.lstore 7, 2) := by decide +kernel
theorem dX1_sum_191 : decode cX1_sum 191 = .ok (.iload 5, 2) := by decide +kernel
theorem dX1_sum_193 : decode cX1_sum 193 = .ok (.istore 9, 2) := by decide +kernel
theorem dX1_sum_195 : decode cX1_sum 195 = .ok (.iload 9, 2) := by decide +kernel
theorem dX1_sum_197 : decode cX1_sum 197 = .ok (.iload 6, 2) := by decide +kernel
theorem dX1_sum_199 : decode cX1_sum 199 = .ok (.if_icmp .lt 33, 3) := by decide +kernel
theorem dX1_sum_202 : decode cX1_sum 202 = .ok (.ldc2_w 42, 3) := by decide +kernel
theorem dX1_sum_205 : decode cX1_sum 205 = .ok (.lload 7, 2) := by decide +kernel
theorem dX1_sum_207 : decode cX1_sum 207 = .ok (.lmul, 1) := by decide +kernel
theorem dX1_sum_208 : decode cX1_sum 208 = .ok (.aload_n 0, 1) := by decide +kernel
theorem dX1_sum_209 : decode cX1_sum 209 = .ok (.iload 9, 2) := by decide +kernel
theorem dX1_sum_211 : decode cX1_sum 211 = .ok (.invokevirtual 38, 3) := by decide +kernel
theorem dX1_sum_214 : decode cX1_sum 214 = .ok (.ifCond .eq 7, 3) := by decide +kernel
theorem dX1_sum_217 : decode cX1_sum 217 = .ok (.iconst 1, 1) := by decide +kernel
theorem dX1_sum_218 : decode cX1_sum 218 = .ok (.goto 4, 3) := by decide +kernel
theorem dX1_sum_221 : decode cX1_sum 221 = .ok (.iconst 0, 1) := by decide +kernel
theorem dX1_sum_222 : decode cX1_sum 222 = .ok (.i2l, 1) := by decide +kernel
theorem dX1_sum_223 : decode cX1_sum 223 = .ok (.ladd, 1) := by decide +kernel
theorem dX1_sum_224 : decode cX1_sum 224 = .ok (.lstore 7, 2) := by decide +kernel
theorem dX1_sum_226 : decode cX1_sum 226 = .ok (.iinc 9 (-1), 3) := by decide +kernel
theorem dX1_sum_229 : decode cX1_sum 229 = .ok (.goto (-34), 3) := by decide +kernel
theorem dX1_sum_232 : decode cX1_sum 232 = .ok (.aload_n 0, 1) := by decide +kernel
theorem dX1_sum_233 : decode cX1_sum 233 = .ok (.iload 6, 2) := by decide +kernel
theorem dX1_sum_235 : decode cX1_sum 235 = .ok (.iconst 1, 1) := by decide +kernel
theorem dX1_sum_236 : decode cX1_sum 236 = .ok (.isub, 1) := by decide +kernel
theorem dX1_sum_237 : decode cX1_sum 237 = .ok (.invokevirtual 38, 3) := by decide +kernel
theorem dX1_sum_240 : decode cX1_sum 240 = .ok (.istore 9, 2) := by decide +kernel
theorem dX1_sum_242 : decode cX1_sum 242 = .ok (.iconst 0, 1) := by decide +kernel
theorem dX1_sum_243 : decode cX1_sum 243 = .ok (.istore 10, 2) := by decide +kernel
theorem dX1_sum_245 : decode cX1_sum 245 = .ok (.iconst 0, 1) := by decide +kernel
theorem dX1_sum_246 : decode cX1_sum 246 = .ok (.istore 11, 2) := by decide +kernel
theorem dX1_sum_248 : decode cX1_sum 248 = .ok (.iload 11, 2) := by decide +kernel
theorem dX1_sum_250 : decode cX1_sum 250 = .ok (.iload 6, 2) := by decide +kernel
theorem dX1_sum_252 : decode cX1_sum 252 = .ok (.iconst 1, 1) := by decide +kernel
theorem dX1_sum_253 : decode cX1_sum 253 = .ok (.isub, 1) := by decide +kernel
theorem dX1_sum_254 : decode cX1_sum 254 = .ok (.if_icmp .ge 30, 3) := by decide +kernel
theorem dX1_sum_257 : decode cX1_sum 257 = .ok (.iload 10, 2) := by decide +kernel
theorem dX1_sum_259 : decode cX1_sum 259 = .ok (.ifCond .ne 12, 3) := by decide +kernel
theorem dX1_sum_262 : decode cX1_sum 262 = .ok (.aload_n 0, 1) := by decide +kernel
theorem dX1_sum_263 : decode cX1_sum 263 = .ok (.iload 11, 2) := by decide +kernel
theorem dX1_sum_265 : decode cX1_sum 265 = .ok (.invokevirtual 38, 3) := by decide +kernel
theorem dX1_sum_268 : decode cX1_sum 268 = .ok (.ifCond .eq 7, 3) := by decide +kernel
theorem dX1_sum_271 : decode cX1_sum 271 = .ok (.iconst 1, 1) := by decide +kernel
theorem dX1_sum_272 : decode cX1_sum 272 = .ok (.goto 4, 3) := by decide +kernel
theorem dX1_sum_275 : decode cX1_sum 275 = .ok (.iconst 0, 1) := by decide +kernel
theorem dX1_sum_276 : decode cX1_sum 276 = .ok (.istore 10, 2) := by decide +kernel
theorem dX1_sum_278 : decode cX1_sum 278 = .ok (.iinc 11 1, 3) := by decide +kernel
theorem dX1_sum_281 : decode cX1_sum 281 = .ok (.goto (-33), 3) := by decide +kernel
theorem dX1_sum_284 : decode cX1_sum 284 = .ok (.iload_n 2, 1) := by decide +kernel
theorem dX1_sum_285 : decode cX1_sum 285 = .ok (.ifCond .ne 30, 3) := by decide +kernel
theorem dX1_sum_288 : decode cX1_sum 288 = .ok (.iload 9, 2) := by decide +kernel
theorem dX1_sum_290 : decode cX1_sum 290 = .ok (.ifCond .eq 21, 3) := by decide +kernel
theorem dX1_sum_293 : decode cX1_sum 293 = .ok (.iload 10, 2) := by decide +kernel
theorem dX1_sum_295 : decode cX1_sum 295 = .ok (.ifCond .ne 12, 3) := by decide +kernel
theorem dX1_sum_298 : decode cX1_sum 298 = .ok (.lload 7, 2) := by decide +kernel
theorem dX1_sum_300 : decode cX1_sum 300 = .ok (.lconst 1, 1) := by decide +kernel
theorem dX1_sum_301 : decode cX1_sum 301 = .ok (.land, 1) := by decide +kernel
theorem dX1_sum_302 : decode cX1_sum 302 = .ok (.lconst 0, 1) := by decide +kernel
theorem dX1_sum_303 : decode cX1_sum 303 = .ok (.lcmp, 1) := by decide +kernel
theorem dX1_sum_304 : decode cX1_sum 304 = .ok (.ifCond .eq 7, 3) := by decide +kernel
theorem dX1_sum_307 : decode cX1_sum 307 = .ok (.iconst 1, 1) := by decide +kernel
theorem dX1_sum_308 : decode cX1_sum 308 = .ok (.goto 55, 3) := by decide +kernel
theorem dX1_sum_311 : decode cX1_sum 311 = .ok (.iconst 0, 1) := by decide +kernel
theorem dX1_sum_312 : decode cX1_sum 312 = .ok (.goto 51, 3) := by decide +kernel
theorem dX1_sum_315 : decode cX1_sum 315 = .ok (.iload_n 2, 1) := by decide +kernel
theorem dX1_sum_316 : decode cX1_sum 316 = .ok (.iconst 4, 1) := by decide +kernel
theorem dX1_sum_317 : decode cX1_sum 317 = .ok (.if_icmp .ne 8, 3) := by decide +kernel
theorem dX1_sum_320 : decode cX1_sum 320 = .ok (.iload 9, 2) := by decide +kernel
theorem dX1_sum_322 : decode cX1_sum 322 = .ok (.goto 41, 3) := by decide +kernel
theorem dX1_sum_325 : decode cX1_sum 325 = .ok (.iload_n 2, 1) := by decide +kernel
theorem dX1_sum_326 : decode cX1_sum 326 = .ok (.iconst 1, 1) := by decide +kernel
theorem dX1_sum_327 : decode cX1_sum 327 = .ok (.if_icmp .ne 7, 3) := by decide +kernel
theorem dX1_sum_330 : decode cX1_sum 330 = .ok (.iconst 0, 1) := by decide +kernel
theorem dX1_sum_331 : decode cX1_sum 331 = .ok (.goto 32, 3) := by decide +kernel
theorem dX1_sum_334 : decode cX1_sum 334 = .ok (.iload 9, 2) := by decide +kernel
theorem dX1_sum_336 : decode cX1_sum 336 = .ok (.ifCond .ne 8, 3) := by decide +kernel
theorem dX1_sum_339 : decode cX1_sum 339 = .ok (.iload 10, 2) := by decide +kernel
theorem dX1_sum_341 : decode cX1_sum 341 = .ok (.ifCond .eq 21, 3) := by decide +kernel
theorem dX1_sum_344 : decode cX1_sum 344 = .ok (.iload_n 2, 1) := by decide +kernel
theorem dX1_sum_345 : decode cX1_sum 345 = .ok (.iconst 2, 1) := by decide +kernel
theorem dX1_sum_346 : decode cX1_sum 346 = .ok (.if_icmp .ne 7, 3) := by decide +kernel
theorem dX1_sum_349 : decode cX1_sum 349 = .ok (.iconst 1, 1) := by decide +kernel
theorem dX1_sum_350 : decode cX1_sum 350 = .ok (.goto 4, 3) := by decide +kernel
theorem dX1_sum_353 : decode cX1_sum 353 = .ok (.iconst 0, 1) := by decide +kernel
theorem dX1_sum_354 : decode cX1_sum 354 = .ok (.iload_n 3, 1) := by decide +kernel
theorem dX1_sum_355 : decode cX1_sum 355 = .ok (.if_icmp .eq 7, 3) := by decide +kernel
theorem dX1_sum_358 : decode cX1_sum 358 = .ok (.iconst 1, 1) := by decide +kernel
theorem dX1_sum_359 : decode cX1_sum 359 = .ok (.goto 4, 3) := by decide +kernel
theorem dX1_sum_362 : decode cX1_sum 362 = .ok (.iconst 0, 1) := by decide +kernel
theorem dX1_sum_363 : decode cX1_sum 363 = .ok (.istore 11, 2) := by decide +kernel
theorem dX1_sum_365 : decode cX1_sum 365 = .ok (.iload 11, 2) := by decide +kernel
theorem dX1_sum_367 : decode cX1_sum 367 = .ok (.ifCond .eq 9, 3) := by decide +kernel
theorem dX1_sum_370 : decode cX1_sum 370 = .ok (.lload 7, 2) := by decide +kernel
theorem dX1_sum_372 : decode cX1_sum 372 = .ok (.lconst 1, 1) := by decide +kernel
theorem dX1_sum_373 : decode cX1_sum 373 = .ok (.ladd, 1) := by decide +kernel
theorem dX1_sum_374 : decode cX1_sum 374 = .ok (.lstore 7, 2) := by decide +kernel
theorem dX1_sum_376 : decode cX1_sum 376 = .ok (.lload 7, 2) := by decide +kernel
theorem dX1_sum_378 : decode cX1_sum 378 = .ok (.ldc2_w 44, 3) := by decide +kernel
theorem dX1_sum_381 : decode cX1_sum 381 = .ok (.lcmp, 1) := by decide +kernel
theorem dX1_sum_382 : decode cX1_sum 382 = .ok (.ifCond .ne 15, 3) := by decide +kernel
theorem dX1_sum_385 : decode cX1_sum 385 = .ok (.lload 7, 2) := by decide +kernel
theorem dX1_sum_387 : decode cX1_sum 387 = .ok (.iconst 1, 1) := by decide +kernel
theorem dX1_sum_388 : decode cX1_sum 388 = .ok (.lshr, 1) := by decide +kernel
theorem dX1_sum_389 : decode cX1_sum 389 = .ok (.lstore 7, 2) := by decide +kernel
theorem dX1_sum_391 : decode cX1_sum 391 = .ok (.iload 6, 2) := by decide +kernel
theorem dX1_sum_393 : decode cX1_sum 393 = .ok (.iconst 1, 1) := by decide +kernel
theorem dX1_sum_394 : decode cX1_sum 394 = .ok (.iadd, 1) := by decide +kernel
theorem dX1_sum_395 : decode cX1_sum 395 = .ok (.istore 6, 2) := by decide +kernel
theorem dX1_sum_397 : decode cX1_sum 397 = .ok (.lload 7, 2) := by decide +kernel
theorem dX1_sum_399 : decode cX1_sum 399 = .ok (.ldc2_w 22, 3) := by decide +kernel
theorem dX1_sum_402 : decode cX1_sum 402 = .ok (.lcmp, 1) := by decide +kernel
theorem dX1_sum_403 : decode cX1_sum 403 = .ok (.ifCond .ge 8, 3) := by decide +kernel
theorem dX1_sum_406 : decode cX1_sum 406 = .ok (.lload 7, 2) := by decide +kernel
theorem dX1_sum_408 : decode cX1_sum 408 = .ok (.goto 22, 3) := by decide +kernel
theorem dX1_sum_411 : decode cX1_sum 411 = .ok (.iload 6, 2) := by decide +kernel
theorem dX1_sum_413 : decode cX1_sum 413 = .ok (.iconst 1, 1) := by decide +kernel
theorem dX1_sum_414 : decode cX1_sum 414 = .ok (.iadd, 1) := by decide +kernel
theorem dX1_sum_415 : decode cX1_sum 415 = .ok (.sipush 2047, 3) := by decide +kernel
theorem dX1_sum_418 : decode cX1_sum 418 = .ok (.iand, 1) := by decide +kernel
theorem dX1_sum_419 : decode cX1_sum 419 = .ok (.i2l, 1) := by decide +kernel
theorem dX1_sum_420 : decode cX1_sum 420 = .ok (.bipush 52, 2) := by decide +kernel
theorem dX1_sum_422 : decode cX1_sum 422 = .ok (.lshl, 1) := by decide +kernel
theorem dX1_sum_423 : decode cX1_sum 423 = .ok (.lload 7, 2) := by decide +kernel
theorem dX1_sum_425 : decode cX1_sum 425 = .ok (.ldc2_w 22, 3) := by decide +kernel
theorem dX1_sum_428 : decode cX1_sum 428 = .ok (.lsub, 1) := by decide +kernel
theorem dX1_sum_429 : decode cX1_sum 429 = .ok (.lor, 1) := by decide +kernel
theorem dX1_sum_430 : decode cX1_sum 430 = .ok (.lstore 12, 2) := by decide +kernel
theorem dX1_sum_432 : decode cX1_sum 432 = .ok (.iload 6, 2) := by decide +kernel
theorem dX1_sum_434 : decode cX1_sum 434 = .ok (.sipush 2045, 3) := by decide +kernel
theorem dX1_sum_437 : decode cX1_sum 437 = .ok (.if_icmp .le 41, 3) := by decide +kernel
theorem dX1_sum_440 : decode cX1_sum 440 = .ok (.iload_n 2, 1) := by decide +kernel
theorem dX1_sum_441 : decode cX1_sum 441 = .ok (.ifCond .eq 26, 3) := by decide +kernel
theorem dX1_sum_444 : decode cX1_sum 444 = .ok (.iload_n 2, 1) := by decide +kernel
theorem dX1_sum_445 : decode cX1_sum 445 = .ok (.iconst 4, 1) := by decide +kernel
theorem dX1_sum_446 : decode cX1_sum 446 = .ok (.if_icmp .eq 21, 3) := by decide +kernel
theorem dX1_sum_449 : decode cX1_sum 449 = .ok (.iload_n 2, 1) := by decide +kernel
theorem dX1_sum_450 : decode cX1_sum 450 = .ok (.iconst 2, 1) := by decide +kernel
theorem dX1_sum_451 : decode cX1_sum 451 = .ok (.if_icmp .ne 7, 3) := by decide +kernel
theorem dX1_sum_454 : decode cX1_sum 454 = .ok (.iload_n 3, 1) := by decide +kernel
theorem dX1_sum_455 : decode cX1_sum 455 = .ok (.ifCond .eq 12, 3) := by decide +kernel
theorem dX1_sum_458 : decode cX1_sum 458 = .ok (.iload_n 2, 1) := by decide +kernel
theorem dX1_sum_459 : decode cX1_sum 459 = .ok (.iconst 3, 1) := by decide +kernel
theorem dX1_sum_460 : decode cX1_sum 460 = .ok (.if_icmp .ne 13, 3) := by decide +kernel
theorem dX1_sum_463 : decode cX1_sum 463 = .ok (.iload_n 3, 1) := by decide +kernel
theorem dX1_sum_464 : decode cX1_sum 464 = .ok (.ifCond .eq 9, 3) := by decide +kernel
theorem dX1_sum_467 : decode cX1_sum 467 = .ok (.ldc2_w 46, 3) := by decide +kernel
theorem dX1_sum_470 : decode cX1_sum 470 = .ok (.goto 6, 3) := by decide +kernel
theorem dX1_sum_473 : decode cX1_sum 473 = .ok (.ldc2_w 48, 3) := by decide +kernel
theorem dX1_sum_476 : decode cX1_sum 476 = .ok (.lstore 12, 2) := by decide +kernel
theorem dX1_sum_478 : decode cX1_sum 478 = .ok (.iload_n 3, 1) := by decide +kernel
theorem dX1_sum_479 : decode cX1_sum 479 = .ok (.ifCond .eq 12, 3) := by decide +kernel
theorem dX1_sum_482 : decode cX1_sum 482 = .ok (.lload 12, 2) := by decide +kernel
theorem dX1_sum_484 : decode cX1_sum 484 = .ok (.ldc2_w 35, 3) := by decide +kernel
theorem dX1_sum_487 : decode cX1_sum 487 = .ok (.lor, 1) := by decide +kernel
theorem dX1_sum_488 : decode cX1_sum 488 = .ok (.goto 5, 3) := by decide +kernel
theorem dX1_sum_491 : decode cX1_sum 491 = .ok (.lload 12, 2) := by decide +kernel
theorem dX1_sum_493 : decode cX1_sum 493 = .ok (.lreturn, 1) := by decide +kernel
abbrev cX1_bit : ByteArray := prog_3_method_6_code
def yX1_bit : MethodName := ⟨RX1, "bit", "(I)Z"⟩
theorem dX1_bit_0 : decode cX1_bit 0 = .ok (.iload_n 1, 1) := by decide +kernel
theorem dX1_bit_1 : decode cX1_bit 1 = .ok (.ifCond .lt 25, 3) := by decide +kernel
theorem dX1_bit_4 : decode cX1_bit 4 = .ok (.aload_n 0, 1) := by decide +kernel
theorem dX1_bit_5 : decode cX1_bit 5 = .ok (.getfield 17, 3) := by decide +kernel
theorem dX1_bit_8 : decode cX1_bit 8 = .ok (.iload_n 1, 1) := by decide +kernel
theorem dX1_bit_9 : decode cX1_bit 9 = .ok (.iconst 4, 1) := by decide +kernel
theorem dX1_bit_10 : decode cX1_bit 10 = .ok (.ishr, 1) := by decide +kernel
theorem dX1_bit_11 : decode cX1_bit 11 = .ok (.iaload, 1) := by decide +kernel
theorem dX1_bit_12 : decode cX1_bit 12 = .ok (.iload_n 1, 1) := by decide +kernel
theorem dX1_bit_13 : decode cX1_bit 13 = .ok (.bipush 15, 2) := by decide +kernel
theorem dX1_bit_15 : decode cX1_bit 15 = .ok (.iand, 1) := by decide +kernel
theorem dX1_bit_16 : decode cX1_bit 16 = .ok (.ishr, 1) := by decide +kernel
theorem dX1_bit_17 : decode cX1_bit 17 = .ok (.iconst 1, 1) := by decide +kernel
theorem dX1_bit_18 : decode cX1_bit 18 = .ok (.iand, 1) := by decide +kernel
theorem dX1_bit_19 : decode cX1_bit 19 = .ok (.ifCond .eq 7, 3) := by decide +kernel
theorem dX1_bit_22 : decode cX1_bit 22 = .ok (.iconst 1, 1) := by decide +kernel
theorem dX1_bit_23 : decode cX1_bit 23 = .ok (.goto 4, 3) := by decide +kernel
theorem dX1_bit_26 : decode cX1_bit 26 = .ok (.iconst 0, 1) := by decide +kernel
theorem dX1_bit_27 : decode cX1_bit 27 = .ok (.ireturn, 1) := by decide +kernel
theorem q12 : (Jvm.Cond.initialized "ExactSumModel") ∈ lw_all := lw_g (lw_at lw_m0 2 rfl) rfl
theorem q95 : (Jvm.Cond.instantiable "ExactSumModel" (4 : Nat)) ∈ lw_all := lw_g (lw_at lw_m0 85 rfl) rfl
theorem q97 : (Jvm.Cond.instanceMethod ({ cls := "ExactSumModel", name := "<init>", desc := "()V" } : Jvm.MethodName)) ∈ lw_all := lw_g (lw_at lw_m0 87 rfl) rfl
theorem q98 : (Jvm.Cond.code ({ cls := "ExactSumModel", name := "<init>", desc := "()V" } : Jvm.MethodName) prog_3_method_1_code (1 : Nat) (Option.none : Option Jvm.ClassFile.FieldType)) ∈ lw_all := lw_g (lw_at lw_m0 88 rfl) rfl
theorem q99 : (Jvm.Cond.methodLink "ExactSumModel" (1 : Nat) ({ cls := "java/lang/Object", name := "<init>", desc := "()V" } : Jvm.MethodName)) ∈ lw_all := lw_g (lw_at lw_m0 89 rfl) rfl
theorem q100 : (Jvm.Cond.fieldLink "ExactSumModel" (7 : Nat) "ExactSumModel" "acc" "[I") ∈ lw_all := lw_g (lw_at lw_m0 90 rfl) rfl
theorem q101 : (Jvm.Cond.fieldLink "ExactSumModel" (27 : Nat) "ExactSumModel" "many" "I") ∈ lw_all := lw_g (lw_at lw_m0 91 rfl) rfl
theorem q102 : (Jvm.Cond.fieldLink "ExactSumModel" (13 : Nat) "ExactSumModel" "onlyMinus" "Z") ∈ lw_all := lw_g (lw_at lw_m0 92 rfl) rfl
theorem q103 : (Jvm.Cond.fieldLink "ExactSumModel" (17 : Nat) "ExactSumModel" "size" "[I") ∈ lw_all := lw_g (lw_at lw_m0 93 rfl) rfl
theorem q104 : (Jvm.Cond.laysFinal "ExactSumModel" "ExactSumModel" "acc" "[I") ∈ lw_all := lw_g (lw_at lw_m0 94 rfl) rfl
theorem q105 : (Jvm.Cond.soleField "ExactSumModel" "acc") ∈ lw_all := lw_g (lw_at lw_m0 95 rfl) rfl
theorem q106 : (Jvm.Cond.lays "ExactSumModel" "ExactSumModel" "many" "I") ∈ lw_all := lw_g (lw_at lw_m0 96 rfl) rfl
theorem q107 : (Jvm.Cond.soleField "ExactSumModel" "many") ∈ lw_all := lw_g (lw_at lw_m0 97 rfl) rfl
theorem q108 : (Jvm.Cond.lays "ExactSumModel" "ExactSumModel" "onlyMinus" "Z") ∈ lw_all := lw_g (lw_at lw_m0 98 rfl) rfl
theorem q109 : (Jvm.Cond.soleField "ExactSumModel" "onlyMinus") ∈ lw_all := lw_g (lw_at lw_m0 99 rfl) rfl
theorem q110 : (Jvm.Cond.laysFinal "ExactSumModel" "ExactSumModel" "size" "[I") ∈ lw_all := lw_g (lw_at lw_m0 100 rfl) rfl
theorem q111 : (Jvm.Cond.soleField "ExactSumModel" "size") ∈ lw_all := lw_g (lw_at lw_m0 101 rfl) rfl
theorem q112 : (Jvm.Cond.superclass "ExactSumModel" "java/lang/Object") ∈ lw_all := lw_g (lw_at lw_m0 102 rfl) rfl
theorem q114 : (Jvm.Cond.instanceMethod ({ cls := "ExactSumModel", name := "add", desc := "(II)Z" } : Jvm.MethodName)) ∈ lw_all := lw_g (lw_at lw_m0 104 rfl) rfl
theorem q115 : (Jvm.Cond.selects "ExactSumModel" ({ cls := "ExactSumModel", name := "add", desc := "(II)Z" } : Jvm.MethodName) ({ cls := "ExactSumModel", name := "add", desc := "(II)Z" } : Jvm.MethodName)) ∈ lw_all := lw_g (lw_at lw_m0 105 rfl) rfl
theorem q116 : (Jvm.Cond.code ({ cls := "ExactSumModel", name := "add", desc := "(II)Z" } : Jvm.MethodName) prog_3_method_3_code (5 : Nat) (Option.some Jvm.ClassFile.FieldType.boolean)) ∈ lw_all := lw_g (lw_at lw_m0 106 rfl) rfl
theorem q117 : (Jvm.Cond.constantLong "ExactSumModel" (25 : Nat) (4294967295 : Int64)) ∈ lw_all := lw_g (lw_at lw_m0 107 rfl) rfl
theorem q118 : (Jvm.Cond.methodLink "ExactSumModel" (31 : Nat) ({ cls := "ExactSumModel", name := "one", desc := "(JI)V" } : Jvm.MethodName)) ∈ lw_all := lw_g (lw_at lw_m0 108 rfl) rfl
theorem q119 : (Jvm.Cond.privateMethod ({ cls := "ExactSumModel", name := "one", desc := "(JI)V" } : Jvm.MethodName)) ∈ lw_tbl := lw_at lw_m0 109 rfl
theorem q120 : (Jvm.Cond.instanceMethod ({ cls := "ExactSumModel", name := "one", desc := "(JI)V" } : Jvm.MethodName)) ∈ lw_all := lw_g (lw_at lw_m0 110 rfl) rfl
theorem q121 : (Jvm.Cond.code ({ cls := "ExactSumModel", name := "one", desc := "(JI)V" } : Jvm.MethodName) prog_3_method_2_code (14 : Nat) (Option.none : Option Jvm.ClassFile.FieldType)) ∈ lw_all := lw_g (lw_at lw_m0 111 rfl) rfl
theorem q122 : (Jvm.Cond.constantLong "ExactSumModel" (20 : Nat) (4503599627370495 : Int64)) ∈ lw_all := lw_g (lw_at lw_m0 112 rfl) rfl
theorem q123 : (Jvm.Cond.constantLong "ExactSumModel" (22 : Nat) (4503599627370496 : Int64)) ∈ lw_all := lw_g (lw_at lw_m0 113 rfl) rfl
theorem q124 : (Jvm.Cond.constant "ExactSumModel" (24 : Nat) (65535 : Int32)) ∈ lw_all := lw_g (lw_at lw_m0 114 rfl) rfl
theorem q125 : (Jvm.Cond.constantLong "ExactSumModel" (35 : Nat) (-9223372036854775808 : Int64)) ∈ lw_all := lw_g (lw_at lw_m0 115 rfl) rfl
theorem q127 : (Jvm.Cond.instanceMethod ({ cls := "ExactSumModel", name := "many", desc := "()I" } : Jvm.MethodName)) ∈ lw_all := lw_g (lw_at lw_m0 117 rfl) rfl
theorem q128 : (Jvm.Cond.selects "ExactSumModel" ({ cls := "ExactSumModel", name := "many", desc := "()I" } : Jvm.MethodName) ({ cls := "ExactSumModel", name := "many", desc := "()I" } : Jvm.MethodName)) ∈ lw_all := lw_g (lw_at lw_m0 118 rfl) rfl
theorem q129 : (Jvm.Cond.code ({ cls := "ExactSumModel", name := "many", desc := "()I" } : Jvm.MethodName) prog_3_method_4_code (1 : Nat) (Option.some Jvm.ClassFile.FieldType.int)) ∈ lw_all := lw_g (lw_at lw_m0 119 rfl) rfl
theorem q131 : (Jvm.Cond.instanceMethod ({ cls := "ExactSumModel", name := "wipe", desc := "()V" } : Jvm.MethodName)) ∈ lw_all := lw_g (lw_at lw_m0 121 rfl) rfl
theorem q132 : (Jvm.Cond.selects "ExactSumModel" ({ cls := "ExactSumModel", name := "wipe", desc := "()V" } : Jvm.MethodName) ({ cls := "ExactSumModel", name := "wipe", desc := "()V" } : Jvm.MethodName)) ∈ lw_all := lw_g (lw_at lw_m0 122 rfl) rfl
theorem q133 : (Jvm.Cond.code ({ cls := "ExactSumModel", name := "wipe", desc := "()V" } : Jvm.MethodName) prog_3_method_5_code (2 : Nat) (Option.none : Option Jvm.ClassFile.FieldType)) ∈ lw_all := lw_g (lw_at lw_m0 123 rfl) rfl
theorem q135 : (Jvm.Cond.instanceMethod ({ cls := "ExactSumModel", name := "sum", desc := "(I)J" } : Jvm.MethodName)) ∈ lw_all := lw_g (lw_at lw_m0 125 rfl) rfl
theorem q136 : (Jvm.Cond.selects "ExactSumModel" ({ cls := "ExactSumModel", name := "sum", desc := "(I)J" } : Jvm.MethodName) ({ cls := "ExactSumModel", name := "sum", desc := "(I)J" } : Jvm.MethodName)) ∈ lw_all := lw_g (lw_at lw_m0 126 rfl) rfl
theorem q137 : (Jvm.Cond.code ({ cls := "ExactSumModel", name := "sum", desc := "(I)J" } : Jvm.MethodName) prog_3_method_7_code (14 : Nat) (Option.some Jvm.ClassFile.FieldType.long)) ∈ lw_all := lw_g (lw_at lw_m0 127 rfl) rfl
theorem q138 : (Jvm.Cond.constant "ExactSumModel" (37 : Nat) (2147483647 : Int32)) ∈ lw_all := lw_g (lw_at lw_m0 128 rfl) rfl
theorem q139 : (Jvm.Cond.methodLink "ExactSumModel" (38 : Nat) ({ cls := "ExactSumModel", name := "bit", desc := "(I)Z" } : Jvm.MethodName)) ∈ lw_all := lw_g (lw_at lw_m0 129 rfl) rfl
theorem q140 : (Jvm.Cond.privateMethod ({ cls := "ExactSumModel", name := "bit", desc := "(I)Z" } : Jvm.MethodName)) ∈ lw_tbl := lw_at lw_m0 130 rfl
theorem q141 : (Jvm.Cond.instanceMethod ({ cls := "ExactSumModel", name := "bit", desc := "(I)Z" } : Jvm.MethodName)) ∈ lw_all := lw_g (lw_at lw_m0 131 rfl) rfl
theorem q142 : (Jvm.Cond.code ({ cls := "ExactSumModel", name := "bit", desc := "(I)Z" } : Jvm.MethodName) prog_3_method_6_code (2 : Nat) (Option.some Jvm.ClassFile.FieldType.boolean)) ∈ lw_all := lw_g (lw_at lw_m0 132 rfl) rfl
theorem q143 : (Jvm.Cond.constantLong "ExactSumModel" (42 : Nat) (2 : Int64)) ∈ lw_all := lw_g (lw_at lw_m0 133 rfl) rfl
theorem q144 : (Jvm.Cond.constantLong "ExactSumModel" (44 : Nat) (9007199254740992 : Int64)) ∈ lw_all := lw_g (lw_at lw_m0 134 rfl) rfl
theorem q145 : (Jvm.Cond.constantLong "ExactSumModel" (46 : Nat) (9218868437227405312 : Int64)) ∈ lw_all := lw_g (lw_at lw_m0 135 rfl) rfl
theorem q146 : (Jvm.Cond.constantLong "ExactSumModel" (48 : Nat) (9218868437227405311 : Int64)) ∈ lw_all := lw_g (lw_at lw_m0 136 rfl) rfl
theorem in_X1 : ∀ w ∈ wsX10, w ∈ lw_all := lw_in wsX10 [104, 106, 108, 110] (by decide +kernel) (by decide +kernel)
end
section
/-! java/lang/Object -/
set_option maxRecDepth 100000
def RJ0 : String := "java/lang/Object"
abbrev cJ0_init : ByteArray := object_method_1_code
def yJ0_init : MethodName := ⟨RJ0, "<init>", "()V"⟩
theorem dJ0_init_0 : decode cJ0_init 0 = .ok (.return_, 1) := by decide +kernel
theorem q19 : (Jvm.Cond.instanceMethod ({ cls := "java/lang/Object", name := "<init>", desc := "()V" } : Jvm.MethodName)) ∈ lw_all := lw_g (lw_at lw_m0 9 rfl) rfl
theorem q20 : (Jvm.Cond.code ({ cls := "java/lang/Object", name := "<init>", desc := "()V" } : Jvm.MethodName) object_method_1_code (1 : Nat) (Option.none : Option Jvm.ClassFile.FieldType)) ∈ lw_all := lw_g (lw_at lw_m0 10 rfl) rfl
/-! the law's own entry -/
set_option maxRecDepth 100000
abbrev cL_law : ByteArray := code
theorem dL_law_0 : decode cL_law 0 = .ok (.new 7, 3) := by decide +kernel
theorem dL_law_3 : decode cL_law 3 = .ok (.dup, 1) := by decide +kernel
theorem dL_law_4 : decode cL_law 4 = .ok (.invokespecial 9, 3) := by decide +kernel
theorem dL_law_7 : decode cL_law 7 = .ok (.astore_n 1, 1) := by decide +kernel
theorem dL_law_8 : decode cL_law 8 = .ok (.new 10, 3) := by decide +kernel
theorem dL_law_11 : decode cL_law 11 = .ok (.dup, 1) := by decide +kernel
theorem dL_law_12 : decode cL_law 12 = .ok (.invokespecial 12, 3) := by decide +kernel
theorem dL_law_15 : decode cL_law 15 = .ok (.astore_n 2, 1) := by decide +kernel
theorem dL_law_16 : decode cL_law 16 = .ok (.iconst 0, 1) := by decide +kernel
theorem dL_law_17 : decode cL_law 17 = .ok (.istore_n 3, 1) := by decide +kernel
theorem dL_law_18 : decode cL_law 18 = .ok (.iload_n 3, 1) := by decide +kernel
theorem dL_law_19 : decode cL_law 19 = .ok (.aload_n 0, 1) := by decide +kernel
theorem dL_law_20 : decode cL_law 20 = .ok (.arraylength, 1) := by decide +kernel
theorem dL_law_21 : decode cL_law 21 = .ok (.iconst 3, 1) := by decide +kernel
theorem dL_law_22 : decode cL_law 22 = .ok (.isub, 1) := by decide +kernel
theorem dL_law_23 : decode cL_law 23 = .ok (.if_icmp .gt 124, 3) := by decide +kernel
theorem dL_law_26 : decode cL_law 26 = .ok (.aload_n 0, 1) := by decide +kernel
theorem dL_law_27 : decode cL_law 27 = .ok (.iload_n 3, 1) := by decide +kernel
theorem dL_law_28 : decode cL_law 28 = .ok (.iaload, 1) := by decide +kernel
theorem dL_law_29 : decode cL_law 29 = .ok (.iconst 3, 1) := by decide +kernel
theorem dL_law_30 : decode cL_law 30 = .ok (.iand, 1) := by decide +kernel
theorem dL_law_31 : decode cL_law 31 = .ok (.tableswitch 110 0 3 #[29, 62, 75, 86], 29) := by decide +kernel
theorem dL_law_60 : decode cL_law 60 = .ok (.aload_n 1, 1) := by decide +kernel
theorem dL_law_61 : decode cL_law 61 = .ok (.aload_n 0, 1) := by decide +kernel
theorem dL_law_62 : decode cL_law 62 = .ok (.iload_n 3, 1) := by decide +kernel
theorem dL_law_63 : decode cL_law 63 = .ok (.iconst 1, 1) := by decide +kernel
theorem dL_law_64 : decode cL_law 64 = .ok (.iadd, 1) := by decide +kernel
theorem dL_law_65 : decode cL_law 65 = .ok (.iaload, 1) := by decide +kernel
theorem dL_law_66 : decode cL_law 66 = .ok (.aload_n 0, 1) := by decide +kernel
theorem dL_law_67 : decode cL_law 67 = .ok (.iload_n 3, 1) := by decide +kernel
theorem dL_law_68 : decode cL_law 68 = .ok (.iconst 2, 1) := by decide +kernel
theorem dL_law_69 : decode cL_law 69 = .ok (.iadd, 1) := by decide +kernel
theorem dL_law_70 : decode cL_law 70 = .ok (.iaload, 1) := by decide +kernel
theorem dL_law_71 : decode cL_law 71 = .ok (.invokevirtual 13, 3) := by decide +kernel
theorem dL_law_74 : decode cL_law 74 = .ok (.aload_n 2, 1) := by decide +kernel
theorem dL_law_75 : decode cL_law 75 = .ok (.aload_n 0, 1) := by decide +kernel
theorem dL_law_76 : decode cL_law 76 = .ok (.iload_n 3, 1) := by decide +kernel
theorem dL_law_77 : decode cL_law 77 = .ok (.iconst 1, 1) := by decide +kernel
theorem dL_law_78 : decode cL_law 78 = .ok (.iadd, 1) := by decide +kernel
theorem dL_law_79 : decode cL_law 79 = .ok (.iaload, 1) := by decide +kernel
theorem dL_law_80 : decode cL_law 80 = .ok (.aload_n 0, 1) := by decide +kernel
theorem dL_law_81 : decode cL_law 81 = .ok (.iload_n 3, 1) := by decide +kernel
theorem dL_law_82 : decode cL_law 82 = .ok (.iconst 2, 1) := by decide +kernel
theorem dL_law_83 : decode cL_law 83 = .ok (.iadd, 1) := by decide +kernel
theorem dL_law_84 : decode cL_law 84 = .ok (.iaload, 1) := by decide +kernel
theorem dL_law_85 : decode cL_law 85 = .ok (.invokevirtual 17, 3) := by decide +kernel
theorem dL_law_88 : decode cL_law 88 = .ok (.if_icmp .eq 53, 3) := by decide +kernel
theorem dL_law_91 : decode cL_law 91 = .ok (.iconst 0, 1) := by decide +kernel
theorem dL_law_92 : decode cL_law 92 = .ok (.ireturn, 1) := by decide +kernel
theorem dL_law_93 : decode cL_law 93 = .ok (.aload_n 1, 1) := by decide +kernel
theorem dL_law_94 : decode cL_law 94 = .ok (.invokevirtual 18, 3) := by decide +kernel
theorem dL_law_97 : decode cL_law 97 = .ok (.aload_n 2, 1) := by decide +kernel
theorem dL_law_98 : decode cL_law 98 = .ok (.invokevirtual 22, 3) := by decide +kernel
theorem dL_law_101 : decode cL_law 101 = .ok (.if_icmp .eq 40, 3) := by decide +kernel
theorem dL_law_104 : decode cL_law 104 = .ok (.iconst 0, 1) := by decide +kernel
theorem dL_law_105 : decode cL_law 105 = .ok (.ireturn, 1) := by decide +kernel
theorem dL_law_106 : decode cL_law 106 = .ok (.aload_n 1, 1) := by decide +kernel
theorem dL_law_107 : decode cL_law 107 = .ok (.invokevirtual 23, 3) := by decide +kernel
theorem dL_law_110 : decode cL_law 110 = .ok (.aload_n 2, 1) := by decide +kernel
theorem dL_law_111 : decode cL_law 111 = .ok (.invokevirtual 26, 3) := by decide +kernel
theorem dL_law_114 : decode cL_law 114 = .ok (.goto 27, 3) := by decide +kernel
theorem dL_law_117 : decode cL_law 117 = .ok (.aload_n 1, 1) := by decide +kernel
theorem dL_law_118 : decode cL_law 118 = .ok (.aload_n 0, 1) := by decide +kernel
theorem dL_law_119 : decode cL_law 119 = .ok (.iload_n 3, 1) := by decide +kernel
theorem dL_law_120 : decode cL_law 120 = .ok (.iconst 1, 1) := by decide +kernel
theorem dL_law_121 : decode cL_law 121 = .ok (.iadd, 1) := by decide +kernel
theorem dL_law_122 : decode cL_law 122 = .ok (.iaload, 1) := by decide +kernel
theorem dL_law_123 : decode cL_law 123 = .ok (.invokevirtual 27, 3) := by decide +kernel
theorem dL_law_126 : decode cL_law 126 = .ok (.aload_n 2, 1) := by decide +kernel
theorem dL_law_127 : decode cL_law 127 = .ok (.aload_n 0, 1) := by decide +kernel
theorem dL_law_128 : decode cL_law 128 = .ok (.iload_n 3, 1) := by decide +kernel
theorem dL_law_129 : decode cL_law 129 = .ok (.iconst 1, 1) := by decide +kernel
theorem dL_law_130 : decode cL_law 130 = .ok (.iadd, 1) := by decide +kernel
theorem dL_law_131 : decode cL_law 131 = .ok (.iaload, 1) := by decide +kernel
theorem dL_law_132 : decode cL_law 132 = .ok (.invokevirtual 31, 3) := by decide +kernel
theorem dL_law_135 : decode cL_law 135 = .ok (.lcmp, 1) := by decide +kernel
theorem dL_law_136 : decode cL_law 136 = .ok (.ifCond .eq 5, 3) := by decide +kernel
theorem dL_law_139 : decode cL_law 139 = .ok (.iconst 0, 1) := by decide +kernel
theorem dL_law_140 : decode cL_law 140 = .ok (.ireturn, 1) := by decide +kernel
theorem dL_law_141 : decode cL_law 141 = .ok (.iinc 3 3, 3) := by decide +kernel
theorem dL_law_144 : decode cL_law 144 = .ok (.goto (-126), 3) := by decide +kernel
theorem dL_law_147 : decode cL_law 147 = .ok (.iconst 1, 1) := by decide +kernel
theorem dL_law_148 : decode cL_law 148 = .ok (.ireturn, 1) := by decide +kernel
theorem q10 : (Jvm.Cond.initialized "ExactSumLaw") ∈ lw_all := lw_g (lw_at lw_m0 0 rfl) rfl
set_option maxRecDepth 100000
theorem q13 : (Jvm.Cond.classLink "ExactSumLaw" (7 : Nat) "ExactSum") ∈ lw_all := lw_g (lw_at lw_m0 3 rfl) rfl
theorem q15 : (Jvm.Cond.methodLink "ExactSumLaw" (9 : Nat) ({ cls := "ExactSum", name := "<init>", desc := "()V" } : Jvm.MethodName)) ∈ lw_all := lw_g (lw_at lw_m0 5 rfl) rfl
theorem q35 : (Jvm.Cond.methodLink "ExactSumLaw" (13 : Nat) ({ cls := "ExactSum", name := "add", desc := "(II)Z" } : Jvm.MethodName)) ∈ lw_all := lw_g (lw_at lw_m0 25 rfl) rfl
theorem q50 : (Jvm.Cond.methodLink "ExactSumLaw" (18 : Nat) ({ cls := "ExactSum", name := "many", desc := "()I" } : Jvm.MethodName)) ∈ lw_all := lw_g (lw_at lw_m0 40 rfl) rfl
theorem q54 : (Jvm.Cond.methodLink "ExactSumLaw" (23 : Nat) ({ cls := "ExactSum", name := "wipe", desc := "()V" } : Jvm.MethodName)) ∈ lw_all := lw_g (lw_at lw_m0 44 rfl) rfl
theorem q58 : (Jvm.Cond.methodLink "ExactSumLaw" (27 : Nat) ({ cls := "ExactSum", name := "sum", desc := "(I)J" } : Jvm.MethodName)) ∈ lw_all := lw_g (lw_at lw_m0 48 rfl) rfl
theorem q94 : (Jvm.Cond.classLink "ExactSumLaw" (10 : Nat) "ExactSumModel") ∈ lw_all := lw_g (lw_at lw_m0 84 rfl) rfl
theorem q96 : (Jvm.Cond.methodLink "ExactSumLaw" (12 : Nat) ({ cls := "ExactSumModel", name := "<init>", desc := "()V" } : Jvm.MethodName)) ∈ lw_all := lw_g (lw_at lw_m0 86 rfl) rfl
theorem q113 : (Jvm.Cond.methodLink "ExactSumLaw" (17 : Nat) ({ cls := "ExactSumModel", name := "add", desc := "(II)Z" } : Jvm.MethodName)) ∈ lw_all := lw_g (lw_at lw_m0 103 rfl) rfl
theorem q126 : (Jvm.Cond.methodLink "ExactSumLaw" (22 : Nat) ({ cls := "ExactSumModel", name := "many", desc := "()I" } : Jvm.MethodName)) ∈ lw_all := lw_g (lw_at lw_m0 116 rfl) rfl
theorem q130 : (Jvm.Cond.methodLink "ExactSumLaw" (26 : Nat) ({ cls := "ExactSumModel", name := "wipe", desc := "()V" } : Jvm.MethodName)) ∈ lw_all := lw_g (lw_at lw_m0 120 rfl) rfl
theorem q134 : (Jvm.Cond.methodLink "ExactSumLaw" (31 : Nat) ({ cls := "ExactSumModel", name := "sum", desc := "(I)J" } : Jvm.MethodName)) ∈ lw_all := lw_g (lw_at lw_m0 124 rfl) rfl
theorem q34 : (Jvm.Cond.arrayClass Jvm.ClassFile.FieldType.int) ∈ lw_all := lw_g (lw_at lw_m0 24 rfl) rfl
set_option maxRecDepth 100000
end
section
/-! the frame of every contract here: one world of cells at the start, one at the end -/
abbrev vwCl : List vw_C := [(RX0, TX0, 4), (RX1, TX1, 4)]
def x_pre (D : va_G) (tys : List (ClassId × FieldType)) (W0 : va_W) (sz : Nat) (U : State) : Prop := U.heap.size = sz ∧ va_P D vwCl W0 U.heap ∧ va_K D vwCl tys U ∧ va_D (fun _ => True) W0
def x_post (D : va_G) (tys : List (ClassId × FieldType)) (A : Nat → Prop) (u : va_W) (t : State) : Prop := va_P D vwCl u t.heap ∧ va_K D vwCl tys t ∧ va_D A u
theorem x_blind (av : List Value) (D : va_G) (tys : List (ClassId × FieldType)) (W0 : va_W) (sz : Nat) : FrameBlind (va_Pc av (x_pre D tys W0 sz)) := fun a U g mk q => by
  obtain ⟨q0, q1, qP, qK, qD⟩ := q
  exact ⟨q0, q1, qP, va_K.moved (u := U) (U := U.calling g mk a) (Vm.Alike.refl U.vm) qK, qD⟩
theorem x_free {A : Nat → Prop} {W0 : va_W} {H0 H : Heap} {locs : List Loc} (hD : va_D A W0) (hS : va_S A H0 H locs) (hA : ∀ q : Nat, H0.size ≤ q → A q) : ∀ q, va_A W0 H.size q → A q := by
  intro q h
  rcases h with ⟨k, e, h⟩ | h
  · exact hD.2 k (q, e) h
  · exact hA q (Nat.le_trans hS.1 h)
theorem x_met_l {l : Launch} {y : MethodName} {cc : ByteArray} {maxL mc ms : Nat} {rm : Room} {D : va_G} {tys : List (ClassId × FieldType)} {W0 : va_W} {sz : Nat} {av : List Value} {post : Int64 → va_W → Prop} (hy : plainName y.cls = true) (hav : (lg_sl av).length ≤ maxL)
    (body : ∀ (p : Program) (e : Env) (s : State) (m : MethodId) (below : List Frame) (meth : Method) (c : Code) (A : Nat → Prop) (Q : State → Prop) (ls : Array Slot), p.tables.exec = Jvm.exec → c.code = cc → c.maxLocals = maxL → s.vm.findClass y.cls = some m.cls → (∀ w ∈ lw_all, w.before av.toArray s = true) → meth.name = y.name → (∀ q : Nat, s.heap.size ≤ q → A q) → va_K D vwCl tys s → va_P D vwCl W0 s.heap → va_D A W0 → va_S A s.heap s.heap [] → lv_has ls maxL (lv_args 0 av) →
      (∀ (v : Int64) (u : va_W) (H : Heap) (locs : List Loc) (ls : Array Slot) (pc : Nat) (tys1 : List (ClassId × FieldType)), tys1 = tys → decode cc pc = .ok (.lreturn, 1) → post v u → va_K D vwCl tys1 s → va_P D vwCl u H → va_D A u → va_S A s.heap H locs → W p l e rm s m av.toArray below meth c H locs mc ms Q (F0 m pc ls [.long v])) →
      W p l e rm s m av.toArray below meth c s.heap [] 0 0 Q (F0 m 0 ls [])) :
    Met l y (ws_ y cc maxL (some .long)) rm (va_Pc av (x_pre D tys W0 sz)) (va_Ql post (x_post D tys (va_A W0 sz)) (va_A W0 sz)) mc ms (va_A W0 sz) := by
  refine Met.ofW (cc := cc) (maxL := maxL) (ret := (some .long)) hy rfl ?_
  intro p e s m args below meth c s₁ B hml hv
  obtain ⟨rfl, hsz, hP, hK, hD0⟩ := hv
  have hx := B.exec
  have hb := B.bytes
  have hr := B.returns
  have hts := atoms_spec (ws := ws_ y cc maxL (some .long)) B.pre
  have hts : ∀ w ∈ lw_all, w.before _ s = true := fun w h => hts w (List.mem_cons_of_mem _ h)
  have hown : s.vm.findClass y.cls = some m.cls := findClass_of_methodNamed B.named
  have hlocks := B.notSynchronized
  have hin : meth.name = y.name := (name_of_methodNamed B.named B.method).1
  subst hsz
  have hD := hD0.self (sz := s.heap.size)
  have hS : va_S (va_A W0 s.heap.size) s.heap s.heap [] := va_S.rf
  have hl := lv_entry av (n := maxL) hav
  rw [lg_entry_eq]
  generalize (lg_sl av ++ List.replicate (maxL - (lg_sl av).length) Slot.unset).toArray = ls at hl ⊢
  refine body p e s m below meth c (va_A W0 s.heap.size) _ ls hx hb hml hown hts hin (fun q h => Or.inr h) hK hP hD hS hl ?_
  intro v u H locs ls pc tys1 ht1 hd hp hK hP hD hS
  subst ht1
  exact W.lret hx hb hr (fun t ht hW => ⟨⟨v, u, rfl, hp, by rw [ht]; exact hP, va_K.moved hW.alike hK, hD⟩, hS.F ht⟩) hS.2.2 hd
theorem x_met_i {l : Launch} {y : MethodName} {cc : ByteArray} {maxL mc ms : Nat} {rm : Room} {D : va_G} {tys : List (ClassId × FieldType)} {W0 : va_W} {sz : Nat} {av : List Value} {post : Int32 → va_W → Prop} (hy : plainName y.cls = true) (hav : (lg_sl av).length ≤ maxL)
    (body : ∀ (p : Program) (e : Env) (s : State) (m : MethodId) (below : List Frame) (meth : Method) (c : Code) (A : Nat → Prop) (Q : State → Prop) (ls : Array Slot), p.tables.exec = Jvm.exec → c.code = cc → c.maxLocals = maxL → s.vm.findClass y.cls = some m.cls → (∀ w ∈ lw_all, w.before av.toArray s = true) → meth.name = y.name → (∀ q : Nat, s.heap.size ≤ q → A q) → va_K D vwCl tys s → va_P D vwCl W0 s.heap → va_D A W0 → va_S A s.heap s.heap [] → lv_has ls maxL (lv_args 0 av) →
      (∀ (v : Int32) (u : va_W) (H : Heap) (locs : List Loc) (ls : Array Slot) (pc : Nat) (tys1 : List (ClassId × FieldType)), tys1 = tys → decode cc pc = .ok (.ireturn, 1) → post v u → va_K D vwCl tys1 s → va_P D vwCl u H → va_D A u → va_S A s.heap H locs → W p l e rm s m av.toArray below meth c H locs mc ms Q (F0 m pc ls [.int v])) →
      W p l e rm s m av.toArray below meth c s.heap [] 0 0 Q (F0 m 0 ls [])) :
    Met l y (ws_ y cc maxL (some .int)) rm (va_Pc av (x_pre D tys W0 sz)) (va_Qi post (x_post D tys (va_A W0 sz)) (va_A W0 sz)) mc ms (va_A W0 sz) := by
  refine Met.ofW (cc := cc) (maxL := maxL) (ret := (some .int)) hy rfl ?_
  intro p e s m args below meth c s₁ B hml hv
  obtain ⟨rfl, hsz, hP, hK, hD0⟩ := hv
  have hx := B.exec
  have hb := B.bytes
  have hr := B.returns
  have hts := atoms_spec (ws := ws_ y cc maxL (some .int)) B.pre
  have hts : ∀ w ∈ lw_all, w.before _ s = true := fun w h => hts w (List.mem_cons_of_mem _ h)
  have hown : s.vm.findClass y.cls = some m.cls := findClass_of_methodNamed B.named
  have hlocks := B.notSynchronized
  have hin : meth.name = y.name := (name_of_methodNamed B.named B.method).1
  subst hsz
  have hD := hD0.self (sz := s.heap.size)
  have hS : va_S (va_A W0 s.heap.size) s.heap s.heap [] := va_S.rf
  have hl := lv_entry av (n := maxL) hav
  rw [lg_entry_eq]
  generalize (lg_sl av ++ List.replicate (maxL - (lg_sl av).length) Slot.unset).toArray = ls at hl ⊢
  refine body p e s m below meth c (va_A W0 s.heap.size) _ ls hx hb hml hown hts hin (fun q h => Or.inr h) hK hP hD hS hl ?_
  intro v u H locs ls pc tys1 ht1 hd hp hK hP hD hS
  subst ht1
  exact W.iret hx hb hr (fun t ht hW => ⟨⟨v, u, rfl, hp, by rw [ht]; exact hP, va_K.moved hW.alike hK, hD⟩, hS.F ht⟩) hS.2.2 hd
theorem x_met_z {l : Launch} {y : MethodName} {cc : ByteArray} {maxL mc ms : Nat} {rm : Room} {D : va_G} {tys : List (ClassId × FieldType)} {W0 : va_W} {sz : Nat} {av : List Value} {post : Int32 → va_W → Prop} (hy : plainName y.cls = true) (hav : (lg_sl av).length ≤ maxL)
    (body : ∀ (p : Program) (e : Env) (s : State) (m : MethodId) (below : List Frame) (meth : Method) (c : Code) (A : Nat → Prop) (Q : State → Prop) (ls : Array Slot), p.tables.exec = Jvm.exec → c.code = cc → c.maxLocals = maxL → s.vm.findClass y.cls = some m.cls → (∀ w ∈ lw_all, w.before av.toArray s = true) → meth.name = y.name → (∀ q : Nat, s.heap.size ≤ q → A q) → va_K D vwCl tys s → va_P D vwCl W0 s.heap → va_D A W0 → va_S A s.heap s.heap [] → lv_has ls maxL (lv_args 0 av) →
      (∀ (v : Int32) (u : va_W) (H : Heap) (locs : List Loc) (ls : Array Slot) (pc : Nat) (tys1 : List (ClassId × FieldType)), tys1 = tys → decode cc pc = .ok (.ireturn, 1) → narrow .boolean (.int v) = .int v → post v u → va_K D vwCl tys1 s → va_P D vwCl u H → va_D A u → va_S A s.heap H locs → W p l e rm s m av.toArray below meth c H locs mc ms Q (F0 m pc ls [.int v])) →
      W p l e rm s m av.toArray below meth c s.heap [] 0 0 Q (F0 m 0 ls [])) :
    Met l y (ws_ y cc maxL (some .boolean)) rm (va_Pc av (x_pre D tys W0 sz)) (va_Qi post (x_post D tys (va_A W0 sz)) (va_A W0 sz)) mc ms (va_A W0 sz) := by
  refine Met.ofW (cc := cc) (maxL := maxL) (ret := (some .boolean)) hy rfl ?_
  intro p e s m args below meth c s₁ B hml hv
  obtain ⟨rfl, hsz, hP, hK, hD0⟩ := hv
  have hx := B.exec
  have hb := B.bytes
  have hr := B.returns
  have hts := atoms_spec (ws := ws_ y cc maxL (some .boolean)) B.pre
  have hts : ∀ w ∈ lw_all, w.before _ s = true := fun w h => hts w (List.mem_cons_of_mem _ h)
  have hown : s.vm.findClass y.cls = some m.cls := findClass_of_methodNamed B.named
  have hlocks := B.notSynchronized
  have hin : meth.name = y.name := (name_of_methodNamed B.named B.method).1
  subst hsz
  have hD := hD0.self (sz := s.heap.size)
  have hS : va_S (va_A W0 s.heap.size) s.heap s.heap [] := va_S.rf
  have hl := lv_entry av (n := maxL) hav
  rw [lg_entry_eq]
  generalize (lg_sl av ++ List.replicate (maxL - (lg_sl av).length) Slot.unset).toArray = ls at hl ⊢
  refine body p e s m below meth c (va_A W0 s.heap.size) _ ls hx hb hml hown hts hin (fun q h => Or.inr h) hK hP hD hS hl ?_
  intro v u H locs ls pc tys1 ht1 hd hn hp hK hP hD hS
  subst ht1
  exact W.zret hx hb hr hn (fun t ht hW => ⟨⟨v, u, rfl, hp, by rw [ht]; exact hP, va_K.moved hW.alike hK, hD⟩, hS.F ht⟩) hS.2.2 hd
theorem x_met_v {l : Launch} {y : MethodName} {cc : ByteArray} {maxL mc ms : Nat} {rm : Room} {D : va_G} {tys : List (ClassId × FieldType)} {W0 : va_W} {sz : Nat} {av : List Value} {post : va_W → Prop} (hy : plainName y.cls = true) (hav : (lg_sl av).length ≤ maxL)
    (body : ∀ (p : Program) (e : Env) (s : State) (m : MethodId) (below : List Frame) (meth : Method) (c : Code) (A : Nat → Prop) (Q : State → Prop) (ls : Array Slot), p.tables.exec = Jvm.exec → c.code = cc → c.maxLocals = maxL → s.vm.findClass y.cls = some m.cls → (∀ w ∈ lw_all, w.before av.toArray s = true) → meth.name = y.name → (∀ q : Nat, s.heap.size ≤ q → A q) → va_K D vwCl tys s → va_P D vwCl W0 s.heap → va_D A W0 → va_S A s.heap s.heap [] → lv_has ls maxL (lv_args 0 av) →
      (∀ (u : va_W) (H : Heap) (locs : List Loc) (ls : Array Slot) (pc : Nat) (tys1 : List (ClassId × FieldType)), tys1 = tys → decode cc pc = .ok (.return_, 1) → post u → va_K D vwCl tys1 s → va_P D vwCl u H → va_D A u → va_S A s.heap H locs → W p l e rm s m av.toArray below meth c H locs mc ms Q (F0 m pc ls [])) →
      W p l e rm s m av.toArray below meth c s.heap [] 0 0 Q (F0 m 0 ls [])) :
    Met l y (ws_ y cc maxL none) rm (va_Pc av (x_pre D tys W0 sz)) (va_Qv post (x_post D tys (va_A W0 sz)) (va_A W0 sz)) mc ms (va_A W0 sz) := by
  refine Met.ofW (cc := cc) (maxL := maxL) (ret := none) hy rfl ?_
  intro p e s m args below meth c s₁ B hml hv
  obtain ⟨rfl, hsz, hP, hK, hD0⟩ := hv
  have hx := B.exec
  have hb := B.bytes
  have hr := B.returns
  have hts := atoms_spec (ws := ws_ y cc maxL none) B.pre
  have hts : ∀ w ∈ lw_all, w.before _ s = true := fun w h => hts w (List.mem_cons_of_mem _ h)
  have hown : s.vm.findClass y.cls = some m.cls := findClass_of_methodNamed B.named
  have hlocks := B.notSynchronized
  have hin : meth.name = y.name := (name_of_methodNamed B.named B.method).1
  subst hsz
  have hD := hD0.self (sz := s.heap.size)
  have hS : va_S (va_A W0 s.heap.size) s.heap s.heap [] := va_S.rf
  have hl := lv_entry av (n := maxL) hav
  rw [lg_entry_eq]
  generalize (lg_sl av ++ List.replicate (maxL - (lg_sl av).length) Slot.unset).toArray = ls at hl ⊢
  refine body p e s m below meth c (va_A W0 s.heap.size) _ ls hx hb hml hown hts hin (fun q h => Or.inr h) hK hP hD hS hl ?_
  intro u H locs ls pc tys1 ht1 hd hp hK hP hD hS
  subst ht1
  exact W.vret hx hb hr (fun t ht hW => ⟨⟨u, rfl, hp, by rw [ht]; exact hP, va_K.moved hW.alike hK, hD⟩, hS.F ht⟩) hS.2.2 hd
section XC
variable {p : Program} {l : Launch} {e : Env} {R : Room} {s : State} {m : MethodId} {args : Array Value} {below : List Frame} {meth : Method} {c : Code} {H : Heap} {locs : List Loc} {cells slots : Nat} {Q : State → Prop}
variable {y : MethodName} {bytes cc : ByteArray} {maxL nL n index : Nat} {ret : Option FieldType} {ws : List Cond} {rm : Room} {Ts : List Cond} {own C : String} {b : Addr} {As rest st : List Value} {D : va_G} {tys tysC : List (ClassId × FieldType)} {W0 wa wr : va_W} {A : Nat → Prop} {T : u_T} {N ci q0 pc : Nat} {fs : List Value} {ls : Array Slot}
theorem x_call_l {post : Int64 → va_W → Prop} (S : CallFix p m c cc nL s args Ts own) (hM : Met l y ws rm (va_Pc (.ref b :: As) (x_pre D tys W0 H.size)) (va_Ql post (x_post D tys (va_A W0 H.size)) (va_A W0 H.size)) 0 0 (va_A W0 H.size)) (cw : CallW R s args own C index y bytes maxL ret ws rm 0 0 n) (hK : va_K D vwCl tys s) (hP : va_P D vwCl W0 H) (hD : va_D A W0) (hS : va_S A s.heap H locs) (hA : ∀ q : Nat, s.heap.size ≤ q → A q) (hc : vwCl[ci]? = some (C, T, N)) (he : W0[q0]? = some (b, .inr (ci, fs))) (hn : As.length = n) (hsize : ls.size = nL) (hst : st = As.reverse ++ .ref b :: rest) (hroom : (rest.map fun v => v.category).sum ≤ 8) (hdg : decode cc pc = .ok (.invokevirtual index, 3)) (hR : cells ≤ R.cells ∧ slots ≤ R.slots)
    (kk : ∀ (r : Int64) (u : va_W) (H1 : Heap) (locs1 : List Loc), post r u → va_P D vwCl u H1 → va_D A u → va_S A s.heap H1 locs1 → W p l e R s m args below meth c H1 locs1 cells slots Q (F0 m (pc + 3) ls (.long r :: rest))) : W p l e R s m args below meth c H locs cells slots Q (F0 m pc ls st) := by
  have hFc := x_free hD hS hA
  refine va_calll (va_runV (As := As) (rest := rest) S hM cw ⟨x_blind _ _ _ _ _, va_recv hK hP hc he, fun U hU hW => ⟨rfl, by rw [hU], by rw [hU]; exact hP, va_K.moved hW.alike hK, hD.weaken (fun _ _ _ _ => trivial)⟩⟩ rfl hn hsize hst (lv_room hroom) hdg hR) hS (fun q _ h => hFc q h) hFc (fun r u t H1 locs1 ht hvm hp hB hz hk hS => ?_)
  obtain ⟨hP1, hK1, hD1⟩ := hB
  rw [ht] at hP1
  exact kk r u H1 locs1 hp hP1 (hD1.weaken (fun k q _ h => hFc _ h)) hS
theorem x_callF_l {post : Int64 → va_W → Prop} (S : CallFix p m c cc nL s args Ts own) (hM : Met l y ws rm (va_Pc (.ref b :: As) (x_pre D tysC W0 H.size)) (va_Ql post (x_post D tysC (va_A W0 H.size)) (va_A W0 H.size)) 0 0 (va_A W0 H.size)) (cw : CallW R s args own C index y bytes maxL ret ws rm 0 0 n) (hK : va_K D vwCl tysC s) (hP : va_P D vwCl wa H) (hD : va_D A wa) (hS : va_S A s.heap H locs) (hA : ∀ q : Nat, s.heap.size ≤ q → A q) (isC isR : List Nat) (hC : isC.map (fun i => wa[i]?) = W0.map some) (hCn : va_nd isC = true) (hRr : isR.map (fun i => wa[i]?) = wr.map some) (hRn : va_nd isR = true) (hdis : ∀ i ∈ isR, i ∉ isC) (hc : vwCl[ci]? = some (C, T, N)) (he : W0[q0]? = some (b, .inr (ci, fs))) (hn : As.length = n) (hsize : ls.size = nL) (hst : st = As.reverse ++ .ref b :: rest) (hroom : (rest.map fun v => v.category).sum ≤ 8) (hdg : decode cc pc = .ok (.invokevirtual index, 3)) (hR : cells ≤ R.cells ∧ slots ≤ R.slots)
    (kk : ∀ (r : Int64) (u : va_W) (H1 : Heap) (locs1 : List Loc), post r u → va_P D vwCl (wr ++ u) H1 → va_D A (wr ++ u) → va_S A s.heap H1 locs1 → W p l e R s m args below meth c H1 locs1 cells slots Q (F0 m (pc + 3) ls (.long r :: rest))) : W p l e R s m args below meth c H locs cells slots Q (F0 m pc ls st) := by
  have hDc := hD.sub isC hCn hC
  have hPc : va_P D vwCl W0 H := hP.sub isC (by
    have h := congrArg (fun z => z.filterMap id) hC
    simpa [List.filterMap_map, Function.comp_def] using h)
  have hFc := va_free hD hS hA isC hC
  refine va_calll (va_runV (As := As) (rest := rest) S hM cw ⟨x_blind _ _ _ _ _, va_recv hK hPc hc he, fun U hU hW => ⟨rfl, by rw [hU], by rw [hU]; exact hPc, va_K.moved hW.alike hK, hDc.weaken (fun _ _ _ _ => trivial)⟩⟩ rfl hn hsize hst (lv_room hroom) hdg hR) hS (fun q _ h => hFc q h) hFc (fun r u t H1 locs1 ht hvm hp hB hz hk hS => ?_)
  obtain ⟨hP1, hK1, hD1⟩ := hB
  rw [ht] at hP1
  obtain ⟨hP2, hD2⟩ := va_join hP hD isC isR hC hRr hRn hdis hk hFc hP1 hD1
  exact kk r u H1 locs1 hp hP2 hD2 hS
theorem x_call_i {post : Int32 → va_W → Prop} (S : CallFix p m c cc nL s args Ts own) (hM : Met l y ws rm (va_Pc (.ref b :: As) (x_pre D tys W0 H.size)) (va_Qi post (x_post D tys (va_A W0 H.size)) (va_A W0 H.size)) 0 0 (va_A W0 H.size)) (cw : CallW R s args own C index y bytes maxL ret ws rm 0 0 n) (hK : va_K D vwCl tys s) (hP : va_P D vwCl W0 H) (hD : va_D A W0) (hS : va_S A s.heap H locs) (hA : ∀ q : Nat, s.heap.size ≤ q → A q) (hc : vwCl[ci]? = some (C, T, N)) (he : W0[q0]? = some (b, .inr (ci, fs))) (hn : As.length = n) (hsize : ls.size = nL) (hst : st = As.reverse ++ .ref b :: rest) (hroom : (rest.map fun v => v.category).sum ≤ 8) (hdg : decode cc pc = .ok (.invokevirtual index, 3)) (hR : cells ≤ R.cells ∧ slots ≤ R.slots)
    (kk : ∀ (r : Int32) (u : va_W) (H1 : Heap) (locs1 : List Loc), post r u → va_P D vwCl u H1 → va_D A u → va_S A s.heap H1 locs1 → W p l e R s m args below meth c H1 locs1 cells slots Q (F0 m (pc + 3) ls (.int r :: rest))) : W p l e R s m args below meth c H locs cells slots Q (F0 m pc ls st) := by
  have hFc := x_free hD hS hA
  refine va_calli (va_runV (As := As) (rest := rest) S hM cw ⟨x_blind _ _ _ _ _, va_recv hK hP hc he, fun U hU hW => ⟨rfl, by rw [hU], by rw [hU]; exact hP, va_K.moved hW.alike hK, hD.weaken (fun _ _ _ _ => trivial)⟩⟩ rfl hn hsize hst (lv_room hroom) hdg hR) hS (fun q _ h => hFc q h) hFc (fun r u t H1 locs1 ht hvm hp hB hz hk hS => ?_)
  obtain ⟨hP1, hK1, hD1⟩ := hB
  rw [ht] at hP1
  exact kk r u H1 locs1 hp hP1 (hD1.weaken (fun k q _ h => hFc _ h)) hS
theorem x_callF_i {post : Int32 → va_W → Prop} (S : CallFix p m c cc nL s args Ts own) (hM : Met l y ws rm (va_Pc (.ref b :: As) (x_pre D tysC W0 H.size)) (va_Qi post (x_post D tysC (va_A W0 H.size)) (va_A W0 H.size)) 0 0 (va_A W0 H.size)) (cw : CallW R s args own C index y bytes maxL ret ws rm 0 0 n) (hK : va_K D vwCl tysC s) (hP : va_P D vwCl wa H) (hD : va_D A wa) (hS : va_S A s.heap H locs) (hA : ∀ q : Nat, s.heap.size ≤ q → A q) (isC isR : List Nat) (hC : isC.map (fun i => wa[i]?) = W0.map some) (hCn : va_nd isC = true) (hRr : isR.map (fun i => wa[i]?) = wr.map some) (hRn : va_nd isR = true) (hdis : ∀ i ∈ isR, i ∉ isC) (hc : vwCl[ci]? = some (C, T, N)) (he : W0[q0]? = some (b, .inr (ci, fs))) (hn : As.length = n) (hsize : ls.size = nL) (hst : st = As.reverse ++ .ref b :: rest) (hroom : (rest.map fun v => v.category).sum ≤ 8) (hdg : decode cc pc = .ok (.invokevirtual index, 3)) (hR : cells ≤ R.cells ∧ slots ≤ R.slots)
    (kk : ∀ (r : Int32) (u : va_W) (H1 : Heap) (locs1 : List Loc), post r u → va_P D vwCl (wr ++ u) H1 → va_D A (wr ++ u) → va_S A s.heap H1 locs1 → W p l e R s m args below meth c H1 locs1 cells slots Q (F0 m (pc + 3) ls (.int r :: rest))) : W p l e R s m args below meth c H locs cells slots Q (F0 m pc ls st) := by
  have hDc := hD.sub isC hCn hC
  have hPc : va_P D vwCl W0 H := hP.sub isC (by
    have h := congrArg (fun z => z.filterMap id) hC
    simpa [List.filterMap_map, Function.comp_def] using h)
  have hFc := va_free hD hS hA isC hC
  refine va_calli (va_runV (As := As) (rest := rest) S hM cw ⟨x_blind _ _ _ _ _, va_recv hK hPc hc he, fun U hU hW => ⟨rfl, by rw [hU], by rw [hU]; exact hPc, va_K.moved hW.alike hK, hDc.weaken (fun _ _ _ _ => trivial)⟩⟩ rfl hn hsize hst (lv_room hroom) hdg hR) hS (fun q _ h => hFc q h) hFc (fun r u t H1 locs1 ht hvm hp hB hz hk hS => ?_)
  obtain ⟨hP1, hK1, hD1⟩ := hB
  rw [ht] at hP1
  obtain ⟨hP2, hD2⟩ := va_join hP hD isC isR hC hRr hRn hdis hk hFc hP1 hD1
  exact kk r u H1 locs1 hp hP2 hD2 hS
theorem x_call_v {post : va_W → Prop} (S : CallFix p m c cc nL s args Ts own) (hM : Met l y ws rm (va_Pc (.ref b :: As) (x_pre D tys W0 H.size)) (va_Qv post (x_post D tys (va_A W0 H.size)) (va_A W0 H.size)) 0 0 (va_A W0 H.size)) (cw : CallW R s args own C index y bytes maxL ret ws rm 0 0 n) (hK : va_K D vwCl tys s) (hP : va_P D vwCl W0 H) (hD : va_D A W0) (hS : va_S A s.heap H locs) (hA : ∀ q : Nat, s.heap.size ≤ q → A q) (hc : vwCl[ci]? = some (C, T, N)) (he : W0[q0]? = some (b, .inr (ci, fs))) (hn : As.length = n) (hsize : ls.size = nL) (hst : st = As.reverse ++ .ref b :: rest) (hroom : (rest.map fun v => v.category).sum ≤ 8) (hdg : decode cc pc = .ok (.invokevirtual index, 3)) (hR : cells ≤ R.cells ∧ slots ≤ R.slots)
    (kk : ∀ (u : va_W) (H1 : Heap) (locs1 : List Loc), post u → va_P D vwCl u H1 → va_D A u → va_S A s.heap H1 locs1 → W p l e R s m args below meth c H1 locs1 cells slots Q (F0 m (pc + 3) ls rest)) : W p l e R s m args below meth c H locs cells slots Q (F0 m pc ls st) := by
  have hFc := x_free hD hS hA
  refine va_callv (va_runV (As := As) (rest := rest) S hM cw ⟨x_blind _ _ _ _ _, va_recv hK hP hc he, fun U hU hW => ⟨rfl, by rw [hU], by rw [hU]; exact hP, va_K.moved hW.alike hK, hD.weaken (fun _ _ _ _ => trivial)⟩⟩ rfl hn hsize hst (lv_room hroom) hdg hR) hS (fun q _ h => hFc q h) hFc (fun u t H1 locs1 ht hvm hp hB hz hk hS => ?_)
  obtain ⟨hP1, hK1, hD1⟩ := hB
  rw [ht] at hP1
  exact kk u H1 locs1 hp hP1 (hD1.weaken (fun k q _ h => hFc _ h)) hS
theorem x_callF_v {post : va_W → Prop} (S : CallFix p m c cc nL s args Ts own) (hM : Met l y ws rm (va_Pc (.ref b :: As) (x_pre D tysC W0 H.size)) (va_Qv post (x_post D tysC (va_A W0 H.size)) (va_A W0 H.size)) 0 0 (va_A W0 H.size)) (cw : CallW R s args own C index y bytes maxL ret ws rm 0 0 n) (hK : va_K D vwCl tysC s) (hP : va_P D vwCl wa H) (hD : va_D A wa) (hS : va_S A s.heap H locs) (hA : ∀ q : Nat, s.heap.size ≤ q → A q) (isC isR : List Nat) (hC : isC.map (fun i => wa[i]?) = W0.map some) (hCn : va_nd isC = true) (hRr : isR.map (fun i => wa[i]?) = wr.map some) (hRn : va_nd isR = true) (hdis : ∀ i ∈ isR, i ∉ isC) (hc : vwCl[ci]? = some (C, T, N)) (he : W0[q0]? = some (b, .inr (ci, fs))) (hn : As.length = n) (hsize : ls.size = nL) (hst : st = As.reverse ++ .ref b :: rest) (hroom : (rest.map fun v => v.category).sum ≤ 8) (hdg : decode cc pc = .ok (.invokevirtual index, 3)) (hR : cells ≤ R.cells ∧ slots ≤ R.slots)
    (kk : ∀ (u : va_W) (H1 : Heap) (locs1 : List Loc), post u → va_P D vwCl (wr ++ u) H1 → va_D A (wr ++ u) → va_S A s.heap H1 locs1 → W p l e R s m args below meth c H1 locs1 cells slots Q (F0 m (pc + 3) ls rest)) : W p l e R s m args below meth c H locs cells slots Q (F0 m pc ls st) := by
  have hDc := hD.sub isC hCn hC
  have hPc : va_P D vwCl W0 H := hP.sub isC (by
    have h := congrArg (fun z => z.filterMap id) hC
    simpa [List.filterMap_map, Function.comp_def] using h)
  have hFc := va_free hD hS hA isC hC
  refine va_callv (va_runV (As := As) (rest := rest) S hM cw ⟨x_blind _ _ _ _ _, va_recv hK hPc hc he, fun U hU hW => ⟨rfl, by rw [hU], by rw [hU]; exact hPc, va_K.moved hW.alike hK, hDc.weaken (fun _ _ _ _ => trivial)⟩⟩ rfl hn hsize hst (lv_room hroom) hdg hR) hS (fun q _ h => hFc q h) hFc (fun u t H1 locs1 ht hvm hp hB hz hk hS => ?_)
  obtain ⟨hP1, hK1, hD1⟩ := hB
  rw [ht] at hP1
  obtain ⟨hP2, hD2⟩ := va_join hP hD isC isR hC hRr hRn hdis hk hFc hP1 hD1
  exact kk u H1 locs1 hp hP2 hD2 hS
theorem x_callS_i {post : Int32 → va_W → Prop} (S : CallFix p m c cc nL s args Ts own) (hM : Met l y ws rm (va_Pc As (x_pre D tys W0 H.size)) (va_Qi post (x_post D tys (va_A W0 H.size)) (va_A W0 H.size)) 0 0 (va_A W0 H.size)) (cw : CallB R s args own index y bytes maxL ret ws rm 0 0 n ∧ (Cond.static y).before args s = true) (hK : va_K D vwCl tys s) (hP : va_P D vwCl W0 H) (hD : va_D A W0) (hS : va_S A s.heap H locs) (hA : ∀ q : Nat, s.heap.size ≤ q → A q) (hn : As.length = n) (hsize : ls.size = nL) (hst : st = As.reverse ++ rest) (hroom : (rest.map fun v => v.category).sum ≤ 8) (hdg : decode cc pc = .ok (.invokestatic index, 3)) (hR : cells ≤ R.cells ∧ slots ≤ R.slots)
    (kk : ∀ (r : Int32) (u : va_W) (H1 : Heap) (locs1 : List Loc), post r u → va_P D vwCl u H1 → va_D A u → va_S A s.heap H1 locs1 → W p l e R s m args below meth c H1 locs1 cells slots Q (F0 m (pc + 3) ls (.int r :: rest))) : W p l e R s m args below meth c H locs cells slots Q (F0 m pc ls st) := by
  have hFc := x_free hD hS hA
  refine va_calli (va_runS (As := As) (rest := rest) S hM cw ⟨x_blind _ _ _ _ _, fun U hU hW => ⟨rfl, by rw [hU], by rw [hU]; exact hP, va_K.moved hW.alike hK, hD.weaken (fun _ _ _ _ => trivial)⟩⟩ rfl hn hsize hst (lv_room hroom) hdg hR) hS (fun q _ h => hFc q h) hFc (fun r u t H1 locs1 ht hvm hp hB hz hk hS => ?_)
  obtain ⟨hP1, hK1, hD1⟩ := hB
  rw [ht] at hP1
  exact kk r u H1 locs1 hp hP1 (hD1.weaken (fun k q _ h => hFc _ h)) hS
/-- a computed number under another name -/
theorem x_toi {x : Int32} (y : Int32) (h : x = y) (k : W p l e R s m args below meth c H locs cells slots Q (F0 m pc ls (.int y :: rest))) : W p l e R s m args below meth c H locs cells slots Q (F0 m pc ls (.int x :: rest)) := h ▸ k
theorem x_tol {x : Int64} (y : Int64) (h : x = y) (k : W p l e R s m args below meth c H locs cells slots Q (F0 m pc ls (.long y :: rest))) : W p l e R s m args below meth c H locs cells slots Q (F0 m pc ls (.long x :: rest)) := h ▸ k
/-- arrays of ints by a Nat place -/
theorem x_iald (hexec : p.tables.exec = Jvm.exec) (hb : c.code = cc) (hK : va_K D vwCl tys s) (hP : va_P D vwCl W0 H) (q0 t0 : Nat) {cA : ClassId} {n : Nat} {f : Nat → Int32} (ha : W0[q0]? = some (b, .inl (cA, n, .inl f))) (ht : tys[t0]? = some (cA, .int)) {k : Nat} (hk : k < n) (hn : n < 2 ^ 31) (hdg : decode cc pc = .ok (.iaload, 1))
    (kk : W p l e R s m args below meth c H locs cells slots Q (F0 m (pc + 1) ls (.int (f k) :: rest))) : W p l e R s m args below meth c H locs cells slots Q (F0 m pc ls (.int (nI k) :: .ref b :: rest)) := by
  refine va_iald hexec hb hK hP q0 t0 ha ht (vp_in_nI hk hn) hdg ?_
  rw [nI_clamp (Nat.lt_trans hk hn)]
  exact kk
theorem x_iast (hexec : p.tables.exec = Jvm.exec) (hb : c.code = cc) (hK : va_K D vwCl tys s) (hP : va_P D vwCl W0 H) (hD : va_D A W0) (hS : va_S A s.heap H locs) (q0 t0 : Nat) {cA : ClassId} {n : Nat} {f : Nat → Int32} (ha : W0[q0]? = some (b, .inl (cA, n, .inl f))) (ht : tys[t0]? = some (cA, .int)) {k : Nat} (hk : k < n) (hn : n < 2 ^ 31) {x : Int32} (hdg : decode cc pc = .ok (.iastore, 1))
    (kk : ∀ (H1 : Heap) (locs1 : List Loc), va_P D vwCl (W0.set q0 (b, .inl (cA, n, .inl (upd f k x)))) H1 → va_D A (W0.set q0 (b, .inl (cA, n, .inl (upd f k x)))) → va_S A s.heap H1 locs1 → W p l e R s m args below meth c H1 locs1 cells slots Q (F0 m (pc + 1) ls rest)) : W p l e R s m args below meth c H locs cells slots Q (F0 m pc ls (.int x :: .int (nI k) :: .ref b :: rest)) := by
  refine va_iast hexec hb hK hP hD hS q0 t0 ha ht (vp_in_nI hk hn) hdg (fun H1 locs1 hP hD hS => ?_)
  rw [nI_clamp (Nat.lt_trans hk hn)] at hP hD
  exact kk H1 locs1 hP hD hS
end XC
/-- the worlds of the two classes -/
abbrev wX0 (h0 hw hs : Nat) (dA dB : ClassId) (f g : Nat → Int32) (y z : Int32) : va_W := [(h0, .inr (0, [.ref hw, .ref hs, .int y, .int z])), (hw, .inl (dA, 67, .inl f)), (hs, .inl (dB, 67, .inl g))]
abbrev wX1 (h0 hw hs : Nat) (dA dB : ClassId) (f g : Nat → Int32) (y z : Int32) : va_W := [(h0, .inr (1, [.ref hw, .int y, .int z, .ref hs])), (hw, .inl (dA, 136, .inl f)), (hs, .inl (dB, 136, .inl g))]
abbrev tAB (dA dB : ClassId) : List (ClassId × FieldType) := [(dA, .int), (dB, .int)]
end
section
/-! numbers: unsigned Int32, Int64 as lN, digits. The family wb_ is pasted from kit/laws/BITS.to-paste -/
/-! ===== lN n to 2^64: shifts, and, or, masks, one bit ===== -/
theorem wb_tb (n : Nat) : (lN n).toBitVec = BitVec.ofNat 64 n := rfl
theorem wb_inj {a b : Int64} (h : a.toBitVec = b.toBitVec) : a = b := Int64.toBitVec_inj.mp h
theorem wb_tn {n : Nat} (h : n < 2 ^ 64) : (lN n).toBitVec.toNat = n := by rw [wb_tb, BitVec.toNat_ofNat, Nat.mod_eq_of_lt h]
theorem wb_of (x : Int64) : ∃ n, n < 2 ^ 64 ∧ x = lN n := ⟨x.toBitVec.toNat, x.toBitVec.isLt, wb_inj (by rw [wb_tb]; simp)⟩
theorem wb_of32 (x : Int32) : ∃ n, n < 2 ^ 32 ∧ x = nI n := ⟨x.toBitVec.toNat, x.toBitVec.isLt, Int32.toBitVec_inj.mp (by show _ = BitVec.ofNat 32 _; simp)⟩
theorem wb_c : ∀ k, k < 64 → ((nI k).toInt64 &&& 63) = lN k := by decide +kernel
theorem wb_cu : ∀ k, k < 64 → ((nI k).toInt64.toUInt64 &&& Int64.toUInt64 63) = UInt64.ofNat k := by decide +kernel
theorem wb_sm : ∀ k, k < 64 → (BitVec.ofNat 64 k).smod 64 = BitVec.ofNat 64 k := by decide +kernel
theorem wb_pw {a b : Nat} (h : a ≤ b) : 2 ^ b = 2 ^ a * 2 ^ (b - a) := by rw [← Nat.pow_add]; congr 1; omega
theorem wb_lt2 {a b : Nat} (h : a < b) : 2 ^ a < 2 ^ b := Nat.pow_lt_pow_right (by decide) h
theorem wb_mod (n : Nat) : lN n = lN (n % 2 ^ 64) := wb_inj (by rw [wb_tb, wb_tb]; apply BitVec.eq_of_toNat_eq; rw [BitVec.toNat_ofNat, BitVec.toNat_ofNat, Nat.mod_mod])
theorem wb_shr {n k : Nat} (hn : n < 2 ^ 64) (hk : k < 64) : ((lN n).toUInt64 >>> ((nI k).toInt64.toUInt64 &&& Int64.toUInt64 63)).toInt64 = lN (n / 2 ^ k) := by
  rw [wb_cu k hk]
  apply wb_inj
  apply BitVec.eq_of_toNat_eq
  show ((lN n).toUInt64 >>> UInt64.ofNat k).toNat = (BitVec.ofNat 64 _).toNat
  have h1 : (UInt64.ofNat k).toNat = k := by
    show (BitVec.ofNat 64 k).toNat = k
    rw [BitVec.toNat_ofNat, Nat.mod_eq_of_lt (by omega)]
  have h2 : (lN n).toUInt64.toNat = n := wb_tn hn
  rw [UInt64.toNat_shiftRight, h1, h2, Nat.mod_eq_of_lt hk, Nat.shiftRight_eq_div_pow, BitVec.toNat_ofNat, Nat.mod_eq_of_lt (Nat.lt_of_le_of_lt (Nat.div_le_self _ _) hn)]
theorem wb_shl (n : Nat) {k : Nat} (hk : k < 64) : lN n <<< ((nI k).toInt64 &&& 63) = lN (n * 2 ^ k) := by
  rw [wb_c k hk]
  apply wb_inj
  rw [Int64.toBitVec_shiftLeft, wb_tb, wb_tb, wb_tb, wb_sm k hk]
  apply BitVec.eq_of_toNat_eq
  rw [BitVec.shiftLeft_eq', BitVec.toNat_shiftLeft, BitVec.toNat_ofNat, BitVec.toNat_ofNat, BitVec.toNat_ofNat, Nat.mod_eq_of_lt (show k < 2 ^ 64 by omega), Nat.shiftLeft_eq, Nat.mul_mod, Nat.mod_mod, ← Nat.mul_mod]
theorem wb_and {a b : Nat} (ha : a < 2 ^ 64) (hb : b < 2 ^ 64) : lN a &&& lN b = lN (a &&& b) := by
  apply wb_inj
  rw [Int64.toBitVec_and, wb_tb, wb_tb, wb_tb]
  apply BitVec.eq_of_toNat_eq
  rw [BitVec.toNat_and, BitVec.toNat_ofNat, BitVec.toNat_ofNat, BitVec.toNat_ofNat, Nat.mod_eq_of_lt ha, Nat.mod_eq_of_lt hb, Nat.mod_eq_of_lt (Nat.and_lt_two_pow _ hb)]
theorem wb_or {a b : Nat} (ha : a < 2 ^ 64) (hb : b < 2 ^ 64) : lN a ||| lN b = lN (a ||| b) := by
  apply wb_inj
  rw [Int64.toBitVec_or, wb_tb, wb_tb, wb_tb]
  apply BitVec.eq_of_toNat_eq
  rw [BitVec.toNat_or, BitVec.toNat_ofNat, BitVec.toNat_ofNat, BitVec.toNat_ofNat, Nat.mod_eq_of_lt ha, Nat.mod_eq_of_lt hb, Nat.mod_eq_of_lt (Nat.or_lt_two_pow ha hb)]
theorem wb_mask {n k : Nat} (hn : n < 2 ^ 64) (hk : k < 64) : lN n &&& lN (2 ^ k - 1) = lN (n % 2 ^ k) := by
  rw [wb_and hn (by have := wb_lt2 hk; omega), Nat.and_two_pow_sub_one_eq_mod]
theorem wb_a1 {n : Nat} (hn : n < 2 ^ 64) : lN n &&& 1 = lN (n % 2) := wb_mask (k := 1) hn (by decide)
theorem wb_bit {n k : Nat} (hn : n < 2 ^ 64) (hk : k < 64) : ((lN n).toUInt64 >>> ((nI k).toInt64.toUInt64 &&& Int64.toUInt64 63)).toInt64 &&& 1 = lN (n / 2 ^ k % 2) := by
  rw [wb_shr hn hk, wb_a1 (Nat.lt_of_le_of_lt (Nat.div_le_self _ _) hn)]
theorem wb_xor {q k : Nat} (hk : k < 63) (h : 2 ^ k ≤ q) (h2 : q < 2 ^ (k + 1)) : lN q ^^^ lN (2 ^ k) = lN (q - 2 ^ k) := by
  obtain ⟨r, rfl⟩ : ∃ r, q = 2 ^ k + r := ⟨q - 2 ^ k, by omega⟩
  have hr : r < 2 ^ k := by rw [Nat.pow_succ] at h2; omega
  have hx : (2 ^ k + r) ^^^ 2 ^ k = r := by
    apply Nat.eq_of_testBit_eq
    intro i
    rw [Nat.testBit_xor, Nat.testBit_two_pow]
    rcases Nat.lt_trichotomy i k with h | h | h
    · rw [Nat.testBit_two_pow_add_gt h]
      simp [show ¬ k = i by omega]
    · subst h
      rw [Nat.testBit_two_pow_add_eq]
      simp
    · have a1 : 2 ^ (k + 1) ≤ 2 ^ i := Nat.pow_le_pow_right (by decide) h
      rw [Nat.testBit_lt_two_pow (show 2 ^ k + r < 2 ^ i by omega), Nat.testBit_lt_two_pow (show r < 2 ^ i by omega)]
      simp [show ¬ k = i by omega]
  have b1 := wb_lt2 (show k + 1 < 64 by omega)
  have b2 := wb_lt2 (show k < 64 by omega)
  apply wb_inj
  rw [Int64.toBitVec_xor, wb_tb, wb_tb, wb_tb]
  apply BitVec.eq_of_toNat_eq
  rw [BitVec.toNat_xor, BitVec.toNat_ofNat, BitVec.toNat_ofNat, BitVec.toNat_ofNat, Nat.mod_eq_of_lt (by omega : 2 ^ k + r < 2 ^ 64), Nat.mod_eq_of_lt b2, hx, Nat.add_sub_cancel_left, Nat.mod_eq_of_lt (by omega)]
/-! ===== lN: masks, 'or' of parts that don't overlap is a sum ===== -/
theorem u_tn {n : Nat} (h : n < 2 ^ 64) : (UInt64.ofNat n).toNat = n := Nat.mod_eq_of_lt h
theorem g_and {a b c : Nat} (ha : a < 2 ^ 64) (hb : b < 2 ^ 64) (hc : a &&& b = c) : lN a &&& lN b = lN c := by
  subst hc
  have h : UInt64.ofNat a &&& UInt64.ofNat b = UInt64.ofNat (a &&& b) := UInt64.toNat_inj.mp (by rw [UInt64.toNat_and, u_tn ha, u_tn hb, u_tn (Nat.and_lt_two_pow a hb)])
  have h2 := congrArg UInt64.toInt64 h
  exact h2
theorem g_and1 {a : Nat} (ha : a < 2 ^ 64) : lN a &&& 1 = lN (a % 2) := g_and (b := 1) ha (by decide) (Nat.and_two_pow_sub_one_eq_mod a 1)
theorem g_mask {a s p : Nat} (hp : 2 ^ s = p) (hs : s < 64) (ha : a < 2 ^ 64) : lN a &&& lN (p - 1) = lN (a % p) := by
  subst hp
  have := Nat.pow_lt_pow_right (show 1 < 2 by decide) hs
  exact g_and ha (by omega) (Nat.and_two_pow_sub_one_eq_mod a s)
theorem g_or {k p a b : Nat} (hp : 2 ^ k = p) (ha : a < p) (h : b * p + a < 2 ^ 64) : lN (b * p) ||| lN a = lN (b * p + a) := by
  subst hp
  have h1 : b * 2 ^ k ||| a = b * 2 ^ k + a := by rw [← Nat.shiftLeft_eq, Nat.shiftLeft_add_eq_or_of_lt ha]
  have h3 : UInt64.ofNat (b * 2 ^ k) ||| UInt64.ofNat a = UInt64.ofNat (b * 2 ^ k + a) := UInt64.toNat_inj.mp (by rw [UInt64.toNat_or, u_tn (by omega), u_tn (by omega), u_tn h, h1])
  have h2 := congrArg UInt64.toInt64 h3
  exact h2
theorem g_or' {k p a b : Nat} (hp : 2 ^ k = p) (ha : a < p) (h : a + b * p < 2 ^ 64) : lN a ||| lN (b * p) = lN (a + b * p) := by
  rw [Int64.or_comm, g_or hp ha (by omega), Nat.add_comm]
theorem g_ushr {a k p : Nat} {y : UInt64} (hy : y = UInt64.ofNat k) (hk : k < 64) (hp : 2 ^ k = p) (ha : a < 2 ^ 64) : ((lN a).toUInt64 >>> y).toInt64 = lN (a / p) := by
  subst hy hp
  have h : UInt64.ofNat a >>> UInt64.ofNat k = UInt64.ofNat (a / 2 ^ k) := UInt64.toNat_inj.mp (by rw [UInt64.toNat_shiftRight, u_tn ha, u_tn (by omega), u_tn (Nat.lt_of_le_of_lt (Nat.div_le_self _ _) ha), Nat.mod_eq_of_lt hk, Nat.shiftRight_eq_div_pow])
  have h2 := congrArg UInt64.toInt64 h
  exact h2
theorem g_shl {a k p : Nat} {y : Int64} (hy : y.toBitVec.smod 64 = BitVec.ofNat 64 k) (hk : k < 64) (hp : 2 ^ k = p) (ha : a < 2 ^ 64) : lN a <<< y = lN (a * p) := by
  subst hp
  apply Int64.toBitVec_inj.mp
  rw [Int64.toBitVec_shiftLeft, hy]
  apply BitVec.eq_of_toNat_eq
  have hb : (lN a).toBitVec.toNat = a := Nat.mod_eq_of_lt ha
  have hk' : (BitVec.ofNat 64 k).toNat = k := Nat.mod_eq_of_lt (by omega)
  have h : ((lN a).toBitVec <<< BitVec.ofNat 64 k).toNat = (a * 2 ^ k) % 2 ^ 64 := by simp only [BitVec.shiftLeft_eq', BitVec.toNat_shiftLeft, hb, hk', Nat.shiftLeft_eq]
  exact h
/-! ===== lN to 2^62 under >> and >>> ===== -/
theorem pf_lI {a : Nat} (h : a < 2 ^ 63) : (lN a).toInt = (a : Int) := lg_ofNat_toInt h
theorem pf_shr {a d : Nat} {D : Int64} (hD : (D.toBitVec.smod 64).toNat = d) (h : a < 2 ^ 62) : lN a >>> D = lN (a / 2 ^ d) := by
  have hd : a / 2 ^ d ≤ a := Nat.div_le_self _ _
  apply Int64.toInt_inj.mp
  have e : (lN a >>> D).toInt = (lN a).toInt >>> d := by
    rw [← hD]
    exact BitVec.toInt_sshiftRight ..
  rw [e, Int.shiftRight_eq_div_pow, pf_lI (by omega), pf_lI (by omega)]
  rfl
theorem pf_ushr {a d : Nat} {D : UInt64} (hD : D.toNat % 64 = d) (h : a < 2 ^ 62) : ((lN a).toUInt64 >>> D).toInt64 = lN (a / 2 ^ d) := by
  have hd : a / 2 ^ d ≤ a := Nat.div_le_self _ _
  have e : (lN a).toUInt64 >>> D = UInt64.ofNat (a / 2 ^ d) := UInt64.toNat_inj.mp (by
    rw [UInt64.toNat_shiftRight, hD, Nat.shiftRight_eq_div_pow, UInt64.toNat_ofNat']
    show (UInt64.ofNat a).toNat / 2 ^ d = _
    rw [UInt64.toNat_ofNat', Nat.mod_eq_of_lt (by omega), Nat.mod_eq_of_lt (by omega)])
  rw [e]
  rfl
theorem pf_andw (x : Int64) : ∃ m, m < 2 ^ 32 ∧ x &&& 4294967295 = lN m := ⟨x.toBitVec.toNat % 2 ^ 32, Nat.mod_lt _ (by decide), Int64.toBitVec_inj.mp (BitVec.eq_of_toNat_eq (by
  show (x.toBitVec &&& 4294967295#64).toNat = (BitVec.ofNat 64 (x.toBitVec.toNat % 2 ^ 32)).toNat
  rw [BitVec.toNat_and, show (4294967295#64).toNat = 2 ^ 32 - 1 from by decide, Nat.and_two_pow_sub_one_eq_mod, BitVec.toNat_ofNat]
  omega))⟩
/-! ===== unsigned comparison by xor with the least ===== -/
theorem lN_bv (n : Nat) : (lN n).toBitVec = BitVec.ofNat 64 n := rfl
theorem lN_nat {n : Nat} (h : n < 2 ^ 64) : (lN n).toBitVec.toNat = n := by rw [lN_bv, BitVec.toNat_ofNat]; exact Nat.mod_eq_of_lt h
theorem lN_xor (a b : Nat) : lN a ^^^ lN b = lN (a ^^^ b) := by
  apply Int64.toBitVec_inj.mp; rw [Int64.toBitVec_xor, lN_bv, lN_bv, lN_bv]; apply BitVec.eq_of_getLsbD_eq; intro i hi; simp [BitVec.getLsbD_ofNat, Nat.testBit_xor, hi]
theorem lN_ti {m : Nat} (h : m < 2 ^ 64) : (lN m).toInt = if m < 2 ^ 63 then (m : Int) else (m : Int) - 2 ^ 64 := by
  have c := BitVec.toInt_eq_toNat_cond (lN m).toBitVec
  rw [lN_nat h] at c
  show (lN m).toBitVec.toInt = _
  rw [c]
  split <;> split <;> omega
theorem xor63 {x : Nat} (h : x < 2 ^ 63) : x ^^^ 2 ^ 63 = 2 ^ 63 + x := by
  apply Nat.eq_of_testBit_eq
  intro i
  rw [Nat.testBit_xor, Nat.testBit_two_pow]
  rcases Nat.lt_trichotomy i 63 with z | z | z
  · rw [Nat.testBit_two_pow_add_gt z, decide_eq_false (by omega)]; simp
  · subst z; rw [Nat.testBit_two_pow_add_eq]; simp
  · have hp : 2 ^ 64 ≤ 2 ^ i := Nat.pow_le_pow_right (by decide) z
    rw [Nat.testBit_lt_two_pow (show x < 2 ^ i by omega), Nat.testBit_lt_two_pow (show 2 ^ 63 + x < 2 ^ i by omega), decide_eq_false (by omega)]; rfl
theorem xorS {a : Nat} (h : a < 2 ^ 64) : (lN a ^^^ (-9223372036854775808)).toInt = (a : Int) - 2 ^ 63 := by
  rw [show (-9223372036854775808 : Int64) = lN (2 ^ 63) from by decide +kernel, lN_xor]
  rcases Nat.lt_or_ge a (2 ^ 63) with z | z
  · rw [xor63 z, lN_ti (by omega), if_neg (by omega)]; omega
  · obtain ⟨x, rfl⟩ : ∃ x, a = 2 ^ 63 + x := ⟨a - 2 ^ 63, by omega⟩
    rw [← xor63 (by omega), Nat.xor_assoc, Nat.xor_self, Nat.xor_zero, lN_ti (by omega), if_pos (by omega), xor63 (by omega)]; omega
theorem ultL {a b : Nat} (ha : a < 2 ^ 64) (hb : b < 2 ^ 64) : ((lN b ^^^ (-9223372036854775808)) ≤ (lN a ^^^ (-9223372036854775808))) ↔ b ≤ a := by
  rw [Int64.le_iff_toInt_le, xorS ha, xorS hb]; omega
/-! ===== own ===== -/
def uI (x : Int32) : Nat := x.toBitVec.toNat
theorem uI_lt (x : Int32) : uI x < 4294967296 := x.toBitVec.isLt
theorem nI_uI (x : Int32) : nI (uI x) = x := Int32.toBitVec_inj.mp (by show BitVec.ofNat 32 _ = _; simp [uI])
theorem uI_nI {n : Nat} (h : n < 4294967296) : uI (nI n) = n := pk_tn h
theorem nI_mod (n : Nat) : nI n = nI (n % 4294967296) := Int32.toBitVec_inj.mp (by
  show BitVec.ofNat 32 n = BitVec.ofNat 32 (n % 4294967296)
  apply BitVec.eq_of_toNat_eq
  rw [BitVec.toNat_ofNat, BitVec.toNat_ofNat]
  omega)
theorem uI_nI' (n : Nat) : uI (nI n) = n % 4294967296 := by rw [nI_mod, uI_nI (Nat.mod_lt _ (by decide))]
theorem uI_0 (x : Int32) : x = 0 ↔ uI x = 0 := by
  constructor
  · intro h; subst h; rfl
  · intro h; rw [← nI_uI x, h]; rfl
theorem uI_neg (x : Int32) : x < 0 ↔ 2147483648 ≤ uI x := by
  rw [Int32.lt_iff_toInt_lt]
  have h : x.toInt = if 2 * uI x < 4294967296 then (uI x : Int) else (uI x : Int) - 4294967296 := BitVec.toInt_eq_toNat_cond _
  have h0 : (0 : Int32).toInt = 0 := by decide
  have := uI_lt x
  rw [h, h0]
  split <;> omega
theorem uI_nneg (x : Int32) : 0 ≤ x ↔ uI x < 2147483648 := by
  have h := uI_neg x
  rw [Int32.lt_iff_toInt_lt] at h
  rw [Int32.le_iff_toInt_le]
  omega
theorem uI_xor (x : Int32) : uI (x ^^^ (-1)) = 4294967295 - uI x := by
  have h : (x ^^^ (-1)).toBitVec = ~~~ x.toBitVec := by
    rw [Int32.toBitVec_xor]
    have : (-1 : Int32).toBitVec = BitVec.allOnes 32 := by decide
    rw [this, BitVec.xor_allOnes]
  unfold uI
  rw [h, BitVec.toNat_not]
theorem uI_l (x : Int32) : x.toInt64 &&& 4294967295 = lN (uI x) := by
  apply wb_inj
  rw [Int64.toBitVec_and, wb_tb]
  apply BitVec.eq_of_getLsbD_eq
  intro i hi
  have hm : ∀ i, i < 64 → (4294967295 : Int64).toBitVec.getLsbD i = decide (i < 32) := by decide
  rw [BitVec.getLsbD_and, hm i hi, BitVec.getLsbD_ofNat]
  show ((x.toBitVec.signExtend 64).getLsbD i && _) = _
  rw [BitVec.getLsbD_signExtend]
  by_cases h : i < 32
  · simp [h, hi, uI, BitVec.testBit_toNat]
  · have : (uI x).testBit i = false := Nat.testBit_lt_two_pow (Nat.lt_of_lt_of_le (uI_lt x) (show 2 ^ 32 ≤ 2 ^ i from Nat.pow_le_pow_right (by decide) (by omega)))
    simp [h, this]
def bI (o : Bool) : Int32 := if o then 1 else 0
theorem bI_nar (o : Bool) : narrow .boolean (.int (bI o)) = .int (bI o) := by cases o <;> rfl
theorem bI_0 (o : Bool) : bI o = 0 ↔ o = false := by cases o <;> decide
theorem lN_lt0 {n : Nat} (h : n < 18446744073709551616) : 0 ≤ lN n ↔ n < 9223372036854775808 := by
  rw [Int64.le_iff_toInt_le, lN_ti h]
  have h0 : (0 : Int64).toInt = 0 := by decide
  rw [h0]
  split <;> omega
theorem lN_mod (n : Nat) : lN n = lN (n % 18446744073709551616) := wb_mod n
theorem lN_inj {a b : Nat} (ha : a < 18446744073709551616) (hb : b < 18446744073709551616) (h : lN a = lN b) : a = b := by
  rw [← wb_tn ha, ← wb_tn hb, h]
/-- one word out: what is left, what is borrowed -/
theorem st_out {w a b : Nat} (hw : w < 4294967296) (ha : a < 4294967296) (hb : b ≤ 1) : ∃ w' c', w' < 4294967296 ∧ c' ≤ 1 ∧ w + 4294967296 * c' = w' + a + b ∧ (lN w - lN a - lN b).toInt32 = nI w' ∧ (0 ≤ lN w - lN a - lN b ↔ c' = 0) := by
  by_cases h : a + b ≤ w
  · have e : lN w - lN a - lN b = lN (w - a - b) := by rw [lN_sub (by omega), lN_sub (by omega)]
    refine ⟨w - a - b, 0, by omega, by omega, by omega, ?_, ?_⟩
    · rw [e, lN_i]
    · rw [e, lN_lt0 (by omega)]; omega
  · have e : lN w - lN a - lN b = lN (w + 18446744073709551616 - a - b) := by
      rw [lN_mod w, show w % 18446744073709551616 = (w + 18446744073709551616) % 18446744073709551616 by omega, ← lN_mod, lN_sub (by omega), lN_sub (by omega)]
    refine ⟨w + 4294967296 - a - b, 1, by omega, by omega, by omega, ?_, ?_⟩
    · rw [e, lN_i, nI_mod]
      congr 1
      omega
    · rw [e, lN_lt0 (by omega)]; omega
theorem st_in {w a b : Nat} (hw : w < 4294967296) (ha : a < 4294967296) (hb : b ≤ 1) : ∃ w' c', w' < 4294967296 ∧ c' ≤ 1 ∧ w + a + b = w' + 4294967296 * c' ∧ (lN w + lN a + lN b).toInt32 = nI w' ∧ ((lN w + lN a + lN b).toUInt64 >>> ((nI 32).toInt64.toUInt64 &&& Int64.toUInt64 63)).toInt64 = lN c' := by
  refine ⟨(w + a + b) % 4294967296, (w + a + b) / 4294967296, by omega, by omega, by omega, ?_, ?_⟩
  · rw [lN_add, lN_add, lN_i, nI_mod]
  · rw [lN_add, lN_add, wb_shr (by omega) (by omega)]
/-- digits to the base 2^w -/
def dv (w : Nat) (d : Nat → Nat) : Nat → Nat
  | 0 => 0
  | n + 1 => dv w d n + d n * 2 ^ (w * n)
theorem dv_s (w : Nat) (d : Nat → Nat) (n : Nat) : dv w d (n + 1) = dv w d n + d n * 2 ^ (w * n) := rfl
theorem dv_cg {w : Nat} {d d' : Nat → Nat} {n : Nat} (h : ∀ j, j < n → d j = d' j) : dv w d n = dv w d' n := by
  induction n with
  | zero => rfl
  | succ n ih => rw [dv_s, dv_s, ih (fun j hj => h j (by omega)), h n (by omega)]
theorem dv_lt {w : Nat} {d : Nat → Nat} {n : Nat} (h : ∀ j, j < n → d j < 2 ^ w) : dv w d n < 2 ^ (w * n) := by
  induction n with
  | zero => simp [dv]
  | succ n ih =>
    have h1 := ih (fun j hj => h j (by omega))
    have h2 := h n (by omega)
    rw [dv_s, Nat.mul_succ, Nat.pow_add]
    have h3 : d n * 2 ^ (w * n) ≤ (2 ^ w - 1) * 2 ^ (w * n) := Nat.mul_le_mul_right _ (by omega)
    have h4 : 2 ^ (w * n) * 2 ^ w = (2 ^ w - 1) * 2 ^ (w * n) + 2 ^ (w * n) := by
      have h5 : 2 ^ w = (2 ^ w - 1) + 1 := by omega
      conv => lhs; rw [h5, Nat.mul_add, Nat.mul_one, Nat.mul_comm]
    omega
/-- above the place k -/
theorem dv_split {w : Nat} {d : Nat → Nat} {n k : Nat} (h : k ≤ n) : ∃ r, dv w d n = dv w d k + 2 ^ (w * k) * r := by
  induction n with
  | zero => exact ⟨0, by rw [Nat.le_zero.mp h]; simp⟩
  | succ n ih =>
    by_cases hk : k = n + 1
    · exact ⟨0, by rw [hk]; simp⟩
    · obtain ⟨r, hr⟩ := ih (by omega)
      refine ⟨r + d n * 2 ^ (w * (n - k)), ?_⟩
      rw [dv_s, hr, Nat.mul_add, show w * n = w * k + w * (n - k) by rw [← Nat.mul_add]; congr 1; omega, Nat.pow_add]
      have : 2 ^ (w * k) * (d n * 2 ^ (w * (n - k))) = d n * (2 ^ (w * k) * 2 ^ (w * (n - k))) := by rw [Nat.mul_left_comm]
      omega
theorem dv_at {w : Nat} {d : Nat → Nat} {n k : Nat} (h : k < n) (hd : ∀ j, j < n → d j < 2 ^ w) : ∃ r, dv w d n / 2 ^ (w * k) = d k + 2 ^ w * r := by
  obtain ⟨r, hr⟩ := dv_split (w := w) (d := d) (show k + 1 ≤ n from h)
  refine ⟨r, ?_⟩
  have h1 := dv_lt (w := w) (d := d) (n := k) (fun j hj => hd j (by omega))
  rw [hr, dv_s, Nat.mul_succ, Nat.pow_add]
  have e : dv w d k + d k * 2 ^ (w * k) + 2 ^ (w * k) * 2 ^ w * r = dv w d k + 2 ^ (w * k) * (d k + 2 ^ w * r) := by
    rw [Nat.mul_add, Nat.mul_assoc, Nat.mul_comm (d k)]; omega
  rw [e, Nat.add_mul_div_left _ _ (Nat.two_pow_pos _), Nat.div_eq_of_lt h1, Nat.zero_add]
theorem dv_mod {w : Nat} {d : Nat → Nat} {n k : Nat} (h : k ≤ n) (hd : ∀ j, j < n → d j < 2 ^ w) : dv w d n % 2 ^ (w * k) = dv w d k := by
  obtain ⟨r, hr⟩ := dv_split (w := w) (d := d) h
  rw [hr, Nat.add_mul_mod_self_left, Nat.mod_eq_of_lt (dv_lt (fun j hj => hd j (by omega)))]
theorem dv_digit {w : Nat} {d : Nat → Nat} {n k : Nat} (h : k < n) (hd : ∀ j, j < n → d j < 2 ^ w) : dv w d n / 2 ^ (w * k) % 2 ^ w = d k := by
  obtain ⟨r, hr⟩ := dv_at h hd
  rw [hr, Nat.add_mul_mod_self_left, Nat.mod_eq_of_lt (hd k h)]
/-- one bit -/
theorem dv_bit {w : Nat} {d : Nat → Nat} {n i : Nat} (hw : 0 < w) (h : i / w < n) (hd : ∀ j, j < n → d j < 2 ^ w) : dv w d n / 2 ^ i % 2 = d (i / w) / 2 ^ (i % w) % 2 := by
  obtain ⟨r, hr⟩ := dv_at h hd
  have hi : i = w * (i / w) + i % w := (Nat.div_add_mod i w).symm
  have hlt := Nat.mod_lt i hw
  conv => lhs; rw [hi]
  rw [Nat.pow_add, ← Nat.div_div_eq_div_mul, hr]
  generalize i % w = t at hlt
  generalize d (i / w) = x
  obtain ⟨q, hq⟩ : ∃ q, w = t + 1 + q := ⟨w - t - 1, by omega⟩
  have e : x + 2 ^ w * r = x + 2 ^ t * (2 * (2 ^ q * r)) := by
    rw [hq, Nat.pow_add, Nat.pow_succ, Nat.mul_assoc, Nat.mul_assoc]
  rw [e, Nat.add_mul_div_left _ _ (Nat.two_pow_pos _)]
  omega
theorem dv_updlo {w : Nat} {f : Nat → Int32} {k : Nat} {x : Int32} {n : Nat} (h : n ≤ k) : dv w (fun j => uI (upd f k x j)) n = dv w (fun j => uI (f j)) n := dv_cg (fun j hj => by rw [pk_un (by omega)])
theorem dv_upd {w : Nat} {f : Nat → Int32} {k : Nat} {x : Int32} {n : Nat} (h : k < n) : dv w (fun j => uI (upd f k x j)) n + uI (f k) * 2 ^ (w * k) = dv w (fun j => uI (f j)) n + uI x * 2 ^ (w * k) := by
  induction n with
  | zero => omega
  | succ n ih =>
    by_cases hk : k = n
    · subst hk
      rw [dv_s, dv_s, dv_updlo (Nat.le_refl _), pk_us]
      omega
    · have h1 := ih (by omega)
      rw [dv_s, dv_s, pk_un (show n ≠ k by omega)]
      omega
/-- the words' value -/
def vW (f : Nat → Int32) (n : Nat) : Nat := dv 32 (fun j => uI (f j)) n
theorem vW_lt (f : Nat → Int32) (n : Nat) : vW f n < 2 ^ (32 * n) := dv_lt (fun j _ => uI_lt (f j))
theorem vW_s (f : Nat → Int32) (n : Nat) : vW f (n + 1) = vW f n + uI (f n) * 2 ^ (32 * n) := rfl
theorem vW_upd {f : Nat → Int32} {k : Nat} {x : Int32} {n : Nat} (h : k < n) : vW (upd f k x) n + uI (f k) * 2 ^ (32 * k) = vW f n + uI x * 2 ^ (32 * k) := dv_upd h
theorem vW_updlo {f : Nat → Int32} {k : Nat} {x : Int32} {n : Nat} (h : n ≤ k) : vW (upd f k x) n = vW f n := dv_updlo h
theorem vW_bit {f : Nat → Int32} {n i : Nat} (h : i / 32 < n) : vW f n / 2 ^ i % 2 = uI (f (i / 32)) / 2 ^ (i % 32) % 2 := dv_bit (by decide) h (fun j _ => uI_lt (f j))
theorem vW_mod {f : Nat → Int32} {n k : Nat} (h : k ≤ n) : vW f n % 2 ^ (32 * k) = vW f k := dv_mod h (fun j _ => uI_lt (f j))
def vH (f : Nat → Int32) (n : Nat) : Nat := dv 16 (fun j => uI (f j)) n
def okH (f : Nat → Int32) : Prop := ∀ j, j < 136 → uI (f j) < 65536
theorem vH_lt {f : Nat → Int32} (h : okH f) {n : Nat} (hn : n ≤ 136) : vH f n < 2 ^ (16 * n) := dv_lt (fun j hj => h j (by omega))
theorem vH_s (f : Nat → Int32) (n : Nat) : vH f (n + 1) = vH f n + uI (f n) * 2 ^ (16 * n) := rfl
theorem vH_upd {f : Nat → Int32} {k : Nat} {x : Int32} {n : Nat} (h : k < n) : vH (upd f k x) n + uI (f k) * 2 ^ (16 * k) = vH f n + uI x * 2 ^ (16 * k) := dv_upd h
theorem vH_updlo {f : Nat → Int32} {k : Nat} {x : Int32} {n : Nat} (h : n ≤ k) : vH (upd f k x) n = vH f n := dv_updlo h
theorem vH_bit {f : Nat → Int32} (hf : okH f) {i : Nat} (h : i / 16 < 136) : vH f 136 / 2 ^ i % 2 = uI (f (i / 16)) / 2 ^ (i % 16) % 2 := dv_bit (by decide) h (fun j hj => hf j hj)
theorem okH_upd {f : Nat → Int32} {k x : Nat} (h : okH f) (hx : x < 65536) : okH (upd f k (nI x)) := by
  intro j hj
  by_cases e : j = k
  · rw [e, pk_us, uI_nI (by omega)]; exact hx
  · rw [pk_un e]; exact h j hj
end
section
theorem sh_u : ∀ n, n < 32 → (((nI n).toUInt32 &&& Int32.toUInt32 31).toBitVec % 32).toNat = n := by decide +kernel
theorem sh_s : ∀ n, n < 32 → ((nI n &&& 31).toBitVec.smod 32).toNat = n := by decide +kernel
/-- a word replaced: the whole value -/
theorem st_valI {f : Nat → Int32} {k w' c' a b : Nat} (hk : k < 67) (hw : w' < 4294967296) (h : uI (f k) + a + b = w' + 4294967296 * c') : vW (upd f k (nI w')) 67 + c' * 2 ^ (32 * (k + 1)) = vW f 67 + (a + b) * 2 ^ (32 * k) := by
  have h1 := vW_upd (f := f) (x := nI w') hk
  rw [uI_nI hw] at h1
  rw [Nat.mul_succ, Nat.pow_add]
  generalize 2 ^ (32 * k) = q at h1 ⊢
  have h2 : (uI (f k) + a + b) * q = (w' + 4294967296 * c') * q := by rw [h]
  rw [Nat.add_assoc, Nat.add_mul, Nat.add_mul w'] at h2
  have h3 : 4294967296 * c' * q = c' * (q * 2 ^ 32) := by rw [show (2 : Nat) ^ 32 = 4294967296 from rfl, Nat.mul_comm q, ← Nat.mul_assoc, Nat.mul_comm c']
  omega
theorem st_valO {f : Nat → Int32} {k w' c' a b : Nat} (hk : k < 67) (hw : w' < 4294967296) (h : uI (f k) + 4294967296 * c' = w' + a + b) : vW (upd f k (nI w')) 67 + (a + b) * 2 ^ (32 * k) = vW f 67 + c' * 2 ^ (32 * (k + 1)) := by
  have h1 := vW_upd (f := f) (x := nI w') hk
  rw [uI_nI hw] at h1
  rw [Nat.mul_succ, Nat.pow_add]
  generalize 2 ^ (32 * k) = q at h1 ⊢
  have h2 : (uI (f k) + 4294967296 * c') * q = (w' + a + b) * q := by rw [h]
  rw [Nat.add_assoc, Nat.add_mul, Nat.add_mul w'] at h2
  have h3 : 4294967296 * c' * q = c' * (q * 2 ^ 32) := by rw [show (2 : Nat) ^ 32 = 4294967296 from rfl, Nat.mul_comm q, ← Nat.mul_assoc, Nat.mul_comm c']
  omega
theorem bit0_eq (g : Nat → Int32) {n : Nat} (hn : n < 2144) : ((g (n / 32)).toUInt32 >>> ((nI (n % 32)).toUInt32 &&& Int32.toUInt32 31)).toInt32 &&& nI 1 = nI (vW g 67 / 2 ^ n % 2) := by
  have hlt := uI_lt (g (n / 32))
  rw [vW_bit (f := g) (n := 67) (i := n) (by omega)]
  have e : ((g (n / 32)).toUInt32 >>> ((nI (n % 32)).toUInt32 &&& Int32.toUInt32 31)).toInt32 = nI (uI (g (n / 32)) / 2 ^ (n % 32)) := by
    conv => lhs; rw [← nI_uI (g (n / 32))]
    exact pk_ushrN hlt _ _ (sh_u _ (Nat.mod_lt _ (by decide)))
  rw [e]
  exact pk_andN (Nat.lt_of_le_of_lt (Nat.div_le_self _ _) hlt) 1 (by decide)
theorem ushr_N (x : Int32) {t : Nat} (ht : t < 32) : (x.toUInt32 >>> ((nI t).toUInt32 &&& Int32.toUInt32 31)).toInt32 = nI (uI x / 2 ^ t) := by
  conv => lhs; rw [← nI_uI x]
  exact pk_ushrN (uI_lt x) _ _ (sh_u _ ht)
theorem ushr_1 (x : Int32) : (x.toUInt32 >>> ((nI 1).toUInt32 &&& Int32.toUInt32 31)).toInt32 = nI (uI x / 2) := ushr_N x (by decide)
/-- how many bits -/
def szN (r : Nat) : Nat := if r = 0 then 0 else r.log2 + 1
theorem szN_half {r : Nat} (h : r ≠ 0) : szN (r / 2) + 1 = szN r := by
  unfold szN
  rw [if_neg h]
  by_cases h2 : 2 ≤ r
  · rw [if_neg (by omega), Nat.log2_def r, if_pos h2]
  · rw [if_pos (by omega), Nat.log2_def r, if_neg h2]
theorem szN_log {r : Nat} (h : r ≠ 0) : szN (r / 2) = r.log2 := by
  have h1 := szN_half h
  have h2 : szN r = r.log2 + 1 := by unfold szN; rw [if_neg h]
  omega

abbrev wsX0_step : List Cond := ws_ yX0_step cX0_step 11 (some .long)
abbrev rmX0_step : Room := { frames := 0, cells := 0, slots := 0, locals := 0 }
set_option maxHeartbeats 4000000 in
set_option maxRecDepth 100000 in
/-- ExactSum.step: one word and what is carried -/
theorem metX0_step (l : Launch) (D : va_G) (dA dB : ClassId) (h0 hw hs sz : Nat) (f g : Nat → Int32) (y z : Int32) (k a b : Nat) (o : Bool) (hk0 : k < 67) (ha0 : a < 4294967296) (hb0 : b ≤ 1) : Met l yX0_step wsX0_step rmX0_step (va_Pc [.ref h0, .int (nI k), .long (lN a), .long (lN b), .int (bI o)] (x_pre D (tAB dA dB) (wX0 h0 hw hs dA dB f g y z) sz)) (va_Ql (fun (r : Int64) (u : va_W) => ∃ (f' : Nat → Int32) (c' : Nat), c' ≤ 1 ∧ r = lN c' ∧ u = wX0 h0 hw hs dA dB f' g y z ∧ (o = false → vW f' 67 + c' * 2 ^ (32 * (k + 1)) = vW f 67 + (a + b) * 2 ^ (32 * k)) ∧ (o = true → vW f' 67 + (a + b) * 2 ^ (32 * k) = vW f 67 + c' * 2 ^ (32 * (k + 1)))) (x_post D (tAB dA dB) (va_A (wX0 h0 hw hs dA dB f g y z) sz)) (va_A (wX0 h0 hw hs dA dB f g y z) sz)) 0 0 (va_A (wX0 h0 hw hs dA dB f g y z) sz) := by
  refine x_met_l (by decide) (Nat.le_of_ble_eq_true rfl) ?_
  intro p e s m below meth c A Q ls hx hb hml hown hts hin hA hK hP hD hS hl hret
  have hown : s.vm.findClass RX0 = some m.cls := hown
  have hl : lv_has ls 11 [(0, .ref h0), (1, .int (nI k)), (2, .long (lN a)), (4, .long (lN b)), (6, .int (bI o))] := hl
  refine lv_iload_n hx hb dX0_step_0 rfl (lv_at hl 1 rfl) ?_
  refine lv_bipush (v := nI 67) hx hb dX0_step_1 (by decide +kernel) ?_
  refine lv_icmp_lt (tgt := 8) hx hb dX0_step_3 (by decide) (fun _ => ?_) (fun c_ => absurd c_ (not_not_intro (nI_lt hk0 (by decide))))
  refine lv_aload_n hx hb dX0_step_8 rfl (lv_at hl 0 rfl) ?_
  refine va_get (D := D) (ci := 0) (v := .ref hw) (C := RX0) (T := TX0) (N := 4) hx hb hts in_X0 hown hK hP 0 rfl rfl 0 (by decide) (hts _ q21) (fun _ h9 => h9) rfl dX0_step_9 ?_
  refine lv_iload_n hx hb dX0_step_12 rfl (lv_at hl 1 rfl) ?_
  refine x_iald hx hb hK hP 1 0 rfl rfl (k := k) (hk0) (by decide) dX0_step_13 ?_
  refine lv_i2l hx hb dX0_step_14 rfl ?_
  refine lv_ldc2 hx hb hown (hts _ q40) dX0_step_15 ?_
  refine x_tol (lN 4294967295) (rfl) ?_
  refine lv_land hx hb dX0_step_18 ?_
  refine x_tol (lN (uI (f k))) (uI_l _) ?_
  refine lv_lstore (lv' := [(7, .long (lN (uI (f k)))), (0, .ref h0), (1, .int (nI k)), (2, .long (lN a)), (4, .long (lN b)), (6, .int (bI o))]) hx hb dX0_step_19 hl (by decide) rfl (fun ls hl => ?_)
  refine lv_iload hx hb dX0_step_21 (lv_at hl 5 rfl) ?_
  cases o
  · refine lv_if_eq (tgt := 36) hx hb dX0_step_23 (by decide) (fun _ => ?_) (fun c_ => absurd c_ (not_not_intro rfl))
    refine lv_lload hx hb dX0_step_36 (lv_at hl 0 rfl) ?_
    refine lv_lload_n hx hb dX0_step_38 rfl (lv_at hl 3 rfl) ?_
    refine lv_ladd hx hb dX0_step_39 ?_
    refine lv_lload hx hb dX0_step_40 (lv_at hl 4 rfl) ?_
    refine lv_ladd hx hb dX0_step_42 ?_
    obtain ⟨w', c', hw', hc', he, h1, h2⟩ := st_in (uI_lt (f k)) ha0 hb0
    refine lv_topl (fun R eR => ?_)
    rw [← eR] at h1 h2
    refine lv_lstore (lv' := [(9, .long R), (7, .long (lN (uI (f k)))), (0, .ref h0), (1, .int (nI k)), (2, .long (lN a)), (4, .long (lN b)), (6, .int (bI false))]) hx hb dX0_step_43 hl (by decide) rfl (fun ls hl => ?_)
    refine lv_aload_n hx hb dX0_step_45 rfl (lv_at hl 2 rfl) ?_
    refine va_get (D := D) (ci := 0) (v := .ref hw) (C := RX0) (T := TX0) (N := 4) hx hb hts in_X0 hown hK hP 0 rfl rfl 0 (by decide) (hts _ q21) (fun _ h9 => h9) rfl dX0_step_46 ?_
    refine lv_iload_n hx hb dX0_step_49 rfl (lv_at hl 3 rfl) ?_
    refine lv_lload hx hb dX0_step_50 (lv_at hl 0 rfl) ?_
    refine lv_l2i hx hb dX0_step_52 rfl ?_
    refine x_toi (nI w') (h1) ?_
    refine x_iast hx hb hK hP hD hS 1 0 rfl rfl (k := k) (hk0) (by decide) dX0_step_53 (fun H locs hP hD hS => ?_)
    have hP : va_P D vwCl (wX0 h0 hw hs dA dB (upd f k (nI w')) g y z) H := hP
    have hD : va_D A (wX0 h0 hw hs dA dB (upd f k (nI w')) g y z) := hD
    refine lv_iload hx hb dX0_step_54 (lv_at hl 6 rfl) ?_
    refine lv_if_eq (tgt := 74) hx hb dX0_step_56 (by decide) (fun _ => ?_) (fun c_ => absurd c_ (not_not_intro rfl))
    refine lv_lload hx hb dX0_step_74 (lv_at hl 0 rfl) ?_
    refine lv_bipush (v := nI 32) hx hb dX0_step_76 (by decide +kernel) ?_
    refine lv_lushr hx hb dX0_step_78 rfl ?_
    refine x_tol (lN c') (h2) ?_
    exact hret (lN c') _ _ _ _ _ _ rfl dX0_step_79 (⟨_, c', hc', rfl, rfl, fun _ => st_valI hk0 hw' he, fun h => Bool.noConfusion h⟩) hK hP hD hS
  · refine lv_if_eq (tgt := 36) hx hb dX0_step_23 (by decide) (fun c_ => absurd c_ (by decide)) (fun _ => ?_)
    refine lv_lload hx hb dX0_step_26 (lv_at hl 0 rfl) ?_
    refine lv_lload_n hx hb dX0_step_28 rfl (lv_at hl 3 rfl) ?_
    refine lv_lsub hx hb dX0_step_29 ?_
    refine lv_lload hx hb dX0_step_30 (lv_at hl 4 rfl) ?_
    refine lv_lsub hx hb dX0_step_32 ?_
    refine lv_goto (tgt := 43) hx hb dX0_step_33 (by decide) ?_
    obtain ⟨w', c', hw', hc', he, h1, h2⟩ := st_out (uI_lt (f k)) ha0 hb0
    refine lv_topl (fun R eR => ?_)
    rw [← eR] at h1 h2
    refine lv_lstore (lv' := [(9, .long R), (7, .long (lN (uI (f k)))), (0, .ref h0), (1, .int (nI k)), (2, .long (lN a)), (4, .long (lN b)), (6, .int (bI true))]) hx hb dX0_step_43 hl (by decide) rfl (fun ls hl => ?_)
    refine lv_aload_n hx hb dX0_step_45 rfl (lv_at hl 2 rfl) ?_
    refine va_get (D := D) (ci := 0) (v := .ref hw) (C := RX0) (T := TX0) (N := 4) hx hb hts in_X0 hown hK hP 0 rfl rfl 0 (by decide) (hts _ q21) (fun _ h9 => h9) rfl dX0_step_46 ?_
    refine lv_iload_n hx hb dX0_step_49 rfl (lv_at hl 3 rfl) ?_
    refine lv_lload hx hb dX0_step_50 (lv_at hl 0 rfl) ?_
    refine lv_l2i hx hb dX0_step_52 rfl ?_
    refine x_toi (nI w') (h1) ?_
    refine x_iast hx hb hK hP hD hS 1 0 rfl rfl (k := k) (hk0) (by decide) dX0_step_53 (fun H locs hP hD hS => ?_)
    have hP : va_P D vwCl (wX0 h0 hw hs dA dB (upd f k (nI w')) g y z) H := hP
    have hD : va_D A (wX0 h0 hw hs dA dB (upd f k (nI w')) g y z) := hD
    refine lv_iload hx hb dX0_step_54 (lv_at hl 6 rfl) ?_
    refine lv_if_eq (tgt := 74) hx hb dX0_step_56 (by decide) (fun c_ => absurd c_ (by decide)) (fun _ => ?_)
    refine lv_lload hx hb dX0_step_59 (lv_at hl 0 rfl) ?_
    refine lv_lconst (v := lN 0) hx hb dX0_step_61 (by decide +kernel) ?_
    refine W.lcmp hx hb dX0_step_62 ?_
    refine lv_if_ge (tgt := 70) hx hb dX0_step_63 (by decide) (fun c1 => ?_) (fun c1 => ?_)
    · refine lv_lconst (v := lN 0) hx hb dX0_step_70 (by decide +kernel) ?_
      refine lv_goto (tgt := 79) hx hb dX0_step_71 (by decide) ?_
      exact hret (lN 0) _ _ _ _ _ _ rfl dX0_step_79 (⟨_, c', hc', by rw [h2.mp ((lg_cmp_ge _ _).mp c1)], rfl, fun h => Bool.noConfusion h, fun _ => st_valO hk0 hw' he⟩) hK hP hD hS
    · refine lv_lconst (v := lN 1) hx hb dX0_step_66 (by decide +kernel) ?_
      refine lv_goto (tgt := 79) hx hb dX0_step_67 (by decide) ?_
      have hc1 : c' = 1 := by
        rcases (show c' = 0 ∨ c' = 1 by omega) with q | q
        · exact absurd ((lg_cmp_ge _ _).mpr (h2.mpr q)) c1
        · exact q
      exact hret (lN 1) _ _ _ _ _ _ rfl dX0_step_79 (⟨_, c', hc', by rw [hc1], rfl, fun h => Bool.noConfusion h, fun _ => st_valO hk0 hw' he⟩) hK hP hD hS
abbrev wsX0_many : List Cond := ws_ yX0_many cX0_many 1 (some .int)
abbrev rmX0_many : Room := { frames := 0, cells := 0, slots := 0, locals := 0 }
set_option maxHeartbeats 4000000 in
set_option maxRecDepth 100000 in
/-- ExactSum.many -/
theorem metX0_many (l : Launch) (D : va_G) (dA dB : ClassId) (h0 hw hs sz : Nat) (f g : Nat → Int32) (y z : Int32)   : Met l yX0_many wsX0_many rmX0_many (va_Pc [.ref h0] (x_pre D (tAB dA dB) (wX0 h0 hw hs dA dB f g y z) sz)) (va_Qi (fun (r : Int32) (u : va_W) => r = y ∧ u = wX0 h0 hw hs dA dB f g y z) (x_post D (tAB dA dB) (va_A (wX0 h0 hw hs dA dB f g y z) sz)) (va_A (wX0 h0 hw hs dA dB f g y z) sz)) 0 0 (va_A (wX0 h0 hw hs dA dB f g y z) sz) := by
  refine x_met_i (by decide) (Nat.le_of_ble_eq_true rfl) ?_
  intro p e s m below meth c A Q ls hx hb hml hown hts hin hA hK hP hD hS hl hret
  have hown : s.vm.findClass RX0 = some m.cls := hown
  have hl : lv_has ls 1 [(0, .ref h0)] := hl
  refine lv_aload_n hx hb dX0_many_0 rfl (lv_at hl 0 rfl) ?_
  refine va_get (D := D) (ci := 0) (v := .int y) (C := RX0) (T := TX0) (N := 4) hx hb hts in_X0 hown hK hP 0 rfl rfl 2 (by decide) (hts _ q23) (fun _ h9 => h9) rfl dX0_many_1 ?_
  exact hret y _ _ _ _ _ _ rfl dX0_many_4 (⟨rfl, rfl⟩) hK hP hD hS
abbrev wsX0_bit : List Cond := ws_ yX0_bit cX0_bit 2 (some .int)
abbrev rmX0_bit : Room := { frames := 0, cells := 0, slots := 0, locals := 0 }
set_option maxHeartbeats 4000000 in
set_option maxRecDepth 100000 in
/-- ExactSum.bit -/
theorem metX0_bit (l : Launch) (D : va_G) (dA dB : ClassId) (h0 hw hs sz : Nat) (f g : Nat → Int32) (y z : Int32) (n : Nat) (hn0 : n < 2144) : Met l yX0_bit wsX0_bit rmX0_bit (va_Pc [.ref h0, .int (nI n)] (x_pre D (tAB dA dB) (wX0 h0 hw hs dA dB f g y z) sz)) (va_Qi (fun (r : Int32) (u : va_W) => r = nI (vW g 67 / 2 ^ n % 2) ∧ u = wX0 h0 hw hs dA dB f g y z) (x_post D (tAB dA dB) (va_A (wX0 h0 hw hs dA dB f g y z) sz)) (va_A (wX0 h0 hw hs dA dB f g y z) sz)) 0 0 (va_A (wX0 h0 hw hs dA dB f g y z) sz) := by
  refine x_met_i (by decide) (Nat.le_of_ble_eq_true rfl) ?_
  intro p e s m below meth c A Q ls hx hb hml hown hts hin hA hK hP hD hS hl hret
  have hown : s.vm.findClass RX0 = some m.cls := hown
  have hl : lv_has ls 2 [(0, .ref h0), (1, .int (nI n))] := hl
  refine lv_aload_n hx hb dX0_bit_0 rfl (lv_at hl 0 rfl) ?_
  refine va_get (D := D) (ci := 0) (v := .ref hs) (C := RX0) (T := TX0) (N := 4) hx hb hts in_X0 hown hK hP 0 rfl rfl 1 (by decide) (hts _ q22) (fun _ h9 => h9) rfl dX0_bit_1 ?_
  refine lv_iload_n hx hb dX0_bit_4 rfl (lv_at hl 1 rfl) ?_
  refine lv_iconst (v := nI 5) hx hb dX0_bit_5 (by decide +kernel) ?_
  refine lv_ishr hx hb dX0_bit_6 ?_
  refine x_toi (nI (n / 32)) (pk_shrN (by omega) _ 5 (by decide)) ?_
  refine x_iald hx hb hK hP 2 1 rfl rfl (k := (n / 32)) (by omega) (by decide) dX0_bit_7 ?_
  refine lv_iload_n hx hb dX0_bit_8 rfl (lv_at hl 1 rfl) ?_
  refine lv_bipush (v := nI 31) hx hb dX0_bit_9 (by decide +kernel) ?_
  refine lv_iand hx hb dX0_bit_11 ?_
  refine x_toi (nI (n % 32)) (pk_andN (by omega) 5 (by decide)) ?_
  refine lv_iushr hx hb dX0_bit_12 rfl ?_
  refine lv_iconst (v := nI 1) hx hb dX0_bit_13 (by decide +kernel) ?_
  refine lv_iand hx hb dX0_bit_14 ?_
  refine x_toi (nI (vW g 67 / 2 ^ n % 2)) (bit0_eq g hn0) ?_
  exact hret (nI (vW g 67 / 2 ^ n % 2)) _ _ _ _ _ _ rfl dX0_bit_15 (⟨rfl, rfl⟩) hK hP hD hS
theorem nI_mod0 {r : Nat} (h : r < 4294967296) : nI r = 0 ↔ r = 0 := by rw [uI_0, uI_nI h]
abbrev wsX0_highest : List Cond := ws_ yX0_highest cX0_highest 3 (some .int)
abbrev rmX0_highest : Room := { frames := 0, cells := 0, slots := 0, locals := 0 }
set_option maxHeartbeats 4000000 in
set_option maxRecDepth 100000 in
/-- ExactSum.highest -/
theorem metX0_highest (l : Launch) (D : va_G) (dA dB : ClassId) (h0 hw hs sz : Nat) (f g : Nat → Int32) (y z : Int32) (x : Int32) (hx0 : uI x ≠ 0) : Met l yX0_highest wsX0_highest rmX0_highest (va_Pc [.int x] (x_pre D (tAB dA dB) (wX0 h0 hw hs dA dB f g y z) sz)) (va_Qi (fun (r : Int32) (u : va_W) => r = nI (uI x).log2 ∧ u = wX0 h0 hw hs dA dB f g y z) (x_post D (tAB dA dB) (va_A (wX0 h0 hw hs dA dB f g y z) sz)) (va_A (wX0 h0 hw hs dA dB f g y z) sz)) 0 0 (va_A (wX0 h0 hw hs dA dB f g y z) sz) := by
  refine x_met_i (by decide) (Nat.le_of_ble_eq_true rfl) ?_
  intro p e s m below meth c A Q ls hx hb hml hown hts hin hA hK hP hD hS hl hret
  have hown : s.vm.findClass RX0 = some m.cls := hown
  have hl : lv_has ls 3 [(0, .int x)] := hl
  refine lv_iconst (v := nI 0) hx hb dX0_highest_0 (by decide +kernel) ?_
  refine lv_istore_n (lv' := [(1, .int (nI 0)), (0, .int x)]) hx hb dX0_highest_1 rfl hl (by decide) rfl (fun ls hl => ?_)
  refine lv_iload_n hx hb dX0_highest_2 rfl (lv_at hl 1 rfl) ?_
  refine lv_iconst (v := nI 1) hx hb dX0_highest_3 (by decide +kernel) ?_
  refine lv_iushr hx hb dX0_highest_4 rfl ?_
  refine x_toi (nI (uI x / 2)) (ushr_1 x) ?_
  refine lv_istore_n (lv' := [(2, .int (nI (uI x / 2))), (1, .int (nI 0)), (0, .int x)]) hx hb dX0_highest_5 rfl hl (by decide) rfl (fun ls hl => ?_)
  have loop : ∀ (r n : Nat) (ls : Array Slot), r < 4294967296 → n + szN r = (uI x).log2 → lv_has ls 3 [(2, .int (nI r)), (1, .int (nI n))] → W p l e rmX0_highest s m ([.int x] : List Value).toArray below meth c s.heap [] 0 0 Q (F0 m 6 ls []) := by
    intro r
    induction r using Nat.strongRecOn with
    | _ r ih =>
      intro n ls hr hn hl
      refine lv_iload_n hx hb dX0_highest_6 rfl (lv_at hl 0 rfl) ?_
      refine lv_if_eq (tgt := 20) hx hb dX0_highest_7 (by decide) (fun c1 => ?_) (fun c1 => ?_)
      · have hr0 : r = 0 := (nI_mod0 hr).mp c1
        subst hr0
        refine lv_iload_n hx hb dX0_highest_20 rfl (lv_at hl 1 rfl) ?_
        refine x_toi (nI (uI x).log2) (by rw [← hn]; rfl) ?_
        exact hret (nI (uI x).log2) _ _ _ _ _ _ rfl dX0_highest_21 (⟨rfl, rfl⟩) hK hP hD hS
      · have hr0 : r ≠ 0 := fun q => c1 ((nI_mod0 hr).mpr q)
        refine lv_iinc (v := nI (n + 1)) (lv' := [(1, .int (nI (n + 1))), (2, .int (nI r))]) hx hb dX0_highest_10 hl (k := 1) rfl (by rw [nI_succ]; rfl) (by decide) rfl (fun ls hl => ?_)
        refine lv_iload_n hx hb dX0_highest_13 rfl (lv_at hl 1 rfl) ?_
        refine lv_iconst (v := nI 1) hx hb dX0_highest_14 (by decide +kernel) ?_
        refine lv_iushr hx hb dX0_highest_15 rfl ?_
        refine x_toi (nI (r / 2)) (pk_ushrN hr _ 1 (by decide)) ?_
        refine lv_istore_n (lv' := [(2, .int (nI (r / 2))), (1, .int (nI (n + 1)))]) hx hb dX0_highest_16 rfl hl (by decide) rfl (fun ls hl => ?_)
        refine lv_goto (tgt := 6) hx hb dX0_highest_17 (by decide) ?_
        exact ih (r / 2) (by omega) (n + 1) ls (by omega) (by have := szN_half hr0; omega) (lv_sub hl [0, 1] rfl)
  exact loop (uI x / 2) 0 ls (by have := uI_lt x; omega) (by rw [szN_log hx0]; omega) (lv_sub hl [0, 1] rfl)
abbrev wsX0_wipe : List Cond := ws_ yX0_wipe cX0_wipe 2 none
abbrev rmX0_wipe : Room := { frames := 0, cells := 0, slots := 0, locals := 0 }
set_option maxHeartbeats 4000000 in
set_option maxRecDepth 100000 in
/-- ExactSum.wipe -/
theorem metX0_wipe (l : Launch) (D : va_G) (dA dB : ClassId) (h0 hw hs sz : Nat) (f g : Nat → Int32) (y z : Int32)   : Met l yX0_wipe wsX0_wipe rmX0_wipe (va_Pc [.ref h0] (x_pre D (tAB dA dB) (wX0 h0 hw hs dA dB f g y z) sz)) (va_Qv (fun (u : va_W) => ∃ f' : Nat → Int32, u = wX0 h0 hw hs dA dB f' g 0 0 ∧ vW f' 67 = 0) (x_post D (tAB dA dB) (va_A (wX0 h0 hw hs dA dB f g y z) sz)) (va_A (wX0 h0 hw hs dA dB f g y z) sz)) 0 0 (va_A (wX0 h0 hw hs dA dB f g y z) sz) := by
  refine x_met_v (by decide) (Nat.le_of_ble_eq_true rfl) ?_
  intro p e s m below meth c A Q ls hx hb hml hown hts hin hA hK hP hD hS hl hret
  have hown : s.vm.findClass RX0 = some m.cls := hown
  have hl : lv_has ls 2 [(0, .ref h0)] := hl
  refine lv_iconst (v := nI 0) hx hb dX0_wipe_0 (by decide +kernel) ?_
  refine lv_istore_n (lv' := [(1, .int (nI 0)), (0, .ref h0)]) hx hb dX0_wipe_1 rfl hl (by decide) rfl (fun ls hl => ?_)
  have loop : ∀ (n i : Nat) (f : Nat → Int32) (H : Heap) (locs : List Loc) (ls : Array Slot), i + n = 67 → vW f i = 0 → va_P D vwCl (wX0 h0 hw hs dA dB f g y z) H → va_D A (wX0 h0 hw hs dA dB f g y z) → va_S A s.heap H locs → lv_has ls 2 [(0, .ref h0), (1, .int (nI i))] → W p l e rmX0_wipe s m ([.ref h0] : List Value).toArray below meth c H locs 0 0 Q (F0 m 2 ls []) := by
    intro n
    induction n with
    | zero =>
      intro i f H locs ls hi hv hP hD hS hl
      have hi : i = 67 := by omega
      subst hi
      refine lv_iload_n hx hb dX0_wipe_2 rfl (lv_at hl 1 rfl) ?_
      refine lv_bipush (v := nI 67) hx hb dX0_wipe_3 (by decide +kernel) ?_
      refine lv_icmp_ge (tgt := 21) hx hb dX0_wipe_5 (by decide) (fun _ => ?_) (fun c_ => absurd c_ (not_not_intro (nI_le (Nat.le_refl _) (by decide))))
      refine lv_aload_n hx hb dX0_wipe_21 rfl (lv_at hl 0 rfl) ?_
      refine lv_iconst (v := nI 0) hx hb dX0_wipe_22 (by decide +kernel) ?_
      refine va_put (D := D) (ci := 0) (v := .int (nI 0)) (ty := .int) (C := RX0) (T := TX0) (N := 4) hx hb hts in_X0 tyX0 tyX0_ok nmX0 hown hK hP hD hS 0 rfl rfl 2 (by decide) (hts _ q23) (fun _ h9 => h9) rfl (by decide +kernel) (rfl) (rfl) (Nat.le_of_ble_eq_true rfl) dX0_wipe_23 (fun H locs hP hD hS => ?_)
      have hP : va_P D vwCl (wX0 h0 hw hs dA dB f g (nI 0) z) H := hP
      have hD : va_D A (wX0 h0 hw hs dA dB f g (nI 0) z) := hD
      refine lv_aload_n hx hb dX0_wipe_26 rfl (lv_at hl 0 rfl) ?_
      refine lv_iconst (v := nI 0) hx hb dX0_wipe_27 (by decide +kernel) ?_
      refine va_put (D := D) (ci := 0) (v := .int (nI 0)) (ty := .int) (C := RX0) (T := TX0) (N := 4) hx hb hts in_X0 tyX0 tyX0_ok nmX0 hown hK hP hD hS 0 rfl rfl 3 (by decide) (hts _ q24) (fun _ h9 => h9) rfl (by decide +kernel) (rfl) (rfl) (Nat.le_of_ble_eq_true rfl) dX0_wipe_28 (fun H locs hP hD hS => ?_)
      have hP : va_P D vwCl (wX0 h0 hw hs dA dB f g (nI 0) (nI 0)) H := hP
      have hD : va_D A (wX0 h0 hw hs dA dB f g (nI 0) (nI 0)) := hD
      exact hret _ _ _ _ _ _ rfl dX0_wipe_31 (⟨f, rfl, hv⟩) hK hP hD hS
    | succ n ih =>
      intro i f H locs ls hi hv hP hD hS hl
      refine lv_iload_n hx hb dX0_wipe_2 rfl (lv_at hl 1 rfl) ?_
      refine lv_bipush (v := nI 67) hx hb dX0_wipe_3 (by decide +kernel) ?_
      refine lv_icmp_ge (tgt := 21) hx hb dX0_wipe_5 (by decide) (fun c_ => absurd c_ (nI_ge (by omega) (by decide))) (fun _ => ?_)
      refine lv_aload_n hx hb dX0_wipe_8 rfl (lv_at hl 0 rfl) ?_
      refine va_get (D := D) (ci := 0) (v := .ref hw) (C := RX0) (T := TX0) (N := 4) hx hb hts in_X0 hown hK hP 0 rfl rfl 0 (by decide) (hts _ q21) (fun _ h9 => h9) rfl dX0_wipe_9 ?_
      refine lv_iload_n hx hb dX0_wipe_12 rfl (lv_at hl 1 rfl) ?_
      refine lv_iconst (v := nI 0) hx hb dX0_wipe_13 (by decide +kernel) ?_
      refine x_iast hx hb hK hP hD hS 1 0 rfl rfl (k := i) (by omega) (by decide) dX0_wipe_14 (fun H locs hP hD hS => ?_)
      have hP : va_P D vwCl (wX0 h0 hw hs dA dB (upd f i (nI 0)) g y z) H := hP
      have hD : va_D A (wX0 h0 hw hs dA dB (upd f i (nI 0)) g y z) := hD
      refine lv_iinc (v := nI (i + 1)) (lv' := [(1, .int (nI (i + 1))), (0, .ref h0)]) hx hb dX0_wipe_15 hl (k := 1) rfl (by rw [nI_succ]; rfl) (by decide) rfl (fun ls hl => ?_)
      refine lv_goto (tgt := 2) hx hb dX0_wipe_18 (by decide) ?_
      exact ih (i + 1) _ H locs ls (by omega) (by rw [vW_s, vW_updlo (Nat.le_refl _), hv, pk_us]; simp [uI_nI]) hP hD hS (lv_sub hl [1, 0] rfl)
  exact loop 67 0 f _ _ ls rfl rfl hP hD hS (lv_sub hl [1, 0] rfl)
end
section
theorem lo32 (n : Nat) : lN n &&& lN 4294967295 = lN (n % 4294967296) := by
  rw [lN_mod n]
  have h := g_mask (a := n % 18446744073709551616) (s := 32) (p := 4294967296) rfl (by decide) (Nat.mod_lt _ (by decide))
  refine h.trans ?_
  congr 1
  omega
theorem hi32 (n : Nat) : ((lN n).toUInt64 >>> ((nI 32).toInt64.toUInt64 &&& Int64.toUInt64 63)).toInt64 = lN (n % 18446744073709551616 / 4294967296) := by
  rw [lN_mod n, wb_shr (Nat.mod_lt _ (by decide)) (by decide)]
theorem tk_hi {mm b : Nat} (hm : mm < 9007199254740992) (hb : b < 32) : mm * 2 ^ b / 18446744073709551616 < 4294967296 := by
  have h1 : 2 ^ b ≤ 2 ^ 31 := Nat.pow_le_pow_right (by decide) (by omega)
  have h2 : mm * 2 ^ b ≤ 9007199254740992 * 2 ^ 31 := Nat.mul_le_mul (by omega) h1
  omega
theorem tk_div {mm b : Nat} (hb : b < 32) : mm / 2 ^ (64 - b) = mm * 2 ^ b / 18446744073709551616 := by
  rw [show 18446744073709551616 = 2 ^ (64 - b) * 2 ^ b by rw [← Nat.pow_add, show 64 - b + b = 64 by omega], Nat.mul_div_mul_right _ _ (Nat.two_pow_pos b)]
theorem tk_pow (mm sh : Nat) : mm * 2 ^ (sh % 32) * 2 ^ (32 * (sh / 32)) = mm * 2 ^ sh := by
  rw [Nat.mul_assoc, ← Nat.pow_add, show sh % 32 + 32 * (sh / 32) = sh by omega]
theorem tk_q (k : Nat) : 2 ^ (32 * (k + 1)) = 4294967296 * 2 ^ (32 * k) := by rw [Nat.mul_succ, Nat.pow_add, Nat.mul_comm]
theorem tk_in {V0 V1 V2 V3 c1 c2 c3 k X : Nat} (e1 : V1 + c1 * 2 ^ (32 * (k + 1)) = V0 + (X % 4294967296 + 0) * 2 ^ (32 * k)) (e2 : V2 + c2 * 2 ^ (32 * (k + 1 + 1)) = V1 + (X % 18446744073709551616 / 4294967296 + c1) * 2 ^ (32 * (k + 1))) (e3 : V3 + c3 * 2 ^ (32 * (k + 2 + 1)) = V2 + (X / 18446744073709551616 + c2) * 2 ^ (32 * (k + 2))) : V3 + c3 * 2 ^ (32 * (k + 3)) = V0 + X * 2 ^ (32 * k) := by
  have hX : X = X % 4294967296 + X % 18446744073709551616 / 4294967296 * 4294967296 + X / 18446744073709551616 * 18446744073709551616 := by omega
  have h1 := tk_q k
  have h2 := tk_q (k + 1)
  rw [show k + 2 = k + 1 + 1 from rfl] at e3
  rw [show k + 3 = k + 1 + 1 + 1 from rfl]
  generalize 2 ^ (32 * (k + 1 + 1 + 1)) = q3 at e3 ⊢
  generalize 2 ^ (32 * (k + 1 + 1)) = q2 at e2 e3 h2
  generalize 2 ^ (32 * (k + 1)) = q1 at e1 e2 h1 h2
  generalize 2 ^ (32 * k) = q0 at e1 h1 ⊢
  rw [hX]
  generalize X % 4294967296 = P0 at e1 ⊢
  generalize X % 18446744073709551616 / 4294967296 = P1 at e2 ⊢
  generalize X / 18446744073709551616 = P2 at e3 ⊢
  subst h1
  subst h2
  simp only [Nat.add_mul, Nat.mul_assoc, Nat.zero_mul, Nat.add_zero] at e1 e2 e3 ⊢
  have a1 : c1 * (4294967296 * q0) = 4294967296 * (c1 * q0) := Nat.mul_left_comm _ _ _
  have a2 : c2 * (4294967296 * (4294967296 * q0)) = 4294967296 * (4294967296 * (c2 * q0)) := by rw [Nat.mul_left_comm, Nat.mul_left_comm c2]
  have a3 : P1 * (4294967296 * q0) = 4294967296 * (P1 * q0) := Nat.mul_left_comm _ _ _
  have a4 : P2 * (4294967296 * (4294967296 * q0)) = 4294967296 * (4294967296 * (P2 * q0)) := by rw [Nat.mul_left_comm, Nat.mul_left_comm P2]
  have a5 : P2 * (18446744073709551616 * q0) = 18446744073709551616 * (P2 * q0) := Nat.mul_left_comm _ _ _
  omega
theorem tk_out {V0 V1 V2 V3 c1 c2 c3 k X : Nat} (e1 : V1 + (X % 4294967296 + 0) * 2 ^ (32 * k) = V0 + c1 * 2 ^ (32 * (k + 1))) (e2 : V2 + (X % 18446744073709551616 / 4294967296 + c1) * 2 ^ (32 * (k + 1)) = V1 + c2 * 2 ^ (32 * (k + 1 + 1))) (e3 : V3 + (X / 18446744073709551616 + c2) * 2 ^ (32 * (k + 2)) = V2 + c3 * 2 ^ (32 * (k + 2 + 1))) : V3 + X * 2 ^ (32 * k) = V0 + c3 * 2 ^ (32 * (k + 3)) := by
  have hX : X = X % 4294967296 + X % 18446744073709551616 / 4294967296 * 4294967296 + X / 18446744073709551616 * 18446744073709551616 := by omega
  have h1 := tk_q k
  have h2 := tk_q (k + 1)
  rw [show k + 2 = k + 1 + 1 from rfl] at e3
  rw [show k + 3 = k + 1 + 1 + 1 from rfl]
  generalize 2 ^ (32 * (k + 1 + 1 + 1)) = q3 at e3 ⊢
  generalize 2 ^ (32 * (k + 1 + 1)) = q2 at e2 e3 h2
  generalize 2 ^ (32 * (k + 1)) = q1 at e1 e2 h1 h2
  generalize 2 ^ (32 * k) = q0 at e1 h1 ⊢
  rw [hX]
  generalize X % 4294967296 = P0 at e1 ⊢
  generalize X % 18446744073709551616 / 4294967296 = P1 at e2 ⊢
  generalize X / 18446744073709551616 = P2 at e3 ⊢
  subst h1
  subst h2
  simp only [Nat.add_mul, Nat.mul_assoc, Nat.zero_mul, Nat.add_zero] at e1 e2 e3 ⊢
  have a1 : c1 * (4294967296 * q0) = 4294967296 * (c1 * q0) := Nat.mul_left_comm _ _ _
  have a2 : c2 * (4294967296 * (4294967296 * q0)) = 4294967296 * (4294967296 * (c2 * q0)) := by rw [Nat.mul_left_comm, Nat.mul_left_comm c2]
  have a3 : P1 * (4294967296 * q0) = 4294967296 * (P1 * q0) := Nat.mul_left_comm _ _ _
  have a4 : P2 * (4294967296 * (4294967296 * q0)) = 4294967296 * (4294967296 * (P2 * q0)) := by rw [Nat.mul_left_comm, Nat.mul_left_comm P2]
  have a5 : P2 * (18446744073709551616 * q0) = 18446744073709551616 * (P2 * q0) := Nat.mul_left_comm _ _ _
  omega

abbrev wsX0_take : List Cond := ws_ yX0_take cX0_take 14 none
abbrev rmX0_take : Room := { frames := 1, cells := 0, slots := 0, locals := 30 }
set_option maxHeartbeats 4000000 in
set_option maxRecDepth 100000 in
/-- ExactSum.take: mm * 2^sh comes in or goes out -/
theorem metX0_take (l : Launch) (D : va_G) (dA dB : ClassId) (h0 hw hs sz : Nat) (f g : Nat → Int32) (y z : Int32) (mm sh : Nat) (o : Bool) (hm0 : mm < 9007199254740992) (hs0 : sh ≤ 2045) : Met l yX0_take wsX0_take rmX0_take (va_Pc [.ref h0, .long (lN mm), .int (nI sh), .int (bI o)] (x_pre D (tAB dA dB) (wX0 h0 hw hs dA dB f g y z) sz)) (va_Qv (fun (u : va_W) => ∃ (f' : Nat → Int32) (c' : Nat), c' ≤ 1 ∧ u = wX0 h0 hw hs dA dB f' g y z ∧ (o = false → vW f' 67 + c' * 2 ^ (32 * 67) = vW f 67 + mm * 2 ^ sh) ∧ (o = true → vW f' 67 + mm * 2 ^ sh = vW f 67 + c' * 2 ^ (32 * 67))) (x_post D (tAB dA dB) (va_A (wX0 h0 hw hs dA dB f g y z) sz)) (va_A (wX0 h0 hw hs dA dB f g y z) sz)) 0 0 (va_A (wX0 h0 hw hs dA dB f g y z) sz) := by
  refine x_met_v (by decide) (Nat.le_of_ble_eq_true rfl) ?_
  intro p e s m below meth c A Q ls hx hb hml hown hts hin hA hK hP hD hS hl hret
  have hown : s.vm.findClass RX0 = some m.cls := hown
  have hl : lv_has ls 14 [(0, .ref h0), (1, .long (lN mm)), (3, .int (nI sh)), (4, .int (bI o))] := hl
  have hb0 : sh % 32 < 32 := Nat.mod_lt _ (by decide)
  refine lv_iload_n hx hb dX0_take_0 rfl (lv_at hl 2 rfl) ?_
  refine lv_iconst (v := nI 5) hx hb dX0_take_1 (by decide +kernel) ?_
  refine lv_ishr hx hb dX0_take_2 ?_
  refine x_toi (nI (sh / 32)) (pk_shrN (by omega) _ 5 (by decide)) ?_
  refine lv_istore (lv' := [(5, .int (nI (sh / 32))), (0, .ref h0), (1, .long (lN mm)), (3, .int (nI sh)), (4, .int (bI o))]) hx hb dX0_take_3 hl (by decide) rfl (fun ls hl => ?_)
  refine lv_iload_n hx hb dX0_take_5 rfl (lv_at hl 3 rfl) ?_
  refine lv_bipush (v := nI 31) hx hb dX0_take_6 (by decide +kernel) ?_
  refine lv_iand hx hb dX0_take_8 ?_
  refine x_toi (nI (sh % 32)) (pk_andN (by omega) 5 (by decide)) ?_
  refine lv_istore (lv' := [(6, .int (nI (sh % 32))), (5, .int (nI (sh / 32))), (0, .ref h0), (1, .long (lN mm)), (3, .int (nI sh)), (4, .int (bI o))]) hx hb dX0_take_9 hl (by decide) rfl (fun ls hl => ?_)
  refine lv_lload_n hx hb dX0_take_11 rfl (lv_at hl 3 rfl) ?_
  refine lv_iload hx hb dX0_take_12 (lv_at hl 0 rfl) ?_
  refine lv_lshl hx hb dX0_take_14 rfl ?_
  refine x_tol (lN (mm * 2 ^ (sh % 32))) (wb_shl _ (by omega)) ?_
  refine lv_lstore (lv' := [(7, .long (lN (mm * 2 ^ (sh % 32)))), (6, .int (nI (sh % 32))), (5, .int (nI (sh / 32))), (0, .ref h0), (1, .long (lN mm)), (3, .int (nI sh)), (4, .int (bI o))]) hx hb dX0_take_15 hl (by decide) rfl (fun ls hl => ?_)
  refine lv_iload hx hb dX0_take_17 (lv_at hl 1 rfl) ?_
  obtain ⟨X, eX⟩ : ∃ X, X = mm * 2 ^ (sh % 32) := ⟨_, rfl⟩
  rw [← eX] at hl
  have K33 : ∀ (ls : Array Slot), lv_has ls 14 [(7, .long (lN (X))), (6, .int (nI (sh % 32))), (5, .int (nI (sh / 32))), (0, .ref h0), (1, .long (lN mm)), (3, .int (nI sh)), (4, .int (bI o))] → W p l e rmX0_take s m ([.ref h0, .long (lN mm), .int (nI sh), .int (bI o)] : List Value).toArray below meth c s.heap [] 0 0 Q (F0 m 33 ls [.long (lN (X / 18446744073709551616))]) := by
    intro ls hl
    refine lv_lstore (lv' := [(9, .long (lN (X / 18446744073709551616))), (7, .long (lN (X))), (6, .int (nI (sh % 32))), (5, .int (nI (sh / 32))), (0, .ref h0), (1, .long (lN mm)), (3, .int (nI sh)), (4, .int (bI o))]) hx hb dX0_take_33 hl (by decide) rfl (fun ls hl => ?_)
    refine lv_aload_n hx hb dX0_take_35 rfl (lv_at hl 4 rfl) ?_
    refine lv_iload hx hb dX0_take_36 (lv_at hl 3 rfl) ?_
    refine lv_lload hx hb dX0_take_38 (lv_at hl 1 rfl) ?_
    refine lv_ldc2 hx hb hown (hts _ q40) dX0_take_40 ?_
    refine x_tol (lN 4294967295) (rfl) ?_
    refine lv_land hx hb dX0_take_43 ?_
    refine x_tol (lN (X % 4294967296)) (lo32 _) ?_
    refine lv_lconst (v := lN 0) hx hb dX0_take_44 (by decide +kernel) ?_
    refine lv_iload hx hb dX0_take_45 (lv_at hl 7 rfl) ?_
    refine x_call_l (As := [.int (nI (sh / 32)), .long (lN (X % 4294967296)), .long (lN 0), .int (bI o)]) (rest := []) (ci := 0) (q0 := 0) ⟨hx, hb, hml, hown, hts⟩ (metX0_step l D dA dB h0 hw hs _ f g y z (sh / 32) (X % 4294967296) 0 o (by omega) (by omega) (by omega)) (cwV 4 hts (lw_V q46 q48 qs1 q11 q49) rfl rfl rfl (by decide +kernel) ⟨Nat.le_of_ble_eq_true rfl, Nat.le_of_ble_eq_true rfl⟩) hK hP hD hS hA rfl rfl rfl hl.1 rfl (Nat.le_of_ble_eq_true rfl) dX0_take_47 ⟨Nat.le_refl _, Nat.le_refl _⟩ (fun r u H locs hp1 hP hD hS => ?_)
    obtain ⟨f1, c1, hc1, rfl, rfl, i1, o1⟩ := hp1
    refine lv_lstore (lv' := [(11, .long (lN c1)), (9, .long (lN (X / 18446744073709551616))), (7, .long (lN (X))), (6, .int (nI (sh % 32))), (5, .int (nI (sh / 32))), (0, .ref h0), (1, .long (lN mm)), (3, .int (nI sh)), (4, .int (bI o))]) hx hb dX0_take_50 hl (by decide) rfl (fun ls hl => ?_)
    refine lv_aload_n hx hb dX0_take_52 rfl (lv_at hl 5 rfl) ?_
    refine lv_iload hx hb dX0_take_53 (lv_at hl 4 rfl) ?_
    refine lv_iconst (v := nI 1) hx hb dX0_take_55 (by decide +kernel) ?_
    refine lv_iadd hx hb dX0_take_56 ?_
    refine x_toi (nI (sh / 32 + 1)) (nI_add _ _) ?_
    refine lv_lload hx hb dX0_take_57 (lv_at hl 2 rfl) ?_
    refine lv_bipush (v := nI 32) hx hb dX0_take_59 (by decide +kernel) ?_
    refine lv_lushr hx hb dX0_take_61 rfl ?_
    refine x_tol (lN (X % 18446744073709551616 / 4294967296)) (hi32 _) ?_
    refine lv_lload hx hb dX0_take_62 (lv_at hl 0 rfl) ?_
    refine lv_iload hx hb dX0_take_64 (lv_at hl 8 rfl) ?_
    refine x_call_l (As := [.int (nI (sh / 32 + 1)), .long (lN (X % 18446744073709551616 / 4294967296)), .long (lN c1), .int (bI o)]) (rest := []) (ci := 0) (q0 := 0) ⟨hx, hb, hml, hown, hts⟩ (metX0_step l D dA dB h0 hw hs _ f1 g y z (sh / 32 + 1) (X % 18446744073709551616 / 4294967296) c1 o (by omega) (by omega) hc1) (cwV 4 hts (lw_V q46 q48 qs1 q11 q49) rfl rfl rfl (by decide +kernel) ⟨Nat.le_of_ble_eq_true rfl, Nat.le_of_ble_eq_true rfl⟩) hK hP hD hS hA rfl rfl rfl hl.1 rfl (Nat.le_of_ble_eq_true rfl) dX0_take_66 ⟨Nat.le_refl _, Nat.le_refl _⟩ (fun r u H locs hp2 hP hD hS => ?_)
    obtain ⟨f2, c2, hc2, rfl, rfl, i2, o2⟩ := hp2
    refine lv_lstore (lv' := [(11, .long (lN c2)), (9, .long (lN (X / 18446744073709551616))), (7, .long (lN (X))), (6, .int (nI (sh % 32))), (5, .int (nI (sh / 32))), (0, .ref h0), (1, .long (lN mm)), (3, .int (nI sh)), (4, .int (bI o))]) hx hb dX0_take_69 hl (by decide) rfl (fun ls hl => ?_)
    refine lv_aload_n hx hb dX0_take_71 rfl (lv_at hl 5 rfl) ?_
    refine lv_iload hx hb dX0_take_72 (lv_at hl 4 rfl) ?_
    refine lv_iconst (v := nI 2) hx hb dX0_take_74 (by decide +kernel) ?_
    refine lv_iadd hx hb dX0_take_75 ?_
    refine x_toi (nI (sh / 32 + 2)) (nI_add _ _) ?_
    refine lv_lload hx hb dX0_take_76 (lv_at hl 1 rfl) ?_
    refine lv_lload hx hb dX0_take_78 (lv_at hl 0 rfl) ?_
    refine lv_iload hx hb dX0_take_80 (lv_at hl 8 rfl) ?_
    refine x_call_l (As := [.int (nI (sh / 32 + 2)), .long (lN (X / 18446744073709551616)), .long (lN c2), .int (bI o)]) (rest := []) (ci := 0) (q0 := 0) ⟨hx, hb, hml, hown, hts⟩ (metX0_step l D dA dB h0 hw hs _ f2 g y z (sh / 32 + 2) (X / 18446744073709551616) c2 o (by omega) (by rw [eX]; exact tk_hi hm0 hb0) hc2) (cwV 4 hts (lw_V q46 q48 qs1 q11 q49) rfl rfl rfl (by decide +kernel) ⟨Nat.le_of_ble_eq_true rfl, Nat.le_of_ble_eq_true rfl⟩) hK hP hD hS hA rfl rfl rfl hl.1 rfl (Nat.le_of_ble_eq_true rfl) dX0_take_82 ⟨Nat.le_refl _, Nat.le_refl _⟩ (fun r u H locs hp3 hP hD hS => ?_)
    obtain ⟨f3, c3, hc3, rfl, rfl, i3, o3⟩ := hp3
    refine lv_lstore (lv' := [(11, .long (lN c3)), (9, .long (lN (X / 18446744073709551616))), (7, .long (lN (X))), (6, .int (nI (sh % 32))), (5, .int (nI (sh / 32))), (0, .ref h0), (1, .long (lN mm)), (3, .int (nI sh)), (4, .int (bI o))]) hx hb dX0_take_85 hl (by decide) rfl (fun ls hl => ?_)
    refine lv_iload hx hb dX0_take_87 (lv_at hl 4 rfl) ?_
    refine lv_iconst (v := nI 3) hx hb dX0_take_89 (by decide +kernel) ?_
    refine lv_iadd hx hb dX0_take_90 ?_
    refine x_toi (nI (sh / 32 + 3)) (nI_add _ _) ?_
    refine lv_istore (lv' := [(13, .int (nI (sh / 32 + 3))), (11, .long (lN c3)), (9, .long (lN (X / 18446744073709551616))), (7, .long (lN (X))), (6, .int (nI (sh % 32))), (5, .int (nI (sh / 32))), (0, .ref h0), (1, .long (lN mm)), (3, .int (nI sh)), (4, .int (bI o))]) hx hb dX0_take_91 hl (by decide) rfl (fun ls hl => ?_)
    have loop : ∀ (n i cy : Nat) (f3 : Nat → Int32) (H : Heap) (locs : List Loc) (ls : Array Slot), i + n = 67 → cy ≤ 1 → (o = false → vW f3 67 + cy * 2 ^ (32 * i) = vW f 67 + mm * 2 ^ sh) → (o = true → vW f3 67 + mm * 2 ^ sh = vW f 67 + cy * 2 ^ (32 * i)) → va_P D vwCl (wX0 h0 hw hs dA dB f3 g y z) H → va_D A (wX0 h0 hw hs dA dB f3 g y z) → va_S A s.heap H locs → lv_has ls 14 [(0, .ref h0), (4, .int (bI o)), (11, .long (lN cy)), (13, .int (nI i))] → W p l e rmX0_take s m ([.ref h0, .long (lN mm), .int (nI sh), .int (bI o)] : List Value).toArray below meth c H locs 0 0 Q (F0 m 93 ls []) := by
      intro n
      induction n with
      | zero =>
        intro i cy f3 H locs ls hi hc h1 h2 hP hD hS hl
        have hi : i = 67 := by omega
        subst hi
        refine lv_iload hx hb dX0_take_93 (lv_at hl 3 rfl) ?_
        refine lv_bipush (v := nI 67) hx hb dX0_take_95 (by decide +kernel) ?_
        refine lv_icmp_ge (tgt := 126) hx hb dX0_take_97 (by decide) (fun _ => ?_) (fun c_ => absurd c_ (not_not_intro (nI_le (Nat.le_refl _) (by decide))))
        exact hret _ _ _ _ _ _ rfl dX0_take_126 (⟨f3, cy, hc, rfl, h1, h2⟩) hK hP hD hS
      | succ n ih =>
        intro i cy f3 H locs ls hi hc h1 h2 hP hD hS hl
        refine lv_iload hx hb dX0_take_93 (lv_at hl 3 rfl) ?_
        refine lv_bipush (v := nI 67) hx hb dX0_take_95 (by decide +kernel) ?_
        refine lv_icmp_ge (tgt := 126) hx hb dX0_take_97 (by decide) (fun c_ => absurd c_ (nI_ge (by omega) (by decide))) (fun _ => ?_)
        refine lv_lload hx hb dX0_take_100 (lv_at hl 2 rfl) ?_
        refine lv_lconst (v := lN 0) hx hb dX0_take_102 (by decide +kernel) ?_
        refine W.lcmp hx hb dX0_take_103 ?_
        refine lv_if_eq (tgt := 126) hx hb dX0_take_104 (by decide) (fun c1 => ?_) (fun c1 => ?_)
        · have hc0 : cy = 0 := lN_inj (by omega) (by decide) ((lg_cmp_eq _ _).mp c1)
          subst hc0
          exact hret _ _ _ _ _ _ rfl dX0_take_126 (⟨f3, 0, by decide, rfl, fun h => by have := h1 h; omega, fun h => by have := h2 h; omega⟩) hK hP hD hS
        · refine lv_aload_n hx hb dX0_take_107 rfl (lv_at hl 0 rfl) ?_
          refine lv_iload hx hb dX0_take_108 (lv_at hl 3 rfl) ?_
          refine lv_lconst (v := lN 0) hx hb dX0_take_110 (by decide +kernel) ?_
          refine lv_lload hx hb dX0_take_111 (lv_at hl 2 rfl) ?_
          refine lv_iload hx hb dX0_take_113 (lv_at hl 1 rfl) ?_
          refine x_call_l (As := [.int (nI i), .long (lN 0), .long (lN cy), .int (bI o)]) (rest := []) (ci := 0) (q0 := 0) ⟨hx, hb, hml, hown, hts⟩ (metX0_step l D dA dB h0 hw hs _ f3 g y z i 0 cy o (by omega) (by decide) hc) (cwV 4 hts (lw_V q46 q48 qs1 q11 q49) rfl rfl rfl (by decide +kernel) ⟨Nat.le_of_ble_eq_true rfl, Nat.le_of_ble_eq_true rfl⟩) hK hP hD hS hA rfl rfl rfl hl.1 rfl (Nat.le_of_ble_eq_true rfl) dX0_take_115 ⟨Nat.le_refl _, Nat.le_refl _⟩ (fun r u H locs hp4 hP hD hS => ?_)
          obtain ⟨f4, c4, hc4, rfl, rfl, i4, o4⟩ := hp4
          refine lv_lstore (lv' := [(11, .long (lN c4)), (0, .ref h0), (4, .int (bI o)), (13, .int (nI i))]) hx hb dX0_take_118 hl (by decide) rfl (fun ls hl => ?_)
          refine lv_iinc (v := nI (i + 1)) (lv' := [(13, .int (nI (i + 1))), (11, .long (lN c4)), (0, .ref h0), (4, .int (bI o))]) hx hb dX0_take_120 hl (k := 3) rfl (by rw [nI_succ]; rfl) (by decide) rfl (fun ls hl => ?_)
          refine lv_goto (tgt := 93) hx hb dX0_take_123 (by decide) ?_
          exact ih (i + 1) c4 f4 H locs ls (by omega) hc4 (fun h => by have a1 := h1 h; have a2 := i4 h; rw [Nat.zero_add] at a2; omega) (fun h => by have a1 := h2 h; have a2 := o4 h; rw [Nat.zero_add] at a2; omega) hP hD hS (lv_sub hl [2, 3, 1, 0] rfl)
    exact loop (67 - (sh / 32 + 3)) (sh / 32 + 3) c3 f3 H locs ls (by omega) hc3 (fun h => by rw [← tk_pow mm sh, ← eX]; exact tk_in (i1 h) (i2 h) (i3 h)) (fun h => by rw [← tk_pow mm sh, ← eX]; exact tk_out (o1 h) (o2 h) (o3 h)) hP hD hS (lv_sub hl [6, 9, 1, 0] rfl)
  refine lv_if_ne (tgt := 26) hx hb dX0_take_19 (by decide) (fun c0 => ?_) (fun c0 => ?_)
  · refine lv_lload_n hx hb dX0_take_26 rfl (lv_at hl 4 rfl) ?_
    refine lv_bipush (v := nI 64) hx hb dX0_take_27 (by decide +kernel) ?_
    refine lv_iload hx hb dX0_take_29 (lv_at hl 1 rfl) ?_
    refine lv_isub hx hb dX0_take_31 ?_
    refine x_toi (nI (64 - sh % 32)) (pk_sub (by omega)) ?_
    have hb1 : sh % 32 ≠ 0 := fun q => c0 (by rw [q]; rfl)
    refine lv_lushr hx hb dX0_take_32 rfl ?_
    refine x_tol (lN (X / 18446744073709551616)) (by rw [wb_shr (by omega) (by omega), eX, tk_div hb0]) ?_
    exact K33 ls hl
  · have hb1 : sh % 32 = 0 := (nI_mod0 (by omega)).mp c0
    refine lv_lconst (v := lN 0) hx hb dX0_take_22 (by decide +kernel) ?_
    refine lv_goto (tgt := 33) hx hb dX0_take_23 (by decide) ?_
    refine x_tol (lN (X / 18446744073709551616)) (by rw [eX, ← tk_div hb0, hb1]; congr 1; omega) ?_
    exact K33 ls hl
end
section
/-- what (h, l) stands for: exponent, mantissa, minus nought -/
def eA (a : Nat) : Nat := a / 1048576 % 2048
def fA (a b : Nat) : Nat := a % 1048576 * 4294967296 + b
def mA (a b : Nat) : Nat := if eA a = 0 then fA a b else 4503599627370496 + fA a b
def nzA (a b : Nat) : Bool := decide (a = 2147483648 ∧ b = 0)
def oA (a : Nat) : Bool := decide (2147483648 ≤ a)
theorem eA_lt (a : Nat) : eA a < 2048 := Nat.mod_lt _ (by decide)
theorem fA_lt {a b : Nat} (hb : b < 4294967296) : fA a b < 4503599627370496 := by unfold fA; omega
theorem mA_lt {a b : Nat} (hb : b < 4294967296) : mA a b < 9007199254740992 := by
  have := fA_lt (a := a) hb
  unfold mA
  split <;> omega
theorem nzA_no1 {a b : Nat} (h : mA a b ≠ 0) : nzA a b = false := by
  apply decide_eq_false
  rintro ⟨rfl, rfl⟩
  exact h rfl
theorem nzA_no2 {a b : Nat} (h : oA a = false) : nzA a b = false := by
  apply decide_eq_false
  rintro ⟨rfl, rfl⟩
  simp [oA] at h
theorem nzA_yes {a b : Nat} (ha : a < 4294967296) (h : mA a b = 0) (h2 : oA a = true) : nzA a b = true := by
  apply decide_eq_true
  have h2 : 2147483648 ≤ a := of_decide_eq_true h2
  unfold mA at h
  split at h
  · rename_i he
    unfold eA at he
    unfold fA at h
    omega
  · omega
theorem oA_nneg {a : Nat} (ha : a < 4294967296) (h : 0 ≤ nI a) : oA a = false := by
  rw [uI_nneg, uI_nI ha] at h
  exact decide_eq_false (by omega)
theorem oA_neg {a : Nat} (ha : a < 4294967296) (h : ¬ 0 ≤ nI a) : oA a = true := by
  rw [uI_nneg, uI_nI ha] at h
  exact decide_eq_true (by omega)
theorem fA_or {a b : Nat} (hb : b < 4294967296) : lN (a % 1048576 * 2 ^ 32) ||| lN b = lN (fA a b) := g_or (k := 32) (p := 2 ^ 32) rfl hb (by omega)
theorem mA_or {a b : Nat} (hb : b < 4294967296) : lN 4503599627370496 ||| lN (fA a b) = lN (4503599627370496 + fA a b) := by
  have h := fA_lt (a := a) hb
  have := g_or (k := 52) (p := 4503599627370496) (a := fA a b) (b := 1) rfl h (by omega)
  rw [Nat.one_mul] at this
  exact this

abbrev wsX0_add : List Cond := ws_ yX0_add cX0_add 9 (some .boolean)
abbrev rmX0_add : Room := { frames := 2, cells := 0, slots := 0, locals := 63 }
set_option maxHeartbeats 4000000 in
set_option maxRecDepth 100000 in
/-- ExactSum.add -/
theorem metX0_add (l : Launch) (D : va_G) (dA dB : ClassId) (h0 hw hs sz : Nat) (f g : Nat → Int32) (y z : Int32) (a b n : Nat) (ha0 : a < 4294967296) (hb0 : b < 4294967296) (hn0 : n < 4096) (hy0 : y = nI n) : Met l yX0_add wsX0_add rmX0_add (va_Pc [.ref h0, .int (nI a), .int (nI b)] (x_pre D (tAB dA dB) (wX0 h0 hw hs dA dB f g y z) sz)) (va_Qi (fun (r : Int32) (u : va_W) => (eA a = 2047 → r = 0 ∧ u = wX0 h0 hw hs dA dB f g y z) ∧ (eA a ≠ 2047 → r = 1 ∧ ∃ (f' : Nat → Int32) (c' : Nat), c' ≤ 1 ∧ u = wX0 h0 hw hs dA dB f' g (nI (n + 1)) (z + bI (nzA a b)) ∧ (oA a = false → vW f' 67 + c' * 2 ^ (32 * 67) = vW f 67 + mA a b * 2 ^ (eA a - 1)) ∧ (oA a = true → vW f' 67 + mA a b * 2 ^ (eA a - 1) = vW f 67 + c' * 2 ^ (32 * 67)))) (x_post D (tAB dA dB) (va_A (wX0 h0 hw hs dA dB f g y z) sz)) (va_A (wX0 h0 hw hs dA dB f g y z) sz)) 0 0 (va_A (wX0 h0 hw hs dA dB f g y z) sz) := by
  refine x_met_z (by decide) (Nat.le_of_ble_eq_true rfl) ?_
  intro p e s m below meth c A Q ls hx hb hml hown hts hin hA hK hP hD hS hl hret
  have hown : s.vm.findClass RX0 = some m.cls := hown
  have hl : lv_has ls 9 [(0, .ref h0), (1, .int (nI a)), (2, .int (nI b))] := hl
  have he0 := eA_lt a
  refine lv_iload_n hx hb dX0_add_0 rfl (lv_at hl 1 rfl) ?_
  refine lv_bipush (v := nI 20) hx hb dX0_add_1 (by decide +kernel) ?_
  refine lv_iushr hx hb dX0_add_3 rfl ?_
  refine x_toi (nI (a / 1048576)) (pk_ushrN ha0 _ 20 (by decide)) ?_
  refine lv_sipush (v := nI 2047) hx hb dX0_add_4 (by decide +kernel) ?_
  refine lv_iand hx hb dX0_add_7 ?_
  refine x_toi (nI (eA a)) (pk_andN (by omega) 11 (by decide)) ?_
  refine lv_istore_n (lv' := [(3, .int (nI (eA a))), (0, .ref h0), (1, .int (nI a)), (2, .int (nI b))]) hx hb dX0_add_8 rfl hl (by decide) rfl (fun ls hl => ?_)
  refine lv_iload_n hx hb dX0_add_9 rfl (lv_at hl 0 rfl) ?_
  refine lv_sipush (v := nI 2047) hx hb dX0_add_10 (by decide +kernel) ?_
  refine lv_icmp_eq (tgt := 26) hx hb dX0_add_13 (by decide) (fun c1 => ?_) (fun c1 => ?_)
  · have he : eA a = 2047 := (nI_eq (by omega) (by decide)).mp c1
    refine lv_iconst (v := nI 0) hx hb dX0_add_26 (by decide +kernel) ?_
    refine x_toi 0 (rfl) ?_
    exact hret 0 _ _ _ _ _ _ rfl dX0_add_27 (rfl) (⟨fun _ => ⟨rfl, rfl⟩, fun h => absurd he h⟩) hK hP hD hS
  · have he : eA a ≠ 2047 := fun q => c1 (by rw [q])
    refine lv_aload_n hx hb dX0_add_16 rfl (lv_at hl 1 rfl) ?_
    refine va_get (D := D) (ci := 0) (v := .int y) (C := RX0) (T := TX0) (N := 4) hx hb hts in_X0 hown hK hP 0 rfl rfl 2 (by decide) (hts _ q23) (fun _ h9 => h9) rfl dX0_add_17 ?_
    refine lv_sipush (v := nI 4096) hx hb dX0_add_20 (by decide +kernel) ?_
    refine lv_icmp_ne (tgt := 28) hx hb dX0_add_23 (by decide) (fun _ => ?_) (fun c_ => absurd c_ (by rw [hy0]; exact fun q => absurd ((nI_eq (by omega) (by decide)).mp q) (by omega)))
    refine lv_iload_n hx hb dX0_add_28 rfl (lv_at hl 2 rfl) ?_
    refine lv_ldc hx hb hown (hts _ q39) dX0_add_29 ?_
    refine x_toi (nI 1048575) (rfl) ?_
    refine lv_iand hx hb dX0_add_31 ?_
    refine x_toi (nI (a % 1048576)) (pk_andN ha0 20 (by decide)) ?_
    refine lv_i2l hx hb dX0_add_32 rfl ?_
    refine x_tol (lN (a % 1048576)) (nI_l (by omega)) ?_
    refine lv_bipush (v := nI 32) hx hb dX0_add_33 (by decide +kernel) ?_
    refine lv_lshl hx hb dX0_add_35 rfl ?_
    refine x_tol (lN (a % 1048576 * 2 ^ 32)) (wb_shl _ (by decide)) ?_
    refine lv_iload_n hx hb dX0_add_36 rfl (lv_at hl 3 rfl) ?_
    refine lv_i2l hx hb dX0_add_37 rfl ?_
    refine lv_ldc2 hx hb hown (hts _ q40) dX0_add_38 ?_
    refine x_tol (lN 4294967295) (rfl) ?_
    refine lv_land hx hb dX0_add_41 ?_
    refine x_tol (lN b) ((uI_l _).trans (by rw [uI_nI hb0])) ?_
    refine lv_lor hx hb dX0_add_42 ?_
    refine x_tol (lN (fA a b)) (fA_or hb0) ?_
    refine lv_lstore (lv' := [(4, .long (lN (fA a b))), (3, .int (nI (eA a))), (0, .ref h0), (1, .int (nI a)), (2, .int (nI b))]) hx hb dX0_add_43 hl (by decide) rfl (fun ls hl => ?_)
    refine lv_iload_n hx hb dX0_add_45 rfl (lv_at hl 1 rfl) ?_
    have K60 : ∀ (ls : Array Slot), lv_has ls 9 [(4, .long (lN (fA a b))), (3, .int (nI (eA a))), (0, .ref h0), (1, .int (nI a)), (2, .int (nI b))] → W p l e rmX0_add s m ([.ref h0, .int (nI a), .int (nI b)] : List Value).toArray below meth c s.heap [] 0 0 Q (F0 m 60 ls [.long (lN (mA a b))]) := by
      intro ls hl
      refine lv_lstore (lv' := [(6, .long (lN (mA a b))), (4, .long (lN (fA a b))), (3, .int (nI (eA a))), (0, .ref h0), (1, .int (nI a)), (2, .int (nI b))]) hx hb dX0_add_60 hl (by decide) rfl (fun ls hl => ?_)
      refine lv_iload_n hx hb dX0_add_62 rfl (lv_at hl 4 rfl) ?_
      have K71 : ∀ (ls : Array Slot), lv_has ls 9 [(6, .long (lN (mA a b))), (4, .long (lN (fA a b))), (3, .int (nI (eA a))), (0, .ref h0), (1, .int (nI a)), (2, .int (nI b))] → W p l e rmX0_add s m ([.ref h0, .int (nI a), .int (nI b)] : List Value).toArray below meth c s.heap [] 0 0 Q (F0 m 71 ls [.int (bI (oA a))]) := by
        intro ls hl
        refine lv_istore (lv' := [(8, .int (bI (oA a))), (6, .long (lN (mA a b))), (4, .long (lN (fA a b))), (3, .int (nI (eA a))), (0, .ref h0), (1, .int (nI a)), (2, .int (nI b))]) hx hb dX0_add_71 hl (by decide) rfl (fun ls hl => ?_)
        refine lv_aload_n hx hb dX0_add_73 rfl (lv_at hl 4 rfl) ?_
        refine lv_dup hx hb dX0_add_74 rfl ?_
        refine va_get (D := D) (ci := 0) (v := .int y) (C := RX0) (T := TX0) (N := 4) hx hb hts in_X0 hown hK hP 0 rfl rfl 2 (by decide) (hts _ q23) (fun _ h9 => h9) rfl dX0_add_75 ?_
        refine lv_iconst (v := nI 1) hx hb dX0_add_78 (by decide +kernel) ?_
        refine lv_iadd hx hb dX0_add_79 ?_
        refine x_toi (nI (n + 1)) (by rw [hy0]; exact nI_add n 1) ?_
        refine va_put (D := D) (ci := 0) (v := .int (nI (n + 1))) (ty := .int) (C := RX0) (T := TX0) (N := 4) hx hb hts in_X0 tyX0 tyX0_ok nmX0 hown hK hP hD hS 0 rfl rfl 2 (by decide) (hts _ q23) (fun _ h9 => h9) rfl (by decide +kernel) (rfl) (rfl) (Nat.le_of_ble_eq_true rfl) dX0_add_80 (fun H locs hP hD hS => ?_)
        have hP : va_P D vwCl (wX0 h0 hw hs dA dB f g (nI (n + 1)) z) H := hP
        have hD : va_D A (wX0 h0 hw hs dA dB f g (nI (n + 1)) z) := hD
        refine lv_lload hx hb dX0_add_83 (lv_at hl 1 rfl) ?_
        refine lv_lconst (v := lN 0) hx hb dX0_add_85 (by decide +kernel) ?_
        refine W.lcmp hx hb dX0_add_86 ?_
        have K105 : ∀ (H : Heap) (locs : List Loc) (ls : Array Slot), va_P D vwCl (wX0 h0 hw hs dA dB f g (nI (n + 1)) (z + bI (nzA a b))) H → va_D A (wX0 h0 hw hs dA dB f g (nI (n + 1)) (z + bI (nzA a b))) → va_S A s.heap H locs → lv_has ls 9 [(0, .ref h0), (3, .int (nI (eA a))), (6, .long (lN (mA a b))), (8, .int (bI (oA a)))] → W p l e rmX0_add s m ([.ref h0, .int (nI a), .int (nI b)] : List Value).toArray below meth c H locs 0 0 Q (F0 m 105 ls []) := by
          intro  H locs ls hP hD hS hl
          refine lv_aload_n hx hb dX0_add_105 rfl (lv_at hl 0 rfl) ?_
          refine lv_lload hx hb dX0_add_106 (lv_at hl 2 rfl) ?_
          refine lv_iload_n hx hb dX0_add_108 rfl (lv_at hl 1 rfl) ?_
          have K119 : ∀ (ls : Array Slot), lv_has ls 9 [(0, .ref h0), (3, .int (nI (eA a))), (6, .long (lN (mA a b))), (8, .int (bI (oA a)))] → W p l e rmX0_add s m ([.ref h0, .int (nI a), .int (nI b)] : List Value).toArray below meth c H locs 0 0 Q (F0 m 119 ls [.int (nI (eA a - 1)), .long (lN (mA a b)), .ref h0]) := by
            intro ls hl
            refine lv_iload hx hb dX0_add_119 (lv_at hl 3 rfl) ?_
            refine x_call_v (As := [.long (lN (mA a b)), .int (nI (eA a - 1)), .int (bI (oA a))]) (rest := []) (ci := 0) (q0 := 0) ⟨hx, hb, hml, hown, hts⟩ (metX0_take l D dA dB h0 hw hs _ f g (nI (n + 1)) (z + bI (nzA a b)) (mA a b) (eA a - 1) (oA a) (mA_lt hb0) (by omega)) (cwV 3 hts (lw_V q42 q44 qs0 q11 q45) rfl rfl rfl (by decide +kernel) ⟨Nat.le_of_ble_eq_true rfl, Nat.le_of_ble_eq_true rfl⟩) hK hP hD hS hA rfl rfl rfl hl.1 rfl (Nat.le_of_ble_eq_true rfl) dX0_add_121 ⟨Nat.le_refl _, Nat.le_refl _⟩ (fun u H locs hp hP hD hS => ?_)
            obtain ⟨f1, c1, hc1, rfl, i1, o1⟩ := hp
            refine lv_iconst (v := nI 1) hx hb dX0_add_124 (by decide +kernel) ?_
            refine x_toi 1 (rfl) ?_
            exact hret 1 _ _ _ _ _ _ rfl dX0_add_125 (rfl) (⟨fun h => absurd h he, fun _ => ⟨rfl, f1, c1, hc1, rfl, i1, o1⟩⟩) hK hP hD hS
          refine lv_if_ne (tgt := 116) hx hb dX0_add_109 (by decide) (fun c2 => ?_) (fun c2 => ?_)
          · have hE : eA a ≠ 0 := fun q => c2 (by rw [q]; rfl)
            refine lv_iload_n hx hb dX0_add_116 rfl (lv_at hl 1 rfl) ?_
            refine lv_iconst (v := nI 1) hx hb dX0_add_117 (by decide +kernel) ?_
            refine lv_isub hx hb dX0_add_118 ?_
            refine x_toi (nI (eA a - 1)) (pk_sub (by omega)) ?_
            exact K119 ls hl
          · have hE : eA a = 0 := (nI_mod0 (by omega)).mp c2
            refine lv_iconst (v := nI 0) hx hb dX0_add_112 (by decide +kernel) ?_
            refine lv_goto (tgt := 119) hx hb dX0_add_113 (by decide) ?_
            refine x_toi (nI (eA a - 1)) (by rw [hE]) ?_
            exact K119 ls hl
        refine lv_if_ne (tgt := 105) hx hb dX0_add_87 (by decide) (fun c3 => ?_) (fun c3 => ?_)
        · have hz : nzA a b = false := nzA_no1 (fun q => c3 ((lg_cmp_eq _ _).mpr (by rw [q])))
          have ez : z + bI (nzA a b) = z := by rw [hz]; exact Int32.add_zero z
          exact K105 H locs ls (by rw [ez]; exact hP) (by rw [ez]; exact hD) hS (lv_sub hl [4, 3, 1, 0] rfl)
        · have hm : mA a b = 0 := lN_inj (by have := mA_lt (a := a) hb0; omega) (by decide) ((lg_cmp_eq _ _).mp c3)
          refine lv_iload hx hb dX0_add_90 (lv_at hl 0 rfl) ?_
          refine lv_if_eq (tgt := 105) hx hb dX0_add_92 (by decide) (fun c4 => ?_) (fun c4 => ?_)
          · have hz : nzA a b = false := nzA_no2 ((bI_0 _).mp c4)
            have ez : z + bI (nzA a b) = z := by rw [hz]; exact Int32.add_zero z
            exact K105 H locs ls (by rw [ez]; exact hP) (by rw [ez]; exact hD) hS (lv_sub hl [4, 3, 1, 0] rfl)
          · have hz : nzA a b = true := nzA_yes ha0 hm (by cases h : oA a with
              | true => rfl
              | false => exact absurd (by rw [h]; rfl) c4)
            refine lv_aload_n hx hb dX0_add_95 rfl (lv_at hl 4 rfl) ?_
            refine lv_dup hx hb dX0_add_96 rfl ?_
            refine va_get (D := D) (ci := 0) (v := .int z) (C := RX0) (T := TX0) (N := 4) hx hb hts in_X0 hown hK hP 0 rfl rfl 3 (by decide) (hts _ q24) (fun _ h9 => h9) rfl dX0_add_97 ?_
            refine lv_iconst (v := nI 1) hx hb dX0_add_100 (by decide +kernel) ?_
            refine lv_iadd hx hb dX0_add_101 ?_
            refine x_toi (z + bI (nzA a b)) (by rw [hz]; rfl) ?_
            refine va_put (D := D) (ci := 0) (v := .int (z + bI (nzA a b))) (ty := .int) (C := RX0) (T := TX0) (N := 4) hx hb hts in_X0 tyX0 tyX0_ok nmX0 hown hK hP hD hS 0 rfl rfl 3 (by decide) (hts _ q24) (fun _ h9 => h9) rfl (by decide +kernel) (rfl) (rfl) (Nat.le_of_ble_eq_true rfl) dX0_add_102 (fun H locs hP hD hS => ?_)
            have hP : va_P D vwCl (wX0 h0 hw hs dA dB f g (nI (n + 1)) (z + bI (nzA a b))) H := hP
            have hD : va_D A (wX0 h0 hw hs dA dB f g (nI (n + 1)) (z + bI (nzA a b))) := hD
            exact K105 H locs ls hP hD hS (lv_sub hl [4, 3, 1, 0] rfl)
      refine lv_if_ge (tgt := 70) hx hb dX0_add_63 (by decide) (fun c5 => ?_) (fun c5 => ?_)
      · refine lv_iconst (v := nI 0) hx hb dX0_add_70 (by decide +kernel) ?_
        refine x_toi (bI (oA a)) (by rw [oA_nneg ha0 c5]; rfl) ?_
        exact K71 ls hl
      · refine lv_iconst (v := nI 1) hx hb dX0_add_66 (by decide +kernel) ?_
        refine lv_goto (tgt := 71) hx hb dX0_add_67 (by decide) ?_
        refine x_toi (bI (oA a)) (by rw [oA_neg ha0 c5]; rfl) ?_
        exact K71 ls hl
    refine lv_if_ne (tgt := 54) hx hb dX0_add_46 (by decide) (fun c6 => ?_) (fun c6 => ?_)
    · have hE : eA a ≠ 0 := fun q => c6 (by rw [q]; rfl)
      refine lv_ldc2 hx hb hown (hts _ q41) dX0_add_54 ?_
      refine x_tol (lN 4503599627370496) (rfl) ?_
      refine lv_lload hx hb dX0_add_57 (lv_at hl 0 rfl) ?_
      refine lv_lor hx hb dX0_add_59 ?_
      refine x_tol (lN (mA a b)) (by rw [mA_or hb0]; unfold mA; rw [if_neg hE]) ?_
      exact K60 ls hl
    · have hE : eA a = 0 := (nI_mod0 (by omega)).mp c6
      refine lv_lload hx hb dX0_add_49 (lv_at hl 0 rfl) ?_
      refine lv_goto (tgt := 60) hx hb dX0_add_51 (by decide) ?_
      refine x_tol (lN (mA a b)) (by unfold mA; rw [if_pos hE]) ?_
      exact K60 ls hl
abbrev wsX0_nought : List Cond := ws_ yX0_nought cX0_nought 3 (some .long)
abbrev rmX0_nought : Room := { frames := 0, cells := 0, slots := 0, locals := 0 }
set_option maxHeartbeats 4000000 in
set_option maxRecDepth 100000 in
/-- ExactSum.nought -/
theorem metX0_nought (l : Launch) (D : va_G) (dA dB : ClassId) (h0 hw hs sz : Nat) (f g : Nat → Int32) (y z : Int32) (n k md : Nat) (hn0 : n ≤ 4096) (hk0 : k ≤ 4096) (hd0 : md < 5) (hy0 : y = nI n) (hz0 : z = nI k) : Met l yX0_nought wsX0_nought rmX0_nought (va_Pc [.ref h0, .int (nI md)] (x_pre D (tAB dA dB) (wX0 h0 hw hs dA dB f g y z) sz)) (va_Ql (fun (r : Int64) (u : va_W) => r = (if 0 < n ∧ (k = n ∨ md = 3) then lN 9223372036854775808 else lN 0) ∧ u = wX0 h0 hw hs dA dB f g y z) (x_post D (tAB dA dB) (va_A (wX0 h0 hw hs dA dB f g y z) sz)) (va_A (wX0 h0 hw hs dA dB f g y z) sz)) 0 0 (va_A (wX0 h0 hw hs dA dB f g y z) sz) := by
  refine x_met_l (by decide) (Nat.le_of_ble_eq_true rfl) ?_
  intro p e s m below meth c A Q ls hx hb hml hown hts hin hA hK hP hD hS hl hret
  have hown : s.vm.findClass RX0 = some m.cls := hown
  have hl : lv_has ls 3 [(0, .ref h0), (1, .int (nI md))] := hl
  refine lv_aload_n hx hb dX0_nought_0 rfl (lv_at hl 0 rfl) ?_
  refine va_get (D := D) (ci := 0) (v := .int y) (C := RX0) (T := TX0) (N := 4) hx hb hts in_X0 hown hK hP 0 rfl rfl 2 (by decide) (hts _ q23) (fun _ h9 => h9) rfl dX0_nought_1 ?_
  refine lv_if_le (tgt := 27) hx hb dX0_nought_4 (by decide) (fun c1 => ?_) (fun c1 => ?_)
  · have h1 : n = 0 := by
      rw [hy0] at c1
      have := (nI_leI (by omega) (by decide)).mp (show nI n ≤ nI 0 from c1)
      omega
    refine lv_iconst (v := nI 0) hx hb dX0_nought_27 (by decide +kernel) ?_
    refine lv_istore_n (lv' := [(2, .int (nI 0)), (0, .ref h0), (1, .int (nI md))]) hx hb dX0_nought_28 rfl hl (by decide) rfl (fun ls hl => ?_)
    refine lv_iload_n hx hb dX0_nought_29 rfl (lv_at hl 0 rfl) ?_
    refine lv_if_eq (tgt := 39) hx hb dX0_nought_30 (by decide) (fun _ => ?_) (fun c_ => absurd c_ (not_not_intro rfl))
    refine lv_lconst (v := lN 0) hx hb dX0_nought_39 (by decide +kernel) ?_
    exact hret (lN 0) _ _ _ _ _ _ rfl dX0_nought_40 (⟨by rw [if_neg (by omega)], rfl⟩) hK hP hD hS
  · have h1 : 0 < n := by
      rcases Nat.eq_zero_or_pos n with q | q
      · exact absurd (by rw [hy0, q]; decide) c1
      · exact q
    refine lv_aload_n hx hb dX0_nought_7 rfl (lv_at hl 0 rfl) ?_
    refine va_get (D := D) (ci := 0) (v := .int z) (C := RX0) (T := TX0) (N := 4) hx hb hts in_X0 hown hK hP 0 rfl rfl 3 (by decide) (hts _ q24) (fun _ h9 => h9) rfl dX0_nought_8 ?_
    refine lv_aload_n hx hb dX0_nought_11 rfl (lv_at hl 0 rfl) ?_
    refine va_get (D := D) (ci := 0) (v := .int y) (C := RX0) (T := TX0) (N := 4) hx hb hts in_X0 hown hK hP 0 rfl rfl 2 (by decide) (hts _ q23) (fun _ h9 => h9) rfl dX0_nought_12 ?_
    refine lv_icmp_eq (tgt := 23) hx hb dX0_nought_15 (by decide) (fun c2 => ?_) (fun c2 => ?_)
    · have h2 : k = n := (nI_eq (by omega) (by omega)).mp (by rw [← hy0, ← hz0]; exact c2)
      refine lv_iconst (v := nI 1) hx hb dX0_nought_23 (by decide +kernel) ?_
      refine lv_goto (tgt := 28) hx hb dX0_nought_24 (by decide) ?_
      refine lv_istore_n (lv' := [(2, .int (nI 1)), (0, .ref h0), (1, .int (nI md))]) hx hb dX0_nought_28 rfl hl (by decide) rfl (fun ls hl => ?_)
      refine lv_iload_n hx hb dX0_nought_29 rfl (lv_at hl 0 rfl) ?_
      refine lv_if_eq (tgt := 39) hx hb dX0_nought_30 (by decide) (fun c_ => absurd c_ (by decide)) (fun _ => ?_)
      refine lv_ldc2 hx hb hown (hts _ q74) dX0_nought_33 ?_
      refine x_tol (lN 9223372036854775808) (by decide +kernel) ?_
      refine lv_goto (tgt := 40) hx hb dX0_nought_36 (by decide) ?_
      exact hret (lN 9223372036854775808) _ _ _ _ _ _ rfl dX0_nought_40 (⟨by rw [if_pos (by omega)], rfl⟩) hK hP hD hS
    · have h2 : k ≠ n := fun q => c2 (by rw [hy0, hz0, q])
      refine lv_iload_n hx hb dX0_nought_18 rfl (lv_at hl 1 rfl) ?_
      refine lv_iconst (v := nI 3) hx hb dX0_nought_19 (by decide +kernel) ?_
      refine lv_icmp_ne (tgt := 27) hx hb dX0_nought_20 (by decide) (fun c3 => ?_) (fun c3 => ?_)
      · have h3 : md ≠ 3 := fun q => c3 (by rw [q])
        refine lv_iconst (v := nI 0) hx hb dX0_nought_27 (by decide +kernel) ?_
        refine lv_istore_n (lv' := [(2, .int (nI 0)), (0, .ref h0), (1, .int (nI md))]) hx hb dX0_nought_28 rfl hl (by decide) rfl (fun ls hl => ?_)
        refine lv_iload_n hx hb dX0_nought_29 rfl (lv_at hl 0 rfl) ?_
        refine lv_if_eq (tgt := 39) hx hb dX0_nought_30 (by decide) (fun _ => ?_) (fun c_ => absurd c_ (not_not_intro rfl))
        refine lv_lconst (v := lN 0) hx hb dX0_nought_39 (by decide +kernel) ?_
        exact hret (lN 0) _ _ _ _ _ _ rfl dX0_nought_40 (⟨by rw [if_neg (by omega)], rfl⟩) hK hP hD hS
      · have h3 : md = 3 := (nI_eq (by omega) (by decide)).mp c3
        refine lv_iconst (v := nI 1) hx hb dX0_nought_23 (by decide +kernel) ?_
        refine lv_goto (tgt := 28) hx hb dX0_nought_24 (by decide) ?_
        refine lv_istore_n (lv' := [(2, .int (nI 1)), (0, .ref h0), (1, .int (nI md))]) hx hb dX0_nought_28 rfl hl (by decide) rfl (fun ls hl => ?_)
        refine lv_iload_n hx hb dX0_nought_29 rfl (lv_at hl 0 rfl) ?_
        refine lv_if_eq (tgt := 39) hx hb dX0_nought_30 (by decide) (fun c_ => absurd c_ (by decide)) (fun _ => ?_)
        refine lv_ldc2 hx hb hown (hts _ q74) dX0_nought_33 ?_
        refine x_tol (lN 9223372036854775808) (by decide +kernel) ?_
        refine lv_goto (tgt := 40) hx hb dX0_nought_36 (by decide) ?_
        exact hret (lN 9223372036854775808) _ _ _ _ _ _ rfl dX0_nought_40 (⟨by rw [if_pos (by omega)], rfl⟩) hK hP hD hS
end
section
/-- the highest bit, -1 of nought -/
def tpI (M : Nat) : Int32 := if M = 0 then -1 else nI M.log2
theorem log_add {lo k t : Nat} (h : lo < 2 ^ k) (ht : t ≠ 0) : (lo + t * 2 ^ k).log2 = k + t.log2 := by
  have hp := Nat.two_pow_pos k
  have hne : lo + t * 2 ^ k ≠ 0 := by
    have : 0 < t * 2 ^ k := Nat.mul_pos (by omega) hp
    omega
  apply Nat.le_antisymm
  · apply Nat.le_of_lt_succ
    rw [Nat.log2_lt hne]
    have h1 : t < 2 ^ (t.log2 + 1) := (Nat.log2_lt ht).mp (Nat.lt_succ_self _)
    have h2 : (t + 1) * 2 ^ k ≤ 2 ^ (t.log2 + 1) * 2 ^ k := Nat.mul_le_mul_right _ h1
    rw [Nat.add_mul, Nat.one_mul] at h2
    rw [show (k + t.log2).succ = (t.log2 + 1) + k by omega, Nat.pow_add]
    omega
  · rw [Nat.le_log2 hne]
    have h1 : 2 ^ t.log2 ≤ t := (Nat.le_log2 ht).mp (Nat.le_refl _)
    have h2 : 2 ^ t.log2 * 2 ^ k ≤ t * 2 ^ k := Nat.mul_le_mul_right _ h1
    rw [Nat.add_comm, Nat.pow_add]
    omega
theorem ms_top {g : Nat → Int32} {i t : Nat} (ht : t ≠ 0) (h2 : t < 4294967296) : tpI (vW (upd g i (nI t)) (i + 1)) = nI (32 * i + t.log2) := by
  have e : vW (upd g i (nI t)) (i + 1) = vW g i + t * 2 ^ (32 * i) := by rw [vW_s, vW_updlo (Nat.le_refl _), pk_us, uI_nI h2]
  have hne : vW g i + t * 2 ^ (32 * i) ≠ 0 := by
    have : 0 < t * 2 ^ (32 * i) := Nat.mul_pos (by omega) (Nat.two_pow_pos _)
    omega
  unfold tpI
  rw [e, if_neg hne, log_add (vW_lt g i) ht]
theorem ms_top0 {g : Nat → Int32} {i : Nat} : tpI (vW (upd g i (nI 0)) (i + 1)) = tpI (vW g i) := by
  have e : vW (upd g i (nI 0)) (i + 1) = vW g i := by rw [vW_s, vW_updlo (Nat.le_refl _), pk_us, uI_nI (by decide), Nat.zero_mul, Nat.add_zero]
  rw [e]
theorem ms_stepF {f g : Nat → Int32} {i cy : Nat} (h : vW g i + cy * 2 ^ (32 * i) = vW f i) : vW (upd g i (nI ((uI (f i) + cy) % 4294967296))) (i + 1) + (uI (f i) + cy) / 4294967296 * 2 ^ (32 * (i + 1)) = vW f (i + 1) := by
  rw [vW_s, vW_s, vW_updlo (Nat.le_refl _), pk_us, uI_nI (Nat.mod_lt _ (by decide)), tk_q]
  generalize uI (f i) = d
  generalize 2 ^ (32 * i) = q at *
  have e : (d + cy) * q = ((d + cy) % 4294967296 + 4294967296 * ((d + cy) / 4294967296)) * q := by rw [Nat.mod_add_div]
  generalize (d + cy) % 4294967296 = x at *
  generalize (d + cy) / 4294967296 = z at *
  rw [Nat.add_mul, Nat.add_mul, Nat.mul_assoc] at e
  rw [Nat.mul_left_comm]
  omega
theorem ms_stepT {f g : Nat → Int32} {i cy : Nat} (h : vW g i + cy * 2 ^ (32 * i) + vW f i = 2 ^ (32 * i)) : vW (upd g i (nI ((uI (f i ^^^ (-1)) + cy) % 4294967296))) (i + 1) + (uI (f i ^^^ (-1)) + cy) / 4294967296 * 2 ^ (32 * (i + 1)) + vW f (i + 1) = 2 ^ (32 * (i + 1)) := by
  rw [vW_s, vW_s, vW_updlo (Nat.le_refl _), pk_us, uI_nI (Nat.mod_lt _ (by decide)), tk_q, uI_xor]
  have hd := uI_lt (f i)
  generalize uI (f i) = d at *
  generalize 2 ^ (32 * i) = q at *
  have e : (4294967295 - d + cy) * q = ((4294967295 - d + cy) % 4294967296 + 4294967296 * ((4294967295 - d + cy) / 4294967296)) * q := by rw [Nat.mod_add_div]
  generalize (4294967295 - d + cy) % 4294967296 = x at *
  generalize (4294967295 - d + cy) / 4294967296 = z at *
  rw [Nat.add_mul, Nat.add_mul, Nat.mul_assoc] at e
  have e2 : (4294967295 - d) * q + d * q = 4294967295 * q := by rw [← Nat.add_mul]; congr 1; omega
  rw [Nat.mul_left_comm]
  omega
theorem rd_step (M a j : Nat) : M / 2 ^ (a + 1) % 2 ^ j * 2 + M / 2 ^ a % 2 = M / 2 ^ a % 2 ^ (j + 1) := by
  rw [Nat.pow_succ 2 a, ← Nat.div_div_eq_div_mul, Nat.pow_succ, Nat.mul_comm (2 ^ j) 2, Nat.mod_mul]
  omega
theorem nI_m1lt {n : Nat} (h : n < 2147483648) : nI n - nI 1 < nI n := by
  rcases Nat.eq_zero_or_pos n with q | q
  · subst q; decide
  · rw [pk_sub (by omega)]; exact nI_lt (by omega) (by omega)
theorem vW_zero {g : Nat → Int32} {n i : Nat} (h : vW g n = 0) (hi : i < n) : uI (g i) = 0 := by
  have h1 := vW_mod (f := g) (show i + 1 ≤ n from hi)
  rw [h, Nat.zero_mod, vW_s] at h1
  rcases Nat.eq_zero_or_pos (uI (g i)) with q | q
  · exact q
  · have := Nat.mul_pos q (Nat.two_pow_pos (32 * i))
    omega
theorem sm_no {g : Nat → Int32} {b i : Nat} (hb : b < 2144) (hi : i < b / 32) (h : g i ≠ 0) : decide (vW g 67 % 2 ^ b ≠ 0) = true := by
  apply decide_eq_true
  intro q
  have h1 : vW g 67 % 2 ^ (32 * (b / 32)) = 0 := by
    have hd : 2 ^ (32 * (b / 32)) ∣ 2 ^ b := Nat.pow_dvd_pow 2 (by omega)
    rw [← Nat.mod_mod_of_dvd _ hd, q, Nat.zero_mod]
  rw [vW_mod (by omega)] at h1
  exact h ((uI_0 _).mpr (vW_zero h1 hi))
theorem sm_end {g : Nat → Int32} {b : Nat} (hb : b < 2144) (h : vW g (b / 32) = 0) : vW g 67 % 2 ^ b = 0 ↔ uI (g (b / 32)) % 2 ^ (b % 32) = 0 := by
  obtain ⟨r, hr⟩ := dv_split (w := 32) (d := fun j => uI (g j)) (n := 67) (k := b / 32 + 1) (by omega)
  have hr : vW g 67 = vW g (b / 32 + 1) + 2 ^ (32 * (b / 32 + 1)) * r := hr
  have hlt : b % 32 < 32 := Nat.mod_lt _ (by decide)
  have hb2 : 2 ^ b = 2 ^ (32 * (b / 32)) * 2 ^ (b % 32) := by rw [← Nat.pow_add, show 32 * (b / 32) + b % 32 = b by omega]
  have h32 : 2 ^ (32 * (b / 32 + 1)) = 2 ^ (32 * (b / 32)) * (2 ^ (b % 32) * 2 ^ (32 - b % 32)) := by rw [← Nat.pow_add, ← Nat.pow_add, show b % 32 + (32 - b % 32) = 32 by omega]; rfl
  have e : vW g 67 = 2 ^ (32 * (b / 32)) * (uI (g (b / 32)) + 2 ^ (b % 32) * (2 ^ (32 - b % 32) * r)) := by
    rw [hr, vW_s, h, h32, Nat.mul_add, Nat.zero_add, Nat.mul_comm (uI _)]
    simp only [Nat.mul_assoc]
  rw [e, hb2, Nat.mul_mod_mul_left, Nat.add_mul_mod_self_left]
  have := Nat.two_pow_pos (32 * (b / 32))
  constructor
  · intro q
    rcases Nat.mul_eq_zero.mp q with q | q
    · omega
    · exact q
  · intro q; rw [q, Nat.mul_zero]
theorem sh_1 : ∀ t, t < 32 → nI 1 <<< (nI t &&& 31) = nI (2 ^ t) := by decide +kernel
theorem sm_and (x : Int32) {t : Nat} (ht : t < 32) : x &&& nI (2 ^ t - 1) = nI (uI x % 2 ^ t) := by
  have h1 : 2 ^ t ≤ 2 ^ 31 := Nat.pow_le_pow_right (by decide) (by omega)
  exact pk_and x t (pk_tn (by omega))

abbrev wsX0_measure : List Cond := ws_ yX0_measure cX0_measure 8 (some .int)
abbrev rmX0_measure : Room := { frames := 1, cells := 0, slots := 0, locals := 22 }
set_option maxHeartbeats 4000000 in
set_option maxRecDepth 100000 in
/-- ExactSum.measure -/
theorem metX0_measure (l : Launch) (D : va_G) (dA dB : ClassId) (h0 hw hs sz : Nat) (f g : Nat → Int32) (y z : Int32) (mi : Bool)  : Met l yX0_measure wsX0_measure rmX0_measure (va_Pc [.ref h0, .int (bI mi)] (x_pre D (tAB dA dB) (wX0 h0 hw hs dA dB f g y z) sz)) (va_Qi (fun (r : Int32) (u : va_W) => ∃ g' : Nat → Int32, u = wX0 h0 hw hs dA dB f g' y z ∧ r = tpI (vW g' 67) ∧ (mi = false → vW g' 67 = vW f 67) ∧ (mi = true → 0 < vW f 67 → vW g' 67 + vW f 67 = 2 ^ (32 * 67))) (x_post D (tAB dA dB) (va_A (wX0 h0 hw hs dA dB f g y z) sz)) (va_A (wX0 h0 hw hs dA dB f g y z) sz)) 0 0 (va_A (wX0 h0 hw hs dA dB f g y z) sz) := by
  refine x_met_i (by decide) (Nat.le_of_ble_eq_true rfl) ?_
  intro p e s m below meth c A Q ls hx hb hml hown hts hin hA hK hP hD hS hl hret
  have hown : s.vm.findClass RX0 = some m.cls := hown
  have hl : lv_has ls 8 [(0, .ref h0), (1, .int (bI mi))] := hl
  refine lv_iload_n hx hb dX0_measure_0 rfl (lv_at hl 1 rfl) ?_
  cases mi
  · refine lv_if_eq (tgt := 8) hx hb dX0_measure_1 (by decide) (fun _ => ?_) (fun c_ => absurd c_ (not_not_intro rfl))
    refine lv_lconst (v := lN 0) hx hb dX0_measure_8 (by decide +kernel) ?_
    refine lv_lstore_n (lv' := [(2, .long (lN 0)), (0, .ref h0), (1, .int (bI false))]) hx hb dX0_measure_9 rfl hl (by decide) rfl (fun ls hl => ?_)
    refine lv_iconst (v := -1) hx hb dX0_measure_10 (by decide +kernel) ?_
    refine lv_istore (lv' := [(4, .int (-1)), (2, .long (lN 0)), (0, .ref h0), (1, .int (bI false))]) hx hb dX0_measure_11 hl (by decide) rfl (fun ls hl => ?_)
    refine lv_iconst (v := nI 0) hx hb dX0_measure_13 (by decide +kernel) ?_
    refine lv_istore (lv' := [(5, .int (nI 0)), (4, .int (-1)), (2, .long (lN 0)), (0, .ref h0), (1, .int (bI false))]) hx hb dX0_measure_14 hl (by decide) rfl (fun ls hl => ?_)
    have loop : ∀ (n i cy : Nat) (g1 : Nat → Int32) (H : Heap) (locs : List Loc) (ls : Array Slot), i + n = 67 → cy ≤ 1 → vW g1 i + cy * 2 ^ (32 * i) = vW f i → va_P D vwCl (wX0 h0 hw hs dA dB f g1 y z) H → va_D A (wX0 h0 hw hs dA dB f g1 y z) → va_S A s.heap H locs → lv_has ls 8 [(0, .ref h0), (1, .int (bI false)), (2, .long (lN cy)), (4, .int (tpI (vW g1 i))), (5, .int (nI i))] → W p l e rmX0_measure s m ([.ref h0, .int (bI false)] : List Value).toArray below meth c H locs 0 0 Q (F0 m 16 ls []) := by
      intro n
      induction n with
      | zero =>
        intro i cy g1 H locs ls hi hc h1 hP hD hS hl
        have hi : i = 67 := by omega
        subst hi
        refine lv_iload hx hb dX0_measure_16 (lv_at hl 4 rfl) ?_
        refine lv_bipush (v := nI 67) hx hb dX0_measure_18 (by decide +kernel) ?_
        refine lv_icmp_ge (tgt := 109) hx hb dX0_measure_20 (by decide) (fun _ => ?_) (fun c_ => absurd c_ (not_not_intro (nI_le (Nat.le_refl _) (by decide))))
        refine lv_iload hx hb dX0_measure_109 (lv_at hl 3 rfl) ?_
        have hF := vW_lt f 67
        have hG := vW_lt g1 67
        generalize 2 ^ (32 * 67) = N at h1 hF hG hret
        have hcy : cy = 0 ∨ cy = 1 := by omega
        exact hret (tpI (vW g1 67)) _ _ _ _ _ _ rfl dX0_measure_111 (⟨g1, rfl, rfl, fun _ => by rcases hcy with q | q <;> subst q <;> omega, fun h => Bool.noConfusion h⟩) hK hP hD hS
      | succ n ih =>
        intro i cy g1 H locs ls hi hc h1 hP hD hS hl
        refine lv_iload hx hb dX0_measure_16 (lv_at hl 4 rfl) ?_
        refine lv_bipush (v := nI 67) hx hb dX0_measure_18 (by decide +kernel) ?_
        refine lv_icmp_ge (tgt := 109) hx hb dX0_measure_20 (by decide) (fun c_ => absurd c_ (nI_ge (by omega) (by decide))) (fun _ => ?_)
        refine lv_iload_n hx hb dX0_measure_23 rfl (lv_at hl 1 rfl) ?_
        refine lv_if_eq (tgt := 39) hx hb dX0_measure_24 (by decide) (fun _ => ?_) (fun c_ => absurd c_ (not_not_intro rfl))
        refine lv_aload_n hx hb dX0_measure_39 rfl (lv_at hl 0 rfl) ?_
        refine va_get (D := D) (ci := 0) (v := .ref hw) (C := RX0) (T := TX0) (N := 4) hx hb hts in_X0 hown hK hP 0 rfl rfl 0 (by decide) (hts _ q21) (fun _ h9 => h9) rfl dX0_measure_40 ?_
        refine lv_iload hx hb dX0_measure_43 (lv_at hl 4 rfl) ?_
        refine x_iald hx hb hK hP 1 0 rfl rfl (k := i) (by omega) (by decide) dX0_measure_45 ?_
        refine lv_i2l hx hb dX0_measure_46 rfl ?_
        refine lv_ldc2 hx hb hown (hts _ q40) dX0_measure_47 ?_
        refine x_tol (lN 4294967295) (rfl) ?_
        refine lv_land hx hb dX0_measure_50 ?_
        refine x_tol (lN (uI (f i))) (uI_l _) ?_
        have hd := uI_lt (f i)
        refine lv_lstore (lv' := [(6, .long (lN (uI (f i)))), (0, .ref h0), (1, .int (bI false)), (2, .long (lN cy)), (4, .int (tpI (vW g1 i))), (5, .int (nI i))]) hx hb dX0_measure_51 hl (by decide) rfl (fun ls hl => ?_)
        refine lv_lload hx hb dX0_measure_53 (lv_at hl 0 rfl) ?_
        refine lv_lload_n hx hb dX0_measure_55 rfl (lv_at hl 3 rfl) ?_
        refine lv_ladd hx hb dX0_measure_56 ?_
        refine x_tol (lN (uI (f i) + cy)) (lN_add _ _) ?_
        refine lv_lstore (lv' := [(6, .long (lN (uI (f i) + cy))), (0, .ref h0), (1, .int (bI false)), (2, .long (lN cy)), (4, .int (tpI (vW g1 i))), (5, .int (nI i))]) hx hb dX0_measure_57 hl (by decide) rfl (fun ls hl => ?_)
        refine lv_lload hx hb dX0_measure_59 (lv_at hl 0 rfl) ?_
        refine lv_bipush (v := nI 32) hx hb dX0_measure_61 (by decide +kernel) ?_
        refine lv_lushr hx hb dX0_measure_63 rfl ?_
        refine x_tol (lN ((uI (f i) + cy) / 4294967296)) (wb_shr (by omega) (by decide)) ?_
        refine lv_lstore_n (lv' := [(2, .long (lN ((uI (f i) + cy) / 4294967296))), (6, .long (lN (uI (f i) + cy))), (0, .ref h0), (1, .int (bI false)), (4, .int (tpI (vW g1 i))), (5, .int (nI i))]) hx hb dX0_measure_64 rfl hl (by decide) rfl (fun ls hl => ?_)
        refine lv_aload_n hx hb dX0_measure_65 rfl (lv_at hl 2 rfl) ?_
        refine va_get (D := D) (ci := 0) (v := .ref hs) (C := RX0) (T := TX0) (N := 4) hx hb hts in_X0 hown hK hP 0 rfl rfl 1 (by decide) (hts _ q22) (fun _ h9 => h9) rfl dX0_measure_66 ?_
        refine lv_iload hx hb dX0_measure_69 (lv_at hl 5 rfl) ?_
        refine lv_lload hx hb dX0_measure_71 (lv_at hl 1 rfl) ?_
        refine lv_l2i hx hb dX0_measure_73 rfl ?_
        refine x_toi (nI ((uI (f i) + cy) % 4294967296)) (by rw [lN_i]; exact nI_mod _) ?_
        refine x_iast hx hb hK hP hD hS 2 1 rfl rfl (k := i) (by omega) (by decide) dX0_measure_74 (fun H locs hP hD hS => ?_)
        have hP : va_P D vwCl (wX0 h0 hw hs dA dB f (upd g1 i (nI ((uI (f i) + cy) % 4294967296))) y z) H := hP
        have hD : va_D A (wX0 h0 hw hs dA dB f (upd g1 i (nI ((uI (f i) + cy) % 4294967296))) y z) := hD
        obtain ⟨t, et⟩ : ∃ t, t = (uI (f i) + cy) % 4294967296 := ⟨_, rfl⟩
        have h2 := ms_stepF h1
        rw [← et] at hP hD h2
        have ht : t < 4294967296 := by omega
        refine lv_aload_n hx hb dX0_measure_75 rfl (lv_at hl 2 rfl) ?_
        refine va_get (D := D) (ci := 0) (v := .ref hs) (C := RX0) (T := TX0) (N := 4) hx hb hts in_X0 hown hK hP 0 rfl rfl 1 (by decide) (hts _ q22) (fun _ h9 => h9) rfl dX0_measure_76 ?_
        refine lv_iload hx hb dX0_measure_79 (lv_at hl 5 rfl) ?_
        refine x_iald hx hb hK hP 2 1 rfl rfl (k := i) (by omega) (by decide) dX0_measure_81 ?_
        refine x_toi (nI t) (pk_us) ?_
        refine lv_if_eq (tgt := 103) hx hb dX0_measure_82 (by decide) (fun c1 => ?_) (fun c1 => ?_)
        · have ht0 : t = 0 := (nI_mod0 ht).mp c1
          have e4 : tpI (vW g1 i) = tpI (vW (upd g1 i (nI t)) (i + 1)) := by rw [ht0]; exact ms_top0.symm
          rw [e4] at hl
          refine lv_iinc (v := nI (i + 1)) (lv' := [(5, .int (nI (i + 1))), (2, .long (lN ((uI (f i) + cy) / 4294967296))), (6, .long (lN (uI (f i) + cy))), (0, .ref h0), (1, .int (bI false)), (4, .int (tpI (vW (upd g1 i (nI t)) (i + 1))))]) hx hb dX0_measure_103 hl (k := 5) rfl (by rw [nI_succ]; rfl) (by decide) rfl (fun ls hl => ?_)
          refine lv_goto (tgt := 16) hx hb dX0_measure_106 (by decide) ?_
          exact ih (i + 1) _ _ H locs ls (by omega) (by omega) h2 hP hD hS (lv_sub hl [3, 4, 1, 5, 0] rfl)
        · have ht0 : t ≠ 0 := fun q => c1 (by rw [q]; rfl)
          refine lv_bipush (v := nI 32) hx hb dX0_measure_85 (by decide +kernel) ?_
          refine lv_iload hx hb dX0_measure_87 (lv_at hl 5 rfl) ?_
          refine lv_imul hx hb dX0_measure_89 ?_
          refine x_toi (nI (32 * i)) (pk_mul _ _) ?_
          refine lv_aload_n hx hb dX0_measure_90 rfl (lv_at hl 2 rfl) ?_
          refine va_get (D := D) (ci := 0) (v := .ref hs) (C := RX0) (T := TX0) (N := 4) hx hb hts in_X0 hown hK hP 0 rfl rfl 1 (by decide) (hts _ q22) (fun _ h9 => h9) rfl dX0_measure_91 ?_
          refine lv_iload hx hb dX0_measure_94 (lv_at hl 5 rfl) ?_
          refine x_iald hx hb hK hP 2 1 rfl rfl (k := i) (by omega) (by decide) dX0_measure_96 ?_
          refine x_toi (nI t) (pk_us) ?_
          refine x_callS_i (As := [.int (nI t)]) (rest := [.int (nI (32 * i))]) ⟨hx, hb, hml, hown, hts⟩ (metX0_highest l D dA dB h0 hw hs _ f (upd g1 i (nI t)) y z (nI t) (by rw [uI_nI ht]; exact ht0)) (va_cwS 1 hts (lw_S q67 q68 q11 q69) rfl rfl rfl (by decide +kernel) ⟨Nat.le_of_ble_eq_true rfl, Nat.le_of_ble_eq_true rfl⟩) hK hP hD hS hA rfl hl.1 rfl (Nat.le_of_ble_eq_true rfl) dX0_measure_97 ⟨Nat.le_refl _, Nat.le_refl _⟩ (fun r u H locs hp hP hD hS => ?_)
          obtain ⟨rfl, rfl⟩ := hp
          rw [uI_nI ht]
          refine lv_iadd hx hb dX0_measure_100 ?_
          refine x_toi (tpI (vW (upd g1 i (nI t)) (i + 1))) (by rw [ms_top ht0 ht]; exact nI_add _ _) ?_
          refine lv_istore (lv' := [(4, .int (tpI (vW (upd g1 i (nI t)) (i + 1)))), (2, .long (lN ((uI (f i) + cy) / 4294967296))), (6, .long (lN (uI (f i) + cy))), (0, .ref h0), (1, .int (bI false)), (5, .int (nI i))]) hx hb dX0_measure_101 hl (by decide) rfl (fun ls hl => ?_)
          refine lv_iinc (v := nI (i + 1)) (lv' := [(5, .int (nI (i + 1))), (4, .int (tpI (vW (upd g1 i (nI t)) (i + 1)))), (2, .long (lN ((uI (f i) + cy) / 4294967296))), (6, .long (lN (uI (f i) + cy))), (0, .ref h0), (1, .int (bI false))]) hx hb dX0_measure_103 hl (k := 5) rfl (by rw [nI_succ]; rfl) (by decide) rfl (fun ls hl => ?_)
          refine lv_goto (tgt := 16) hx hb dX0_measure_106 (by decide) ?_
          exact ih (i + 1) _ _ H locs ls (by omega) (by omega) h2 hP hD hS (lv_sub hl [4, 5, 2, 1, 0] rfl)
    exact loop 67 0 0 g _ _ ls rfl (by decide) (by rfl) hP hD hS (lv_sub hl [3, 4, 2, 1, 0] rfl)
  · refine lv_if_eq (tgt := 8) hx hb dX0_measure_1 (by decide) (fun c_ => absurd c_ (by decide)) (fun _ => ?_)
    refine lv_lconst (v := lN 1) hx hb dX0_measure_4 (by decide +kernel) ?_
    refine lv_goto (tgt := 9) hx hb dX0_measure_5 (by decide) ?_
    refine lv_lstore_n (lv' := [(2, .long (lN 1)), (0, .ref h0), (1, .int (bI true))]) hx hb dX0_measure_9 rfl hl (by decide) rfl (fun ls hl => ?_)
    refine lv_iconst (v := -1) hx hb dX0_measure_10 (by decide +kernel) ?_
    refine lv_istore (lv' := [(4, .int (-1)), (2, .long (lN 1)), (0, .ref h0), (1, .int (bI true))]) hx hb dX0_measure_11 hl (by decide) rfl (fun ls hl => ?_)
    refine lv_iconst (v := nI 0) hx hb dX0_measure_13 (by decide +kernel) ?_
    refine lv_istore (lv' := [(5, .int (nI 0)), (4, .int (-1)), (2, .long (lN 1)), (0, .ref h0), (1, .int (bI true))]) hx hb dX0_measure_14 hl (by decide) rfl (fun ls hl => ?_)
    have loop : ∀ (n i cy : Nat) (g1 : Nat → Int32) (H : Heap) (locs : List Loc) (ls : Array Slot), i + n = 67 → cy ≤ 1 → vW g1 i + cy * 2 ^ (32 * i) + vW f i = 2 ^ (32 * i) → va_P D vwCl (wX0 h0 hw hs dA dB f g1 y z) H → va_D A (wX0 h0 hw hs dA dB f g1 y z) → va_S A s.heap H locs → lv_has ls 8 [(0, .ref h0), (1, .int (bI true)), (2, .long (lN cy)), (4, .int (tpI (vW g1 i))), (5, .int (nI i))] → W p l e rmX0_measure s m ([.ref h0, .int (bI true)] : List Value).toArray below meth c H locs 0 0 Q (F0 m 16 ls []) := by
      intro n
      induction n with
      | zero =>
        intro i cy g1 H locs ls hi hc h1 hP hD hS hl
        have hi : i = 67 := by omega
        subst hi
        refine lv_iload hx hb dX0_measure_16 (lv_at hl 4 rfl) ?_
        refine lv_bipush (v := nI 67) hx hb dX0_measure_18 (by decide +kernel) ?_
        refine lv_icmp_ge (tgt := 109) hx hb dX0_measure_20 (by decide) (fun _ => ?_) (fun c_ => absurd c_ (not_not_intro (nI_le (Nat.le_refl _) (by decide))))
        refine lv_iload hx hb dX0_measure_109 (lv_at hl 3 rfl) ?_
        have hF := vW_lt f 67
        have hG := vW_lt g1 67
        generalize 2 ^ (32 * 67) = N at h1 hF hG hret
        have hcy : cy = 0 ∨ cy = 1 := by omega
        exact hret (tpI (vW g1 67)) _ _ _ _ _ _ rfl dX0_measure_111 (⟨g1, rfl, rfl, fun h => Bool.noConfusion h, fun _ hp => by rcases hcy with q | q <;> subst q <;> omega⟩) hK hP hD hS
      | succ n ih =>
        intro i cy g1 H locs ls hi hc h1 hP hD hS hl
        refine lv_iload hx hb dX0_measure_16 (lv_at hl 4 rfl) ?_
        refine lv_bipush (v := nI 67) hx hb dX0_measure_18 (by decide +kernel) ?_
        refine lv_icmp_ge (tgt := 109) hx hb dX0_measure_20 (by decide) (fun c_ => absurd c_ (nI_ge (by omega) (by decide))) (fun _ => ?_)
        refine lv_iload_n hx hb dX0_measure_23 rfl (lv_at hl 1 rfl) ?_
        refine lv_if_eq (tgt := 39) hx hb dX0_measure_24 (by decide) (fun c_ => absurd c_ (by decide)) (fun _ => ?_)
        refine lv_aload_n hx hb dX0_measure_27 rfl (lv_at hl 0 rfl) ?_
        refine va_get (D := D) (ci := 0) (v := .ref hw) (C := RX0) (T := TX0) (N := 4) hx hb hts in_X0 hown hK hP 0 rfl rfl 0 (by decide) (hts _ q21) (fun _ h9 => h9) rfl dX0_measure_28 ?_
        refine lv_iload hx hb dX0_measure_31 (lv_at hl 4 rfl) ?_
        refine x_iald hx hb hK hP 1 0 rfl rfl (k := i) (by omega) (by decide) dX0_measure_33 ?_
        refine lv_iconst (v := -1) hx hb dX0_measure_34 (by decide +kernel) ?_
        refine lv_ixor hx hb dX0_measure_35 ?_
        refine lv_goto (tgt := 46) hx hb dX0_measure_36 (by decide) ?_
        refine lv_i2l hx hb dX0_measure_46 rfl ?_
        refine lv_ldc2 hx hb hown (hts _ q40) dX0_measure_47 ?_
        refine x_tol (lN 4294967295) (rfl) ?_
        refine lv_land hx hb dX0_measure_50 ?_
        refine x_tol (lN (uI (f i ^^^ (-1)))) (uI_l _) ?_
        have hd := uI_lt (f i ^^^ (-1))
        refine lv_lstore (lv' := [(6, .long (lN (uI (f i ^^^ (-1))))), (0, .ref h0), (1, .int (bI true)), (2, .long (lN cy)), (4, .int (tpI (vW g1 i))), (5, .int (nI i))]) hx hb dX0_measure_51 hl (by decide) rfl (fun ls hl => ?_)
        refine lv_lload hx hb dX0_measure_53 (lv_at hl 0 rfl) ?_
        refine lv_lload_n hx hb dX0_measure_55 rfl (lv_at hl 3 rfl) ?_
        refine lv_ladd hx hb dX0_measure_56 ?_
        refine x_tol (lN (uI (f i ^^^ (-1)) + cy)) (lN_add _ _) ?_
        refine lv_lstore (lv' := [(6, .long (lN (uI (f i ^^^ (-1)) + cy))), (0, .ref h0), (1, .int (bI true)), (2, .long (lN cy)), (4, .int (tpI (vW g1 i))), (5, .int (nI i))]) hx hb dX0_measure_57 hl (by decide) rfl (fun ls hl => ?_)
        refine lv_lload hx hb dX0_measure_59 (lv_at hl 0 rfl) ?_
        refine lv_bipush (v := nI 32) hx hb dX0_measure_61 (by decide +kernel) ?_
        refine lv_lushr hx hb dX0_measure_63 rfl ?_
        refine x_tol (lN ((uI (f i ^^^ (-1)) + cy) / 4294967296)) (wb_shr (by omega) (by decide)) ?_
        refine lv_lstore_n (lv' := [(2, .long (lN ((uI (f i ^^^ (-1)) + cy) / 4294967296))), (6, .long (lN (uI (f i ^^^ (-1)) + cy))), (0, .ref h0), (1, .int (bI true)), (4, .int (tpI (vW g1 i))), (5, .int (nI i))]) hx hb dX0_measure_64 rfl hl (by decide) rfl (fun ls hl => ?_)
        refine lv_aload_n hx hb dX0_measure_65 rfl (lv_at hl 2 rfl) ?_
        refine va_get (D := D) (ci := 0) (v := .ref hs) (C := RX0) (T := TX0) (N := 4) hx hb hts in_X0 hown hK hP 0 rfl rfl 1 (by decide) (hts _ q22) (fun _ h9 => h9) rfl dX0_measure_66 ?_
        refine lv_iload hx hb dX0_measure_69 (lv_at hl 5 rfl) ?_
        refine lv_lload hx hb dX0_measure_71 (lv_at hl 1 rfl) ?_
        refine lv_l2i hx hb dX0_measure_73 rfl ?_
        refine x_toi (nI ((uI (f i ^^^ (-1)) + cy) % 4294967296)) (by rw [lN_i]; exact nI_mod _) ?_
        refine x_iast hx hb hK hP hD hS 2 1 rfl rfl (k := i) (by omega) (by decide) dX0_measure_74 (fun H locs hP hD hS => ?_)
        have hP : va_P D vwCl (wX0 h0 hw hs dA dB f (upd g1 i (nI ((uI (f i ^^^ (-1)) + cy) % 4294967296))) y z) H := hP
        have hD : va_D A (wX0 h0 hw hs dA dB f (upd g1 i (nI ((uI (f i ^^^ (-1)) + cy) % 4294967296))) y z) := hD
        obtain ⟨t, et⟩ : ∃ t, t = (uI (f i ^^^ (-1)) + cy) % 4294967296 := ⟨_, rfl⟩
        have h2 := ms_stepT h1
        rw [← et] at hP hD h2
        have ht : t < 4294967296 := by omega
        refine lv_aload_n hx hb dX0_measure_75 rfl (lv_at hl 2 rfl) ?_
        refine va_get (D := D) (ci := 0) (v := .ref hs) (C := RX0) (T := TX0) (N := 4) hx hb hts in_X0 hown hK hP 0 rfl rfl 1 (by decide) (hts _ q22) (fun _ h9 => h9) rfl dX0_measure_76 ?_
        refine lv_iload hx hb dX0_measure_79 (lv_at hl 5 rfl) ?_
        refine x_iald hx hb hK hP 2 1 rfl rfl (k := i) (by omega) (by decide) dX0_measure_81 ?_
        refine x_toi (nI t) (pk_us) ?_
        refine lv_if_eq (tgt := 103) hx hb dX0_measure_82 (by decide) (fun c1 => ?_) (fun c1 => ?_)
        · have ht0 : t = 0 := (nI_mod0 ht).mp c1
          have e4 : tpI (vW g1 i) = tpI (vW (upd g1 i (nI t)) (i + 1)) := by rw [ht0]; exact ms_top0.symm
          rw [e4] at hl
          refine lv_iinc (v := nI (i + 1)) (lv' := [(5, .int (nI (i + 1))), (2, .long (lN ((uI (f i ^^^ (-1)) + cy) / 4294967296))), (6, .long (lN (uI (f i ^^^ (-1)) + cy))), (0, .ref h0), (1, .int (bI true)), (4, .int (tpI (vW (upd g1 i (nI t)) (i + 1))))]) hx hb dX0_measure_103 hl (k := 5) rfl (by rw [nI_succ]; rfl) (by decide) rfl (fun ls hl => ?_)
          refine lv_goto (tgt := 16) hx hb dX0_measure_106 (by decide) ?_
          exact ih (i + 1) _ _ H locs ls (by omega) (by omega) h2 hP hD hS (lv_sub hl [3, 4, 1, 5, 0] rfl)
        · have ht0 : t ≠ 0 := fun q => c1 (by rw [q]; rfl)
          refine lv_bipush (v := nI 32) hx hb dX0_measure_85 (by decide +kernel) ?_
          refine lv_iload hx hb dX0_measure_87 (lv_at hl 5 rfl) ?_
          refine lv_imul hx hb dX0_measure_89 ?_
          refine x_toi (nI (32 * i)) (pk_mul _ _) ?_
          refine lv_aload_n hx hb dX0_measure_90 rfl (lv_at hl 2 rfl) ?_
          refine va_get (D := D) (ci := 0) (v := .ref hs) (C := RX0) (T := TX0) (N := 4) hx hb hts in_X0 hown hK hP 0 rfl rfl 1 (by decide) (hts _ q22) (fun _ h9 => h9) rfl dX0_measure_91 ?_
          refine lv_iload hx hb dX0_measure_94 (lv_at hl 5 rfl) ?_
          refine x_iald hx hb hK hP 2 1 rfl rfl (k := i) (by omega) (by decide) dX0_measure_96 ?_
          refine x_toi (nI t) (pk_us) ?_
          refine x_callS_i (As := [.int (nI t)]) (rest := [.int (nI (32 * i))]) ⟨hx, hb, hml, hown, hts⟩ (metX0_highest l D dA dB h0 hw hs _ f (upd g1 i (nI t)) y z (nI t) (by rw [uI_nI ht]; exact ht0)) (va_cwS 1 hts (lw_S q67 q68 q11 q69) rfl rfl rfl (by decide +kernel) ⟨Nat.le_of_ble_eq_true rfl, Nat.le_of_ble_eq_true rfl⟩) hK hP hD hS hA rfl hl.1 rfl (Nat.le_of_ble_eq_true rfl) dX0_measure_97 ⟨Nat.le_refl _, Nat.le_refl _⟩ (fun r u H locs hp hP hD hS => ?_)
          obtain ⟨rfl, rfl⟩ := hp
          rw [uI_nI ht]
          refine lv_iadd hx hb dX0_measure_100 ?_
          refine x_toi (tpI (vW (upd g1 i (nI t)) (i + 1))) (by rw [ms_top ht0 ht]; exact nI_add _ _) ?_
          refine lv_istore (lv' := [(4, .int (tpI (vW (upd g1 i (nI t)) (i + 1)))), (2, .long (lN ((uI (f i ^^^ (-1)) + cy) / 4294967296))), (6, .long (lN (uI (f i ^^^ (-1)) + cy))), (0, .ref h0), (1, .int (bI true)), (5, .int (nI i))]) hx hb dX0_measure_101 hl (by decide) rfl (fun ls hl => ?_)
          refine lv_iinc (v := nI (i + 1)) (lv' := [(5, .int (nI (i + 1))), (4, .int (tpI (vW (upd g1 i (nI t)) (i + 1)))), (2, .long (lN ((uI (f i ^^^ (-1)) + cy) / 4294967296))), (6, .long (lN (uI (f i ^^^ (-1)) + cy))), (0, .ref h0), (1, .int (bI true))]) hx hb dX0_measure_103 hl (k := 5) rfl (by rw [nI_succ]; rfl) (by decide) rfl (fun ls hl => ?_)
          refine lv_goto (tgt := 16) hx hb dX0_measure_106 (by decide) ?_
          exact ih (i + 1) _ _ H locs ls (by omega) (by omega) h2 hP hD hS (lv_sub hl [4, 5, 2, 1, 0] rfl)
    exact loop 67 0 1 g _ _ ls rfl (by decide) (by rfl) hP hD hS (lv_sub hl [3, 4, 2, 1, 0] rfl)
abbrev wsX0_read : List Cond := ws_ yX0_read cX0_read 6 (some .long)
abbrev rmX0_read : Room := { frames := 1, cells := 0, slots := 0, locals := 21 }
set_option maxHeartbeats 4000000 in
set_option maxRecDepth 100000 in
/-- ExactSum.read -/
theorem metX0_read (l : Launch) (D : va_G) (dA dB : ClassId) (h0 hw hs sz : Nat) (f g : Nat → Int32) (y z : Int32) (fr bt : Nat) (hf0 : fr + bt ≤ 2144) (hb0 : bt ≤ 53) : Met l yX0_read wsX0_read rmX0_read (va_Pc [.ref h0, .int (nI fr), .int (nI bt)] (x_pre D (tAB dA dB) (wX0 h0 hw hs dA dB f g y z) sz)) (va_Ql (fun (r : Int64) (u : va_W) => r = lN (vW g 67 / 2 ^ fr % 2 ^ bt) ∧ u = wX0 h0 hw hs dA dB f g y z) (x_post D (tAB dA dB) (va_A (wX0 h0 hw hs dA dB f g y z) sz)) (va_A (wX0 h0 hw hs dA dB f g y z) sz)) 0 0 (va_A (wX0 h0 hw hs dA dB f g y z) sz) := by
  refine x_met_l (by decide) (Nat.le_of_ble_eq_true rfl) ?_
  intro p e s m below meth c A Q ls hx hb hml hown hts hin hA hK hP hD hS hl hret
  have hown : s.vm.findClass RX0 = some m.cls := hown
  have hl : lv_has ls 6 [(0, .ref h0), (1, .int (nI fr)), (2, .int (nI bt))] := hl
  refine lv_lconst (v := lN 0) hx hb dX0_read_0 (by decide +kernel) ?_
  refine lv_lstore_n (lv' := [(3, .long (lN 0)), (0, .ref h0), (1, .int (nI fr)), (2, .int (nI bt))]) hx hb dX0_read_1 rfl hl (by decide) rfl (fun ls hl => ?_)
  refine lv_iload_n hx hb dX0_read_2 rfl (lv_at hl 2 rfl) ?_
  refine lv_iload_n hx hb dX0_read_3 rfl (lv_at hl 3 rfl) ?_
  refine lv_iadd hx hb dX0_read_4 ?_
  refine lv_iconst (v := nI 1) hx hb dX0_read_5 (by decide +kernel) ?_
  refine lv_isub hx hb dX0_read_6 ?_
  refine x_toi (nI (fr + bt) - nI 1) (by rw [nI_add]) ?_
  refine lv_istore (lv' := [(5, .int (nI (fr + bt) - nI 1)), (3, .long (lN 0)), (0, .ref h0), (1, .int (nI fr)), (2, .int (nI bt))]) hx hb dX0_read_7 hl (by decide) rfl (fun ls hl => ?_)
  have loop : ∀ (k : Nat) (H : Heap) (locs : List Loc) (ls : Array Slot), k ≤ bt → va_P D vwCl (wX0 h0 hw hs dA dB f g y z) H → va_D A (wX0 h0 hw hs dA dB f g y z) → va_S A s.heap H locs → lv_has ls 6 [(0, .ref h0), (1, .int (nI fr)), (3, .long (lN (vW g 67 / 2 ^ (fr + k) % 2 ^ (bt - k)))), (5, .int (nI (fr + k) - nI 1))] → W p l e rmX0_read s m ([.ref h0, .int (nI fr), .int (nI bt)] : List Value).toArray below meth c H locs 0 0 Q (F0 m 9 ls []) := by
    intro k
    induction k with
    | zero =>
      intro H locs ls hk hP hD hS hl
      refine lv_iload hx hb dX0_read_9 (lv_at hl 3 rfl) ?_
      refine lv_iload_n hx hb dX0_read_11 rfl (lv_at hl 1 rfl) ?_
      refine lv_icmp_lt (tgt := 33) hx hb dX0_read_12 (by decide) (fun _ => ?_) (fun c_ => absurd c_ (not_not_intro (nI_m1lt (by omega))))
      refine lv_lload_n hx hb dX0_read_33 rfl (lv_at hl 2 rfl) ?_
      refine x_tol (lN (vW g 67 / 2 ^ fr % 2 ^ bt)) (rfl) ?_
      exact hret (lN (vW g 67 / 2 ^ fr % 2 ^ bt)) _ _ _ _ _ _ rfl dX0_read_34 (⟨rfl, rfl⟩) hK hP hD hS
    | succ k ih =>
      intro H locs ls hk hP hD hS hl
      rw [show nI (fr + (k + 1)) - nI 1 = nI (fr + k) from nI_pred _] at hl
      refine lv_iload hx hb dX0_read_9 (lv_at hl 3 rfl) ?_
      refine lv_iload_n hx hb dX0_read_11 rfl (lv_at hl 1 rfl) ?_
      refine lv_icmp_lt (tgt := 33) hx hb dX0_read_12 (by decide) (fun c_ => absurd c_ (nI_nlt (by omega) (by omega))) (fun _ => ?_)
      refine lv_lload_n hx hb dX0_read_15 rfl (lv_at hl 2 rfl) ?_
      refine lv_iconst (v := nI 1) hx hb dX0_read_16 (by decide +kernel) ?_
      refine lv_lshl hx hb dX0_read_17 rfl ?_
      refine x_tol (lN (vW g 67 / 2 ^ (fr + (k + 1)) % 2 ^ (bt - (k + 1)) * 2)) (wb_shl _ (k := 1) (by decide)) ?_
      refine lv_aload_n hx hb dX0_read_18 rfl (lv_at hl 0 rfl) ?_
      refine lv_iload hx hb dX0_read_19 (lv_at hl 3 rfl) ?_
      refine x_call_i (As := [.int (nI (fr + k))]) (rest := [.long (lN (vW g 67 / 2 ^ (fr + (k + 1)) % 2 ^ (bt - (k + 1)) * 2))]) (ci := 0) (q0 := 0) ⟨hx, hb, hml, hown, hts⟩ (metX0_bit l D dA dB h0 hw hs _ f g y z (fr + k) (by omega)) (cwV 1 hts (lw_V q79 q81 qs5 q11 q82) rfl rfl rfl (by decide +kernel) ⟨Nat.le_of_ble_eq_true rfl, Nat.le_of_ble_eq_true rfl⟩) hK hP hD hS hA rfl rfl rfl hl.1 rfl (Nat.le_of_ble_eq_true rfl) dX0_read_21 ⟨Nat.le_refl _, Nat.le_refl _⟩ (fun r u H locs hp hP hD hS => ?_)
      obtain ⟨rfl, rfl⟩ := hp
      refine lv_i2l hx hb dX0_read_24 rfl ?_
      refine x_tol (lN (vW g 67 / 2 ^ (fr + k) % 2)) (nI_l (by omega)) ?_
      refine lv_lor hx hb dX0_read_25 ?_
      have hv : vW g 67 / 2 ^ (fr + (k + 1)) % 2 ^ (bt - (k + 1)) < 9007199254740992 := Nat.lt_of_lt_of_le (Nat.mod_lt _ (Nat.two_pow_pos _)) (Nat.pow_le_pow_right (n := 2) (j := 53) (by decide) (by omega))
      refine x_tol (lN (vW g 67 / 2 ^ (fr + k) % 2 ^ (bt - k))) (by rw [g_or (k := 1) (p := 2) rfl (by omega) (by omega)]; congr 1; rw [show bt - k = (bt - (k + 1)) + 1 by omega]; exact rd_step _ _ _) ?_
      refine lv_lstore_n (lv' := [(3, .long (lN (vW g 67 / 2 ^ (fr + k) % 2 ^ (bt - k)))), (0, .ref h0), (1, .int (nI fr)), (5, .int (nI (fr + k)))]) hx hb dX0_read_26 rfl hl (by decide) rfl (fun ls hl => ?_)
      refine lv_iinc (v := nI (fr + k) - nI 1) (lv' := [(5, .int (nI (fr + k) - nI 1)), (3, .long (lN (vW g 67 / 2 ^ (fr + k) % 2 ^ (bt - k)))), (0, .ref h0), (1, .int (nI fr))]) hx hb dX0_read_27 hl (k := 3) rfl (by rw [Int32.sub_eq_add_neg]; rfl) (by decide) rfl (fun ls hl => ?_)
      refine lv_goto (tgt := 9) hx hb dX0_read_30 (by decide) ?_
      exact ih H locs ls (by omega) hP hD hS (lv_sub hl [2, 3, 1, 0] rfl)
  exact loop bt _ _ ls (Nat.le_refl _) hP hD hS (by rw [show vW g 67 / 2 ^ (fr + bt) % 2 ^ (bt - bt) = 0 by rw [Nat.sub_self]; exact Nat.mod_one _]; exact lv_sub hl [2, 3, 1, 0] rfl)
abbrev wsX0_some : List Cond := ws_ yX0_some cX0_some 4 (some .boolean)
abbrev rmX0_some : Room := { frames := 0, cells := 0, slots := 0, locals := 0 }
set_option maxHeartbeats 4000000 in
set_option maxRecDepth 100000 in
/-- ExactSum.some -/
theorem metX0_some (l : Launch) (D : va_G) (dA dB : ClassId) (h0 hw hs sz : Nat) (f g : Nat → Int32) (y z : Int32) (b0 : Nat) (hb0 : b0 < 2144) : Met l yX0_some wsX0_some rmX0_some (va_Pc [.ref h0, .int (nI b0)] (x_pre D (tAB dA dB) (wX0 h0 hw hs dA dB f g y z) sz)) (va_Qi (fun (r : Int32) (u : va_W) => r = bI (decide (vW g 67 % 2 ^ b0 ≠ 0)) ∧ u = wX0 h0 hw hs dA dB f g y z) (x_post D (tAB dA dB) (va_A (wX0 h0 hw hs dA dB f g y z) sz)) (va_A (wX0 h0 hw hs dA dB f g y z) sz)) 0 0 (va_A (wX0 h0 hw hs dA dB f g y z) sz) := by
  refine x_met_z (by decide) (Nat.le_of_ble_eq_true rfl) ?_
  intro p e s m below meth c A Q ls hx hb hml hown hts hin hA hK hP hD hS hl hret
  have hown : s.vm.findClass RX0 = some m.cls := hown
  have hl : lv_has ls 4 [(0, .ref h0), (1, .int (nI b0))] := hl
  refine lv_iload_n hx hb dX0_some_0 rfl (lv_at hl 1 rfl) ?_
  refine lv_iconst (v := nI 5) hx hb dX0_some_1 (by decide +kernel) ?_
  refine lv_ishr hx hb dX0_some_2 ?_
  refine x_toi (nI (b0 / 32)) (pk_shrN (by omega) _ 5 (by decide)) ?_
  refine lv_istore_n (lv' := [(2, .int (nI (b0 / 32))), (0, .ref h0), (1, .int (nI b0))]) hx hb dX0_some_3 rfl hl (by decide) rfl (fun ls hl => ?_)
  refine lv_iconst (v := nI 0) hx hb dX0_some_4 (by decide +kernel) ?_
  refine lv_istore_n (lv' := [(3, .int (nI 0)), (2, .int (nI (b0 / 32))), (0, .ref h0), (1, .int (nI b0))]) hx hb dX0_some_5 rfl hl (by decide) rfl (fun ls hl => ?_)
  have loop : ∀ (n i : Nat) (ls : Array Slot), i + n = b0 / 32 → vW g i = 0 → lv_has ls 4 [(0, .ref h0), (1, .int (nI b0)), (2, .int (nI (b0 / 32))), (3, .int (nI i))] → W p l e rmX0_some s m ([.ref h0, .int (nI b0)] : List Value).toArray below meth c s.heap [] 0 0 Q (F0 m 6 ls []) := by
    intro n
    induction n with
    | zero =>
      intro i ls hi h1 hl
      have hi : i = b0 / 32 := by omega
      subst hi
      refine lv_iload_n hx hb dX0_some_6 rfl (lv_at hl 3 rfl) ?_
      refine lv_iload_n hx hb dX0_some_7 rfl (lv_at hl 2 rfl) ?_
      refine lv_icmp_ge (tgt := 28) hx hb dX0_some_8 (by decide) (fun _ => ?_) (fun c_ => absurd c_ (not_not_intro (nI_le (Nat.le_refl _) (by omega))))
      refine lv_aload_n hx hb dX0_some_28 rfl (lv_at hl 0 rfl) ?_
      refine va_get (D := D) (ci := 0) (v := .ref hs) (C := RX0) (T := TX0) (N := 4) hx hb hts in_X0 hown hK hP 0 rfl rfl 1 (by decide) (hts _ q22) (fun _ h9 => h9) rfl dX0_some_29 ?_
      refine lv_iload_n hx hb dX0_some_32 rfl (lv_at hl 2 rfl) ?_
      refine x_iald hx hb hK hP 2 1 rfl rfl (k := (b0 / 32)) (by omega) (by decide) dX0_some_33 ?_
      refine lv_iconst (v := nI 1) hx hb dX0_some_34 (by decide +kernel) ?_
      refine lv_iload_n hx hb dX0_some_35 rfl (lv_at hl 1 rfl) ?_
      refine lv_bipush (v := nI 31) hx hb dX0_some_36 (by decide +kernel) ?_
      refine lv_iand hx hb dX0_some_38 ?_
      refine x_toi (nI (b0 % 32)) (pk_andN (by omega) 5 (by decide)) ?_
      have ht : b0 % 32 < 32 := Nat.mod_lt _ (by decide)
      refine lv_ishl hx hb dX0_some_39 ?_
      refine x_toi (nI (2 ^ (b0 % 32))) (sh_1 _ ht) ?_
      refine lv_iconst (v := nI 1) hx hb dX0_some_40 (by decide +kernel) ?_
      refine lv_isub hx hb dX0_some_41 ?_
      refine x_toi (nI (2 ^ (b0 % 32) - 1)) (pk_sub (Nat.two_pow_pos _)) ?_
      refine lv_iand hx hb dX0_some_42 ?_
      refine x_toi (nI (uI (g (b0 / 32)) % 2 ^ (b0 % 32))) (sm_and _ ht) ?_
      have hlt : uI (g (b0 / 32)) % 2 ^ (b0 % 32) < 4294967296 := Nat.lt_of_le_of_lt (Nat.mod_le _ _) (uI_lt _)
      refine lv_if_eq (tgt := 50) hx hb dX0_some_43 (by decide) (fun c1 => ?_) (fun c1 => ?_)
      · refine lv_iconst (v := nI 0) hx hb dX0_some_50 (by decide +kernel) ?_
        refine x_toi (bI (decide (vW g 67 % 2 ^ b0 ≠ 0))) (by rw [show decide (vW g 67 % 2 ^ b0 ≠ 0) = false from decide_eq_false (fun q => q ((sm_end hb0 h1).mpr ((nI_mod0 hlt).mp c1)))]; rfl) ?_
        exact hret (bI (decide (vW g 67 % 2 ^ b0 ≠ 0))) _ _ _ _ _ _ rfl dX0_some_51 (bI_nar _) (⟨rfl, rfl⟩) hK hP hD hS
      · refine lv_iconst (v := nI 1) hx hb dX0_some_46 (by decide +kernel) ?_
        refine lv_goto (tgt := 51) hx hb dX0_some_47 (by decide) ?_
        refine x_toi (bI (decide (vW g 67 % 2 ^ b0 ≠ 0))) (by rw [show decide (vW g 67 % 2 ^ b0 ≠ 0) = true from decide_eq_true (fun q => c1 ((nI_mod0 hlt).mpr ((sm_end hb0 h1).mp q)))]; rfl) ?_
        exact hret (bI (decide (vW g 67 % 2 ^ b0 ≠ 0))) _ _ _ _ _ _ rfl dX0_some_51 (bI_nar _) (⟨rfl, rfl⟩) hK hP hD hS
    | succ n ih =>
      intro i ls hi h1 hl
      refine lv_iload_n hx hb dX0_some_6 rfl (lv_at hl 3 rfl) ?_
      refine lv_iload_n hx hb dX0_some_7 rfl (lv_at hl 2 rfl) ?_
      refine lv_icmp_ge (tgt := 28) hx hb dX0_some_8 (by decide) (fun c_ => absurd c_ (nI_ge (by omega) (by omega))) (fun _ => ?_)
      refine lv_aload_n hx hb dX0_some_11 rfl (lv_at hl 0 rfl) ?_
      refine va_get (D := D) (ci := 0) (v := .ref hs) (C := RX0) (T := TX0) (N := 4) hx hb hts in_X0 hown hK hP 0 rfl rfl 1 (by decide) (hts _ q22) (fun _ h9 => h9) rfl dX0_some_12 ?_
      refine lv_iload_n hx hb dX0_some_15 rfl (lv_at hl 3 rfl) ?_
      refine x_iald hx hb hK hP 2 1 rfl rfl (k := i) (by omega) (by decide) dX0_some_16 ?_
      refine lv_if_eq (tgt := 22) hx hb dX0_some_17 (by decide) (fun c1 => ?_) (fun c1 => ?_)
      · refine lv_iinc (v := nI (i + 1)) (lv' := [(3, .int (nI (i + 1))), (0, .ref h0), (1, .int (nI b0)), (2, .int (nI (b0 / 32)))]) hx hb dX0_some_22 hl (k := 3) rfl (by rw [nI_succ]; rfl) (by decide) rfl (fun ls hl => ?_)
        refine lv_goto (tgt := 6) hx hb dX0_some_25 (by decide) ?_
        exact ih (i + 1) ls (by omega) (by rw [vW_s, h1, (uI_0 _).mp c1]; omega) (lv_sub hl [1, 2, 3, 0] rfl)
      · refine lv_iconst (v := nI 1) hx hb dX0_some_20 (by decide +kernel) ?_
        refine x_toi (bI (decide (vW g 67 % 2 ^ b0 ≠ 0))) (by rw [sm_no hb0 (by omega) c1]; rfl) ?_
        exact hret (bI (decide (vW g 67 % 2 ^ b0 ≠ 0))) _ _ _ _ _ _ rfl dX0_some_21 (bI_nar _) (⟨rfl, rfl⟩) hK hP hD hS
  exact loop (b0 / 32) 0 ls (by omega) rfl (lv_sub hl [2, 3, 1, 0] rfl)
end
section
theorem bI_1 {o : Bool} (h : ¬ bI o = 0) : o = true := by cases o <;> simp_all [bI]
/-- whether the cut bits make the others one more -/
def grB (md : Nat) (mi half more odd : Bool) : Bool := if md = 0 then half && (more || odd) else if md = 4 then half else (half || more) && decide (md = if mi then 3 else 2)
def grM (md : Nat) (mi : Bool) (M cut : Nat) : Bool := grB md mi (decide (M / 2 ^ (cut - 1) % 2 = 1)) (decide (M % 2 ^ (cut - 1) ≠ 0)) (decide (M / 2 ^ cut % 2 = 1))
def sgN (mi : Bool) : Nat := if mi then 9223372036854775808 else 0
def byB (md : Nat) (mi : Bool) : Bool := decide (md = 0 ∨ md = 4 ∨ md = if mi then 3 else 2)
def q1N (md : Nat) (mi : Bool) (M : Nat) : Nat := M / 2 ^ (M.log2 - 52) + if grM md mi M (M.log2 - 52) then 1 else 0
def q2N (q : Nat) : Nat := if q = 9007199254740992 then 4503599627370496 else q
def c2N (q c : Nat) : Nat := if q = 9007199254740992 then c + 1 else c
def magN (md : Nat) (mi : Bool) (M : Nat) : Nat := if M.log2 ≤ 52 then M else if c2N (q1N md mi M) (M.log2 - 52) + 1 < 2047 then (c2N (q1N md mi M) (M.log2 - 52) + 1) * 4503599627370496 + (q2N (q1N md mi M) - 4503599627370496) else if byB md mi then 9218868437227405312 else 9218868437227405311
def resN (md : Nat) (mi : Bool) (M : Nat) (zz : Bool) : Nat := if M = 0 then sgN zz else sgN mi + magN md mi M
theorem sg_or {mi : Bool} {x : Nat} (hx : x < 9223372036854775808) : lN (sgN mi) ||| lN x = lN (sgN mi + x) := by
  cases mi
  · show lN 0 ||| lN x = lN (0 + x)
    rw [Nat.zero_add]
    exact Int64.zero_or
  · have h := g_or (k := 63) (p := 9223372036854775808) (a := x) (b := 1) rfl hx (by omega)
    rw [Nat.one_mul] at h
    exact h
theorem fin_or {mi : Bool} {E x : Nat} (hE : E < 2047) (hx : x < 4503599627370496) : (lN (sgN mi) ||| lN (E * 4503599627370496)) ||| lN x = lN (sgN mi + (E * 4503599627370496 + x)) := by
  rw [sg_or (by omega)]
  have e : sgN mi + E * 4503599627370496 = ((if mi then 2048 else 0) + E) * 4503599627370496 := by
    cases mi
    · simp [sgN]
    · simp only [sgN, if_true]; omega
  have hlt : (if mi = true then 2048 else 0) + E < 4096 := by split <;> omega
  rw [e, g_or (k := 52) (p := 4503599627370496) rfl hx (by omega), ← e, Nat.add_assoc]
/-- the cut number: 53 bits -/
theorem q0_bounds {M : Nat} (h : 52 < M.log2) : 4503599627370496 ≤ M / 2 ^ (M.log2 - 52) ∧ M / 2 ^ (M.log2 - 52) < 9007199254740992 := by
  have hne : M ≠ 0 := by intro q; subst q; simp at h
  have h1 : 2 ^ M.log2 ≤ M := (Nat.le_log2 hne).mp (Nat.le_refl _)
  have h2 : M < 2 ^ (M.log2 + 1) := (Nat.log2_lt hne).mp (Nat.lt_succ_self _)
  constructor
  · rw [Nat.le_div_iff_mul_le (Nat.two_pow_pos _)]
    have e : 4503599627370496 * 2 ^ (M.log2 - 52) = 2 ^ M.log2 := by
      rw [show (4503599627370496 : Nat) = 2 ^ 52 from rfl, ← Nat.pow_add, show 52 + (M.log2 - 52) = M.log2 by omega]
    omega
  · rw [Nat.div_lt_iff_lt_mul (Nat.two_pow_pos _)]
    have e : 9007199254740992 * 2 ^ (M.log2 - 52) = 2 ^ (M.log2 + 1) := by
      rw [show (9007199254740992 : Nat) = 2 ^ 53 from rfl, ← Nat.pow_add, show 53 + (M.log2 - 52) = M.log2 + 1 by omega]
    omega
theorem q1_bounds {md : Nat} {mi : Bool} {M : Nat} (h : 52 < M.log2) : 4503599627370496 ≤ q1N md mi M ∧ q1N md mi M ≤ 9007199254740992 := by
  have := q0_bounds h
  unfold q1N
  split <;> omega
theorem q2_bounds {q : Nat} (h1 : 4503599627370496 ≤ q) (h2 : q ≤ 9007199254740992) : 4503599627370496 ≤ q2N q ∧ q2N q < 9007199254740992 := by
  unfold q2N
  split <;> omega
theorem log_lt {M n : Nat} (hn : 0 < n) (h : M < 2 ^ n) : M.log2 < n := by
  by_cases hM : M = 0
  · subst hM; simpa using hn
  · exact (Nat.log2_lt hM).mpr h
theorem lo_log {M : Nat} : M < 2 ^ (M.log2 + 1) := by
  by_cases hM : M = 0
  · subst hM; simp
  · exact (Nat.log2_lt hM).mp (Nat.lt_succ_self _)

abbrev wsX0_grows : List Cond := ws_ yX0_grows cX0_grows 8 (some .boolean)
abbrev rmX0_grows : Room := { frames := 1, cells := 0, slots := 0, locals := 23 }
set_option maxHeartbeats 4000000 in
set_option maxRecDepth 100000 in
/-- ExactSum.grows -/
theorem metX0_grows (l : Launch) (D : va_G) (dA dB : ClassId) (h0 hw hs sz : Nat) (f g : Nat → Int32) (y z : Int32) (md : Nat) (mi : Bool) (cut q : Nat) (hd0 : md < 5) (hc0 : 0 < cut) (hc1 : cut ≤ 2144) (hq0 : q < 18446744073709551616) : Met l yX0_grows wsX0_grows rmX0_grows (va_Pc [.ref h0, .int (nI md), .int (bI mi), .int (nI cut), .long (lN q)] (x_pre D (tAB dA dB) (wX0 h0 hw hs dA dB f g y z) sz)) (va_Qi (fun (r : Int32) (u : va_W) => r = bI (grB md mi (decide (vW g 67 / 2 ^ (cut - 1) % 2 = 1)) (decide (vW g 67 % 2 ^ (cut - 1) ≠ 0)) (decide (q % 2 = 1))) ∧ u = wX0 h0 hw hs dA dB f g y z) (x_post D (tAB dA dB) (va_A (wX0 h0 hw hs dA dB f g y z) sz)) (va_A (wX0 h0 hw hs dA dB f g y z) sz)) 0 0 (va_A (wX0 h0 hw hs dA dB f g y z) sz) := by
  refine x_met_z (by decide) (Nat.le_of_ble_eq_true rfl) ?_
  intro p e s m below meth c A Q ls hx hb hml hown hts hin hA hK hP hD hS hl hret
  have hown : s.vm.findClass RX0 = some m.cls := hown
  have hl : lv_has ls 8 [(0, .ref h0), (1, .int (nI md)), (2, .int (bI mi)), (3, .int (nI cut)), (4, .long (lN q))] := hl
  refine lv_aload_n hx hb dX0_grows_0 rfl (lv_at hl 0 rfl) ?_
  refine lv_iload_n hx hb dX0_grows_1 rfl (lv_at hl 3 rfl) ?_
  refine lv_iconst (v := nI 1) hx hb dX0_grows_2 (by decide +kernel) ?_
  refine lv_isub hx hb dX0_grows_3 ?_
  refine x_toi (nI (cut - 1)) (pk_sub (by omega)) ?_
  refine x_call_i (As := [.int (nI (cut - 1))]) (rest := []) (ci := 0) (q0 := 0) ⟨hx, hb, hml, hown, hts⟩ (metX0_bit l D dA dB h0 hw hs _ f g y z (cut - 1) (by omega)) (cwV 1 hts (lw_V q79 q81 qs5 q11 q82) rfl rfl rfl (by decide +kernel) ⟨Nat.le_of_ble_eq_true rfl, Nat.le_of_ble_eq_true rfl⟩) hK hP hD hS hA rfl rfl rfl hl.1 rfl (Nat.le_of_ble_eq_true rfl) dX0_grows_4 ⟨Nat.le_refl _, Nat.le_refl _⟩ (fun r u H locs hp hP hD hS => ?_)
  obtain ⟨rfl, rfl⟩ := hp
  obtain ⟨hf, ehf⟩ : ∃ hf, hf = decide (vW g 67 / 2 ^ (cut - 1) % 2 = 1) := ⟨_, rfl⟩
  obtain ⟨mo, emo⟩ : ∃ mo, mo = decide (vW g 67 % 2 ^ (cut - 1) ≠ 0) := ⟨_, rfl⟩
  obtain ⟨od, eod⟩ : ∃ od, od = decide (q % 2 = 1) := ⟨_, rfl⟩
  rw [← ehf, ← emo, ← eod] at hret
  refine lv_iconst (v := nI 1) hx hb dX0_grows_7 (by decide +kernel) ?_
  have K16 : ∀ (ls : Array Slot), lv_has ls 8 [(0, .ref h0), (1, .int (nI md)), (2, .int (bI mi)), (3, .int (nI cut)), (4, .long (lN q))] → W p l e rmX0_grows s m ([.ref h0, .int (nI md), .int (bI mi), .int (nI cut), .long (lN q)] : List Value).toArray below meth c H locs 0 0 Q (F0 m 16 ls [.int (bI hf)]) := by
    intro ls hl
    refine lv_istore (lv' := [(6, .int (bI hf)), (0, .ref h0), (1, .int (nI md)), (2, .int (bI mi)), (3, .int (nI cut)), (4, .long (lN q))]) hx hb dX0_grows_16 hl (by decide) rfl (fun ls hl => ?_)
    refine lv_aload_n hx hb dX0_grows_18 rfl (lv_at hl 1 rfl) ?_
    refine lv_iload_n hx hb dX0_grows_19 rfl (lv_at hl 4 rfl) ?_
    refine lv_iconst (v := nI 1) hx hb dX0_grows_20 (by decide +kernel) ?_
    refine lv_isub hx hb dX0_grows_21 ?_
    refine x_toi (nI (cut - 1)) (pk_sub (by omega)) ?_
    refine x_call_i (As := [.int (nI (cut - 1))]) (rest := []) (ci := 0) (q0 := 0) ⟨hx, hb, hml, hown, hts⟩ (metX0_some l D dA dB h0 hw hs _ f g y z (cut - 1) (by omega)) (cwV 1 hts (lw_V q87 q89 qs7 q11 q90) rfl rfl rfl (by decide +kernel) ⟨Nat.le_of_ble_eq_true rfl, Nat.le_of_ble_eq_true rfl⟩) hK hP hD hS hA rfl rfl rfl hl.1 rfl (Nat.le_of_ble_eq_true rfl) dX0_grows_22 ⟨Nat.le_refl _, Nat.le_refl _⟩ (fun r u H locs hp hP hD hS => ?_)
    obtain ⟨rfl, rfl⟩ := hp
    rw [← emo]
    refine lv_istore (lv' := [(7, .int (bI mo)), (6, .int (bI hf)), (0, .ref h0), (1, .int (nI md)), (2, .int (bI mi)), (3, .int (nI cut)), (4, .long (lN q))]) hx hb dX0_grows_25 hl (by decide) rfl (fun ls hl => ?_)
    refine lv_iload_n hx hb dX0_grows_27 rfl (lv_at hl 3 rfl) ?_
    refine lv_if_ne (tgt := 56) hx hb dX0_grows_28 (by decide) (fun d0 => ?_) (fun d0 => ?_)
    · have k0 : md ≠ 0 := fun q9 => d0 (by rw [q9]; rfl)
      refine lv_iload_n hx hb dX0_grows_56 rfl (lv_at hl 3 rfl) ?_
      refine lv_iconst (v := nI 4) hx hb dX0_grows_57 (by decide +kernel) ?_
      refine lv_icmp_ne (tgt := 64) hx hb dX0_grows_58 (by decide) (fun d1 => ?_) (fun d1 => ?_)
      · have k1 : md ≠ 4 := fun q9 => d1 (by rw [q9])
        refine lv_iload hx hb dX0_grows_64 (lv_at hl 1 rfl) ?_
        refine lv_if_ne (tgt := 74) hx hb dX0_grows_66 (by decide) (fun d2 => ?_) (fun d2 => ?_)
        · have k2 : hf = true := bI_1 d2
          refine lv_iload_n hx hb dX0_grows_74 rfl (lv_at hl 3 rfl) ?_
          refine lv_iload_n hx hb dX0_grows_75 rfl (lv_at hl 4 rfl) ?_
          refine lv_if_eq (tgt := 83) hx hb dX0_grows_76 (by decide) (fun d4 => ?_) (fun d4 => ?_)
          · have k4 : mi = false := (bI_0 _).mp d4
            refine lv_iconst (v := nI 2) hx hb dX0_grows_83 (by decide +kernel) ?_
            refine lv_icmp_ne (tgt := 91) hx hb dX0_grows_84 (by decide) (fun d5 => ?_) (fun d5 => ?_)
            · have k5 : md ≠ 2 := fun q9 => d5 (by rw [q9])
              refine lv_iconst (v := nI 0) hx hb dX0_grows_91 (by decide +kernel) ?_
              refine x_toi (bI (grB md mi hf mo od)) (by rw [show grB md mi hf mo od = false by simp [grB, k0, k1, k2, k4, k5]]; rfl) ?_
              exact hret (bI (grB md mi hf mo od)) _ _ _ _ _ _ rfl dX0_grows_92 (bI_nar _) (⟨rfl, rfl⟩) hK hP hD hS
            · have k5 : md = 2 := (nI_eq (by omega) (by decide)).mp d5
              refine lv_iconst (v := nI 1) hx hb dX0_grows_87 (by decide +kernel) ?_
              refine lv_goto (tgt := 92) hx hb dX0_grows_88 (by decide) ?_
              refine x_toi (bI (grB md mi hf mo od)) (by rw [show grB md mi hf mo od = true by simp [grB, k0, k1, k2, k4, k5]]; rfl) ?_
              exact hret (bI (grB md mi hf mo od)) _ _ _ _ _ _ rfl dX0_grows_92 (bI_nar _) (⟨rfl, rfl⟩) hK hP hD hS
          · have k4 : mi = true := bI_1 d4
            refine lv_iconst (v := nI 3) hx hb dX0_grows_79 (by decide +kernel) ?_
            refine lv_goto (tgt := 84) hx hb dX0_grows_80 (by decide) ?_
            refine lv_icmp_ne (tgt := 91) hx hb dX0_grows_84 (by decide) (fun d5 => ?_) (fun d5 => ?_)
            · have k5 : md ≠ 3 := fun q9 => d5 (by rw [q9])
              refine lv_iconst (v := nI 0) hx hb dX0_grows_91 (by decide +kernel) ?_
              refine x_toi (bI (grB md mi hf mo od)) (by rw [show grB md mi hf mo od = false by simp [grB, k0, k1, k2, k4, k5]]; rfl) ?_
              exact hret (bI (grB md mi hf mo od)) _ _ _ _ _ _ rfl dX0_grows_92 (bI_nar _) (⟨rfl, rfl⟩) hK hP hD hS
            · have k5 : md = 3 := (nI_eq (by omega) (by decide)).mp d5
              refine lv_iconst (v := nI 1) hx hb dX0_grows_87 (by decide +kernel) ?_
              refine lv_goto (tgt := 92) hx hb dX0_grows_88 (by decide) ?_
              refine x_toi (bI (grB md mi hf mo od)) (by rw [show grB md mi hf mo od = true by simp [grB, k0, k1, k2, k4, k5]]; rfl) ?_
              exact hret (bI (grB md mi hf mo od)) _ _ _ _ _ _ rfl dX0_grows_92 (bI_nar _) (⟨rfl, rfl⟩) hK hP hD hS
        · have k2 : hf = false := (bI_0 _).mp d2
          refine lv_iload hx hb dX0_grows_69 (lv_at hl 0 rfl) ?_
          refine lv_if_eq (tgt := 91) hx hb dX0_grows_71 (by decide) (fun d3 => ?_) (fun d3 => ?_)
          · have k3 : mo = false := (bI_0 _).mp d3
            refine lv_iconst (v := nI 0) hx hb dX0_grows_91 (by decide +kernel) ?_
            refine x_toi (bI (grB md mi hf mo od)) (by rw [show grB md mi hf mo od = false by simp [grB, k0, k1, k2, k3]]; rfl) ?_
            exact hret (bI (grB md mi hf mo od)) _ _ _ _ _ _ rfl dX0_grows_92 (bI_nar _) (⟨rfl, rfl⟩) hK hP hD hS
          · have k3 : mo = true := bI_1 d3
            refine lv_iload_n hx hb dX0_grows_74 rfl (lv_at hl 3 rfl) ?_
            refine lv_iload_n hx hb dX0_grows_75 rfl (lv_at hl 4 rfl) ?_
            refine lv_if_eq (tgt := 83) hx hb dX0_grows_76 (by decide) (fun d4 => ?_) (fun d4 => ?_)
            · have k4 : mi = false := (bI_0 _).mp d4
              refine lv_iconst (v := nI 2) hx hb dX0_grows_83 (by decide +kernel) ?_
              refine lv_icmp_ne (tgt := 91) hx hb dX0_grows_84 (by decide) (fun d5 => ?_) (fun d5 => ?_)
              · have k5 : md ≠ 2 := fun q9 => d5 (by rw [q9])
                refine lv_iconst (v := nI 0) hx hb dX0_grows_91 (by decide +kernel) ?_
                refine x_toi (bI (grB md mi hf mo od)) (by rw [show grB md mi hf mo od = false by simp [grB, k0, k1, k2, k3, k4, k5]]; rfl) ?_
                exact hret (bI (grB md mi hf mo od)) _ _ _ _ _ _ rfl dX0_grows_92 (bI_nar _) (⟨rfl, rfl⟩) hK hP hD hS
              · have k5 : md = 2 := (nI_eq (by omega) (by decide)).mp d5
                refine lv_iconst (v := nI 1) hx hb dX0_grows_87 (by decide +kernel) ?_
                refine lv_goto (tgt := 92) hx hb dX0_grows_88 (by decide) ?_
                refine x_toi (bI (grB md mi hf mo od)) (by rw [show grB md mi hf mo od = true by simp [grB, k0, k1, k2, k3, k4, k5]]; rfl) ?_
                exact hret (bI (grB md mi hf mo od)) _ _ _ _ _ _ rfl dX0_grows_92 (bI_nar _) (⟨rfl, rfl⟩) hK hP hD hS
            · have k4 : mi = true := bI_1 d4
              refine lv_iconst (v := nI 3) hx hb dX0_grows_79 (by decide +kernel) ?_
              refine lv_goto (tgt := 84) hx hb dX0_grows_80 (by decide) ?_
              refine lv_icmp_ne (tgt := 91) hx hb dX0_grows_84 (by decide) (fun d5 => ?_) (fun d5 => ?_)
              · have k5 : md ≠ 3 := fun q9 => d5 (by rw [q9])
                refine lv_iconst (v := nI 0) hx hb dX0_grows_91 (by decide +kernel) ?_
                refine x_toi (bI (grB md mi hf mo od)) (by rw [show grB md mi hf mo od = false by simp [grB, k0, k1, k2, k3, k4, k5]]; rfl) ?_
                exact hret (bI (grB md mi hf mo od)) _ _ _ _ _ _ rfl dX0_grows_92 (bI_nar _) (⟨rfl, rfl⟩) hK hP hD hS
              · have k5 : md = 3 := (nI_eq (by omega) (by decide)).mp d5
                refine lv_iconst (v := nI 1) hx hb dX0_grows_87 (by decide +kernel) ?_
                refine lv_goto (tgt := 92) hx hb dX0_grows_88 (by decide) ?_
                refine x_toi (bI (grB md mi hf mo od)) (by rw [show grB md mi hf mo od = true by simp [grB, k0, k1, k2, k3, k4, k5]]; rfl) ?_
                exact hret (bI (grB md mi hf mo od)) _ _ _ _ _ _ rfl dX0_grows_92 (bI_nar _) (⟨rfl, rfl⟩) hK hP hD hS
      · have k1 : md = 4 := (nI_eq (by omega) (by decide)).mp d1
        refine lv_iload hx hb dX0_grows_61 (lv_at hl 1 rfl) ?_
        refine x_toi (bI (grB md mi hf mo od)) (by rw [show grB md mi hf mo od = hf by simp [grB, k1]]) ?_
        exact hret (bI (grB md mi hf mo od)) _ _ _ _ _ _ rfl dX0_grows_63 (bI_nar _) (⟨rfl, rfl⟩) hK hP hD hS
    · have k0 : md = 0 := (nI_mod0 (by omega)).mp d0
      refine lv_iload hx hb dX0_grows_31 (lv_at hl 1 rfl) ?_
      refine lv_if_eq (tgt := 54) hx hb dX0_grows_33 (by decide) (fun d1 => ?_) (fun d1 => ?_)
      · have k1 : hf = false := (bI_0 _).mp d1
        refine lv_iconst (v := nI 0) hx hb dX0_grows_54 (by decide +kernel) ?_
        refine x_toi (bI (grB md mi hf mo od)) (by rw [show grB md mi hf mo od = false by simp [grB, k0, k1]]; rfl) ?_
        exact hret (bI (grB md mi hf mo od)) _ _ _ _ _ _ rfl dX0_grows_55 (bI_nar _) (⟨rfl, rfl⟩) hK hP hD hS
      · have k1 : hf = true := bI_1 d1
        refine lv_iload hx hb dX0_grows_36 (lv_at hl 0 rfl) ?_
        refine lv_if_ne (tgt := 50) hx hb dX0_grows_38 (by decide) (fun d2 => ?_) (fun d2 => ?_)
        · have k2 : mo = true := bI_1 d2
          refine lv_iconst (v := nI 1) hx hb dX0_grows_50 (by decide +kernel) ?_
          refine lv_goto (tgt := 55) hx hb dX0_grows_51 (by decide) ?_
          refine x_toi (bI (grB md mi hf mo od)) (by rw [show grB md mi hf mo od = true by simp [grB, k0, k1, k2]]; rfl) ?_
          exact hret (bI (grB md mi hf mo od)) _ _ _ _ _ _ rfl dX0_grows_55 (bI_nar _) (⟨rfl, rfl⟩) hK hP hD hS
        · have k2 : mo = false := (bI_0 _).mp d2
          refine lv_lload hx hb dX0_grows_41 (lv_at hl 6 rfl) ?_
          refine lv_lconst (v := lN 1) hx hb dX0_grows_43 (by decide +kernel) ?_
          refine lv_land hx hb dX0_grows_44 ?_
          refine x_tol (lN (q % 2)) (wb_a1 hq0) ?_
          refine lv_lconst (v := lN 1) hx hb dX0_grows_45 (by decide +kernel) ?_
          refine W.lcmp hx hb dX0_grows_46 ?_
          refine lv_if_ne (tgt := 54) hx hb dX0_grows_47 (by decide) (fun d3 => ?_) (fun d3 => ?_)
          · have k3 : od = false := by rw [eod]; exact decide_eq_false (fun q9 => d3 ((lg_cmp_eq _ _).mpr (by rw [q9])))
            refine lv_iconst (v := nI 0) hx hb dX0_grows_54 (by decide +kernel) ?_
            refine x_toi (bI (grB md mi hf mo od)) (by rw [show grB md mi hf mo od = false by simp [grB, k0, k1, k2, k3]]; rfl) ?_
            exact hret (bI (grB md mi hf mo od)) _ _ _ _ _ _ rfl dX0_grows_55 (bI_nar _) (⟨rfl, rfl⟩) hK hP hD hS
          · have k3 : od = true := by rw [eod]; exact decide_eq_true (lN_inj (by omega) (by decide) ((lg_cmp_eq _ _).mp d3))
            refine lv_iconst (v := nI 1) hx hb dX0_grows_50 (by decide +kernel) ?_
            refine lv_goto (tgt := 55) hx hb dX0_grows_51 (by decide) ?_
            refine x_toi (bI (grB md mi hf mo od)) (by rw [show grB md mi hf mo od = true by simp [grB, k0, k1, k2, k3]]; rfl) ?_
            exact hret (bI (grB md mi hf mo od)) _ _ _ _ _ _ rfl dX0_grows_55 (bI_nar _) (⟨rfl, rfl⟩) hK hP hD hS
  refine lv_icmp_ne (tgt := 15) hx hb dX0_grows_8 (by decide) (fun c0 => ?_) (fun c0 => ?_)
  · refine lv_iconst (v := nI 0) hx hb dX0_grows_15 (by decide +kernel) ?_
    refine x_toi (bI hf) (by rw [ehf, show decide (vW g 67 / 2 ^ (cut - 1) % 2 = 1) = false from decide_eq_false (fun q9 => c0 (by rw [q9]))]; rfl) ?_
    exact K16 ls hl
  · refine lv_iconst (v := nI 1) hx hb dX0_grows_11 (by decide +kernel) ?_
    refine lv_goto (tgt := 16) hx hb dX0_grows_12 (by decide) ?_
    refine x_toi (bI hf) (by rw [ehf, show decide (vW g 67 / 2 ^ (cut - 1) % 2 = 1) = true from decide_eq_true ((nI_eq (by omega) (by decide)).mp c0)]; rfl) ?_
    exact K16 ls hl
abbrev wsX0_sum : List Cond := ws_ yX0_sum cX0_sum 12 (some .long)
abbrev rmX0_sum : Room := { frames := 2, cells := 0, slots := 0, locals := 50 }
set_option maxHeartbeats 4000000 in
set_option maxRecDepth 100000 in
/-- ExactSum.sum -/
theorem metX0_sum (l : Launch) (D : va_G) (dA dB : ClassId) (h0 hw hs sz : Nat) (f g : Nat → Int32) (y z : Int32) (ar n k M : Nat) (mi : Bool) (ha0 : ar < 4294967296) (hn0 : n ≤ 4096) (hk0 : k ≤ 4096) (hy0 : y = nI n) (hz0 : z = nI k) (hmi : mi = decide (2147483648 ≤ uI (f 66))) (hMF : mi = false → M = vW f 67) (hMT : mi = true → M + vW f 67 = 2 ^ (32 * 67)) : Met l yX0_sum wsX0_sum rmX0_sum (va_Pc [.ref h0, .int (nI ar)] (x_pre D (tAB dA dB) (wX0 h0 hw hs dA dB f g y z) sz)) (va_Ql (fun (r : Int64) (u : va_W) => r = lN (resN (ar % 2147483648 % 5) mi M (decide (0 < n ∧ (k = n ∨ ar % 2147483648 % 5 = 3)))) ∧ ∃ g' : Nat → Int32, u = wX0 h0 hw hs dA dB f g' y z) (x_post D (tAB dA dB) (va_A (wX0 h0 hw hs dA dB f g y z) sz)) (va_A (wX0 h0 hw hs dA dB f g y z) sz)) 0 0 (va_A (wX0 h0 hw hs dA dB f g y z) sz) := by
  refine x_met_l (by decide) (Nat.le_of_ble_eq_true rfl) ?_
  intro p e s m below meth c A Q ls hx hb hml hown hts hin hA hK hP hD hS hl hret
  have hown : s.vm.findClass RX0 = some m.cls := hown
  have hl : lv_has ls 12 [(0, .ref h0), (1, .int (nI ar))] := hl
  have hpos : mi = true → 0 < vW f 67 := by
    intro q
    rcases Nat.eq_zero_or_pos (vW f 67) with q2 | q2
    · have h3 := vW_zero q2 (show 66 < 67 by decide)
      rw [hmi] at q
      have := of_decide_eq_true q
      omega
    · exact q2
  refine lv_iload_n hx hb dX0_sum_0 rfl (lv_at hl 1 rfl) ?_
  refine lv_ldc hx hb hown (hts _ q62) dX0_sum_1 ?_
  refine x_toi (nI 2147483647) (rfl) ?_
  refine lv_iand hx hb dX0_sum_3 ?_
  refine x_toi (nI (ar % 2147483648)) (pk_andN ha0 31 (by decide)) ?_
  refine lv_iconst (v := nI 5) hx hb dX0_sum_4 (by decide +kernel) ?_
  refine lv_irem hx hb dX0_sum_5 (by decide) ?_
  refine x_toi (nI (ar % 2147483648 % 5)) (pk_rem (by omega) (by decide) (by decide)) ?_
  obtain ⟨md, emd⟩ : ∃ md, md = ar % 2147483648 % 5 := ⟨_, rfl⟩
  have hd0 : md < 5 := by omega
  rw [← emd] at hret ⊢
  refine lv_istore_n (lv' := [(2, .int (nI md)), (0, .ref h0), (1, .int (nI ar))]) hx hb dX0_sum_6 rfl hl (by decide) rfl (fun ls hl => ?_)
  refine lv_aload_n hx hb dX0_sum_7 rfl (lv_at hl 1 rfl) ?_
  refine va_get (D := D) (ci := 0) (v := .ref hw) (C := RX0) (T := TX0) (N := 4) hx hb hts in_X0 hown hK hP 0 rfl rfl 0 (by decide) (hts _ q21) (fun _ h9 => h9) rfl dX0_sum_8 ?_
  refine lv_bipush (v := nI 66) hx hb dX0_sum_11 (by decide +kernel) ?_
  refine x_iald hx hb hK hP 1 0 rfl rfl (k := 66) (by decide) (by decide) dX0_sum_13 ?_
  have K22 : ∀ (ls : Array Slot), lv_has ls 12 [(2, .int (nI md)), (0, .ref h0), (1, .int (nI ar))] → W p l e rmX0_sum s m ([.ref h0, .int (nI ar)] : List Value).toArray below meth c s.heap [] 0 0 Q (F0 m 22 ls [.int (bI mi)]) := by
    intro ls hl
    refine lv_istore_n (lv' := [(3, .int (bI mi)), (2, .int (nI md)), (0, .ref h0), (1, .int (nI ar))]) hx hb dX0_sum_22 rfl hl (by decide) rfl (fun ls hl => ?_)
    refine lv_aload_n hx hb dX0_sum_23 rfl (lv_at hl 2 rfl) ?_
    refine lv_iload_n hx hb dX0_sum_24 rfl (lv_at hl 0 rfl) ?_
    refine x_call_i (As := [.int (bI mi)]) (rest := []) (ci := 0) (q0 := 0) ⟨hx, hb, hml, hown, hts⟩ (metX0_measure l D dA dB h0 hw hs _ f g y z mi) (cwV 1 hts (lw_V q63 q65 qs2 q11 q66) rfl rfl rfl (by decide +kernel) ⟨Nat.le_of_ble_eq_true rfl, Nat.le_of_ble_eq_true rfl⟩) hK hP hD hS hA rfl rfl rfl hl.1 rfl (Nat.le_of_ble_eq_true rfl) dX0_sum_25 ⟨Nat.le_refl _, Nat.le_refl _⟩ (fun r u H locs hp hP hD hS => ?_)
    obtain ⟨g1, rfl, rfl, m1, m2⟩ := hp
    have hM : vW g1 67 = M := by
      cases hm : mi with
      | false => rw [m1 hm, hMF hm]
      | true =>
        have a1 := m2 hm (hpos hm)
        have a2 := hMT hm
        omega
    have hMlt : M < 2 ^ 2144 := by rw [← hM]; exact vW_lt g1 67
    rw [hM]
    refine lv_istore (lv' := [(4, .int (tpI M)), (3, .int (bI mi)), (2, .int (nI md)), (0, .ref h0), (1, .int (nI ar))]) hx hb dX0_sum_28 hl (by decide) rfl (fun ls hl => ?_)
    refine lv_iload hx hb dX0_sum_30 (lv_at hl 0 rfl) ?_
    by_cases hM0 : M = 0
    · refine lv_if_ge (tgt := 41) hx hb dX0_sum_32 (by decide) (fun c_ => absurd c_ (by rw [hM0]; decide)) (fun _ => ?_)
      refine lv_aload_n hx hb dX0_sum_35 rfl (lv_at hl 3 rfl) ?_
      refine lv_iload_n hx hb dX0_sum_36 rfl (lv_at hl 2 rfl) ?_
      refine x_call_l (As := [.int (nI md)]) (rest := []) (ci := 0) (q0 := 0) ⟨hx, hb, hml, hown, hts⟩ (metX0_nought l D dA dB h0 hw hs _ f g1 y z n k md hn0 hk0 hd0 hy0 hz0) (cwV 1 hts (lw_V q70 q72 qs3 q11 q73) rfl rfl rfl (by decide +kernel) ⟨Nat.le_of_ble_eq_true rfl, Nat.le_of_ble_eq_true rfl⟩) hK hP hD hS hA rfl rfl rfl hl.1 rfl (Nat.le_of_ble_eq_true rfl) dX0_sum_37 ⟨Nat.le_refl _, Nat.le_refl _⟩ (fun r u H locs hp hP hD hS => ?_)
      obtain ⟨rfl, rfl⟩ := hp
      refine x_tol (lN (resN md mi M (decide (0 < n ∧ (k = n ∨ md = 3))))) (by unfold resN; rw [if_pos hM0]; by_cases hq : 0 < n ∧ (k = n ∨ md = 3) <;> simp only [hq, if_true, if_false, decide_true, decide_false, sgN] <;> rfl) ?_
      exact hret (lN (resN md mi M (decide (0 < n ∧ (k = n ∨ md = 3))))) _ _ _ _ _ _ rfl dX0_sum_40 (⟨rfl, g1, rfl⟩) hK hP hD hS
    · have hT : tpI M = nI M.log2 := by unfold tpI; rw [if_neg hM0]
      have hT2 : M.log2 < 2144 := log_lt (by decide) hMlt
      rw [hT] at hl ⊢
      have hres : resN md mi M (decide (0 < n ∧ (k = n ∨ md = 3))) = sgN mi + magN md mi M := by unfold resN; rw [if_neg hM0]
      rw [hres] at hret
      refine lv_if_ge (tgt := 41) hx hb dX0_sum_32 (by decide) (fun _ => ?_) (fun c_ => absurd c_ (not_not_intro (nI_pos' (by omega))))
      refine lv_iload_n hx hb dX0_sum_41 rfl (lv_at hl 1 rfl) ?_
      have K52 : ∀ (ls : Array Slot), lv_has ls 12 [(4, .int (nI M.log2)), (3, .int (bI mi)), (2, .int (nI md)), (0, .ref h0), (1, .int (nI ar))] → W p l e rmX0_sum s m ([.ref h0, .int (nI ar)] : List Value).toArray below meth c H locs 0 0 Q (F0 m 52 ls [.long (lN (sgN mi))]) := by
        intro ls hl
        refine lv_lstore (lv' := [(5, .long (lN (sgN mi))), (4, .int (nI M.log2)), (3, .int (bI mi)), (2, .int (nI md)), (0, .ref h0), (1, .int (nI ar))]) hx hb dX0_sum_52 hl (by decide) rfl (fun ls hl => ?_)
        refine lv_iload hx hb dX0_sum_54 (lv_at hl 1 rfl) ?_
        refine lv_bipush (v := nI 52) hx hb dX0_sum_56 (by decide +kernel) ?_
        refine lv_icmp_gt (tgt := 74) hx hb dX0_sum_58 (by decide) (fun d1 => ?_) (fun d1 => ?_)
        · have hT3 : 52 < M.log2 := by
            rcases Nat.lt_or_ge 52 M.log2 with q | q
            · exact q
            · exact absurd d1 (nI_nlt q (by decide))
          have hq0 := q0_bounds hT3
          refine lv_iload hx hb dX0_sum_74 (lv_at hl 1 rfl) ?_
          refine lv_bipush (v := nI 52) hx hb dX0_sum_76 (by decide +kernel) ?_
          refine lv_isub hx hb dX0_sum_78 ?_
          refine x_toi (nI (M.log2 - 52)) (pk_sub (by omega)) ?_
          refine lv_istore (lv' := [(7, .int (nI (M.log2 - 52))), (5, .long (lN (sgN mi))), (4, .int (nI M.log2)), (3, .int (bI mi)), (2, .int (nI md)), (0, .ref h0), (1, .int (nI ar))]) hx hb dX0_sum_79 hl (by decide) rfl (fun ls hl => ?_)
          refine lv_aload_n hx hb dX0_sum_81 rfl (lv_at hl 5 rfl) ?_
          refine lv_iload hx hb dX0_sum_82 (lv_at hl 0 rfl) ?_
          refine lv_bipush (v := nI 53) hx hb dX0_sum_84 (by decide +kernel) ?_
          refine x_call_l (As := [.int (nI (M.log2 - 52)), .int (nI 53)]) (rest := []) (ci := 0) (q0 := 0) ⟨hx, hb, hml, hown, hts⟩ (metX0_read l D dA dB h0 hw hs _ f g1 y z (M.log2 - 52) 53 (by omega) (by omega)) (cwV 2 hts (lw_V q75 q77 qs4 q11 q78) rfl rfl rfl (by decide +kernel) ⟨Nat.le_of_ble_eq_true rfl, Nat.le_of_ble_eq_true rfl⟩) hK hP hD hS hA rfl rfl rfl hl.1 rfl (Nat.le_of_ble_eq_true rfl) dX0_sum_86 ⟨Nat.le_refl _, Nat.le_refl _⟩ (fun r u H locs hp hP hD hS => ?_)
          obtain ⟨rfl, rfl⟩ := hp
          refine x_tol (lN (M / 2 ^ (M.log2 - 52))) (by rw [hM, Nat.mod_eq_of_lt hq0.2]) ?_
          refine lv_lstore (lv' := [(8, .long (lN (M / 2 ^ (M.log2 - 52)))), (7, .int (nI (M.log2 - 52))), (5, .long (lN (sgN mi))), (4, .int (nI M.log2)), (3, .int (bI mi)), (2, .int (nI md)), (0, .ref h0), (1, .int (nI ar))]) hx hb dX0_sum_89 hl (by decide) rfl (fun ls hl => ?_)
          refine lv_aload_n hx hb dX0_sum_91 rfl (lv_at hl 6 rfl) ?_
          refine lv_iload_n hx hb dX0_sum_92 rfl (lv_at hl 5 rfl) ?_
          refine lv_iload_n hx hb dX0_sum_93 rfl (lv_at hl 4 rfl) ?_
          refine lv_iload hx hb dX0_sum_94 (lv_at hl 1 rfl) ?_
          refine lv_lload hx hb dX0_sum_96 (lv_at hl 0 rfl) ?_
          refine x_call_i (As := [.int (nI md), .int (bI mi), .int (nI (M.log2 - 52)), .long (lN (M / 2 ^ (M.log2 - 52)))]) (rest := []) (ci := 0) (q0 := 0) ⟨hx, hb, hml, hown, hts⟩ (metX0_grows l D dA dB h0 hw hs _ f g1 y z md mi (M.log2 - 52) (M / 2 ^ (M.log2 - 52)) hd0 (by omega) (by omega) (by omega)) (cwV 4 hts (lw_V q83 q85 qs6 q11 q86) rfl rfl rfl (by decide +kernel) ⟨Nat.le_of_ble_eq_true rfl, Nat.le_of_ble_eq_true rfl⟩) hK hP hD hS hA rfl rfl rfl hl.1 rfl (Nat.le_of_ble_eq_true rfl) dX0_sum_98 ⟨Nat.le_refl _, Nat.le_refl _⟩ (fun r u H locs hp hP hD hS => ?_)
          obtain ⟨rfl, rfl⟩ := hp
          rw [hM]
          have hq1 := q1_bounds (md := md) (mi := mi) hT3
          have K110 : ∀ (ls : Array Slot), lv_has ls 12 [(0, .ref h0), (2, .int (nI md)), (3, .int (bI mi)), (5, .long (lN (sgN mi))), (7, .int (nI (M.log2 - 52))), (8, .long (lN (q1N md mi M)))] → W p l e rmX0_sum s m ([.ref h0, .int (nI ar)] : List Value).toArray below meth c H locs 0 0 Q (F0 m 110 ls []) := by
            intro ls hl
            refine lv_lload hx hb dX0_sum_110 (lv_at hl 5 rfl) ?_
            refine lv_ldc2 hx hb hown (hts _ q91) dX0_sum_112 ?_
            refine x_tol (lN 9007199254740992) (rfl) ?_
            refine W.lcmp hx hb dX0_sum_115 ?_
            have hq2 := q2_bounds hq1.1 hq1.2
            have K127 : ∀ (ls : Array Slot), lv_has ls 12 [(0, .ref h0), (2, .int (nI md)), (3, .int (bI mi)), (5, .long (lN (sgN mi))), (7, .int (nI (c2N (q1N md mi M) (M.log2 - 52)))), (8, .long (lN (q2N (q1N md mi M))))] → W p l e rmX0_sum s m ([.ref h0, .int (nI ar)] : List Value).toArray below meth c H locs 0 0 Q (F0 m 127 ls []) := by
              intro ls hl
              have hcc : c2N (q1N md mi M) (M.log2 - 52) ≤ M.log2 - 52 + 1 := by unfold c2N; split <;> omega
              refine lv_iload hx hb dX0_sum_127 (lv_at hl 4 rfl) ?_
              refine lv_iconst (v := nI 1) hx hb dX0_sum_129 (by decide +kernel) ?_
              refine lv_iadd hx hb dX0_sum_130 ?_
              refine x_toi (nI (c2N (q1N md mi M) (M.log2 - 52) + 1)) (nI_add _ _) ?_
              refine lv_istore (lv' := [(10, .int (nI (c2N (q1N md mi M) (M.log2 - 52) + 1))), (0, .ref h0), (2, .int (nI md)), (3, .int (bI mi)), (5, .long (lN (sgN mi))), (7, .int (nI (c2N (q1N md mi M) (M.log2 - 52)))), (8, .long (lN (q2N (q1N md mi M))))]) hx hb dX0_sum_131 hl (by decide) rfl (fun ls hl => ?_)
              refine lv_iload hx hb dX0_sum_133 (lv_at hl 0 rfl) ?_
              refine lv_sipush (v := nI 2047) hx hb dX0_sum_135 (by decide +kernel) ?_
              refine lv_icmp_ge (tgt := 158) hx hb dX0_sum_138 (by decide) (fun d2 => ?_) (fun d2 => ?_)
              · have hE : ¬ c2N (q1N md mi M) (M.log2 - 52) + 1 < 2047 := fun q9 => absurd d2 (nI_ge q9 (by decide))
                refine lv_iload_n hx hb dX0_sum_158 rfl (lv_at hl 2 rfl) ?_
                have K185 : ∀ (ls : Array Slot), lv_has ls 12 [(10, .int (nI (c2N (q1N md mi M) (M.log2 - 52) + 1))), (0, .ref h0), (2, .int (nI md)), (3, .int (bI mi)), (5, .long (lN (sgN mi))), (7, .int (nI (c2N (q1N md mi M) (M.log2 - 52)))), (8, .long (lN (q2N (q1N md mi M))))] → W p l e rmX0_sum s m ([.ref h0, .int (nI ar)] : List Value).toArray below meth c H locs 0 0 Q (F0 m 185 ls [.int (bI (byB md mi))]) := by
                  intro ls hl
                  refine lv_istore (lv' := [(11, .int (bI (byB md mi))), (10, .int (nI (c2N (q1N md mi M) (M.log2 - 52) + 1))), (0, .ref h0), (2, .int (nI md)), (3, .int (bI mi)), (5, .long (lN (sgN mi))), (7, .int (nI (c2N (q1N md mi M) (M.log2 - 52)))), (8, .long (lN (q2N (q1N md mi M))))]) hx hb dX0_sum_185 hl (by decide) rfl (fun ls hl => ?_)
                  refine lv_lload hx hb dX0_sum_187 (lv_at hl 5 rfl) ?_
                  refine lv_iload hx hb dX0_sum_189 (lv_at hl 0 rfl) ?_
                  refine lv_if_eq (tgt := 200) hx hb dX0_sum_191 (by decide) (fun d3 => ?_) (fun d3 => ?_)
                  · have hby : byB md mi = false := (bI_0 _).mp d3
                    refine lv_ldc2 hx hb hown (hts _ q93) dX0_sum_200 ?_
                    refine x_tol (lN 9218868437227405311) (rfl) ?_
                    refine lv_lor hx hb dX0_sum_203 ?_
                    refine x_tol (lN (sgN mi + magN md mi M)) (by rw [sg_or (by decide)]; unfold magN; rw [if_neg (by omega), if_neg hE, hby]; rfl) ?_
                    exact hret (lN (sgN mi + magN md mi M)) _ _ _ _ _ _ rfl dX0_sum_204 (⟨rfl, g1, rfl⟩) hK hP hD hS
                  · have hby : byB md mi = true := bI_1 d3
                    refine lv_ldc2 hx hb hown (hts _ q92) dX0_sum_194 ?_
                    refine x_tol (lN 9218868437227405312) (rfl) ?_
                    refine lv_goto (tgt := 203) hx hb dX0_sum_197 (by decide) ?_
                    refine lv_lor hx hb dX0_sum_203 ?_
                    refine x_tol (lN (sgN mi + magN md mi M)) (by rw [sg_or (by decide)]; unfold magN; rw [if_neg (by omega), if_neg hE, hby]; rfl) ?_
                    exact hret (lN (sgN mi + magN md mi M)) _ _ _ _ _ _ rfl dX0_sum_204 (⟨rfl, g1, rfl⟩) hK hP hD hS
                refine lv_if_eq (tgt := 180) hx hb dX0_sum_159 (by decide) (fun e1 => ?_) (fun e1 => ?_)
                · have k1 : md = 0 := (nI_mod0 (by omega)).mp e1
                  refine lv_iconst (v := nI 1) hx hb dX0_sum_180 (by decide +kernel) ?_
                  refine lv_goto (tgt := 185) hx hb dX0_sum_181 (by decide) ?_
                  refine x_toi (bI (byB md mi)) (by rw [show byB md mi = true by simp [byB, k1]]; rfl) ?_
                  exact K185 ls hl
                · have k1 : md ≠ 0 := fun q9 => e1 (by rw [q9]; rfl)
                  refine lv_iload_n hx hb dX0_sum_162 rfl (lv_at hl 2 rfl) ?_
                  refine lv_iconst (v := nI 4) hx hb dX0_sum_163 (by decide +kernel) ?_
                  refine lv_icmp_eq (tgt := 180) hx hb dX0_sum_164 (by decide) (fun e2 => ?_) (fun e2 => ?_)
                  · have k2 : md = 4 := (nI_eq (by omega) (by decide)).mp e2
                    refine lv_iconst (v := nI 1) hx hb dX0_sum_180 (by decide +kernel) ?_
                    refine lv_goto (tgt := 185) hx hb dX0_sum_181 (by decide) ?_
                    refine x_toi (bI (byB md mi)) (by rw [show byB md mi = true by simp [byB, k1, k2]]; rfl) ?_
                    exact K185 ls hl
                  · have k2 : md ≠ 4 := fun q9 => e2 (by rw [q9])
                    refine lv_iload_n hx hb dX0_sum_167 rfl (lv_at hl 2 rfl) ?_
                    refine lv_iload_n hx hb dX0_sum_168 rfl (lv_at hl 3 rfl) ?_
                    refine lv_if_eq (tgt := 176) hx hb dX0_sum_169 (by decide) (fun e3 => ?_) (fun e3 => ?_)
                    · have k3 : mi = false := (bI_0 _).mp e3
                      refine lv_iconst (v := nI 2) hx hb dX0_sum_176 (by decide +kernel) ?_
                      refine lv_icmp_ne (tgt := 184) hx hb dX0_sum_177 (by decide) (fun e4 => ?_) (fun e4 => ?_)
                      · have k4 : md ≠ 2 := fun q9 => e4 (by rw [q9])
                        refine lv_iconst (v := nI 0) hx hb dX0_sum_184 (by decide +kernel) ?_
                        refine x_toi (bI (byB md mi)) (by rw [show byB md mi = false by simp [byB, k1, k2, k3, k4]]; rfl) ?_
                        exact K185 ls hl
                      · have k4 : md = 2 := (nI_eq (by omega) (by decide)).mp e4
                        refine lv_iconst (v := nI 1) hx hb dX0_sum_180 (by decide +kernel) ?_
                        refine lv_goto (tgt := 185) hx hb dX0_sum_181 (by decide) ?_
                        refine x_toi (bI (byB md mi)) (by rw [show byB md mi = true by simp [byB, k1, k2, k3, k4]]; rfl) ?_
                        exact K185 ls hl
                    · have k3 : mi = true := bI_1 e3
                      refine lv_iconst (v := nI 3) hx hb dX0_sum_172 (by decide +kernel) ?_
                      refine lv_goto (tgt := 177) hx hb dX0_sum_173 (by decide) ?_
                      refine lv_icmp_ne (tgt := 184) hx hb dX0_sum_177 (by decide) (fun e4 => ?_) (fun e4 => ?_)
                      · have k4 : md ≠ 3 := fun q9 => e4 (by rw [q9])
                        refine lv_iconst (v := nI 0) hx hb dX0_sum_184 (by decide +kernel) ?_
                        refine x_toi (bI (byB md mi)) (by rw [show byB md mi = false by simp [byB, k1, k2, k3, k4]]; rfl) ?_
                        exact K185 ls hl
                      · have k4 : md = 3 := (nI_eq (by omega) (by decide)).mp e4
                        refine lv_iconst (v := nI 1) hx hb dX0_sum_180 (by decide +kernel) ?_
                        refine lv_goto (tgt := 185) hx hb dX0_sum_181 (by decide) ?_
                        refine x_toi (bI (byB md mi)) (by rw [show byB md mi = true by simp [byB, k1, k2, k3, k4]]; rfl) ?_
                        exact K185 ls hl
              · have hE : c2N (q1N md mi M) (M.log2 - 52) + 1 < 2047 := by
                  rcases Nat.lt_or_ge (c2N (q1N md mi M) (M.log2 - 52) + 1) 2047 with q9 | q9
                  · exact q9
                  · exact absurd (nI_le q9 (by omega)) d2
                refine lv_lload hx hb dX0_sum_141 (lv_at hl 4 rfl) ?_
                refine lv_iload hx hb dX0_sum_143 (lv_at hl 0 rfl) ?_
                refine lv_i2l hx hb dX0_sum_145 rfl ?_
                refine x_tol (lN (c2N (q1N md mi M) (M.log2 - 52) + 1)) (nI_l (by omega)) ?_
                refine lv_bipush (v := nI 52) hx hb dX0_sum_146 (by decide +kernel) ?_
                refine lv_lshl hx hb dX0_sum_148 rfl ?_
                refine x_tol (lN ((c2N (q1N md mi M) (M.log2 - 52) + 1) * 4503599627370496)) (wb_shl _ (by decide)) ?_
                refine lv_lor hx hb dX0_sum_149 ?_
                refine lv_lload hx hb dX0_sum_150 (lv_at hl 6 rfl) ?_
                refine lv_ldc2 hx hb hown (hts _ q41) dX0_sum_152 ?_
                refine x_tol (lN 4503599627370496) (rfl) ?_
                refine lv_lsub hx hb dX0_sum_155 ?_
                refine x_tol (lN (q2N (q1N md mi M) - 4503599627370496)) (lN_sub hq2.1) ?_
                refine lv_lor hx hb dX0_sum_156 ?_
                refine x_tol (lN (sgN mi + magN md mi M)) (by rw [fin_or hE (by omega)]; unfold magN; rw [if_neg (by omega), if_pos hE]) ?_
                exact hret (lN (sgN mi + magN md mi M)) _ _ _ _ _ _ rfl dX0_sum_157 (⟨rfl, g1, rfl⟩) hK hP hD hS
            refine lv_if_ne (tgt := 127) hx hb dX0_sum_116 (by decide) (fun e5 => ?_) (fun e5 => ?_)
            · have hq : q1N md mi M ≠ 9007199254740992 := fun q9 => e5 ((lg_cmp_eq _ _).mpr (by rw [q9]))
              have e7 : c2N (q1N md mi M) (M.log2 - 52) = M.log2 - 52 := by unfold c2N; rw [if_neg hq]
              have e8 : q2N (q1N md mi M) = q1N md mi M := by unfold q2N; rw [if_neg hq]
              exact K127 ls (by rw [e7, e8]; exact lv_sub hl [0, 1, 2, 3, 4, 5] rfl)
            · have hq : q1N md mi M = 9007199254740992 := lN_inj (by omega) (by decide) ((lg_cmp_eq _ _).mp e5)
              have e7 : c2N (q1N md mi M) (M.log2 - 52) = M.log2 - 52 + 1 := by unfold c2N; rw [if_pos hq]
              have e8 : q2N (q1N md mi M) = 4503599627370496 := by unfold q2N; rw [if_pos hq]
              refine lv_ldc2 hx hb hown (hts _ q41) dX0_sum_119 ?_
              refine x_tol (lN 4503599627370496) (rfl) ?_
              refine lv_lstore (lv' := [(8, .long (lN 4503599627370496)), (0, .ref h0), (2, .int (nI md)), (3, .int (bI mi)), (5, .long (lN (sgN mi))), (7, .int (nI (M.log2 - 52)))]) hx hb dX0_sum_122 hl (by decide) rfl (fun ls hl => ?_)
              refine lv_iinc (v := nI (M.log2 - 52 + 1)) (lv' := [(7, .int (nI (M.log2 - 52 + 1))), (8, .long (lN 4503599627370496)), (0, .ref h0), (2, .int (nI md)), (3, .int (bI mi)), (5, .long (lN (sgN mi)))]) hx hb dX0_sum_124 hl (k := 5) rfl (by rw [nI_succ]; rfl) (by decide) rfl (fun ls hl => ?_)
              exact K127 ls (by rw [e7, e8]; exact lv_sub hl [2, 3, 4, 5, 0, 1] rfl)
          change W p l e rmX0_sum s m ([.ref h0, .int (nI ar)] : List Value).toArray below meth c H locs 0 0 Q (F0 m 101 ls [.int (bI (grM md mi M (M.log2 - 52)))])
          refine lv_if_eq (tgt := 110) hx hb dX0_sum_101 (by decide) (fun e6 => ?_) (fun e6 => ?_)
          · have hg : grM md mi M (M.log2 - 52) = false := (bI_0 _).mp e6
            have e9 : q1N md mi M = M / 2 ^ (M.log2 - 52) := by unfold q1N; rw [hg]; rfl
            exact K110 ls (by rw [e9]; exact lv_sub hl [6, 5, 4, 2, 1, 0] rfl)
          · have hg : grM md mi M (M.log2 - 52) = true := bI_1 e6
            have e9 : q1N md mi M = M / 2 ^ (M.log2 - 52) + 1 := by unfold q1N; rw [hg]; rfl
            refine lv_lload hx hb dX0_sum_104 (lv_at hl 0 rfl) ?_
            refine lv_lconst (v := lN 1) hx hb dX0_sum_106 (by decide +kernel) ?_
            refine lv_ladd hx hb dX0_sum_107 ?_
            refine x_tol (lN (M / 2 ^ (M.log2 - 52) + 1)) (lN_add _ _) ?_
            refine lv_lstore (lv' := [(8, .long (lN (M / 2 ^ (M.log2 - 52) + 1))), (7, .int (nI (M.log2 - 52))), (5, .long (lN (sgN mi))), (4, .int (nI M.log2)), (3, .int (bI mi)), (2, .int (nI md)), (0, .ref h0), (1, .int (nI ar))]) hx hb dX0_sum_108 hl (by decide) rfl (fun ls hl => ?_)
            exact K110 ls (by rw [e9]; exact lv_sub hl [6, 5, 4, 2, 1, 0] rfl)
        · have hT3 : M.log2 ≤ 52 := by
            rcases Nat.lt_or_ge 52 M.log2 with q | q
            · exact absurd (nI_lt q (by omega)) d1
            · exact q
          have hM53 : M < 9007199254740992 := Nat.lt_of_lt_of_le lo_log (Nat.pow_le_pow_right (n := 2) (j := 53) (by decide) (by omega))
          refine lv_lload hx hb dX0_sum_61 (lv_at hl 0 rfl) ?_
          refine lv_aload_n hx hb dX0_sum_63 rfl (lv_at hl 4 rfl) ?_
          refine lv_iconst (v := nI 0) hx hb dX0_sum_64 (by decide +kernel) ?_
          refine lv_iload hx hb dX0_sum_65 (lv_at hl 1 rfl) ?_
          refine lv_iconst (v := nI 1) hx hb dX0_sum_67 (by decide +kernel) ?_
          refine lv_iadd hx hb dX0_sum_68 ?_
          refine x_toi (nI (M.log2 + 1)) (nI_add _ _) ?_
          refine x_call_l (As := [.int (nI 0), .int (nI (M.log2 + 1))]) (rest := [.long (lN (sgN mi))]) (ci := 0) (q0 := 0) ⟨hx, hb, hml, hown, hts⟩ (metX0_read l D dA dB h0 hw hs _ f g1 y z 0 (M.log2 + 1) (by omega) (by omega)) (cwV 2 hts (lw_V q75 q77 qs4 q11 q78) rfl rfl rfl (by decide +kernel) ⟨Nat.le_of_ble_eq_true rfl, Nat.le_of_ble_eq_true rfl⟩) hK hP hD hS hA rfl rfl rfl hl.1 rfl (Nat.le_of_ble_eq_true rfl) dX0_sum_69 ⟨Nat.le_refl _, Nat.le_refl _⟩ (fun r u H locs hp hP hD hS => ?_)
          obtain ⟨rfl, rfl⟩ := hp
          refine x_tol (lN M) (by rw [hM, Nat.pow_zero, Nat.div_one, Nat.mod_eq_of_lt lo_log]) ?_
          refine lv_lor hx hb dX0_sum_72 ?_
          refine x_tol (lN (sgN mi + magN md mi M)) (by rw [sg_or (by omega)]; unfold magN; rw [if_pos hT3]) ?_
          exact hret (lN (sgN mi + magN md mi M)) _ _ _ _ _ _ rfl dX0_sum_73 (⟨rfl, g1, rfl⟩) hK hP hD hS
      refine lv_if_eq (tgt := 51) hx hb dX0_sum_42 (by decide) (fun e0 => ?_) (fun e0 => ?_)
      · have hm9 : mi = false := (bI_0 _).mp e0
        refine lv_lconst (v := lN 0) hx hb dX0_sum_51 (by decide +kernel) ?_
        refine x_tol (lN (sgN mi)) (by rw [hm9]; rfl) ?_
        exact K52 ls hl
      · have hm9 : mi = true := bI_1 e0
        refine lv_ldc2 hx hb hown (hts _ q74) dX0_sum_45 ?_
        refine x_tol (lN 9223372036854775808) (by decide +kernel) ?_
        refine lv_goto (tgt := 52) hx hb dX0_sum_48 (by decide) ?_
        refine x_tol (lN (sgN mi)) (by rw [hm9]; rfl) ?_
        exact K52 ls hl
  refine lv_if_ge (tgt := 21) hx hb dX0_sum_14 (by decide) (fun f0 => ?_) (fun f0 => ?_)
  · refine lv_iconst (v := nI 0) hx hb dX0_sum_21 (by decide +kernel) ?_
    refine x_toi (bI mi) (by rw [hmi, show decide (2147483648 ≤ uI (f 66)) = false from decide_eq_false (by have := (uI_nneg _).mp f0; omega)]; rfl) ?_
    exact K22 ls hl
  · refine lv_iconst (v := nI 1) hx hb dX0_sum_17 (by decide +kernel) ?_
    refine lv_goto (tgt := 22) hx hb dX0_sum_18 (by decide) ?_
    refine x_toi (bI mi) (by rw [hmi, show decide (2147483648 ≤ uI (f 66)) = true from decide_eq_true (by have h9 : ¬ uI (f 66) < 2147483648 := fun q9 => f0 ((uI_nneg _).mpr q9); omega)]; rfl) ?_
    exact K22 ls hl
end
section
theorem bit1_eq {g : Nat → Int32} (hg : okH g) {n : Nat} (hn : n < 2176) : (g (n / 16) >>> (nI (n % 16) &&& 31)) &&& nI 1 = nI (vH g 136 / 2 ^ n % 2) := by
  have hlt := hg (n / 16) (by omega)
  rw [vH_bit hg (by omega)]
  have e : g (n / 16) >>> (nI (n % 16) &&& 31) = nI (uI (g (n / 16)) / 2 ^ (n % 16)) := by
    conv => lhs; rw [← nI_uI (g (n / 16))]
    exact pk_shrN (by omega) _ _ (sh_s _ (by omega))
  rw [e]
  exact pk_andN (Nat.lt_of_le_of_lt (Nat.div_le_self _ _) (by omega)) 1 (by decide)
theorem dv_zero {w : Nat} {d : Nat → Nat} {n i : Nat} (h : dv w d n = 0) (hi : i < n) : d i = 0 := by
  obtain ⟨r, hr⟩ := dv_split (w := w) (d := d) (show i + 1 ≤ n from hi)
  rw [h, dv_s] at hr
  rcases Nat.eq_zero_or_pos (d i) with q | q
  · exact q
  · have := Nat.mul_pos q (Nat.two_pow_pos (w * i))
    omega
theorem okH_zero {f : Nat → Int32} (h : vH f 136 = 0) : okH f := by
  intro j hj
  have : uI (f j) = 0 := dv_zero h hj
  omega
def sgI (o : Bool) : Int32 := if o then -1 else 1
def cyI (o : Bool) (c : Nat) : Int32 := if o then -nI c else nI c
theorem nI_l16 (x : Nat) : nI x &&& nI 65535 = nI (x % 65536) := by
  rw [nI_mod x, pk_andN (Nat.mod_lt _ (by decide)) 16 (by decide)]
  congr 1
  omega
theorem nI_sub2 {a b c : Nat} (h : b + c ≤ a + 4294967296) : nI a - nI b - nI c = nI (a + 4294967296 - b - c) := by
  rw [nI_mod a, show a % 4294967296 = (a + 4294967296) % 4294967296 by omega, ← nI_mod, pk_sub (by omega), pk_sub (by omega)]
theorem on_step (o : Bool) {x dg cy : Nat} (hx : x < 65536) (hd : dg < 65536) (hc : cy ≤ 1) : ∃ w' c', w' < 65536 ∧ c' ≤ 1 ∧ (o = false → x + dg + cy = w' + 65536 * c') ∧ (o = true → x + 65536 * c' = w' + dg + cy) ∧ (nI x + sgI o * nI dg + cyI o cy) &&& nI 65535 = nI w' ∧ (nI x + sgI o * nI dg + cyI o cy) >>> (nI 16 &&& 31) = cyI o c' := by
  cases o with
  | false =>
    have e : nI x + sgI false * nI dg + cyI false cy = nI (x + dg + cy) := by
      show nI x + 1 * nI dg + nI cy = _
      rw [Int32.one_mul, nI_add, nI_add]
    refine ⟨(x + dg + cy) % 65536, (x + dg + cy) / 65536, by omega, by omega, fun _ => by omega, fun h => Bool.noConfusion h, ?_, ?_⟩
    · rw [e, nI_l16]
    · rw [e, pk_shrN (by omega) _ 16 (by decide)]; rfl
  | true =>
    have e : nI x + sgI true * nI dg + cyI true cy = nI (x + 4294967296 - dg - cy) := by
      show nI x + (-1) * nI dg + -nI cy = _
      rw [Int32.neg_mul, Int32.one_mul, ← Int32.sub_eq_add_neg, ← Int32.sub_eq_add_neg, nI_sub2 (by omega)]
    by_cases h : dg + cy ≤ x
    · have e2 : nI (x + 4294967296 - dg - cy) = nI (x - dg - cy) := by
        rw [nI_mod]
        congr 1
        omega
      refine ⟨x - dg - cy, 0, by omega, by omega, fun h => Bool.noConfusion h, fun _ => by omega, ?_, ?_⟩
      · rw [e, e2, nI_l16]
        congr 1
        omega
      · rw [e, e2, pk_shrN (by omega) _ 16 (by decide), show (x - dg - cy) / 2 ^ 16 = 0 by omega]; decide
    · refine ⟨x + 65536 - dg - cy, 1, by omega, by omega, fun h => Bool.noConfusion h, fun _ => by omega, ?_, ?_⟩
      · rw [e, nI_l16]
        congr 1
        omega
      · rw [e]
        apply Int32.toInt_inj.mp
        rw [pk_shr _ _ 16 (by decide)]
        have h3 : (nI (x + 4294967296 - dg - cy)).toInt = (x : Int) - dg - cy := by
          have h4 : (nI (x + 4294967296 - dg - cy)).toInt = if 2 * uI (nI (x + 4294967296 - dg - cy)) < 4294967296 then (uI (nI (x + 4294967296 - dg - cy)) : Int) else (uI (nI (x + 4294967296 - dg - cy)) : Int) - 4294967296 := BitVec.toInt_eq_toNat_cond _
          rw [h4, uI_nI (by omega), if_neg (by omega)]
          omega
        rw [h3, Int.shiftRight_eq_div_pow]
        have h5 : (cyI true 1).toInt = -1 := by decide
        rw [h5]
        omega
theorem on_q (k : Nat) : 2 ^ (16 * (k + 1)) = 65536 * 2 ^ (16 * k) := by rw [Nat.mul_succ, Nat.pow_add, Nat.mul_comm]
theorem on_mod (P k : Nat) : P % 2 ^ (16 * (k + 1)) = P % 2 ^ (16 * k) + 2 ^ (16 * k) * (P / 2 ^ (16 * k) % 65536) := by
  rw [on_q, Nat.mul_comm, Nat.mod_mul]
theorem on_in {f g : Nat → Int32} {k w' c' cy P V0 : Nat} (hk : k < 136) (hw : w' < 65536) (h : uI (f k) + P / 2 ^ (16 * k) % 65536 + cy = w' + 65536 * c') (hi : vH f 136 + cy * 2 ^ (16 * k) = V0 + P % 2 ^ (16 * k)) : vH (upd f k (nI w')) 136 + c' * 2 ^ (16 * (k + 1)) = V0 + P % 2 ^ (16 * (k + 1)) := by
  have h1 := vH_upd (f := f) (x := nI w') hk
  rw [uI_nI (by omega)] at h1
  rw [on_mod, on_q]
  generalize P / 2 ^ (16 * k) % 65536 = dg at *
  generalize P % 2 ^ (16 * k) = lo at *
  generalize 2 ^ (16 * k) = q at *
  have h2 : (uI (f k) + dg + cy) * q = (w' + 65536 * c') * q := by rw [h]
  rw [Nat.add_mul, Nat.add_mul, Nat.add_mul, Nat.mul_assoc] at h2
  rw [Nat.mul_left_comm, Nat.mul_comm q dg]
  omega
theorem on_out {f g : Nat → Int32} {k w' c' cy P V0 : Nat} (hk : k < 136) (hw : w' < 65536) (h : uI (f k) + 65536 * c' = w' + P / 2 ^ (16 * k) % 65536 + cy) (hi : vH f 136 + P % 2 ^ (16 * k) = V0 + cy * 2 ^ (16 * k)) : vH (upd f k (nI w')) 136 + P % 2 ^ (16 * (k + 1)) = V0 + c' * 2 ^ (16 * (k + 1)) := by
  have h1 := vH_upd (f := f) (x := nI w') hk
  rw [uI_nI (by omega)] at h1
  rw [on_mod, on_q]
  generalize P / 2 ^ (16 * k) % 65536 = dg at *
  generalize P % 2 ^ (16 * k) = lo at *
  generalize 2 ^ (16 * k) = q at *
  have h2 : (uI (f k) + 65536 * c') * q = (w' + dg + cy) * q := by rw [h]
  rw [Nat.add_mul, Nat.add_mul, Nat.add_mul, Nat.mul_assoc] at h2
  rw [Nat.mul_left_comm, Nat.mul_comm q dg]
  omega
/-- one bit more of a digit -/
theorem dg_succ (P k b : Nat) : P / 2 ^ (16 * k) % 2 ^ (b + 1) = P / 2 ^ (16 * k) % 2 ^ b + 2 ^ b * (P / 2 ^ (16 * k + b) % 2) := by
  rw [Nat.pow_succ, Nat.mod_mul, Nat.div_div_eq_div_mul, ← Nat.pow_add]
theorem dg_low {mm at0 x : Nat} (h : x < at0) : mm * 2 ^ at0 / 2 ^ x % 2 = 0 := by
  rw [show at0 = x + (at0 - x - 1 + 1) by omega, Nat.pow_add, Nat.pow_succ, Nat.mul_left_comm, Nat.mul_div_cancel_left _ (Nat.two_pow_pos _), ← Nat.mul_assoc]
  omega
theorem dg_mid {mm at0 x : Nat} (h : at0 ≤ x) : mm * 2 ^ at0 / 2 ^ x % 2 = mm / 2 ^ (x - at0) % 2 := by
  conv => lhs; rw [show x = at0 + (x - at0) by omega]
  rw [Nat.pow_add, Nat.mul_comm mm, Nat.mul_div_mul_left _ _ (Nat.two_pow_pos _)]
theorem dg_high {mm t : Nat} (hm : mm < 9007199254740992) (ht : 53 ≤ t) : mm / 2 ^ t % 2 = 0 := by
  have : 2 ^ 53 ≤ 2 ^ t := Nat.pow_le_pow_right (by decide) ht
  rw [Nat.div_eq_of_lt (by omega)]
theorem dg_or {D bt b : Nat} (hD : D < 2 ^ b) (hb : b < 16) (hbt : bt < 2) : nI D ||| (nI bt <<< (nI b &&& 31)) = nI (D + 2 ^ b * bt) := by
  have hp : 2 ^ b ≤ 2 ^ 15 := Nat.pow_le_pow_right (by decide) (by omega)
  have e1 : nI bt <<< (nI b &&& 31) = nI (bt * 2 ^ b) := by
    apply pk_shlN _ _ (sh_s _ (by omega))
    have : bt * 2 ^ b ≤ 1 * 2 ^ 15 := Nat.mul_le_mul (by omega) hp
    omega
  rw [e1]
  apply Int32.toBitVec_inj.mp
  rw [Int32.toBitVec_or]
  show BitVec.ofNat 32 D ||| BitVec.ofNat 32 (bt * 2 ^ b) = BitVec.ofNat 32 (D + 2 ^ b * bt)
  have h1 : bt * 2 ^ b ≤ 1 * 2 ^ 15 := Nat.mul_le_mul (by omega) hp
  apply BitVec.eq_of_toNat_eq
  rw [BitVec.toNat_or, BitVec.toNat_ofNat, BitVec.toNat_ofNat, BitVec.toNat_ofNat, Nat.mod_eq_of_lt (by omega), Nat.mod_eq_of_lt (by omega), Nat.mod_eq_of_lt (by rw [Nat.mul_comm]; omega), Nat.or_comm, Nat.add_comm, Nat.mul_comm bt]
  exact (Nat.two_pow_add_eq_or_of_lt hD bt).symm
def xA (a b : Nat) : Nat := a * 4294967296 + b
theorem xA_lt {a b : Nat} (ha : a < 4294967296) (hb : b < 4294967296) : xA a b < 18446744073709551616 := by unfold xA; omega
theorem xA_e {a b : Nat} (hb : b < 4294967296) : xA a b / 4503599627370496 % 2048 = eA a := by unfold xA eA; omega
theorem xA_m {a b : Nat} (hb : b < 4294967296) : xA a b % 4503599627370496 = fA a b := by unfold xA fA; omega
theorem hi_shl {a : Nat} (ha : a < 4294967296) : (nI a).toInt64 <<< ((nI 32).toInt64 &&& 63) = lN (a * 4294967296) := by
  obtain ⟨n, hn, en⟩ := wb_of (nI a).toInt64
  have h1 := uI_l (nI a)
  rw [en, uI_nI ha] at h1
  have h2 : n % 4294967296 = a := lN_inj (by omega) (by omega) ((lo32 n).symm.trans h1)
  have h3 : n * 2 ^ 32 % 18446744073709551616 = a * 4294967296 % 18446744073709551616 := by omega
  rw [en, wb_shl _ (by decide), lN_mod (n * 2 ^ 32), lN_mod (a * 4294967296), h3]
theorem xA_nz {a b : Nat} (ha : a < 4294967296) (hb : b < 4294967296) : lN (xA a b) = lN 9223372036854775808 ↔ nzA a b = true := by
  unfold nzA
  rw [decide_eq_true_iff]
  constructor
  · intro h
    have := lN_inj (xA_lt ha hb) (by decide) h
    unfold xA at this
    omega
  · rintro ⟨rfl, rfl⟩
    rfl
theorem big_mod {mm at0 : Nat} (hm : mm < 9007199254740992) (ha : at0 ≤ 2046) : mm * 2 ^ at0 % 2 ^ (16 * 136) = mm * 2 ^ at0 := by
  apply Nat.mod_eq_of_lt
  have h1 : mm * 2 ^ at0 < 2 ^ 53 * 2 ^ at0 := Nat.mul_lt_mul_of_pos_right hm (Nat.two_pow_pos _)
  rw [← Nat.pow_add] at h1
  exact Nat.lt_of_lt_of_le h1 (Nat.pow_le_pow_right (by decide) (by omega))

abbrev wsX1_bit : List Cond := ws_ yX1_bit cX1_bit 2 (some .boolean)
abbrev rmX1_bit : Room := { frames := 0, cells := 0, slots := 0, locals := 0 }
set_option maxHeartbeats 4000000 in
set_option maxRecDepth 100000 in
/-- ExactSumModel.bit -/
theorem metX1_bit (l : Launch) (D : va_G) (dA dB : ClassId) (h0 hw hs sz : Nat) (f g : Nat → Int32) (y z : Int32) (n : Nat) (hn0 : n < 2176) (hg0 : okH g) : Met l yX1_bit wsX1_bit rmX1_bit (va_Pc [.ref h0, .int (nI n)] (x_pre D (tAB dA dB) (wX1 h0 hw hs dA dB f g y z) sz)) (va_Qi (fun (r : Int32) (u : va_W) => r = bI (decide (vH g 136 / 2 ^ n % 2 = 1)) ∧ u = wX1 h0 hw hs dA dB f g y z) (x_post D (tAB dA dB) (va_A (wX1 h0 hw hs dA dB f g y z) sz)) (va_A (wX1 h0 hw hs dA dB f g y z) sz)) 0 0 (va_A (wX1 h0 hw hs dA dB f g y z) sz) := by
  refine x_met_z (by decide) (Nat.le_of_ble_eq_true rfl) ?_
  intro p e s m below meth c A Q ls hx hb hml hown hts hin hA hK hP hD hS hl hret
  have hown : s.vm.findClass RX1 = some m.cls := hown
  have hl : lv_has ls 2 [(0, .ref h0), (1, .int (nI n))] := hl
  refine lv_iload_n hx hb dX1_bit_0 rfl (lv_at hl 1 rfl) ?_
  refine lv_if_lt (tgt := 26) hx hb dX1_bit_1 (by decide) (fun c_ => absurd c_ (nI_pos (by omega))) (fun _ => ?_)
  refine lv_aload_n hx hb dX1_bit_4 rfl (lv_at hl 0 rfl) ?_
  refine va_get (D := D) (ci := 1) (v := .ref hs) (C := RX1) (T := TX1) (N := 4) hx hb hts in_X1 hown hK hP 0 rfl rfl 3 (by decide) (hts _ q103) (fun _ h9 => h9) rfl dX1_bit_5 ?_
  refine lv_iload_n hx hb dX1_bit_8 rfl (lv_at hl 1 rfl) ?_
  refine lv_iconst (v := nI 4) hx hb dX1_bit_9 (by decide +kernel) ?_
  refine lv_ishr hx hb dX1_bit_10 ?_
  refine x_toi (nI (n / 16)) (pk_shrN (by omega) _ 4 (by decide)) ?_
  refine x_iald hx hb hK hP 2 1 rfl rfl (k := (n / 16)) (by omega) (by decide) dX1_bit_11 ?_
  refine lv_iload_n hx hb dX1_bit_12 rfl (lv_at hl 1 rfl) ?_
  refine lv_bipush (v := nI 15) hx hb dX1_bit_13 (by decide +kernel) ?_
  refine lv_iand hx hb dX1_bit_15 ?_
  refine x_toi (nI (n % 16)) (pk_andN (by omega) 4 (by decide)) ?_
  refine lv_ishr hx hb dX1_bit_16 ?_
  refine lv_iconst (v := nI 1) hx hb dX1_bit_17 (by decide +kernel) ?_
  refine lv_iand hx hb dX1_bit_18 ?_
  refine x_toi (nI (vH g 136 / 2 ^ n % 2)) (bit1_eq hg0 hn0) ?_
  refine lv_if_eq (tgt := 26) hx hb dX1_bit_19 (by decide) (fun c1 => ?_) (fun c1 => ?_)
  · refine lv_iconst (v := nI 0) hx hb dX1_bit_26 (by decide +kernel) ?_
    refine x_toi (bI (decide (vH g 136 / 2 ^ n % 2 = 1))) (by rw [show decide (vH g 136 / 2 ^ n % 2 = 1) = false from decide_eq_false (by have := (nI_mod0 (by omega)).mp c1; omega)]; rfl) ?_
    exact hret (bI (decide (vH g 136 / 2 ^ n % 2 = 1))) _ _ _ _ _ _ rfl dX1_bit_27 (bI_nar _) (⟨rfl, rfl⟩) hK hP hD hS
  · refine lv_iconst (v := nI 1) hx hb dX1_bit_22 (by decide +kernel) ?_
    refine lv_goto (tgt := 27) hx hb dX1_bit_23 (by decide) ?_
    refine x_toi (bI (decide (vH g 136 / 2 ^ n % 2 = 1))) (by rw [show decide (vH g 136 / 2 ^ n % 2 = 1) = true from decide_eq_true (by have h9 : ¬ vH g 136 / 2 ^ n % 2 = 0 := fun q => c1 (by rw [q]; rfl); omega)]; rfl) ?_
    exact hret (bI (decide (vH g 136 / 2 ^ n % 2 = 1))) _ _ _ _ _ _ rfl dX1_bit_27 (bI_nar _) (⟨rfl, rfl⟩) hK hP hD hS
set_option maxHeartbeats 4000000 in
set_option maxRecDepth 100000 in
/-- ExactSumModel.bit of -1 -/
theorem metX1_bitN (l : Launch) (D : va_G) (dA dB : ClassId) (h0 hw hs sz : Nat) (f g : Nat → Int32) (y z : Int32)   : Met l yX1_bit wsX1_bit rmX1_bit (va_Pc [.ref h0, .int (-1)] (x_pre D (tAB dA dB) (wX1 h0 hw hs dA dB f g y z) sz)) (va_Qi (fun (r : Int32) (u : va_W) => r = bI false ∧ u = wX1 h0 hw hs dA dB f g y z) (x_post D (tAB dA dB) (va_A (wX1 h0 hw hs dA dB f g y z) sz)) (va_A (wX1 h0 hw hs dA dB f g y z) sz)) 0 0 (va_A (wX1 h0 hw hs dA dB f g y z) sz) := by
  refine x_met_z (by decide) (Nat.le_of_ble_eq_true rfl) ?_
  intro p e s m below meth c A Q ls hx hb hml hown hts hin hA hK hP hD hS hl hret
  have hown : s.vm.findClass RX1 = some m.cls := hown
  have hl : lv_has ls 2 [(0, .ref h0), (1, .int (-1))] := hl
  refine lv_iload_n hx hb dX1_bit_0 rfl (lv_at hl 1 rfl) ?_
  refine lv_if_lt (tgt := 26) hx hb dX1_bit_1 (by decide) (fun _ => ?_) (fun c_ => absurd c_ (not_not_intro (by decide)))
  refine lv_iconst (v := nI 0) hx hb dX1_bit_26 (by decide +kernel) ?_
  refine x_toi (bI false) (rfl) ?_
  exact hret (bI false) _ _ _ _ _ _ rfl dX1_bit_27 (bI_nar _) (⟨rfl, rfl⟩) hK hP hD hS
abbrev wsX1_many : List Cond := ws_ yX1_many cX1_many 1 (some .int)
abbrev rmX1_many : Room := { frames := 0, cells := 0, slots := 0, locals := 0 }
set_option maxHeartbeats 4000000 in
set_option maxRecDepth 100000 in
/-- ExactSumModel.many -/
theorem metX1_many (l : Launch) (D : va_G) (dA dB : ClassId) (h0 hw hs sz : Nat) (f g : Nat → Int32) (y z : Int32)   : Met l yX1_many wsX1_many rmX1_many (va_Pc [.ref h0] (x_pre D (tAB dA dB) (wX1 h0 hw hs dA dB f g y z) sz)) (va_Qi (fun (r : Int32) (u : va_W) => r = y ∧ u = wX1 h0 hw hs dA dB f g y z) (x_post D (tAB dA dB) (va_A (wX1 h0 hw hs dA dB f g y z) sz)) (va_A (wX1 h0 hw hs dA dB f g y z) sz)) 0 0 (va_A (wX1 h0 hw hs dA dB f g y z) sz) := by
  refine x_met_i (by decide) (Nat.le_of_ble_eq_true rfl) ?_
  intro p e s m below meth c A Q ls hx hb hml hown hts hin hA hK hP hD hS hl hret
  have hown : s.vm.findClass RX1 = some m.cls := hown
  have hl : lv_has ls 1 [(0, .ref h0)] := hl
  refine lv_aload_n hx hb dX1_many_0 rfl (lv_at hl 0 rfl) ?_
  refine va_get (D := D) (ci := 1) (v := .int y) (C := RX1) (T := TX1) (N := 4) hx hb hts in_X1 hown hK hP 0 rfl rfl 1 (by decide) (hts _ q101) (fun _ h9 => h9) rfl dX1_many_1 ?_
  exact hret y _ _ _ _ _ _ rfl dX1_many_4 (⟨rfl, rfl⟩) hK hP hD hS
abbrev wsX1_wipe : List Cond := ws_ yX1_wipe cX1_wipe 2 none
abbrev rmX1_wipe : Room := { frames := 0, cells := 0, slots := 0, locals := 0 }
set_option maxHeartbeats 4000000 in
set_option maxRecDepth 100000 in
/-- ExactSumModel.wipe -/
theorem metX1_wipe (l : Launch) (D : va_G) (dA dB : ClassId) (h0 hw hs sz : Nat) (f g : Nat → Int32) (y z : Int32)   : Met l yX1_wipe wsX1_wipe rmX1_wipe (va_Pc [.ref h0] (x_pre D (tAB dA dB) (wX1 h0 hw hs dA dB f g y z) sz)) (va_Qv (fun (u : va_W) => ∃ f' : Nat → Int32, u = wX1 h0 hw hs dA dB f' g (nI 0) (bI true) ∧ vH f' 136 = 0) (x_post D (tAB dA dB) (va_A (wX1 h0 hw hs dA dB f g y z) sz)) (va_A (wX1 h0 hw hs dA dB f g y z) sz)) 0 0 (va_A (wX1 h0 hw hs dA dB f g y z) sz) := by
  refine x_met_v (by decide) (Nat.le_of_ble_eq_true rfl) ?_
  intro p e s m below meth c A Q ls hx hb hml hown hts hin hA hK hP hD hS hl hret
  have hown : s.vm.findClass RX1 = some m.cls := hown
  have hl : lv_has ls 2 [(0, .ref h0)] := hl
  refine lv_iconst (v := nI 0) hx hb dX1_wipe_0 (by decide +kernel) ?_
  refine lv_istore_n (lv' := [(1, .int (nI 0)), (0, .ref h0)]) hx hb dX1_wipe_1 rfl hl (by decide) rfl (fun ls hl => ?_)
  have loop : ∀ (n i : Nat) (f : Nat → Int32) (H : Heap) (locs : List Loc) (ls : Array Slot), i + n = 136 → vH f i = 0 → va_P D vwCl (wX1 h0 hw hs dA dB f g y z) H → va_D A (wX1 h0 hw hs dA dB f g y z) → va_S A s.heap H locs → lv_has ls 2 [(0, .ref h0), (1, .int (nI i))] → W p l e rmX1_wipe s m ([.ref h0] : List Value).toArray below meth c H locs 0 0 Q (F0 m 2 ls []) := by
    intro n
    induction n with
    | zero =>
      intro i f H locs ls hi hv hP hD hS hl
      have hi : i = 136 := by omega
      subst hi
      refine lv_iload_n hx hb dX1_wipe_2 rfl (lv_at hl 1 rfl) ?_
      refine lv_sipush (v := nI 136) hx hb dX1_wipe_3 (by decide +kernel) ?_
      refine lv_icmp_ge (tgt := 22) hx hb dX1_wipe_6 (by decide) (fun _ => ?_) (fun c_ => absurd c_ (not_not_intro (nI_le (Nat.le_refl _) (by decide))))
      refine lv_aload_n hx hb dX1_wipe_22 rfl (lv_at hl 0 rfl) ?_
      refine lv_iconst (v := nI 0) hx hb dX1_wipe_23 (by decide +kernel) ?_
      refine va_put (D := D) (ci := 1) (v := .int (nI 0)) (ty := .int) (C := RX1) (T := TX1) (N := 4) hx hb hts in_X1 tyX1 tyX1_ok nmX1 hown hK hP hD hS 0 rfl rfl 1 (by decide) (hts _ q101) (fun _ h9 => h9) rfl (by decide +kernel) (rfl) (rfl) (Nat.le_of_ble_eq_true rfl) dX1_wipe_24 (fun H locs hP hD hS => ?_)
      have hP : va_P D vwCl (wX1 h0 hw hs dA dB f g (nI 0) z) H := hP
      have hD : va_D A (wX1 h0 hw hs dA dB f g (nI 0) z) := hD
      refine lv_aload_n hx hb dX1_wipe_27 rfl (lv_at hl 0 rfl) ?_
      refine lv_iconst (v := nI 1) hx hb dX1_wipe_28 (by decide +kernel) ?_
      refine x_toi (bI true) (rfl) ?_
      refine va_put (D := D) (ci := 1) (v := .int (bI true)) (ty := .boolean) (C := RX1) (T := TX1) (N := 4) hx hb hts in_X1 tyX1 tyX1_ok nmX1 hown hK hP hD hS 0 rfl rfl 2 (by decide) (hts _ q102) (fun _ h9 => h9) rfl (by decide +kernel) (rfl) (rfl) (Nat.le_of_ble_eq_true rfl) dX1_wipe_29 (fun H locs hP hD hS => ?_)
      have hP : va_P D vwCl (wX1 h0 hw hs dA dB f g (nI 0) (bI true)) H := hP
      have hD : va_D A (wX1 h0 hw hs dA dB f g (nI 0) (bI true)) := hD
      exact hret _ _ _ _ _ _ rfl dX1_wipe_32 (⟨f, rfl, hv⟩) hK hP hD hS
    | succ n ih =>
      intro i f H locs ls hi hv hP hD hS hl
      refine lv_iload_n hx hb dX1_wipe_2 rfl (lv_at hl 1 rfl) ?_
      refine lv_sipush (v := nI 136) hx hb dX1_wipe_3 (by decide +kernel) ?_
      refine lv_icmp_ge (tgt := 22) hx hb dX1_wipe_6 (by decide) (fun c_ => absurd c_ (nI_ge (by omega) (by decide))) (fun _ => ?_)
      refine lv_aload_n hx hb dX1_wipe_9 rfl (lv_at hl 0 rfl) ?_
      refine va_get (D := D) (ci := 1) (v := .ref hw) (C := RX1) (T := TX1) (N := 4) hx hb hts in_X1 hown hK hP 0 rfl rfl 0 (by decide) (hts _ q100) (fun _ h9 => h9) rfl dX1_wipe_10 ?_
      refine lv_iload_n hx hb dX1_wipe_13 rfl (lv_at hl 1 rfl) ?_
      refine lv_iconst (v := nI 0) hx hb dX1_wipe_14 (by decide +kernel) ?_
      refine x_iast hx hb hK hP hD hS 1 0 rfl rfl (k := i) (by omega) (by decide) dX1_wipe_15 (fun H locs hP hD hS => ?_)
      have hP : va_P D vwCl (wX1 h0 hw hs dA dB (upd f i (nI 0)) g y z) H := hP
      have hD : va_D A (wX1 h0 hw hs dA dB (upd f i (nI 0)) g y z) := hD
      refine lv_iinc (v := nI (i + 1)) (lv' := [(1, .int (nI (i + 1))), (0, .ref h0)]) hx hb dX1_wipe_16 hl (k := 1) rfl (by rw [nI_succ]; rfl) (by decide) rfl (fun ls hl => ?_)
      refine lv_goto (tgt := 2) hx hb dX1_wipe_19 (by decide) ?_
      exact ih (i + 1) _ H locs ls (by omega) (by rw [vH_s, vH_updlo (Nat.le_refl _), hv, pk_us]; simp [uI_nI]) hP hD hS (lv_sub hl [1, 0] rfl)
  exact loop 136 0 f _ _ ls rfl rfl hP hD hS (lv_sub hl [1, 0] rfl)
abbrev wsX1_one : List Cond := ws_ yX1_one cX1_one 14 none
abbrev rmX1_one : Room := { frames := 0, cells := 0, slots := 0, locals := 0 }
set_option maxHeartbeats 4000000 in
set_option maxRecDepth 100000 in
/-- ExactSumModel.one -/
theorem metX1_one (l : Launch) (D : va_G) (dA dB : ClassId) (h0 hw hs sz : Nat) (f g : Nat → Int32) (y z : Int32) (a b : Nat) (ha0 : a < 4294967296) (hb0 : b < 4294967296) (hf0 : okH f) : Met l yX1_one wsX1_one rmX1_one (va_Pc [.ref h0, .long (lN (xA a b)), .int (nI 1)] (x_pre D (tAB dA dB) (wX1 h0 hw hs dA dB f g y z) sz)) (va_Qv (fun (u : va_W) => ∃ (f' : Nat → Int32) (c' : Nat), c' ≤ 1 ∧ okH f' ∧ u = wX1 h0 hw hs dA dB f' g y z ∧ (oA a = false → vH f' 136 + c' * 2 ^ (16 * 136) = vH f 136 + mA a b * 2 ^ (eA a - 1)) ∧ (oA a = true → vH f' 136 + mA a b * 2 ^ (eA a - 1) = vH f 136 + c' * 2 ^ (16 * 136))) (x_post D (tAB dA dB) (va_A (wX1 h0 hw hs dA dB f g y z) sz)) (va_A (wX1 h0 hw hs dA dB f g y z) sz)) 0 0 (va_A (wX1 h0 hw hs dA dB f g y z) sz) := by
  refine x_met_v (by decide) (Nat.le_of_ble_eq_true rfl) ?_
  intro p e s m below meth c A Q ls hx hb hml hown hts hin hA hK hP hD hS hl hret
  have hown : s.vm.findClass RX1 = some m.cls := hown
  have hl : lv_has ls 14 [(0, .ref h0), (1, .long (lN (xA a b))), (3, .int (nI 1))] := hl
  have hX := xA_lt ha0 hb0
  have he0 := eA_lt a
  have hF := fA_lt (a := a) hb0
  have hm0 := mA_lt (a := a) hb0
  refine lv_lload_n hx hb dX1_one_0 rfl (lv_at hl 1 rfl) ?_
  refine lv_bipush (v := nI 52) hx hb dX1_one_1 (by decide +kernel) ?_
  refine lv_lushr hx hb dX1_one_3 rfl ?_
  refine x_tol (lN (xA a b / 4503599627370496)) (wb_shr hX (by decide)) ?_
  refine lv_l2i hx hb dX1_one_4 rfl ?_
  refine x_toi (nI (xA a b / 4503599627370496)) (lN_i _) ?_
  refine lv_sipush (v := nI 2047) hx hb dX1_one_5 (by decide +kernel) ?_
  refine lv_iand hx hb dX1_one_8 ?_
  refine x_toi (nI (eA a)) (by rw [← xA_e hb0]; exact pk_andN (by omega) 11 (by decide)) ?_
  refine lv_istore (lv' := [(4, .int (nI (eA a))), (0, .ref h0), (1, .long (lN (xA a b))), (3, .int (nI 1))]) hx hb dX1_one_9 hl (by decide) rfl (fun ls hl => ?_)
  refine lv_lload_n hx hb dX1_one_11 rfl (lv_at hl 2 rfl) ?_
  refine lv_ldc2 hx hb hown (hts _ q122) dX1_one_12 ?_
  refine x_tol (lN 4503599627370495) (rfl) ?_
  refine lv_land hx hb dX1_one_15 ?_
  refine x_tol (lN (fA a b)) (by rw [← xA_m hb0]; exact wb_mask (k := 52) hX (by decide)) ?_
  refine lv_lstore (lv' := [(5, .long (lN (fA a b))), (4, .int (nI (eA a))), (0, .ref h0), (1, .long (lN (xA a b))), (3, .int (nI 1))]) hx hb dX1_one_16 hl (by decide) rfl (fun ls hl => ?_)
  refine lv_iload hx hb dX1_one_18 (lv_at hl 1 rfl) ?_
  have K31 : ∀ (ls : Array Slot), lv_has ls 14 [(0, .ref h0), (1, .long (lN (xA a b))), (3, .int (nI 1)), (4, .int (nI (eA a))), (5, .long (lN (mA a b)))] → W p l e rmX1_one s m ([.ref h0, .long (lN (xA a b)), .int (nI 1)] : List Value).toArray below meth c s.heap [] 0 0 Q (F0 m 31 ls []) := by
    intro ls hl
    refine lv_iload hx hb dX1_one_31 (lv_at hl 3 rfl) ?_
    refine lv_iconst (v := nI 1) hx hb dX1_one_33 (by decide +kernel) ?_
    have K45 : ∀ (ls : Array Slot), lv_has ls 14 [(0, .ref h0), (1, .long (lN (xA a b))), (3, .int (nI 1)), (4, .int (nI (eA a))), (5, .long (lN (mA a b)))] → W p l e rmX1_one s m ([.ref h0, .long (lN (xA a b)), .int (nI 1)] : List Value).toArray below meth c s.heap [] 0 0 Q (F0 m 45 ls [.int (nI (eA a - 1))]) := by
      intro ls hl
      refine lv_istore (lv' := [(7, .int (nI (eA a - 1))), (0, .ref h0), (1, .long (lN (xA a b))), (3, .int (nI 1)), (4, .int (nI (eA a))), (5, .long (lN (mA a b)))]) hx hb dX1_one_45 hl (by decide) rfl (fun ls hl => ?_)
      refine lv_lload_n hx hb dX1_one_47 rfl (lv_at hl 2 rfl) ?_
      refine lv_lconst (v := lN 0) hx hb dX1_one_48 (by decide +kernel) ?_
      refine W.lcmp hx hb dX1_one_49 ?_
      have K59 : ∀ (ls : Array Slot), lv_has ls 14 [(7, .int (nI (eA a - 1))), (0, .ref h0), (1, .long (lN (xA a b))), (3, .int (nI 1)), (4, .int (nI (eA a))), (5, .long (lN (mA a b)))] → W p l e rmX1_one s m ([.ref h0, .long (lN (xA a b)), .int (nI 1)] : List Value).toArray below meth c s.heap [] 0 0 Q (F0 m 59 ls [.int (sgI (oA a))]) := by
        intro ls hl
        obtain ⟨mm, emm⟩ : ∃ mm, mm = mA a b := ⟨_, rfl⟩
        obtain ⟨at0, eat⟩ : ∃ at0, at0 = eA a - 1 := ⟨_, rfl⟩
        obtain ⟨o, eo⟩ : ∃ o, o = oA a := ⟨_, rfl⟩
        rw [← emm, ← eat, ← eo] at hret
        rw [← emm, ← eat] at hl
        rw [← eo]
        rw [← emm] at hm0
        have inner : ∀ (k : Nat) (cI : Int32) (H : Heap) (locs : List Loc), k < 136 → (∀ ls : Array Slot, lv_has ls 14 [(0, .ref h0), (5, .long (lN mm)), (7, .int (nI at0)), (8, .int (sgI o)), (9, .int cI), (10, .int (nI k)), (11, .int (nI (mm * 2 ^ at0 / 2 ^ (16 * k) % 65536)))] → W p l e rmX1_one s m ([.ref h0, .long (lN (xA a b)), .int (nI 1)] : List Value).toArray below meth c H locs 0 0 Q (F0 m 135 ls [])) → ∀ (n b1 : Nat) (ls : Array Slot), b1 + n = 16 → lv_has ls 14 [(0, .ref h0), (5, .long (lN mm)), (7, .int (nI at0)), (8, .int (sgI o)), (9, .int cI), (10, .int (nI k)), (11, .int (nI (mm * 2 ^ at0 / 2 ^ (16 * k) % 2 ^ b1))), (12, .int (nI b1))] → W p l e rmX1_one s m ([.ref h0, .long (lN (xA a b)), .int (nI 1)] : List Value).toArray below meth c H locs 0 0 Q (F0 m 81 ls []) := by
          intro k cI H locs hk cont n
          induction n with
          | zero =>
            intro b1 ls hb1 hl
            have hb1 : b1 = 16 := by omega
            subst hb1
            refine lv_iload hx hb dX1_one_81 (lv_at hl 7 rfl) ?_
            refine lv_bipush (v := nI 16) hx hb dX1_one_83 (by decide +kernel) ?_
            refine lv_icmp_ge (tgt := 135) hx hb dX1_one_85 (by decide) (fun _ => ?_) (fun c_ => absurd c_ (not_not_intro (nI_le (Nat.le_refl _) (by decide))))
            exact cont ls (lv_sub hl [0, 1, 2, 3, 4, 5, 6] rfl)
          | succ n ih =>
            intro b1 ls hb1 hl
            refine lv_iload hx hb dX1_one_81 (lv_at hl 7 rfl) ?_
            refine lv_bipush (v := nI 16) hx hb dX1_one_83 (by decide +kernel) ?_
            refine lv_icmp_ge (tgt := 135) hx hb dX1_one_85 (by decide) (fun c_ => absurd c_ (nI_ge (by omega) (by decide))) (fun _ => ?_)
            refine lv_bipush (v := nI 16) hx hb dX1_one_88 (by decide +kernel) ?_
            refine lv_iload hx hb dX1_one_90 (lv_at hl 5 rfl) ?_
            refine lv_imul hx hb dX1_one_92 ?_
            refine x_toi (nI (16 * k)) (pk_mul _ _) ?_
            refine lv_iload hx hb dX1_one_93 (lv_at hl 7 rfl) ?_
            refine lv_iadd hx hb dX1_one_95 ?_
            refine x_toi (nI (16 * k + b1)) (nI_add _ _) ?_
            refine lv_iload hx hb dX1_one_96 (lv_at hl 2 rfl) ?_
            refine lv_isub hx hb dX1_one_98 ?_
            have hsucc := dg_succ (mm * 2 ^ at0) k b1
            by_cases hlt : 16 * k + b1 < at0
            · refine lv_istore (lv' := [(13, .int ((nI (16 * k + b1)) - (nI at0))), (0, .ref h0), (5, .long (lN mm)), (7, .int (nI at0)), (8, .int (sgI o)), (9, .int cI), (10, .int (nI k)), (11, .int (nI (mm * 2 ^ at0 / 2 ^ (16 * k) % 2 ^ b1))), (12, .int (nI b1))]) hx hb dX1_one_99 hl (by decide) rfl (fun ls hl => ?_)
              refine lv_iload hx hb dX1_one_101 (lv_at hl 0 rfl) ?_
              refine lv_if_lt (tgt := 129) hx hb dX1_one_103 (by decide) (fun _ => ?_) (fun c_ => absurd c_ (not_not_intro (pk_sneg (by omega) hlt)))
              rw [dg_low hlt, Nat.mul_zero, Nat.add_zero] at hsucc
              refine lv_iinc (v := nI (b1 + 1)) (lv' := [(12, .int (nI (b1 + 1))), (13, .int ((nI (16 * k + b1)) - (nI at0))), (0, .ref h0), (5, .long (lN mm)), (7, .int (nI at0)), (8, .int (sgI o)), (9, .int cI), (10, .int (nI k)), (11, .int (nI (mm * 2 ^ at0 / 2 ^ (16 * k) % 2 ^ b1)))]) hx hb dX1_one_129 hl (k := 8) rfl (by rw [nI_succ]; rfl) (by decide) rfl (fun ls hl => ?_)
              refine lv_goto (tgt := 81) hx hb dX1_one_132 (by decide) ?_
              exact ih (b1 + 1) ls (by omega) (by rw [hsucc]; exact lv_sub hl [2, 3, 4, 5, 6, 7, 8, 0] rfl)
            · refine x_toi (nI (16 * k + b1 - at0)) (pk_sub (by omega)) ?_
              refine lv_istore (lv' := [(13, .int (nI (16 * k + b1 - at0))), (0, .ref h0), (5, .long (lN mm)), (7, .int (nI at0)), (8, .int (sgI o)), (9, .int cI), (10, .int (nI k)), (11, .int (nI (mm * 2 ^ at0 / 2 ^ (16 * k) % 2 ^ b1))), (12, .int (nI b1))]) hx hb dX1_one_99 hl (by decide) rfl (fun ls hl => ?_)
              refine lv_iload hx hb dX1_one_101 (lv_at hl 0 rfl) ?_
              refine lv_if_lt (tgt := 129) hx hb dX1_one_103 (by decide) (fun c_ => absurd c_ (nI_pos (by omega))) (fun _ => ?_)
              refine lv_iload hx hb dX1_one_106 (lv_at hl 0 rfl) ?_
              refine lv_bipush (v := nI 53) hx hb dX1_one_108 (by decide +kernel) ?_
              rw [dg_mid (by omega)] at hsucc
              refine lv_icmp_ge (tgt := 129) hx hb dX1_one_110 (by decide) (fun c1 => ?_) (fun c1 => ?_)
              · have ht : 53 ≤ 16 * k + b1 - at0 := by
                  rcases Nat.lt_or_ge (16 * k + b1 - at0) 53 with q9 | q9
                  · exact absurd c1 (nI_ge q9 (by decide))
                  · exact q9
                rw [dg_high hm0 ht, Nat.mul_zero, Nat.add_zero] at hsucc
                refine lv_iinc (v := nI (b1 + 1)) (lv' := [(12, .int (nI (b1 + 1))), (13, .int (nI (16 * k + b1 - at0))), (0, .ref h0), (5, .long (lN mm)), (7, .int (nI at0)), (8, .int (sgI o)), (9, .int cI), (10, .int (nI k)), (11, .int (nI (mm * 2 ^ at0 / 2 ^ (16 * k) % 2 ^ b1)))]) hx hb dX1_one_129 hl (k := 8) rfl (by rw [nI_succ]; rfl) (by decide) rfl (fun ls hl => ?_)
                refine lv_goto (tgt := 81) hx hb dX1_one_132 (by decide) ?_
                exact ih (b1 + 1) ls (by omega) (by rw [hsucc]; exact lv_sub hl [2, 3, 4, 5, 6, 7, 8, 0] rfl)
              · have ht : 16 * k + b1 - at0 < 53 := by
                  rcases Nat.lt_or_ge (16 * k + b1 - at0) 53 with q9 | q9
                  · exact q9
                  · exact absurd (nI_le q9 (by omega)) c1
                refine lv_iload hx hb dX1_one_113 (lv_at hl 7 rfl) ?_
                refine lv_lload hx hb dX1_one_115 (lv_at hl 2 rfl) ?_
                refine lv_iload hx hb dX1_one_117 (lv_at hl 0 rfl) ?_
                refine lv_lushr hx hb dX1_one_119 rfl ?_
                refine x_tol (lN (mm / 2 ^ (16 * k + b1 - at0))) (wb_shr (by omega) (by omega)) ?_
                refine lv_lconst (v := lN 1) hx hb dX1_one_120 (by decide +kernel) ?_
                refine lv_land hx hb dX1_one_121 ?_
                refine x_tol (lN (mm / 2 ^ (16 * k + b1 - at0) % 2)) (wb_a1 (Nat.lt_of_le_of_lt (Nat.div_le_self _ _) (by omega))) ?_
                refine lv_l2i hx hb dX1_one_122 rfl ?_
                refine x_toi (nI (mm / 2 ^ (16 * k + b1 - at0) % 2)) (lN_i _) ?_
                refine lv_iload hx hb dX1_one_123 (lv_at hl 8 rfl) ?_
                refine lv_ishl hx hb dX1_one_125 ?_
                refine lv_ior hx hb dX1_one_126 ?_
                refine x_toi (nI (mm * 2 ^ at0 / 2 ^ (16 * k) % 2 ^ (b1 + 1))) (by rw [hsucc]; exact dg_or (Nat.mod_lt _ (Nat.two_pow_pos _)) (by omega) (by omega)) ?_
                refine lv_istore (lv' := [(11, .int (nI (mm * 2 ^ at0 / 2 ^ (16 * k) % 2 ^ (b1 + 1)))), (13, .int (nI (16 * k + b1 - at0))), (0, .ref h0), (5, .long (lN mm)), (7, .int (nI at0)), (8, .int (sgI o)), (9, .int cI), (10, .int (nI k)), (12, .int (nI b1))]) hx hb dX1_one_127 hl (by decide) rfl (fun ls hl => ?_)
                refine lv_iinc (v := nI (b1 + 1)) (lv' := [(12, .int (nI (b1 + 1))), (11, .int (nI (mm * 2 ^ at0 / 2 ^ (16 * k) % 2 ^ (b1 + 1)))), (13, .int (nI (16 * k + b1 - at0))), (0, .ref h0), (5, .long (lN mm)), (7, .int (nI at0)), (8, .int (sgI o)), (9, .int cI), (10, .int (nI k))]) hx hb dX1_one_129 hl (k := 8) rfl (by rw [nI_succ]; rfl) (by decide) rfl (fun ls hl => ?_)
                refine lv_goto (tgt := 81) hx hb dX1_one_132 (by decide) ?_
                exact ih (b1 + 1) ls (by omega) (lv_sub hl [3, 4, 5, 6, 7, 8, 1, 0] rfl)
        refine lv_istore (lv' := [(8, .int (sgI o)), (7, .int (nI at0)), (0, .ref h0), (1, .long (lN (xA a b))), (3, .int (nI 1)), (4, .int (nI (eA a))), (5, .long (lN mm))]) hx hb dX1_one_59 hl (by decide) rfl (fun ls hl => ?_)
        refine lv_iconst (v := nI 0) hx hb dX1_one_61 (by decide +kernel) ?_
        refine lv_istore (lv' := [(9, .int (nI 0)), (8, .int (sgI o)), (7, .int (nI at0)), (0, .ref h0), (1, .long (lN (xA a b))), (3, .int (nI 1)), (4, .int (nI (eA a))), (5, .long (lN mm))]) hx hb dX1_one_62 hl (by decide) rfl (fun ls hl => ?_)
        refine lv_iconst (v := nI 0) hx hb dX1_one_64 (by decide +kernel) ?_
        refine lv_istore (lv' := [(10, .int (nI 0)), (9, .int (nI 0)), (8, .int (sgI o)), (7, .int (nI at0)), (0, .ref h0), (1, .long (lN (xA a b))), (3, .int (nI 1)), (4, .int (nI (eA a))), (5, .long (lN mm))]) hx hb dX1_one_65 hl (by decide) rfl (fun ls hl => ?_)
        have outer : ∀ (n k cy : Nat) (f1 : Nat → Int32) (H : Heap) (locs : List Loc) (ls : Array Slot), k + n = 136 → cy ≤ 1 → okH f1 → (o = false → vH f1 136 + cy * 2 ^ (16 * k) = vH f 136 + mm * 2 ^ at0 % 2 ^ (16 * k)) → (o = true → vH f1 136 + mm * 2 ^ at0 % 2 ^ (16 * k) = vH f 136 + cy * 2 ^ (16 * k)) → va_P D vwCl (wX1 h0 hw hs dA dB f1 g y z) H → va_D A (wX1 h0 hw hs dA dB f1 g y z) → va_S A s.heap H locs → lv_has ls 14 [(0, .ref h0), (5, .long (lN mm)), (7, .int (nI at0)), (8, .int (sgI o)), (9, .int (cyI o cy)), (10, .int (nI k))] → W p l e rmX1_one s m ([.ref h0, .long (lN (xA a b)), .int (nI 1)] : List Value).toArray below meth c H locs 0 0 Q (F0 m 67 ls []) := by
          intro n
          induction n with
          | zero =>
            intro k cy f1 H locs ls hi hc hok h1 h2 hP hD hS hl
            have hi : k = 136 := by omega
            subst hi
            rw [big_mod hm0 (by omega)] at h1 h2
            refine lv_iload hx hb dX1_one_67 (lv_at hl 5 rfl) ?_
            refine lv_sipush (v := nI 136) hx hb dX1_one_69 (by decide +kernel) ?_
            refine lv_icmp_ge (tgt := 178) hx hb dX1_one_72 (by decide) (fun _ => ?_) (fun c_ => absurd c_ (not_not_intro (nI_le (Nat.le_refl _) (by decide))))
            exact hret _ _ _ _ _ _ rfl dX1_one_178 (⟨f1, cy, hc, hok, rfl, h1, h2⟩) hK hP hD hS
          | succ n ih =>
            intro k cy f1 H locs ls hi hc hok h1 h2 hP hD hS hl
            refine lv_iload hx hb dX1_one_67 (lv_at hl 5 rfl) ?_
            refine lv_sipush (v := nI 136) hx hb dX1_one_69 (by decide +kernel) ?_
            refine lv_icmp_ge (tgt := 178) hx hb dX1_one_72 (by decide) (fun c_ => absurd c_ (nI_ge (by omega) (by decide))) (fun _ => ?_)
            refine lv_iconst (v := nI 0) hx hb dX1_one_75 (by decide +kernel) ?_
            refine lv_istore (lv' := [(11, .int (nI 0)), (0, .ref h0), (5, .long (lN mm)), (7, .int (nI at0)), (8, .int (sgI o)), (9, .int (cyI o cy)), (10, .int (nI k))]) hx hb dX1_one_76 hl (by decide) rfl (fun ls hl => ?_)
            refine lv_iconst (v := nI 0) hx hb dX1_one_78 (by decide +kernel) ?_
            refine lv_istore (lv' := [(12, .int (nI 0)), (11, .int (nI 0)), (0, .ref h0), (5, .long (lN mm)), (7, .int (nI at0)), (8, .int (sgI o)), (9, .int (cyI o cy)), (10, .int (nI k))]) hx hb dX1_one_79 hl (by decide) rfl (fun ls hl => ?_)
            refine inner k (cyI o cy) H locs (by omega) (fun ls hl => ?_) 16 0 ls rfl (by rw [show mm * 2 ^ at0 / 2 ^ (16 * k) % 2 ^ 0 = 0 from Nat.mod_one _]; exact lv_sub hl [2, 3, 4, 5, 6, 7, 1, 0] rfl)
            refine lv_aload_n hx hb dX1_one_135 rfl (lv_at hl 0 rfl) ?_
            refine va_get (D := D) (ci := 1) (v := .ref hw) (C := RX1) (T := TX1) (N := 4) hx hb hts in_X1 hown hK hP 0 rfl rfl 0 (by decide) (hts _ q100) (fun _ h9 => h9) rfl dX1_one_136 ?_
            refine lv_iload hx hb dX1_one_139 (lv_at hl 5 rfl) ?_
            refine x_iald hx hb hK hP 1 0 rfl rfl (k := k) (by omega) (by decide) dX1_one_141 ?_
            refine x_toi (nI (uI (f1 k))) ((nI_uI _).symm) ?_
            obtain ⟨w', c', hw', hc', q1, q2, q3, q4⟩ := on_step o (dg := mm * 2 ^ at0 / 2 ^ (16 * k) % 65536) (hok k (by omega)) (by omega) hc
            refine lv_iload hx hb dX1_one_142 (lv_at hl 3 rfl) ?_
            refine lv_iload hx hb dX1_one_144 (lv_at hl 6 rfl) ?_
            refine lv_imul hx hb dX1_one_146 ?_
            refine lv_iadd hx hb dX1_one_147 ?_
            refine lv_iload hx hb dX1_one_148 (lv_at hl 4 rfl) ?_
            refine lv_iadd hx hb dX1_one_150 ?_
            refine lv_topi (fun V eV => ?_)
            rw [← eV] at q3 q4
            refine lv_istore (lv' := [(12, .int V), (0, .ref h0), (5, .long (lN mm)), (7, .int (nI at0)), (8, .int (sgI o)), (9, .int (cyI o cy)), (10, .int (nI k)), (11, .int (nI (mm * 2 ^ at0 / 2 ^ (16 * k) % 65536)))]) hx hb dX1_one_151 hl (by decide) rfl (fun ls hl => ?_)
            refine lv_aload_n hx hb dX1_one_153 rfl (lv_at hl 1 rfl) ?_
            refine va_get (D := D) (ci := 1) (v := .ref hw) (C := RX1) (T := TX1) (N := 4) hx hb hts in_X1 hown hK hP 0 rfl rfl 0 (by decide) (hts _ q100) (fun _ h9 => h9) rfl dX1_one_154 ?_
            refine lv_iload hx hb dX1_one_157 (lv_at hl 6 rfl) ?_
            refine lv_iload hx hb dX1_one_159 (lv_at hl 0 rfl) ?_
            refine lv_ldc hx hb hown (hts _ q124) dX1_one_161 ?_
            refine x_toi (nI 65535) (rfl) ?_
            refine lv_iand hx hb dX1_one_163 ?_
            refine x_toi (nI w') (q3) ?_
            refine x_iast hx hb hK hP hD hS 1 0 rfl rfl (k := k) (by omega) (by decide) dX1_one_164 (fun H locs hP hD hS => ?_)
            have hP : va_P D vwCl (wX1 h0 hw hs dA dB (upd f1 k (nI w')) g y z) H := hP
            have hD : va_D A (wX1 h0 hw hs dA dB (upd f1 k (nI w')) g y z) := hD
            refine lv_iload hx hb dX1_one_165 (lv_at hl 0 rfl) ?_
            refine lv_bipush (v := nI 16) hx hb dX1_one_167 (by decide +kernel) ?_
            refine lv_ishr hx hb dX1_one_169 ?_
            refine x_toi (cyI o c') (q4) ?_
            refine lv_istore (lv' := [(9, .int (cyI o c')), (12, .int V), (0, .ref h0), (5, .long (lN mm)), (7, .int (nI at0)), (8, .int (sgI o)), (10, .int (nI k)), (11, .int (nI (mm * 2 ^ at0 / 2 ^ (16 * k) % 65536)))]) hx hb dX1_one_170 hl (by decide) rfl (fun ls hl => ?_)
            refine lv_iinc (v := nI (k + 1)) (lv' := [(10, .int (nI (k + 1))), (9, .int (cyI o c')), (12, .int V), (0, .ref h0), (5, .long (lN mm)), (7, .int (nI at0)), (8, .int (sgI o)), (11, .int (nI (mm * 2 ^ at0 / 2 ^ (16 * k) % 65536)))]) hx hb dX1_one_172 hl (k := 6) rfl (by rw [nI_succ]; rfl) (by decide) rfl (fun ls hl => ?_)
            refine lv_goto (tgt := 67) hx hb dX1_one_175 (by decide) ?_
            exact ih (k + 1) c' _ H locs ls (by omega) hc' (okH_upd hok hw') (fun h => on_in (g := f1) (by omega) hw' (q1 h) (h1 h)) (fun h => on_out (g := f1) (by omega) hw' (q2 h) (h2 h)) hP hD hS (lv_sub hl [3, 4, 5, 6, 1, 0] rfl)
        exact outer 136 0 0 f _ _ ls rfl (by decide) hf0 (fun _ => by rw [Nat.mul_zero, Nat.pow_zero, Nat.mod_one]) (fun _ => by rw [Nat.mul_zero, Nat.pow_zero, Nat.mod_one]) hP hD hS (by rw [show cyI o 0 = nI 0 by cases o <;> decide]; exact lv_sub hl [4, 8, 3, 2, 1, 0] rfl)
      refine lv_if_ge (tgt := 58) hx hb dX1_one_50 (by decide) (fun c2 => ?_) (fun c2 => ?_)
      · have ho : oA a = false := decide_eq_false (by have h9 := (lN_lt0 hX).mp ((lg_cmp_ge _ _).mp c2); unfold xA at h9; omega)
        refine lv_iload_n hx hb dX1_one_58 rfl (lv_at hl 3 rfl) ?_
        refine x_toi (sgI (oA a)) (by rw [ho]; rfl) ?_
        exact K59 ls hl
      · have ho : oA a = true := decide_eq_true (by have h9 : ¬ xA a b < 9223372036854775808 := fun q9 => c2 ((lg_cmp_ge _ _).mpr ((lN_lt0 hX).mpr q9)); unfold xA at h9; omega)
        refine lv_iload_n hx hb dX1_one_53 rfl (lv_at hl 3 rfl) ?_
        refine lv_ineg hx hb dX1_one_54 ?_
        refine lv_goto (tgt := 59) hx hb dX1_one_55 (by decide) ?_
        refine x_toi (sgI (oA a)) (by rw [ho]; rfl) ?_
        exact K59 ls hl
    refine lv_icmp_le (tgt := 44) hx hb dX1_one_34 (by decide) (fun c3 => ?_) (fun c3 => ?_)
    · have hE : eA a ≤ 1 := (nI_leI (by omega) (by decide)).mp c3
      refine lv_iconst (v := nI 0) hx hb dX1_one_44 (by decide +kernel) ?_
      refine x_toi (nI (eA a - 1)) (by rw [show eA a - 1 = 0 by omega]) ?_
      exact K45 ls hl
    · refine lv_iload hx hb dX1_one_37 (lv_at hl 3 rfl) ?_
      refine lv_iconst (v := nI 1) hx hb dX1_one_39 (by decide +kernel) ?_
      refine lv_isub hx hb dX1_one_40 ?_
      refine lv_goto (tgt := 45) hx hb dX1_one_41 (by decide) ?_
      have hE : ¬ eA a ≤ 1 := fun q9 => c3 (nI_le q9 (by decide))
      refine x_toi (nI (eA a - 1)) (pk_sub (by omega)) ?_
      exact K45 ls hl
  refine lv_if_le (tgt := 31) hx hb dX1_one_20 (by decide) (fun c4 => ?_) (fun c4 => ?_)
  · have hE : eA a = 0 := by
      have := (nI_leI (by omega) (by decide)).mp (show nI (eA a) ≤ nI 0 from c4)
      omega
    have em : mA a b = fA a b := by unfold mA; rw [if_pos hE]
    exact K31 ls (by rw [em]; exact lv_sub hl [2, 3, 4, 1, 0] rfl)
  · have hE : eA a ≠ 0 := fun q9 => c4 (by rw [q9]; decide)
    refine lv_lload hx hb dX1_one_23 (lv_at hl 0 rfl) ?_
    refine lv_ldc2 hx hb hown (hts _ q123) dX1_one_25 ?_
    refine x_tol (lN 4503599627370496) (rfl) ?_
    refine lv_ladd hx hb dX1_one_28 ?_
    refine x_tol (lN (mA a b)) (by unfold mA; rw [if_neg hE, lN_add, Nat.add_comm]) ?_
    refine lv_lstore (lv' := [(5, .long (lN (mA a b))), (4, .int (nI (eA a))), (0, .ref h0), (1, .long (lN (xA a b))), (3, .int (nI 1))]) hx hb dX1_one_29 hl (by decide) rfl (fun ls hl => ?_)
    exact K31 ls (lv_sub hl [2, 3, 4, 1, 0] rfl)
end
section
abbrev wsX1_add : List Cond := ws_ yX1_add cX1_add 5 (some .boolean)
abbrev rmX1_add : Room := { frames := 1, cells := 0, slots := 0, locals := 33 }
set_option maxHeartbeats 4000000 in
set_option maxRecDepth 100000 in
/-- ExactSumModel.add -/
theorem metX1_add (l : Launch) (D : va_G) (dA dB : ClassId) (h0 hw hs sz : Nat) (f g : Nat → Int32) (y z : Int32) (a b n : Nat) (om : Bool) (ha0 : a < 4294967296) (hb0 : b < 4294967296) (hn0 : n < 4096) (hy0 : y = nI n) (hz0 : z = bI om) (hf0 : okH f) : Met l yX1_add wsX1_add rmX1_add (va_Pc [.ref h0, .int (nI a), .int (nI b)] (x_pre D (tAB dA dB) (wX1 h0 hw hs dA dB f g y z) sz)) (va_Qi (fun (r : Int32) (u : va_W) => (eA a = 2047 → r = 0 ∧ u = wX1 h0 hw hs dA dB f g y z) ∧ (eA a ≠ 2047 → r = 1 ∧ ∃ (f' : Nat → Int32) (c' : Nat), c' ≤ 1 ∧ okH f' ∧ u = wX1 h0 hw hs dA dB f' g (nI (n + 1)) (bI (om && nzA a b)) ∧ (oA a = false → vH f' 136 + c' * 2 ^ (16 * 136) = vH f 136 + mA a b * 2 ^ (eA a - 1)) ∧ (oA a = true → vH f' 136 + mA a b * 2 ^ (eA a - 1) = vH f 136 + c' * 2 ^ (16 * 136)))) (x_post D (tAB dA dB) (va_A (wX1 h0 hw hs dA dB f g y z) sz)) (va_A (wX1 h0 hw hs dA dB f g y z) sz)) 0 0 (va_A (wX1 h0 hw hs dA dB f g y z) sz) := by
  refine x_met_z (by decide) (Nat.le_of_ble_eq_true rfl) ?_
  intro p e s m below meth c A Q ls hx hb hml hown hts hin hA hK hP hD hS hl hret
  have hown : s.vm.findClass RX1 = some m.cls := hown
  have hl : lv_has ls 5 [(0, .ref h0), (1, .int (nI a)), (2, .int (nI b))] := hl
  have hX := xA_lt ha0 hb0
  have he0 := eA_lt a
  refine lv_iload_n hx hb dX1_add_0 rfl (lv_at hl 1 rfl) ?_
  refine lv_i2l hx hb dX1_add_1 rfl ?_
  refine lv_bipush (v := nI 32) hx hb dX1_add_2 (by decide +kernel) ?_
  refine lv_lshl hx hb dX1_add_4 rfl ?_
  refine x_tol (lN (a * 4294967296)) (hi_shl ha0) ?_
  refine lv_iload_n hx hb dX1_add_5 rfl (lv_at hl 2 rfl) ?_
  refine lv_i2l hx hb dX1_add_6 rfl ?_
  refine lv_ldc2 hx hb hown (hts _ q117) dX1_add_7 ?_
  refine x_tol (lN 4294967295) (rfl) ?_
  refine lv_land hx hb dX1_add_10 ?_
  refine x_tol (lN b) ((uI_l _).trans (by rw [uI_nI hb0])) ?_
  refine lv_lor hx hb dX1_add_11 ?_
  refine x_tol (lN (xA a b)) (g_or (k := 32) (p := 4294967296) rfl hb0 (by omega)) ?_
  refine lv_lstore_n (lv' := [(3, .long (lN (xA a b))), (0, .ref h0), (1, .int (nI a)), (2, .int (nI b))]) hx hb dX1_add_12 rfl hl (by decide) rfl (fun ls hl => ?_)
  refine lv_lload_n hx hb dX1_add_13 rfl (lv_at hl 0 rfl) ?_
  refine lv_bipush (v := nI 52) hx hb dX1_add_14 (by decide +kernel) ?_
  refine lv_lushr hx hb dX1_add_16 rfl ?_
  refine x_tol (lN (xA a b / 4503599627370496)) (wb_shr hX (by decide)) ?_
  refine lv_l2i hx hb dX1_add_17 rfl ?_
  refine x_toi (nI (xA a b / 4503599627370496)) (lN_i _) ?_
  refine lv_sipush (v := nI 2047) hx hb dX1_add_18 (by decide +kernel) ?_
  refine lv_iand hx hb dX1_add_21 ?_
  refine x_toi (nI (eA a)) (by rw [← xA_e hb0]; exact pk_andN (by omega) 11 (by decide)) ?_
  refine lv_sipush (v := nI 2047) hx hb dX1_add_22 (by decide +kernel) ?_
  refine lv_icmp_eq (tgt := 38) hx hb dX1_add_25 (by decide) (fun c1 => ?_) (fun c1 => ?_)
  · have he : eA a = 2047 := (nI_eq (by omega) (by decide)).mp c1
    refine lv_iconst (v := nI 0) hx hb dX1_add_38 (by decide +kernel) ?_
    refine x_toi 0 (rfl) ?_
    exact hret 0 _ _ _ _ _ _ rfl dX1_add_39 (rfl) (⟨fun _ => ⟨rfl, rfl⟩, fun h => absurd he h⟩) hK hP hD hS
  · have he : eA a ≠ 2047 := fun q => c1 (by rw [q])
    refine lv_aload_n hx hb dX1_add_28 rfl (lv_at hl 1 rfl) ?_
    refine va_get (D := D) (ci := 1) (v := .int y) (C := RX1) (T := TX1) (N := 4) hx hb hts in_X1 hown hK hP 0 rfl rfl 1 (by decide) (hts _ q101) (fun _ h9 => h9) rfl dX1_add_29 ?_
    refine lv_sipush (v := nI 4096) hx hb dX1_add_32 (by decide +kernel) ?_
    refine lv_icmp_lt (tgt := 40) hx hb dX1_add_35 (by decide) (fun _ => ?_) (fun c_ => absurd c_ (not_not_intro (by rw [hy0]; exact nI_lt hn0 (by decide))))
    refine lv_aload_n hx hb dX1_add_40 rfl (lv_at hl 1 rfl) ?_
    refine lv_lload_n hx hb dX1_add_41 rfl (lv_at hl 0 rfl) ?_
    refine lv_iconst (v := nI 1) hx hb dX1_add_42 (by decide +kernel) ?_
    refine x_call_v (As := [.long (lN (xA a b)), .int (nI 1)]) (rest := []) (ci := 1) (q0 := 0) ⟨hx, hb, hml, hown, hts⟩ (metX1_one l D dA dB h0 hw hs _ f g y z a b ha0 hb0 hf0) (cwV 2 hts (lw_V q118 q120 qs8 q12 q121) rfl rfl rfl (by decide +kernel) ⟨Nat.le_of_ble_eq_true rfl, Nat.le_of_ble_eq_true rfl⟩) hK hP hD hS hA rfl rfl rfl hl.1 rfl (Nat.le_of_ble_eq_true rfl) dX1_add_43 ⟨Nat.le_refl _, Nat.le_refl _⟩ (fun u H locs hp hP hD hS => ?_)
    obtain ⟨f1, c1', hc1, hok1, rfl, i1, o1⟩ := hp
    refine lv_aload_n hx hb dX1_add_46 rfl (lv_at hl 1 rfl) ?_
    refine lv_aload_n hx hb dX1_add_47 rfl (lv_at hl 1 rfl) ?_
    refine va_get (D := D) (ci := 1) (v := .int y) (C := RX1) (T := TX1) (N := 4) hx hb hts in_X1 hown hK hP 0 rfl rfl 1 (by decide) (hts _ q101) (fun _ h9 => h9) rfl dX1_add_48 ?_
    refine lv_iconst (v := nI 1) hx hb dX1_add_51 (by decide +kernel) ?_
    refine lv_iadd hx hb dX1_add_52 ?_
    refine x_toi (nI (n + 1)) (by rw [hy0]; exact nI_add n 1) ?_
    refine va_put (D := D) (ci := 1) (v := .int (nI (n + 1))) (ty := .int) (C := RX1) (T := TX1) (N := 4) hx hb hts in_X1 tyX1 tyX1_ok nmX1 hown hK hP hD hS 0 rfl rfl 1 (by decide) (hts _ q101) (fun _ h9 => h9) rfl (by decide +kernel) (rfl) (rfl) (Nat.le_of_ble_eq_true rfl) dX1_add_53 (fun H locs hP hD hS => ?_)
    have hP : va_P D vwCl (wX1 h0 hw hs dA dB f1 g (nI (n + 1)) z) H := hP
    have hD : va_D A (wX1 h0 hw hs dA dB f1 g (nI (n + 1)) z) := hD
    refine lv_aload_n hx hb dX1_add_56 rfl (lv_at hl 1 rfl) ?_
    refine lv_aload_n hx hb dX1_add_57 rfl (lv_at hl 1 rfl) ?_
    refine va_get (D := D) (ci := 1) (v := .int z) (C := RX1) (T := TX1) (N := 4) hx hb hts in_X1 hown hK hP 0 rfl rfl 2 (by decide) (hts _ q102) (fun _ h9 => h9) rfl dX1_add_58 ?_
    have K77 : ∀ (ls : Array Slot), lv_has ls 5 [(3, .long (lN (xA a b))), (0, .ref h0), (1, .int (nI a)), (2, .int (nI b))] → W p l e rmX1_add s m ([.ref h0, .int (nI a), .int (nI b)] : List Value).toArray below meth c H locs 0 0 Q (F0 m 77 ls [.int (bI (om && nzA a b)), .ref h0]) := by
      intro ls hl
      refine va_put (D := D) (ci := 1) (v := .int (bI (om && nzA a b))) (ty := .boolean) (C := RX1) (T := TX1) (N := 4) hx hb hts in_X1 tyX1 tyX1_ok nmX1 hown hK hP hD hS 0 rfl rfl 2 (by decide) (hts _ q102) (fun _ h9 => h9) rfl (by decide +kernel) (bI_nar _) (by cases (om && nzA a b) <;> rfl) (Nat.le_of_ble_eq_true rfl) dX1_add_77 (fun H locs hP hD hS => ?_)
      have hP : va_P D vwCl (wX1 h0 hw hs dA dB f1 g (nI (n + 1)) (bI (om && nzA a b))) H := hP
      have hD : va_D A (wX1 h0 hw hs dA dB f1 g (nI (n + 1)) (bI (om && nzA a b))) := hD
      refine lv_iconst (v := nI 1) hx hb dX1_add_80 (by decide +kernel) ?_
      refine x_toi 1 (rfl) ?_
      exact hret 1 _ _ _ _ _ _ rfl dX1_add_81 (rfl) (⟨fun h => absurd h he, fun _ => ⟨rfl, f1, c1', hc1, hok1, rfl, i1, o1⟩⟩) hK hP hD hS
    refine lv_if_eq (tgt := 76) hx hb dX1_add_61 (by decide) (fun c2 => ?_) (fun c2 => ?_)
    · have ho : om = false := (bI_0 _).mp (by rw [← hz0]; exact c2)
      refine lv_iconst (v := nI 0) hx hb dX1_add_76 (by decide +kernel) ?_
      refine x_toi (bI (om && nzA a b)) (by rw [ho]; rfl) ?_
      exact K77 ls hl
    · have ho : om = true := bI_1 (by rw [← hz0]; exact c2)
      refine lv_lload_n hx hb dX1_add_64 rfl (lv_at hl 0 rfl) ?_
      refine lv_ldc2 hx hb hown (hts _ q125) dX1_add_65 ?_
      refine x_tol (lN 9223372036854775808) (by decide +kernel) ?_
      refine W.lcmp hx hb dX1_add_68 ?_
      refine lv_if_ne (tgt := 76) hx hb dX1_add_69 (by decide) (fun c3 => ?_) (fun c3 => ?_)
      · have hz : nzA a b = false := by
          cases h : nzA a b with
          | false => rfl
          | true => exact absurd ((lg_cmp_eq _ _).mpr ((xA_nz ha0 hb0).mpr h)) c3
        refine lv_iconst (v := nI 0) hx hb dX1_add_76 (by decide +kernel) ?_
        refine x_toi (bI (om && nzA a b)) (by rw [ho, hz]; rfl) ?_
        exact K77 ls hl
      · have hz : nzA a b = true := (xA_nz ha0 hb0).mp ((lg_cmp_eq _ _).mp c3)
        refine lv_iconst (v := nI 1) hx hb dX1_add_72 (by decide +kernel) ?_
        refine lv_goto (tgt := 77) hx hb dX1_add_73 (by decide) ?_
        refine x_toi (bI (om && nzA a b)) (by rw [ho, hz]; rfl) ?_
        exact K77 ls hl
end
section
def cM (mi : Bool) : Nat := if mi then 1 else 0
def dgM (mi : Bool) (x : Nat) : Nat := if mi then 65535 - x else x
theorem mz_stepF {f g : Nat → Int32} {k cy : Nat} (h : vH g k + cy * 2 ^ (16 * k) = vH f k) : vH (upd g k (nI ((uI (f k) + cy) % 65536))) (k + 1) + (uI (f k) + cy) / 65536 * 2 ^ (16 * (k + 1)) = vH f (k + 1) := by
  rw [vH_s, vH_s, vH_updlo (Nat.le_refl _), pk_us, uI_nI (by omega), on_q]
  generalize uI (f k) = d
  generalize 2 ^ (16 * k) = q at *
  have e : (d + cy) * q = ((d + cy) % 65536 + 65536 * ((d + cy) / 65536)) * q := by rw [Nat.mod_add_div]
  generalize (d + cy) % 65536 = x at *
  generalize (d + cy) / 65536 = z at *
  rw [Nat.add_mul, Nat.add_mul, Nat.mul_assoc] at e
  rw [Nat.mul_left_comm]
  omega
theorem mz_stepT {f g : Nat → Int32} {k cy : Nat} (hd : uI (f k) < 65536) (h : vH g k + cy * 2 ^ (16 * k) + vH f k = 2 ^ (16 * k)) : vH (upd g k (nI ((65535 - uI (f k) + cy) % 65536))) (k + 1) + (65535 - uI (f k) + cy) / 65536 * 2 ^ (16 * (k + 1)) + vH f (k + 1) = 2 ^ (16 * (k + 1)) := by
  rw [vH_s, vH_s, vH_updlo (Nat.le_refl _), pk_us, uI_nI (by omega), on_q]
  generalize uI (f k) = d at *
  generalize 2 ^ (16 * k) = q at *
  have e : (65535 - d + cy) * q = ((65535 - d + cy) % 65536 + 65536 * ((65535 - d + cy) / 65536)) * q := by rw [Nat.mod_add_div]
  generalize (65535 - d + cy) % 65536 = x at *
  generalize (65535 - d + cy) / 65536 = z at *
  rw [Nat.add_mul, Nat.add_mul, Nat.mul_assoc] at e
  have e2 : (65535 - d) * q + d * q = 65535 * q := by rw [← Nat.add_mul]; congr 1; omega
  rw [Nat.mul_left_comm]
  omega
theorem ok_step {g : Nat → Int32} {k t : Nat} (h : ∀ j, j < k → uI (g j) < 65536) (ht : t < 65536) : ∀ j, j < k + 1 → uI (upd g k (nI t) j) < 65536 := by
  intro j hj
  by_cases e : j = k
  · rw [e, pk_us, uI_nI (by omega)]; exact ht
  · rw [pk_un e]; exact h j (by omega)
theorem tp_hit {M j : Nat} (h : M < 2 ^ (j + 1)) (hb : M / 2 ^ j % 2 = 1) : tpI M = nI j := by
  have h1 : 1 ≤ M / 2 ^ j := by
    generalize M / 2 ^ j = z at hb ⊢
    omega
  have h2 : 2 ^ j ≤ M := by
    have := (Nat.le_div_iff_mul_le (Nat.two_pow_pos j)).mp h1
    omega
  have hne : M ≠ 0 := by have := Nat.two_pow_pos j; omega
  have e : M.log2 = j := Nat.le_antisymm (Nat.le_of_lt_succ ((Nat.log2_lt hne).mpr h)) ((Nat.le_log2 hne).mpr h2)
  unfold tpI
  rw [if_neg hne, e]
theorem tp_miss {M j : Nat} (h : M < 2 ^ (j + 1)) (hb : ¬ M / 2 ^ j % 2 = 1) : M < 2 ^ j := by
  have h1 : M / 2 ^ j < 2 := (Nat.div_lt_iff_lt_mul (Nat.two_pow_pos j)).mpr (by rw [Nat.pow_succ] at h; omega)
  have h2 : M / 2 ^ j < 1 := by omega
  have := (Nat.div_lt_iff_lt_mul (Nat.two_pow_pos j)).mp h2
  omega
theorem dbl (M a : Nat) : M / 2 ^ a = 2 * (M / 2 ^ (a + 1)) + M / 2 ^ a % 2 := by
  rw [Nat.pow_succ, ← Nat.div_div_eq_div_mul]
  omega
theorem md_succ (M i : Nat) : M % 2 ^ (i + 1) = M % 2 ^ i + 2 ^ i * (M / 2 ^ i % 2) := by rw [Nat.pow_succ, Nat.mod_mul]
theorem mo_t {M i : Nat} (h : decide (M % 2 ^ i ≠ 0) = true) : decide (M % 2 ^ (i + 1) ≠ 0) = true := by
  have h := of_decide_eq_true h
  apply decide_eq_true
  rw [md_succ]
  omega
theorem mo_b {M i : Nat} (h : decide (M / 2 ^ i % 2 = 1) = true) : decide (M % 2 ^ (i + 1) ≠ 0) = true := by
  have h := of_decide_eq_true h
  apply decide_eq_true
  rw [md_succ, h]
  have := Nat.two_pow_pos i
  omega
theorem mo_f {M i : Nat} (h1 : decide (M % 2 ^ i ≠ 0) = false) (h : decide (M / 2 ^ i % 2 = 1) = false) : decide (M % 2 ^ (i + 1) ≠ 0) = false := by
  have h := of_decide_eq_false h
  have h1 := of_decide_eq_false h1
  apply decide_eq_false
  intro q
  rw [md_succ, show M / 2 ^ i % 2 = 0 by omega] at q
  exact h1 (by simpa using q)
theorem lm_le (low : Nat) (h : low < 2147483648) : nI low - nI 1 ≤ nI (low - 1) := by
  rcases Nat.eq_zero_or_pos low with q | q
  · subst q; decide
  · rw [pk_sub (by omega)]; exact nI_le (Nat.le_refl _) (by omega)
theorem eqb1 {mi : Bool} : nI 1 = bI mi ↔ mi = true := by cases mi <;> decide
theorem eqb0 {mi : Bool} : nI 0 = bI mi ↔ mi = false := by cases mi <;> decide
def hfB (M low : Nat) : Bool := decide (0 < low ∧ M / 2 ^ (low - 1) % 2 = 1)
def moB (M low : Nat) : Bool := decide (M % 2 ^ (low - 1) ≠ 0)
def odB (M low : Nat) : Bool := decide (M / 2 ^ low % 2 = 1)
def q1H (md : Nat) (mi : Bool) (M low : Nat) : Nat := M / 2 ^ low + if grB md mi (hfB M low) (moB M low) (odB M low) then 1 else 0
def B1N (q l : Nat) : Nat := if q < 4503599627370496 then q else (l + 1) % 2048 * 4503599627370496 + (q - 4503599627370496)
def B2N (md : Nat) (mi : Bool) (q l : Nat) : Nat := if l ≤ 2045 then B1N q l else if byB md mi then 9218868437227405312 else 9218868437227405311
theorem q1H_le {md : Nat} {mi : Bool} {M : Nat} : q1H md mi M (M.log2 - 52) ≤ 9007199254740992 := by
  have h1 : M / 2 ^ (M.log2 - 52) < 9007199254740992 := by
    by_cases h : 52 < M.log2
    · exact (q0_bounds h).2
    · rw [show M.log2 - 52 = 0 by omega, Nat.pow_zero, Nat.div_one]
      exact Nat.lt_of_lt_of_le lo_log (Nat.pow_le_pow_right (n := 2) (j := 53) (by decide) (by omega))
  unfold q1H
  split <;> omega
theorem B2_mag {md : Nat} {mi : Bool} {M : Nat} : B2N md mi (q2N (q1H md mi M (M.log2 - 52))) (c2N (q1H md mi M (M.log2 - 52)) (M.log2 - 52)) = magN md mi M := by
  by_cases h : 52 < M.log2
  · have e : q1H md mi M (M.log2 - 52) = q1N md mi M := by
      unfold q1H q1N grM
      have e1 : hfB M (M.log2 - 52) = decide (M / 2 ^ (M.log2 - 52 - 1) % 2 = 1) := by
        unfold hfB
        congr 1
        exact propext ⟨fun q => q.2, fun q => ⟨by omega, q⟩⟩
      rw [e1]
      rfl
    rw [e]
    have hq1 := q1_bounds (md := md) (mi := mi) h
    have hq2 := q2_bounds hq1.1 hq1.2
    unfold magN B2N B1N
    rw [if_neg (show ¬ M.log2 ≤ 52 by omega), if_neg (show ¬ q2N (q1N md mi M) < 4503599627370496 by omega)]
    by_cases hl : c2N (q1N md mi M) (M.log2 - 52) ≤ 2045
    · rw [if_pos hl, if_pos (show c2N (q1N md mi M) (M.log2 - 52) + 1 < 2047 by omega), Nat.mod_eq_of_lt (show c2N (q1N md mi M) (M.log2 - 52) + 1 < 2048 by omega)]
    · rw [if_neg hl, if_neg (show ¬ c2N (q1N md mi M) (M.log2 - 52) + 1 < 2047 by omega)]
  · have hlow : M.log2 - 52 = 0 := by omega
    rw [hlow]
    have hM53 : M < 9007199254740992 := Nat.lt_of_lt_of_le lo_log (Nat.pow_le_pow_right (n := 2) (j := 53) (by decide) (by omega))
    have e1 : hfB M 0 = false := by simp [hfB]
    have e2 : moB M 0 = false := by simp [moB, Nat.mod_one]
    have e3 : grB md mi false false (odB M 0) = false := by simp [grB]
    have e : q1H md mi M 0 = M := by
      unfold q1H
      rw [e1, e2, e3]
      simp
    rw [e]
    have hne : M ≠ 9007199254740992 := by omega
    have h1 : q2N M = M := by unfold q2N; rw [if_neg hne]
    have h2 : c2N M 0 = 0 := by unfold c2N; rw [if_neg hne]
    rw [h1, h2]
    unfold B2N B1N magN
    rw [if_pos (show (0 : Nat) ≤ 2045 by decide), if_pos (show M.log2 ≤ 52 by omega)]
    split <;> omega
theorem mag_lt {md : Nat} {mi : Bool} {M : Nat} : magN md mi M < 9223372036854775808 := by
  unfold magN
  split
  · rename_i h
    exact Nat.lt_of_lt_of_le lo_log (Nat.le_trans (Nat.pow_le_pow_right (n := 2) (j := 53) (by decide) (by omega)) (by decide))
  · rename_i h
    split
    · have hq1 := q1_bounds (md := md) (mi := mi) (M := M) (by omega)
      have hq2 := q2_bounds hq1.1 hq1.2
      omega
    · split <;> omega

abbrev wsX1_sum : List Cond := ws_ yX1_sum cX1_sum 14 (some .long)
abbrev rmX1_sum : Room := { frames := 1, cells := 0, slots := 0, locals := 21 }
set_option maxHeartbeats 4000000 in
set_option maxRecDepth 100000 in
/-- ExactSumModel.sum -/
theorem metX1_sum (l : Launch) (D : va_G) (dA dB : ClassId) (h0 hw hs sz : Nat) (f g : Nat → Int32) (y z : Int32) (ar n M : Nat) (mi om : Bool) (ha0 : ar < 4294967296) (hn0 : n ≤ 4096) (hy0 : y = nI n) (hz0 : z = bI om) (hf0 : okH f) (hmi : mi = decide (32768 ≤ uI (f 135))) (hMF : mi = false → M = vH f 136) (hMT : mi = true → M + vH f 136 = 2 ^ (16 * 136)) : Met l yX1_sum wsX1_sum rmX1_sum (va_Pc [.ref h0, .int (nI ar)] (x_pre D (tAB dA dB) (wX1 h0 hw hs dA dB f g y z) sz)) (va_Ql (fun (r : Int64) (u : va_W) => r = lN (resN (ar % 2147483648 % 5) mi M (decide (0 < n ∧ (om = true ∨ ar % 2147483648 % 5 = 3)))) ∧ ∃ g' : Nat → Int32, u = wX1 h0 hw hs dA dB f g' y z) (x_post D (tAB dA dB) (va_A (wX1 h0 hw hs dA dB f g y z) sz)) (va_A (wX1 h0 hw hs dA dB f g y z) sz)) 0 0 (va_A (wX1 h0 hw hs dA dB f g y z) sz) := by
  refine x_met_l (by decide) (Nat.le_of_ble_eq_true rfl) ?_
  intro p e s m below meth c A Q ls hx hb hml hown hts hin hA hK hP hD hS hl hret
  have hown : s.vm.findClass RX1 = some m.cls := hown
  have hl : lv_has ls 14 [(0, .ref h0), (1, .int (nI ar))] := hl
  have hpos : mi = true → 0 < vH f 136 := by
    intro q
    rcases Nat.eq_zero_or_pos (vH f 136) with q2 | q2
    · have h3 : uI (f 135) = 0 := dv_zero q2 (show 135 < 136 by decide)
      rw [hmi] at q
      have := of_decide_eq_true q
      omega
    · exact q2
  refine lv_iload_n hx hb dX1_sum_0 rfl (lv_at hl 1 rfl) ?_
  refine lv_ldc hx hb hown (hts _ q138) dX1_sum_1 ?_
  refine x_toi (nI 2147483647) (rfl) ?_
  refine lv_iand hx hb dX1_sum_3 ?_
  refine x_toi (nI (ar % 2147483648)) (pk_andN ha0 31 (by decide)) ?_
  refine lv_iconst (v := nI 5) hx hb dX1_sum_4 (by decide +kernel) ?_
  refine lv_irem hx hb dX1_sum_5 (by decide) ?_
  refine x_toi (nI (ar % 2147483648 % 5)) (pk_rem (by omega) (by decide) (by decide)) ?_
  obtain ⟨md, emd⟩ : ∃ md, md = ar % 2147483648 % 5 := ⟨_, rfl⟩
  have hd0 : md < 5 := by omega
  rw [← emd] at hret ⊢
  refine lv_istore_n (lv' := [(2, .int (nI md)), (0, .ref h0), (1, .int (nI ar))]) hx hb dX1_sum_6 rfl hl (by decide) rfl (fun ls hl => ?_)
  refine lv_aload_n hx hb dX1_sum_7 rfl (lv_at hl 1 rfl) ?_
  refine va_get (D := D) (ci := 1) (v := .ref hw) (C := RX1) (T := TX1) (N := 4) hx hb hts in_X1 hown hK hP 0 rfl rfl 0 (by decide) (hts _ q100) (fun _ h9 => h9) rfl dX1_sum_8 ?_
  refine lv_sipush (v := nI 135) hx hb dX1_sum_11 (by decide +kernel) ?_
  refine x_iald hx hb hK hP 1 0 rfl rfl (k := 135) (by decide) (by decide) dX1_sum_14 ?_
  refine x_toi (nI (uI (f 135))) ((nI_uI _).symm) ?_
  have h135 := hf0 135 (by decide)
  refine lv_bipush (v := nI 15) hx hb dX1_sum_15 (by decide +kernel) ?_
  refine lv_ishr hx hb dX1_sum_17 ?_
  refine x_toi (nI (uI (f 135) / 32768)) (pk_shrN (by omega) _ 15 (by decide)) ?_
  have K103 : ∀ (g1 : Nat → Int32) (hok : okH g1) (hM : vH g1 136 = M) (H : Heap) (locs : List Loc) (ls : Array Slot), va_P D vwCl (wX1 h0 hw hs dA dB f g1 y z) H → va_D A (wX1 h0 hw hs dA dB f g1 y z) → va_S A s.heap H locs → lv_has ls 14 [(0, .ref h0), (2, .int (nI md)), (3, .int (bI mi))] → W p l e rmX1_sum s m ([.ref h0, .int (nI ar)] : List Value).toArray below meth c H locs 0 0 Q (F0 m 103 ls []) := by
    intro g1 hok hM H locs ls hP hD hS hl
    have hMlt : M < 2 ^ 2176 := by rw [← hM]; exact vH_lt hok (by decide)
    have hT2 : M.log2 < 2176 := log_lt (by decide) hMlt
    have K131 : ∀ (H : Heap) (locs : List Loc) (ls : Array Slot), va_P D vwCl (wX1 h0 hw hs dA dB f g1 y z) H → va_D A (wX1 h0 hw hs dA dB f g1 y z) → va_S A s.heap H locs → lv_has ls 14 [(0, .ref h0), (2, .int (nI md)), (3, .int (bI mi)), (5, .int (tpI M))] → W p l e rmX1_sum s m ([.ref h0, .int (nI ar)] : List Value).toArray below meth c H locs 0 0 Q (F0 m 131 ls []) := by
      intro  H locs ls hP hD hS hl
      refine lv_iload hx hb dX1_sum_131 (lv_at hl 3 rfl) ?_
      by_cases hM0 : M = 0
      · refine lv_if_ge (tgt := 170) hx hb dX1_sum_133 (by decide) (fun c_ => absurd c_ (by rw [hM0]; decide)) (fun _ => ?_)
        have hres : resN md mi M (decide (0 < n ∧ (om = true ∨ md = 3))) = sgN (decide (0 < n ∧ (om = true ∨ md = 3))) := by unfold resN; rw [if_pos hM0]
        rw [hres] at hret
        refine lv_aload_n hx hb dX1_sum_136 rfl (lv_at hl 0 rfl) ?_
        refine va_get (D := D) (ci := 1) (v := .int y) (C := RX1) (T := TX1) (N := 4) hx hb hts in_X1 hown hK hP 0 rfl rfl 1 (by decide) (hts _ q101) (fun _ h9 => h9) rfl dX1_sum_137 ?_
        refine lv_if_le (tgt := 150) hx hb dX1_sum_140 (by decide) (fun c1 => ?_) (fun c1 => ?_)
        · have k1 : n = 0 := by
            rw [hy0] at c1
            have := (nI_leI (by omega) (by decide)).mp (show nI n ≤ nI 0 from c1)
            omega
          refine lv_aload_n hx hb dX1_sum_150 rfl (lv_at hl 0 rfl) ?_
          refine va_get (D := D) (ci := 1) (v := .int y) (C := RX1) (T := TX1) (N := 4) hx hb hts in_X1 hown hK hP 0 rfl rfl 1 (by decide) (hts _ q101) (fun _ h9 => h9) rfl dX1_sum_151 ?_
          refine lv_if_le (tgt := 168) hx hb dX1_sum_154 (by decide) (fun _ => ?_) (fun c_ => absurd c_ (not_not_intro (by rw [hy0, k1]; decide)))
          refine lv_lconst (v := lN 0) hx hb dX1_sum_168 (by decide +kernel) ?_
          refine x_tol (lN (sgN (decide (0 < n ∧ (om = true ∨ md = 3))))) (by rw [show decide (0 < n ∧ (om = true ∨ md = 3)) = false by simp [k1]]; rfl) ?_
          exact hret (lN (sgN (decide (0 < n ∧ (om = true ∨ md = 3))))) _ _ _ _ _ _ rfl dX1_sum_169 (⟨rfl, g1, rfl⟩) hK hP hD hS
        · have k1 : 0 < n := by
            rcases Nat.eq_zero_or_pos n with q | q
            · exact absurd (by rw [hy0, q]; decide) c1
            · exact q
          refine lv_aload_n hx hb dX1_sum_143 rfl (lv_at hl 0 rfl) ?_
          refine va_get (D := D) (ci := 1) (v := .int z) (C := RX1) (T := TX1) (N := 4) hx hb hts in_X1 hown hK hP 0 rfl rfl 2 (by decide) (hts _ q102) (fun _ h9 => h9) rfl dX1_sum_144 ?_
          refine lv_if_ne (tgt := 162) hx hb dX1_sum_147 (by decide) (fun c2 => ?_) (fun c2 => ?_)
          · have k2 : om = true := bI_1 (by rw [← hz0]; exact c2)
            refine lv_ldc2 hx hb hown (hts _ q125) dX1_sum_162 ?_
            refine x_tol (lN 9223372036854775808) (by decide +kernel) ?_
            refine lv_goto (tgt := 169) hx hb dX1_sum_165 (by decide) ?_
            refine x_tol (lN (sgN (decide (0 < n ∧ (om = true ∨ md = 3))))) (by rw [show decide (0 < n ∧ (om = true ∨ md = 3)) = true by simp [k1, k2]]; rfl) ?_
            exact hret (lN (sgN (decide (0 < n ∧ (om = true ∨ md = 3))))) _ _ _ _ _ _ rfl dX1_sum_169 (⟨rfl, g1, rfl⟩) hK hP hD hS
          · have k2 : om = false := (bI_0 _).mp (by rw [← hz0]; exact c2)
            refine lv_aload_n hx hb dX1_sum_150 rfl (lv_at hl 0 rfl) ?_
            refine va_get (D := D) (ci := 1) (v := .int y) (C := RX1) (T := TX1) (N := 4) hx hb hts in_X1 hown hK hP 0 rfl rfl 1 (by decide) (hts _ q101) (fun _ h9 => h9) rfl dX1_sum_151 ?_
            refine lv_if_le (tgt := 168) hx hb dX1_sum_154 (by decide) (fun c_ => absurd c_ (by rw [hy0]; exact nI_nle k1 (by omega))) (fun _ => ?_)
            refine lv_iload_n hx hb dX1_sum_157 rfl (lv_at hl 1 rfl) ?_
            refine lv_iconst (v := nI 3) hx hb dX1_sum_158 (by decide +kernel) ?_
            refine lv_icmp_ne (tgt := 168) hx hb dX1_sum_159 (by decide) (fun c3 => ?_) (fun c3 => ?_)
            · have k3 : md ≠ 3 := fun q9 => c3 (by rw [q9])
              refine lv_lconst (v := lN 0) hx hb dX1_sum_168 (by decide +kernel) ?_
              refine x_tol (lN (sgN (decide (0 < n ∧ (om = true ∨ md = 3))))) (by rw [show decide (0 < n ∧ (om = true ∨ md = 3)) = false by simp [k1, k2, k3]]; rfl) ?_
              exact hret (lN (sgN (decide (0 < n ∧ (om = true ∨ md = 3))))) _ _ _ _ _ _ rfl dX1_sum_169 (⟨rfl, g1, rfl⟩) hK hP hD hS
            · have k3 : md = 3 := (nI_eq (by omega) (by decide)).mp c3
              refine lv_ldc2 hx hb hown (hts _ q125) dX1_sum_162 ?_
              refine x_tol (lN 9223372036854775808) (by decide +kernel) ?_
              refine lv_goto (tgt := 169) hx hb dX1_sum_165 (by decide) ?_
              refine x_tol (lN (sgN (decide (0 < n ∧ (om = true ∨ md = 3))))) (by rw [show decide (0 < n ∧ (om = true ∨ md = 3)) = true by simp [k1, k2, k3]]; rfl) ?_
              exact hret (lN (sgN (decide (0 < n ∧ (om = true ∨ md = 3))))) _ _ _ _ _ _ rfl dX1_sum_169 (⟨rfl, g1, rfl⟩) hK hP hD hS
      · have hT : tpI M = nI M.log2 := by unfold tpI; rw [if_neg hM0]
        rw [hT] at hl ⊢
        have hres : resN md mi M (decide (0 < n ∧ (om = true ∨ md = 3))) = sgN mi + magN md mi M := by unfold resN; rw [if_neg hM0]
        rw [hres] at hret
        have hq1 := q1H_le (md := md) (mi := mi) (M := M)
        have hB2 := B2_mag (md := md) (mi := mi) (M := M)
        have hlo : M < 2 ^ (M.log2 + 1) := lo_log
        obtain ⟨T, eT⟩ : ∃ T, T = M.log2 := ⟨_, rfl⟩
        rw [← eT] at hl hlo hq1 hB2 hT2 ⊢
        obtain ⟨low, elow⟩ : ∃ low, low = T - 52 := ⟨_, rfl⟩
        rw [← elow] at hq1 hB2
        refine lv_if_ge (tgt := 170) hx hb dX1_sum_133 (by decide) (fun _ => ?_) (fun c_ => absurd c_ (not_not_intro (nI_pos' (by omega))))
        have K284 : ∀ (H : Heap) (locs : List Loc) (ls : Array Slot), va_P D vwCl (wX1 h0 hw hs dA dB f g1 y z) H → va_D A (wX1 h0 hw hs dA dB f g1 y z) → va_S A s.heap H locs → lv_has ls 14 [(2, .int (nI md)), (3, .int (bI mi)), (6, .int (nI low)), (7, .long (lN (M / 2 ^ low))), (9, .int (bI (hfB M low))), (10, .int (bI (moB M low)))] → W p l e rmX1_sum s m ([.ref h0, .int (nI ar)] : List Value).toArray below meth c H locs 0 0 Q (F0 m 284 ls []) := by
          intro  H locs ls hP hD hS hl
          obtain ⟨hf, ehf⟩ : ∃ hf, hf = hfB M low := ⟨_, rfl⟩
          obtain ⟨mo, emo⟩ : ∃ mo, mo = moB M low := ⟨_, rfl⟩
          obtain ⟨od, eod⟩ : ∃ od, od = odB M low := ⟨_, rfl⟩
          obtain ⟨q1, eq1⟩ : ∃ q1, q1 = q1H md mi M low := ⟨_, rfl⟩
          have eq1 : q1 = M / 2 ^ low + if grB md mi hf mo od then 1 else 0 := by rw [eq1, ehf, emo, eod]; rfl
          rw [← ehf, ← emo] at hl
          have eq1' : q1 = q1H md mi M low := by rw [eq1, ehf, emo, eod]; rfl
          rw [← eq1'] at hq1 hB2
          have hbig : B2N md mi (q2N q1) (c2N q1 low) < 9223372036854775808 := by rw [hB2]; exact mag_lt
          rw [← hB2] at hret
          have hlowlt : low < 2176 := by omega
          have K478 : ∀ (ls : Array Slot), lv_has ls 14 [(3, .int (bI mi)), (12, .long (lN (B2N md mi (q2N q1) (c2N q1 low))))] → W p l e rmX1_sum s m ([.ref h0, .int (nI ar)] : List Value).toArray below meth c H locs 0 0 Q (F0 m 478 ls []) := by
            intro ls hl
            refine lv_iload_n hx hb dX1_sum_478 rfl (lv_at hl 0 rfl) ?_
            refine lv_if_eq (tgt := 491) hx hb dX1_sum_479 (by decide) (fun f1 => ?_) (fun f1 => ?_)
            · have hm9 : mi = false := (bI_0 _).mp f1
              refine lv_lload hx hb dX1_sum_491 (lv_at hl 1 rfl) ?_
              refine x_tol (lN (sgN mi + B2N md mi (q2N q1) (c2N q1 low))) (by rw [hm9, show sgN false = 0 from rfl, Nat.zero_add]) ?_
              exact hret (lN (sgN mi + B2N md mi (q2N q1) (c2N q1 low))) _ _ _ _ _ _ rfl dX1_sum_493 (⟨rfl, g1, rfl⟩) hK hP hD hS
            · have hm9 : mi = true := bI_1 f1
              refine lv_lload hx hb dX1_sum_482 (lv_at hl 1 rfl) ?_
              refine lv_ldc2 hx hb hown (hts _ q125) dX1_sum_484 ?_
              refine x_tol (lN 9223372036854775808) (by decide +kernel) ?_
              refine lv_lor hx hb dX1_sum_487 ?_
              refine lv_goto (tgt := 493) hx hb dX1_sum_488 (by decide) ?_
              refine x_tol (lN (sgN mi + B2N md mi (q2N q1) (c2N q1 low))) (by rw [Int64.or_comm, ← sg_or hbig]; rw [hm9]; rfl) ?_
              exact hret (lN (sgN mi + B2N md mi (q2N q1) (c2N q1 low))) _ _ _ _ _ _ rfl dX1_sum_493 (⟨rfl, g1, rfl⟩) hK hP hD hS
          have K430 : ∀ (ls : Array Slot), lv_has ls 14 [(2, .int (nI md)), (3, .int (bI mi)), (6, .int (nI (c2N q1 low)))] → W p l e rmX1_sum s m ([.ref h0, .int (nI ar)] : List Value).toArray below meth c H locs 0 0 Q (F0 m 430 ls [.long (lN (B1N (q2N q1) (c2N q1 low)))]) := by
            intro ls hl
            have hl2 : c2N q1 low ≤ low + 1 := by unfold c2N; split <;> omega
            refine lv_lstore (lv' := [(12, .long (lN (B1N (q2N q1) (c2N q1 low)))), (2, .int (nI md)), (3, .int (bI mi)), (6, .int (nI (c2N q1 low)))]) hx hb dX1_sum_430 hl (by decide) rfl (fun ls hl => ?_)
            refine lv_iload hx hb dX1_sum_432 (lv_at hl 3 rfl) ?_
            refine lv_sipush (v := nI 2045) hx hb dX1_sum_434 (by decide +kernel) ?_
            refine lv_icmp_le (tgt := 478) hx hb dX1_sum_437 (by decide) (fun f2 => ?_) (fun f2 => ?_)
            · have hl3 : c2N q1 low ≤ 2045 := (nI_leI (by omega) (by decide)).mp f2
              have eB : B2N md mi (q2N q1) (c2N q1 low) = B1N (q2N q1) (c2N q1 low) := by unfold B2N; rw [if_pos hl3]
              exact K478 ls (by rw [eB]; exact lv_sub hl [2, 0] rfl)
            · have hl3 : ¬ c2N q1 low ≤ 2045 := fun q9 => f2 (nI_le q9 (by decide))
              refine lv_iload_n hx hb dX1_sum_440 rfl (lv_at hl 1 rfl) ?_
              refine lv_if_eq (tgt := 467) hx hb dX1_sum_441 (by decide) (fun f3 => ?_) (fun f3 => ?_)
              · have k1 : md = 0 := (nI_mod0 (by omega)).mp f3
                refine lv_ldc2 hx hb hown (hts _ q145) dX1_sum_467 ?_
                refine x_tol (lN 9218868437227405312) (rfl) ?_
                refine lv_goto (tgt := 476) hx hb dX1_sum_470 (by decide) ?_
                have eB : B2N md mi (q2N q1) (c2N q1 low) = 9218868437227405312 := by unfold B2N; rw [if_neg hl3, show byB md mi = true by simp [byB, k1]]; rfl
                refine lv_lstore (lv' := [(12, .long (lN 9218868437227405312)), (2, .int (nI md)), (3, .int (bI mi)), (6, .int (nI (c2N q1 low)))]) hx hb dX1_sum_476 hl (by decide) rfl (fun ls hl => ?_)
                exact K478 ls (by rw [eB]; exact lv_sub hl [2, 0] rfl)
              · have k1 : md ≠ 0 := fun q9 => f3 (by rw [q9]; rfl)
                refine lv_iload_n hx hb dX1_sum_444 rfl (lv_at hl 1 rfl) ?_
                refine lv_iconst (v := nI 4) hx hb dX1_sum_445 (by decide +kernel) ?_
                refine lv_icmp_eq (tgt := 467) hx hb dX1_sum_446 (by decide) (fun f4 => ?_) (fun f4 => ?_)
                · have k2 : md = 4 := (nI_eq (by omega) (by decide)).mp f4
                  refine lv_ldc2 hx hb hown (hts _ q145) dX1_sum_467 ?_
                  refine x_tol (lN 9218868437227405312) (rfl) ?_
                  refine lv_goto (tgt := 476) hx hb dX1_sum_470 (by decide) ?_
                  have eB : B2N md mi (q2N q1) (c2N q1 low) = 9218868437227405312 := by unfold B2N; rw [if_neg hl3, show byB md mi = true by simp [byB, k1, k2]]; rfl
                  refine lv_lstore (lv' := [(12, .long (lN 9218868437227405312)), (2, .int (nI md)), (3, .int (bI mi)), (6, .int (nI (c2N q1 low)))]) hx hb dX1_sum_476 hl (by decide) rfl (fun ls hl => ?_)
                  exact K478 ls (by rw [eB]; exact lv_sub hl [2, 0] rfl)
                · have k2 : md ≠ 4 := fun q9 => f4 (by rw [q9])
                  refine lv_iload_n hx hb dX1_sum_449 rfl (lv_at hl 1 rfl) ?_
                  refine lv_iconst (v := nI 2) hx hb dX1_sum_450 (by decide +kernel) ?_
                  refine lv_icmp_ne (tgt := 458) hx hb dX1_sum_451 (by decide) (fun f5 => ?_) (fun f5 => ?_)
                  · have k3 : md ≠ 2 := fun q9 => f5 (by rw [q9])
                    refine lv_iload_n hx hb dX1_sum_458 rfl (lv_at hl 1 rfl) ?_
                    refine lv_iconst (v := nI 3) hx hb dX1_sum_459 (by decide +kernel) ?_
                    refine lv_icmp_ne (tgt := 473) hx hb dX1_sum_460 (by decide) (fun f7 => ?_) (fun f7 => ?_)
                    · have k5 : md ≠ 3 := fun q9 => f7 (by rw [q9])
                      have hby : byB md mi = false := by cases mi <;> simp [byB, k1, k2, k3, k5]
                      refine lv_ldc2 hx hb hown (hts _ q146) dX1_sum_473 ?_
                      refine x_tol (lN 9218868437227405311) (rfl) ?_
                      have eB : B2N md mi (q2N q1) (c2N q1 low) = 9218868437227405311 := by unfold B2N; rw [if_neg hl3, hby]; rfl
                      refine lv_lstore (lv' := [(12, .long (lN 9218868437227405311)), (2, .int (nI md)), (3, .int (bI mi)), (6, .int (nI (c2N q1 low)))]) hx hb dX1_sum_476 hl (by decide) rfl (fun ls hl => ?_)
                      exact K478 ls (by rw [eB]; exact lv_sub hl [2, 0] rfl)
                    · have k5 : md = 3 := (nI_eq (by omega) (by decide)).mp f7
                      refine lv_iload_n hx hb dX1_sum_463 rfl (lv_at hl 2 rfl) ?_
                      refine lv_if_eq (tgt := 473) hx hb dX1_sum_464 (by decide) (fun f8 => ?_) (fun f8 => ?_)
                      · have k6 : mi = false := (bI_0 _).mp f8
                        refine lv_ldc2 hx hb hown (hts _ q146) dX1_sum_473 ?_
                        refine x_tol (lN 9218868437227405311) (rfl) ?_
                        have eB : B2N md mi (q2N q1) (c2N q1 low) = 9218868437227405311 := by unfold B2N; rw [if_neg hl3, show byB md mi = false by simp [byB, k1, k2, k3, k5, k6]]; rfl
                        refine lv_lstore (lv' := [(12, .long (lN 9218868437227405311)), (2, .int (nI md)), (3, .int (bI mi)), (6, .int (nI (c2N q1 low)))]) hx hb dX1_sum_476 hl (by decide) rfl (fun ls hl => ?_)
                        exact K478 ls (by rw [eB]; exact lv_sub hl [2, 0] rfl)
                      · have k6 : mi = true := bI_1 f8
                        refine lv_ldc2 hx hb hown (hts _ q145) dX1_sum_467 ?_
                        refine x_tol (lN 9218868437227405312) (rfl) ?_
                        refine lv_goto (tgt := 476) hx hb dX1_sum_470 (by decide) ?_
                        have eB : B2N md mi (q2N q1) (c2N q1 low) = 9218868437227405312 := by unfold B2N; rw [if_neg hl3, show byB md mi = true by simp [byB, k1, k2, k3, k5, k6]]; rfl
                        refine lv_lstore (lv' := [(12, .long (lN 9218868437227405312)), (2, .int (nI md)), (3, .int (bI mi)), (6, .int (nI (c2N q1 low)))]) hx hb dX1_sum_476 hl (by decide) rfl (fun ls hl => ?_)
                        exact K478 ls (by rw [eB]; exact lv_sub hl [2, 0] rfl)
                  · have k3t : md = 2 := (nI_eq (by omega) (by decide)).mp f5
                    refine lv_iload_n hx hb dX1_sum_454 rfl (lv_at hl 2 rfl) ?_
                    refine lv_if_eq (tgt := 467) hx hb dX1_sum_455 (by decide) (fun f6 => ?_) (fun f6 => ?_)
                    · have k4 : mi = false := (bI_0 _).mp f6
                      refine lv_ldc2 hx hb hown (hts _ q145) dX1_sum_467 ?_
                      refine x_tol (lN 9218868437227405312) (rfl) ?_
                      refine lv_goto (tgt := 476) hx hb dX1_sum_470 (by decide) ?_
                      have eB : B2N md mi (q2N q1) (c2N q1 low) = 9218868437227405312 := by unfold B2N; rw [if_neg hl3, show byB md mi = true by simp [byB, k1, k2, k3t, k4]]; rfl
                      refine lv_lstore (lv' := [(12, .long (lN 9218868437227405312)), (2, .int (nI md)), (3, .int (bI mi)), (6, .int (nI (c2N q1 low)))]) hx hb dX1_sum_476 hl (by decide) rfl (fun ls hl => ?_)
                      exact K478 ls (by rw [eB]; exact lv_sub hl [2, 0] rfl)
                    · have k4 : mi = true := bI_1 f6
                      refine lv_iload_n hx hb dX1_sum_458 rfl (lv_at hl 1 rfl) ?_
                      refine lv_iconst (v := nI 3) hx hb dX1_sum_459 (by decide +kernel) ?_
                      refine lv_icmp_ne (tgt := 473) hx hb dX1_sum_460 (by decide) (fun f7 => ?_) (fun f7 => ?_)
                      · have k5 : md ≠ 3 := by omega
                        refine lv_ldc2 hx hb hown (hts _ q146) dX1_sum_473 ?_
                        refine x_tol (lN 9218868437227405311) (rfl) ?_
                        have eB : B2N md mi (q2N q1) (c2N q1 low) = 9218868437227405311 := by unfold B2N; rw [if_neg hl3, show byB md mi = false by simp [byB, k1, k2, k3t, k4, k5]]; rfl
                        refine lv_lstore (lv' := [(12, .long (lN 9218868437227405311)), (2, .int (nI md)), (3, .int (bI mi)), (6, .int (nI (c2N q1 low)))]) hx hb dX1_sum_476 hl (by decide) rfl (fun ls hl => ?_)
                        exact K478 ls (by rw [eB]; exact lv_sub hl [2, 0] rfl)
                      · have k5 : md = 3 := (nI_eq (by omega) (by decide)).mp f7
                        exact absurd k5 (by omega)
          have K397 : ∀ (ls : Array Slot), lv_has ls 14 [(2, .int (nI md)), (3, .int (bI mi)), (6, .int (nI (c2N q1 low))), (7, .long (lN (q2N q1)))] → W p l e rmX1_sum s m ([.ref h0, .int (nI ar)] : List Value).toArray below meth c H locs 0 0 Q (F0 m 397 ls []) := by
            intro ls hl
            have hl2 : c2N q1 low ≤ low + 1 := by unfold c2N; split <;> omega
            have hq2 : q2N q1 < 9007199254740992 := by unfold q2N; split <;> omega
            refine lv_lload hx hb dX1_sum_397 (lv_at hl 3 rfl) ?_
            refine lv_ldc2 hx hb hown (hts _ q123) dX1_sum_399 ?_
            refine x_tol (lN 4503599627370496) (rfl) ?_
            refine W.lcmp hx hb dX1_sum_402 ?_
            refine lv_if_ge (tgt := 411) hx hb dX1_sum_403 (by decide) (fun g1_ => ?_) (fun g1_ => ?_)
            · have hq3 : 4503599627370496 ≤ q2N q1 := (pk_lLE (by decide) (by omega)).mp ((lg_cmp_ge _ _).mp g1_)
              have eB : B1N (q2N q1) (c2N q1 low) = (c2N q1 low + 1) % 2048 * 4503599627370496 + (q2N q1 - 4503599627370496) := by unfold B1N; rw [if_neg (by omega)]
              refine lv_iload hx hb dX1_sum_411 (lv_at hl 2 rfl) ?_
              refine lv_iconst (v := nI 1) hx hb dX1_sum_413 (by decide +kernel) ?_
              refine lv_iadd hx hb dX1_sum_414 ?_
              refine x_toi (nI (c2N q1 low + 1)) (nI_add _ _) ?_
              refine lv_sipush (v := nI 2047) hx hb dX1_sum_415 (by decide +kernel) ?_
              refine lv_iand hx hb dX1_sum_418 ?_
              refine x_toi (nI ((c2N q1 low + 1) % 2048)) (pk_andN (by omega) 11 (by decide)) ?_
              refine lv_i2l hx hb dX1_sum_419 rfl ?_
              refine x_tol (lN ((c2N q1 low + 1) % 2048)) (nI_l (by omega)) ?_
              refine lv_bipush (v := nI 52) hx hb dX1_sum_420 (by decide +kernel) ?_
              refine lv_lshl hx hb dX1_sum_422 rfl ?_
              refine x_tol (lN ((c2N q1 low + 1) % 2048 * 4503599627370496)) (wb_shl _ (by decide)) ?_
              refine lv_lload hx hb dX1_sum_423 (lv_at hl 3 rfl) ?_
              refine lv_ldc2 hx hb hown (hts _ q123) dX1_sum_425 ?_
              refine x_tol (lN 4503599627370496) (rfl) ?_
              refine lv_lsub hx hb dX1_sum_428 ?_
              refine x_tol (lN (q2N q1 - 4503599627370496)) (lN_sub hq3) ?_
              refine lv_lor hx hb dX1_sum_429 ?_
              refine x_tol (lN (B1N (q2N q1) (c2N q1 low))) (by rw [eB]; exact g_or (k := 52) (p := 4503599627370496) rfl (by omega) (by omega)) ?_
              exact K430 ls (lv_sub hl [0, 1, 2] rfl)
            · have hq3 : q2N q1 < 4503599627370496 := by
                rcases Nat.lt_or_ge (q2N q1) 4503599627370496 with q9 | q9
                · exact q9
                · exact absurd ((lg_cmp_ge _ _).mpr ((pk_lLE (by decide) (by omega)).mpr q9)) g1_
              have eB : B1N (q2N q1) (c2N q1 low) = q2N q1 := by unfold B1N; rw [if_pos hq3]
              refine lv_lload hx hb dX1_sum_406 (lv_at hl 3 rfl) ?_
              refine lv_goto (tgt := 430) hx hb dX1_sum_408 (by decide) ?_
              refine x_tol (lN (B1N (q2N q1) (c2N q1 low))) (by rw [eB]) ?_
              exact K430 ls (lv_sub hl [0, 1, 2] rfl)
          have K376 : ∀ (ls : Array Slot), lv_has ls 14 [(2, .int (nI md)), (3, .int (bI mi)), (6, .int (nI low)), (7, .long (lN q1))] → W p l e rmX1_sum s m ([.ref h0, .int (nI ar)] : List Value).toArray below meth c H locs 0 0 Q (F0 m 376 ls []) := by
            intro ls hl
            refine lv_lload hx hb dX1_sum_376 (lv_at hl 3 rfl) ?_
            refine lv_ldc2 hx hb hown (hts _ q144) dX1_sum_378 ?_
            refine x_tol (lN 9007199254740992) (rfl) ?_
            refine W.lcmp hx hb dX1_sum_381 ?_
            refine lv_if_ne (tgt := 397) hx hb dX1_sum_382 (by decide) (fun g2_ => ?_) (fun g2_ => ?_)
            · have hq : q1 ≠ 9007199254740992 := fun q9 => g2_ ((lg_cmp_eq _ _).mpr (by rw [q9]))
              have e7 : c2N q1 low = low := by unfold c2N; rw [if_neg hq]
              have e8 : q2N q1 = q1 := by unfold q2N; rw [if_neg hq]
              exact K397 ls (by rw [e7, e8]; exact lv_sub hl [0, 1, 2, 3] rfl)
            · have hq : q1 = 9007199254740992 := lN_inj (by omega) (by decide) ((lg_cmp_eq _ _).mp g2_)
              have e7 : c2N q1 low = low + 1 := by unfold c2N; rw [if_pos hq]
              have e8 : q2N q1 = 4503599627370496 := by unfold q2N; rw [if_pos hq]
              refine lv_lload hx hb dX1_sum_385 (lv_at hl 3 rfl) ?_
              refine lv_iconst (v := nI 1) hx hb dX1_sum_387 (by decide +kernel) ?_
              refine lv_lshr hx hb dX1_sum_388 rfl ?_
              refine x_tol (lN 4503599627370496) (by rw [hq]; exact pf_shr (d := 1) (by decide) (by decide)) ?_
              refine lv_lstore (lv' := [(7, .long (lN 4503599627370496)), (2, .int (nI md)), (3, .int (bI mi)), (6, .int (nI low))]) hx hb dX1_sum_389 hl (by decide) rfl (fun ls hl => ?_)
              refine lv_iload hx hb dX1_sum_391 (lv_at hl 3 rfl) ?_
              refine lv_iconst (v := nI 1) hx hb dX1_sum_393 (by decide +kernel) ?_
              refine lv_iadd hx hb dX1_sum_394 ?_
              refine x_toi (nI (low + 1)) (nI_add _ _) ?_
              refine lv_istore (lv' := [(6, .int (nI (low + 1))), (7, .long (lN 4503599627370496)), (2, .int (nI md)), (3, .int (bI mi))]) hx hb dX1_sum_395 hl (by decide) rfl (fun ls hl => ?_)
              exact K397 ls (by rw [e7, e8]; exact lv_sub hl [2, 3, 0, 1] rfl)
          have K363 : ∀ (ls : Array Slot), lv_has ls 14 [(2, .int (nI md)), (3, .int (bI mi)), (6, .int (nI low)), (7, .long (lN (M / 2 ^ low))), (9, .int (bI hf)), (10, .int (bI mo))] → W p l e rmX1_sum s m ([.ref h0, .int (nI ar)] : List Value).toArray below meth c H locs 0 0 Q (F0 m 363 ls [.int (bI (grB md mi hf mo od))]) := by
            intro ls hl
            refine lv_istore (lv' := [(11, .int (bI (grB md mi hf mo od))), (2, .int (nI md)), (3, .int (bI mi)), (6, .int (nI low)), (7, .long (lN (M / 2 ^ low))), (9, .int (bI hf)), (10, .int (bI mo))]) hx hb dX1_sum_363 hl (by decide) rfl (fun ls hl => ?_)
            refine lv_iload hx hb dX1_sum_365 (lv_at hl 0 rfl) ?_
            refine lv_if_eq (tgt := 376) hx hb dX1_sum_367 (by decide) (fun g3_ => ?_) (fun g3_ => ?_)
            · have hg : grB md mi hf mo od = false := (bI_0 _).mp g3_
              have e9 : q1 = M / 2 ^ low := by rw [eq1, hg]; rfl
              exact K376 ls (by rw [e9]; exact lv_sub hl [1, 2, 3, 4] rfl)
            · have hg : grB md mi hf mo od = true := bI_1 g3_
              have e9 : q1 = M / 2 ^ low + 1 := by rw [eq1, hg]; rfl
              refine lv_lload hx hb dX1_sum_370 (lv_at hl 4 rfl) ?_
              refine lv_lconst (v := lN 1) hx hb dX1_sum_372 (by decide +kernel) ?_
              refine lv_ladd hx hb dX1_sum_373 ?_
              refine x_tol (lN q1) (by rw [e9]; exact lN_add _ _) ?_
              refine lv_lstore (lv' := [(7, .long (lN q1)), (11, .int (bI (grB md mi hf mo od))), (2, .int (nI md)), (3, .int (bI mi)), (6, .int (nI low)), (9, .int (bI hf)), (10, .int (bI mo))]) hx hb dX1_sum_374 hl (by decide) rfl (fun ls hl => ?_)
              exact K376 ls (lv_sub hl [2, 3, 4, 0] rfl)
          refine lv_iload_n hx hb dX1_sum_284 rfl (lv_at hl 0 rfl) ?_
          refine lv_if_ne (tgt := 315) hx hb dX1_sum_285 (by decide) (fun d0 => ?_) (fun d0 => ?_)
          · have k0 : md ≠ 0 := fun q9 => d0 (by rw [q9]; rfl)
            refine lv_iload_n hx hb dX1_sum_315 rfl (lv_at hl 0 rfl) ?_
            refine lv_iconst (v := nI 4) hx hb dX1_sum_316 (by decide +kernel) ?_
            refine lv_icmp_ne (tgt := 325) hx hb dX1_sum_317 (by decide) (fun d1 => ?_) (fun d1 => ?_)
            · have k1 : md ≠ 4 := fun q9 => d1 (by rw [q9])
              refine lv_iload_n hx hb dX1_sum_325 rfl (lv_at hl 0 rfl) ?_
              refine lv_iconst (v := nI 1) hx hb dX1_sum_326 (by decide +kernel) ?_
              refine lv_icmp_ne (tgt := 334) hx hb dX1_sum_327 (by decide) (fun d2 => ?_) (fun d2 => ?_)
              · have k2 : md ≠ 1 := fun q9 => d2 (by rw [q9])
                refine lv_iload hx hb dX1_sum_334 (lv_at hl 4 rfl) ?_
                refine lv_if_ne (tgt := 344) hx hb dX1_sum_336 (by decide) (fun d3 => ?_) (fun d3 => ?_)
                · have k3 : hf = true := bI_1 d3
                  refine lv_iload_n hx hb dX1_sum_344 rfl (lv_at hl 0 rfl) ?_
                  refine lv_iconst (v := nI 2) hx hb dX1_sum_345 (by decide +kernel) ?_
                  refine lv_icmp_ne (tgt := 353) hx hb dX1_sum_346 (by decide) (fun d5 => ?_) (fun d5 => ?_)
                  · have k5 : md ≠ 2 := fun q9 => d5 (by rw [q9])
                    have k6 : md = 3 := by omega
                    refine lv_iconst (v := nI 0) hx hb dX1_sum_353 (by decide +kernel) ?_
                    refine lv_iload_n hx hb dX1_sum_354 rfl (lv_at hl 1 rfl) ?_
                    refine lv_icmp_eq (tgt := 362) hx hb dX1_sum_355 (by decide) (fun d6 => ?_) (fun d6 => ?_)
                    · have k7 : mi = false := eqb0.mp d6
                      refine lv_iconst (v := nI 0) hx hb dX1_sum_362 (by decide +kernel) ?_
                      refine x_toi (bI (grB md mi hf mo od)) (by rw [show grB md mi hf mo od = false by simp [grB, k0, k1, k2, k3, k6, k7]]; rfl) ?_
                      exact K363 ls hl
                    · have k7 : mi = true := by
                        cases h : mi with
                        | true => rfl
                        | false => exact absurd (eqb0.mpr h) d6
                      refine lv_iconst (v := nI 1) hx hb dX1_sum_358 (by decide +kernel) ?_
                      refine lv_goto (tgt := 363) hx hb dX1_sum_359 (by decide) ?_
                      refine x_toi (bI (grB md mi hf mo od)) (by rw [show grB md mi hf mo od = true by simp [grB, k0, k1, k2, k3, k6, k7]]; rfl) ?_
                      exact K363 ls hl
                  · have k6 : md = 2 := (nI_eq (by omega) (by decide)).mp d5
                    refine lv_iconst (v := nI 1) hx hb dX1_sum_349 (by decide +kernel) ?_
                    refine lv_goto (tgt := 354) hx hb dX1_sum_350 (by decide) ?_
                    refine lv_iload_n hx hb dX1_sum_354 rfl (lv_at hl 1 rfl) ?_
                    refine lv_icmp_eq (tgt := 362) hx hb dX1_sum_355 (by decide) (fun d6 => ?_) (fun d6 => ?_)
                    · have k7 : mi = true := eqb1.mp d6
                      refine lv_iconst (v := nI 0) hx hb dX1_sum_362 (by decide +kernel) ?_
                      refine x_toi (bI (grB md mi hf mo od)) (by rw [show grB md mi hf mo od = false by simp [grB, k0, k1, k2, k3, k6, k7]]; rfl) ?_
                      exact K363 ls hl
                    · have k7 : mi = false := by
                        cases h : mi with
                        | false => rfl
                        | true => exact absurd (eqb1.mpr h) d6
                      refine lv_iconst (v := nI 1) hx hb dX1_sum_358 (by decide +kernel) ?_
                      refine lv_goto (tgt := 363) hx hb dX1_sum_359 (by decide) ?_
                      refine x_toi (bI (grB md mi hf mo od)) (by rw [show grB md mi hf mo od = true by simp [grB, k0, k1, k2, k3, k6, k7]]; rfl) ?_
                      exact K363 ls hl
                · have k3 : hf = false := (bI_0 _).mp d3
                  refine lv_iload hx hb dX1_sum_339 (lv_at hl 5 rfl) ?_
                  refine lv_if_eq (tgt := 362) hx hb dX1_sum_341 (by decide) (fun d4 => ?_) (fun d4 => ?_)
                  · have k4 : mo = false := (bI_0 _).mp d4
                    refine lv_iconst (v := nI 0) hx hb dX1_sum_362 (by decide +kernel) ?_
                    refine x_toi (bI (grB md mi hf mo od)) (by rw [show grB md mi hf mo od = false by simp [grB, k0, k1, k2, k3, k4]]; rfl) ?_
                    exact K363 ls hl
                  · have k4 : mo = true := bI_1 d4
                    refine lv_iload_n hx hb dX1_sum_344 rfl (lv_at hl 0 rfl) ?_
                    refine lv_iconst (v := nI 2) hx hb dX1_sum_345 (by decide +kernel) ?_
                    refine lv_icmp_ne (tgt := 353) hx hb dX1_sum_346 (by decide) (fun d5 => ?_) (fun d5 => ?_)
                    · have k5 : md ≠ 2 := fun q9 => d5 (by rw [q9])
                      have k6 : md = 3 := by omega
                      refine lv_iconst (v := nI 0) hx hb dX1_sum_353 (by decide +kernel) ?_
                      refine lv_iload_n hx hb dX1_sum_354 rfl (lv_at hl 1 rfl) ?_
                      refine lv_icmp_eq (tgt := 362) hx hb dX1_sum_355 (by decide) (fun d6 => ?_) (fun d6 => ?_)
                      · have k7 : mi = false := eqb0.mp d6
                        refine lv_iconst (v := nI 0) hx hb dX1_sum_362 (by decide +kernel) ?_
                        refine x_toi (bI (grB md mi hf mo od)) (by rw [show grB md mi hf mo od = false by simp [grB, k0, k1, k2, k3, k4, k6, k7]]; rfl) ?_
                        exact K363 ls hl
                      · have k7 : mi = true := by
                          cases h : mi with
                          | true => rfl
                          | false => exact absurd (eqb0.mpr h) d6
                        refine lv_iconst (v := nI 1) hx hb dX1_sum_358 (by decide +kernel) ?_
                        refine lv_goto (tgt := 363) hx hb dX1_sum_359 (by decide) ?_
                        refine x_toi (bI (grB md mi hf mo od)) (by rw [show grB md mi hf mo od = true by simp [grB, k0, k1, k2, k3, k4, k6, k7]]; rfl) ?_
                        exact K363 ls hl
                    · have k6 : md = 2 := (nI_eq (by omega) (by decide)).mp d5
                      refine lv_iconst (v := nI 1) hx hb dX1_sum_349 (by decide +kernel) ?_
                      refine lv_goto (tgt := 354) hx hb dX1_sum_350 (by decide) ?_
                      refine lv_iload_n hx hb dX1_sum_354 rfl (lv_at hl 1 rfl) ?_
                      refine lv_icmp_eq (tgt := 362) hx hb dX1_sum_355 (by decide) (fun d6 => ?_) (fun d6 => ?_)
                      · have k7 : mi = true := eqb1.mp d6
                        refine lv_iconst (v := nI 0) hx hb dX1_sum_362 (by decide +kernel) ?_
                        refine x_toi (bI (grB md mi hf mo od)) (by rw [show grB md mi hf mo od = false by simp [grB, k0, k1, k2, k3, k4, k6, k7]]; rfl) ?_
                        exact K363 ls hl
                      · have k7 : mi = false := by
                          cases h : mi with
                          | false => rfl
                          | true => exact absurd (eqb1.mpr h) d6
                        refine lv_iconst (v := nI 1) hx hb dX1_sum_358 (by decide +kernel) ?_
                        refine lv_goto (tgt := 363) hx hb dX1_sum_359 (by decide) ?_
                        refine x_toi (bI (grB md mi hf mo od)) (by rw [show grB md mi hf mo od = true by simp [grB, k0, k1, k2, k3, k4, k6, k7]]; rfl) ?_
                        exact K363 ls hl
              · have k2 : md = 1 := (nI_eq (by omega) (by decide)).mp d2
                have hgr : grB md mi hf mo od = false := by cases mi <;> simp [grB, k2]
                refine lv_iconst (v := nI 0) hx hb dX1_sum_330 (by decide +kernel) ?_
                refine lv_goto (tgt := 363) hx hb dX1_sum_331 (by decide) ?_
                refine x_toi (bI (grB md mi hf mo od)) (by rw [hgr]; rfl) ?_
                exact K363 ls hl
            · have k1 : md = 4 := (nI_eq (by omega) (by decide)).mp d1
              refine lv_iload hx hb dX1_sum_320 (lv_at hl 4 rfl) ?_
              refine lv_goto (tgt := 363) hx hb dX1_sum_322 (by decide) ?_
              refine x_toi (bI (grB md mi hf mo od)) (by rw [show grB md mi hf mo od = hf by simp [grB, k1]]) ?_
              exact K363 ls hl
          · have k0 : md = 0 := (nI_mod0 (by omega)).mp d0
            refine lv_iload hx hb dX1_sum_288 (lv_at hl 4 rfl) ?_
            refine lv_if_eq (tgt := 311) hx hb dX1_sum_290 (by decide) (fun d1 => ?_) (fun d1 => ?_)
            · have k1 : hf = false := (bI_0 _).mp d1
              refine lv_iconst (v := nI 0) hx hb dX1_sum_311 (by decide +kernel) ?_
              refine lv_goto (tgt := 363) hx hb dX1_sum_312 (by decide) ?_
              refine x_toi (bI (grB md mi hf mo od)) (by rw [show grB md mi hf mo od = false by simp [grB, k0, k1]]; rfl) ?_
              exact K363 ls hl
            · have k1 : hf = true := bI_1 d1
              refine lv_iload hx hb dX1_sum_293 (lv_at hl 5 rfl) ?_
              refine lv_if_ne (tgt := 307) hx hb dX1_sum_295 (by decide) (fun d2 => ?_) (fun d2 => ?_)
              · have k2 : mo = true := bI_1 d2
                refine lv_iconst (v := nI 1) hx hb dX1_sum_307 (by decide +kernel) ?_
                refine lv_goto (tgt := 363) hx hb dX1_sum_308 (by decide) ?_
                refine x_toi (bI (grB md mi hf mo od)) (by rw [show grB md mi hf mo od = true by simp [grB, k0, k1, k2]]; rfl) ?_
                exact K363 ls hl
              · have k2 : mo = false := (bI_0 _).mp d2
                have hqq : M / 2 ^ low < 18446744073709551616 := by omega
                refine lv_lload hx hb dX1_sum_298 (lv_at hl 3 rfl) ?_
                refine lv_lconst (v := lN 1) hx hb dX1_sum_300 (by decide +kernel) ?_
                refine lv_land hx hb dX1_sum_301 ?_
                refine x_tol (lN (M / 2 ^ low % 2)) (wb_a1 hqq) ?_
                refine lv_lconst (v := lN 0) hx hb dX1_sum_302 (by decide +kernel) ?_
                refine W.lcmp hx hb dX1_sum_303 ?_
                refine lv_if_eq (tgt := 311) hx hb dX1_sum_304 (by decide) (fun d3 => ?_) (fun d3 => ?_)
                · have k3 : od = false := by rw [eod]; exact decide_eq_false (by have h9 := lN_inj (by omega) (by decide) ((lg_cmp_eq _ _).mp d3); omega)
                  refine lv_iconst (v := nI 0) hx hb dX1_sum_311 (by decide +kernel) ?_
                  refine lv_goto (tgt := 363) hx hb dX1_sum_312 (by decide) ?_
                  refine x_toi (bI (grB md mi hf mo od)) (by rw [show grB md mi hf mo od = false by simp [grB, k0, k1, k2, k3]]; rfl) ?_
                  exact K363 ls hl
                · have k3 : od = true := by rw [eod]; exact decide_eq_true (by have h9 : ¬ M / 2 ^ low % 2 = 0 := fun q9 => d3 ((lg_cmp_eq _ _).mpr (by rw [q9])); omega)
                  refine lv_iconst (v := nI 1) hx hb dX1_sum_307 (by decide +kernel) ?_
                  refine lv_goto (tgt := 363) hx hb dX1_sum_308 (by decide) ?_
                  refine x_toi (bI (grB md mi hf mo od)) (by rw [show grB md mi hf mo od = true by simp [grB, k0, k1, k2, k3]]; rfl) ?_
                  exact K363 ls hl
        have loop4 : ∀ (n1 i : Nat) (H : Heap) (locs : List Loc) (ls : Array Slot), i + n1 = low - 1 → va_P D vwCl (wX1 h0 hw hs dA dB f g1 y z) H → va_D A (wX1 h0 hw hs dA dB f g1 y z) → va_S A s.heap H locs → lv_has ls 14 [(0, .ref h0), (2, .int (nI md)), (3, .int (bI mi)), (6, .int (nI low)), (7, .long (lN (M / 2 ^ low))), (9, .int (bI (hfB M low))), (10, .int (bI (decide (M % 2 ^ i ≠ 0)))), (11, .int (nI i))] → W p l e rmX1_sum s m ([.ref h0, .int (nI ar)] : List Value).toArray below meth c H locs 0 0 Q (F0 m 248 ls []) := by
          intro n1
          induction n1 with
          | zero =>
            intro i H locs ls hi hP hD hS hl
            have hi : i = low - 1 := by omega
            subst hi
            refine lv_iload hx hb dX1_sum_248 (lv_at hl 7 rfl) ?_
            refine lv_iload hx hb dX1_sum_250 (lv_at hl 3 rfl) ?_
            refine lv_iconst (v := nI 1) hx hb dX1_sum_252 (by decide +kernel) ?_
            refine lv_isub hx hb dX1_sum_253 ?_
            refine lv_icmp_ge (tgt := 284) hx hb dX1_sum_254 (by decide) (fun _ => ?_) (fun c_ => absurd c_ (not_not_intro (lm_le low (by omega))))
            exact K284 H locs ls hP hD hS (lv_sub hl [1, 2, 3, 4, 5, 6] rfl)
          | succ n1 ih =>
            intro i H locs ls hi hP hD hS hl
            refine lv_iload hx hb dX1_sum_248 (lv_at hl 7 rfl) ?_
            refine lv_iload hx hb dX1_sum_250 (lv_at hl 3 rfl) ?_
            refine lv_iconst (v := nI 1) hx hb dX1_sum_252 (by decide +kernel) ?_
            refine lv_isub hx hb dX1_sum_253 ?_
            refine lv_icmp_ge (tgt := 284) hx hb dX1_sum_254 (by decide) (fun c_ => absurd c_ (by rw [pk_sub (by omega)]; exact nI_ge (by omega) (by omega))) (fun _ => ?_)
            refine lv_iload hx hb dX1_sum_257 (lv_at hl 6 rfl) ?_
            refine lv_if_ne (tgt := 271) hx hb dX1_sum_259 (by decide) (fun d1 => ?_) (fun d1 => ?_)
            · have k1 : decide (M % 2 ^ i ≠ 0) = true := bI_1 d1
              refine lv_iconst (v := nI 1) hx hb dX1_sum_271 (by decide +kernel) ?_
              refine lv_goto (tgt := 276) hx hb dX1_sum_272 (by decide) ?_
              refine x_toi (bI (decide (M % 2 ^ (i + 1) ≠ 0))) (by rw [mo_t k1]; rfl) ?_
              refine lv_istore (lv' := [(10, .int (bI (decide (M % 2 ^ (i + 1) ≠ 0)))), (0, .ref h0), (2, .int (nI md)), (3, .int (bI mi)), (6, .int (nI low)), (7, .long (lN (M / 2 ^ low))), (9, .int (bI (hfB M low))), (11, .int (nI i))]) hx hb dX1_sum_276 hl (by decide) rfl (fun ls hl => ?_)
              refine lv_iinc (v := nI (i + 1)) (lv' := [(11, .int (nI (i + 1))), (10, .int (bI (decide (M % 2 ^ (i + 1) ≠ 0)))), (0, .ref h0), (2, .int (nI md)), (3, .int (bI mi)), (6, .int (nI low)), (7, .long (lN (M / 2 ^ low))), (9, .int (bI (hfB M low)))]) hx hb dX1_sum_278 hl (k := 7) rfl (by rw [nI_succ]; rfl) (by decide) rfl (fun ls hl => ?_)
              refine lv_goto (tgt := 248) hx hb dX1_sum_281 (by decide) ?_
              exact ih (i + 1) H locs ls (by omega) hP hD hS (lv_sub hl [2, 3, 4, 5, 6, 7, 1, 0] rfl)
            · have k1 : decide (M % 2 ^ i ≠ 0) = false := (bI_0 _).mp d1
              refine lv_aload_n hx hb dX1_sum_262 rfl (lv_at hl 0 rfl) ?_
              refine lv_iload hx hb dX1_sum_263 (lv_at hl 7 rfl) ?_
              refine x_call_i (As := [.int (nI i)]) (rest := []) (ci := 1) (q0 := 0) ⟨hx, hb, hml, hown, hts⟩ (metX1_bit l D dA dB h0 hw hs _ f g1 y z i (by omega) hok) (cwV 1 hts (lw_V q139 q141 qs9 q12 q142) rfl rfl rfl (by decide +kernel) ⟨Nat.le_of_ble_eq_true rfl, Nat.le_of_ble_eq_true rfl⟩) hK hP hD hS hA rfl rfl rfl hl.1 rfl (Nat.le_of_ble_eq_true rfl) dX1_sum_265 ⟨Nat.le_refl _, Nat.le_refl _⟩ (fun r u H locs hp hP hD hS => ?_)
              obtain ⟨rfl, rfl⟩ := hp
              rw [hM]
              refine lv_if_eq (tgt := 275) hx hb dX1_sum_268 (by decide) (fun d2 => ?_) (fun d2 => ?_)
              · have k2 : decide (M / 2 ^ i % 2 = 1) = false := (bI_0 _).mp d2
                refine lv_iconst (v := nI 0) hx hb dX1_sum_275 (by decide +kernel) ?_
                refine x_toi (bI (decide (M % 2 ^ (i + 1) ≠ 0))) (by rw [mo_f k1 k2]; rfl) ?_
                refine lv_istore (lv' := [(10, .int (bI (decide (M % 2 ^ (i + 1) ≠ 0)))), (0, .ref h0), (2, .int (nI md)), (3, .int (bI mi)), (6, .int (nI low)), (7, .long (lN (M / 2 ^ low))), (9, .int (bI (hfB M low))), (11, .int (nI i))]) hx hb dX1_sum_276 hl (by decide) rfl (fun ls hl => ?_)
                refine lv_iinc (v := nI (i + 1)) (lv' := [(11, .int (nI (i + 1))), (10, .int (bI (decide (M % 2 ^ (i + 1) ≠ 0)))), (0, .ref h0), (2, .int (nI md)), (3, .int (bI mi)), (6, .int (nI low)), (7, .long (lN (M / 2 ^ low))), (9, .int (bI (hfB M low)))]) hx hb dX1_sum_278 hl (k := 7) rfl (by rw [nI_succ]; rfl) (by decide) rfl (fun ls hl => ?_)
                refine lv_goto (tgt := 248) hx hb dX1_sum_281 (by decide) ?_
                exact ih (i + 1) H locs ls (by omega) hP hD hS (lv_sub hl [2, 3, 4, 5, 6, 7, 1, 0] rfl)
              · have k2 : decide (M / 2 ^ i % 2 = 1) = true := bI_1 d2
                refine lv_iconst (v := nI 1) hx hb dX1_sum_271 (by decide +kernel) ?_
                refine lv_goto (tgt := 276) hx hb dX1_sum_272 (by decide) ?_
                refine x_toi (bI (decide (M % 2 ^ (i + 1) ≠ 0))) (by rw [mo_b k2]; rfl) ?_
                refine lv_istore (lv' := [(10, .int (bI (decide (M % 2 ^ (i + 1) ≠ 0)))), (0, .ref h0), (2, .int (nI md)), (3, .int (bI mi)), (6, .int (nI low)), (7, .long (lN (M / 2 ^ low))), (9, .int (bI (hfB M low))), (11, .int (nI i))]) hx hb dX1_sum_276 hl (by decide) rfl (fun ls hl => ?_)
                refine lv_iinc (v := nI (i + 1)) (lv' := [(11, .int (nI (i + 1))), (10, .int (bI (decide (M % 2 ^ (i + 1) ≠ 0)))), (0, .ref h0), (2, .int (nI md)), (3, .int (bI mi)), (6, .int (nI low)), (7, .long (lN (M / 2 ^ low))), (9, .int (bI (hfB M low)))]) hx hb dX1_sum_278 hl (k := 7) rfl (by rw [nI_succ]; rfl) (by decide) rfl (fun ls hl => ?_)
                refine lv_goto (tgt := 248) hx hb dX1_sum_281 (by decide) ?_
                exact ih (i + 1) H locs ls (by omega) hP hD hS (lv_sub hl [2, 3, 4, 5, 6, 7, 1, 0] rfl)
        have K240 : ∀ (H : Heap) (locs : List Loc) (ls : Array Slot), va_P D vwCl (wX1 h0 hw hs dA dB f g1 y z) H → va_D A (wX1 h0 hw hs dA dB f g1 y z) → va_S A s.heap H locs → lv_has ls 14 [(0, .ref h0), (2, .int (nI md)), (3, .int (bI mi)), (6, .int (nI low)), (7, .long (lN (M / 2 ^ low)))] → W p l e rmX1_sum s m ([.ref h0, .int (nI ar)] : List Value).toArray below meth c H locs 0 0 Q (F0 m 240 ls [.int (bI (hfB M low))]) := by
          intro  H locs ls hP hD hS hl
          refine lv_istore (lv' := [(9, .int (bI (hfB M low))), (0, .ref h0), (2, .int (nI md)), (3, .int (bI mi)), (6, .int (nI low)), (7, .long (lN (M / 2 ^ low)))]) hx hb dX1_sum_240 hl (by decide) rfl (fun ls hl => ?_)
          refine lv_iconst (v := nI 0) hx hb dX1_sum_242 (by decide +kernel) ?_
          refine x_toi (bI (decide (M % 2 ^ 0 ≠ 0))) (by rw [show decide (M % 2 ^ 0 ≠ 0) = false by simp [Nat.mod_one]]; rfl) ?_
          refine lv_istore (lv' := [(10, .int (bI (decide (M % 2 ^ 0 ≠ 0)))), (9, .int (bI (hfB M low))), (0, .ref h0), (2, .int (nI md)), (3, .int (bI mi)), (6, .int (nI low)), (7, .long (lN (M / 2 ^ low)))]) hx hb dX1_sum_243 hl (by decide) rfl (fun ls hl => ?_)
          refine lv_iconst (v := nI 0) hx hb dX1_sum_245 (by decide +kernel) ?_
          refine lv_istore (lv' := [(11, .int (nI 0)), (10, .int (bI (decide (M % 2 ^ 0 ≠ 0)))), (9, .int (bI (hfB M low))), (0, .ref h0), (2, .int (nI md)), (3, .int (bI mi)), (6, .int (nI low)), (7, .long (lN (M / 2 ^ low)))]) hx hb dX1_sum_246 hl (by decide) rfl (fun ls hl => ?_)
          exact loop4 (low - 1) 0 H locs ls (by omega) hP hD hS (lv_sub hl [3, 4, 5, 6, 7, 2, 1, 0] rfl)
        have loop3 : ∀ (k : Nat) (H : Heap) (locs : List Loc) (ls : Array Slot), low + k ≤ T + 1 → va_P D vwCl (wX1 h0 hw hs dA dB f g1 y z) H → va_D A (wX1 h0 hw hs dA dB f g1 y z) → va_S A s.heap H locs → lv_has ls 14 [(0, .ref h0), (2, .int (nI md)), (3, .int (bI mi)), (6, .int (nI low)), (7, .long (lN (M / 2 ^ (low + k)))), (9, .int (nI (low + k) - nI 1))] → W p l e rmX1_sum s m ([.ref h0, .int (nI ar)] : List Value).toArray below meth c H locs 0 0 Q (F0 m 195 ls []) := by
          intro k
          induction k with
          | zero =>
            intro H locs ls hk hP hD hS hl
            refine lv_iload hx hb dX1_sum_195 (lv_at hl 5 rfl) ?_
            refine lv_iload hx hb dX1_sum_197 (lv_at hl 3 rfl) ?_
            refine lv_icmp_lt (tgt := 232) hx hb dX1_sum_199 (by decide) (fun _ => ?_) (fun c_ => absurd c_ (not_not_intro (nI_m1lt (by omega))))
            refine lv_aload_n hx hb dX1_sum_232 rfl (lv_at hl 0 rfl) ?_
            refine lv_iload hx hb dX1_sum_233 (lv_at hl 3 rfl) ?_
            refine lv_iconst (v := nI 1) hx hb dX1_sum_235 (by decide +kernel) ?_
            refine lv_isub hx hb dX1_sum_236 ?_
            by_cases hlow : low = 0
            · refine x_toi (-1) (by rw [hlow]; decide) ?_
              refine x_call_i (As := [.int (-1)]) (rest := []) (ci := 1) (q0 := 0) ⟨hx, hb, hml, hown, hts⟩ (metX1_bitN l D dA dB h0 hw hs _ f g1 y z) (cwV 1 hts (lw_V q139 q141 qs9 q12 q142) rfl rfl rfl (by decide +kernel) ⟨Nat.le_of_ble_eq_true rfl, Nat.le_of_ble_eq_true rfl⟩) hK hP hD hS hA rfl rfl rfl hl.1 rfl (Nat.le_of_ble_eq_true rfl) dX1_sum_237 ⟨Nat.le_refl _, Nat.le_refl _⟩ (fun r u H locs hp hP hD hS => ?_)
              obtain ⟨rfl, rfl⟩ := hp
              refine x_toi (bI (hfB M low)) (by rw [show hfB M low = false by simp [hfB, hlow]]) ?_
              exact K240 H locs ls hP hD hS (lv_sub hl [0, 1, 2, 3, 4] rfl)
            · refine x_toi (nI (low - 1)) (pk_sub (by omega)) ?_
              refine x_call_i (As := [.int (nI (low - 1))]) (rest := []) (ci := 1) (q0 := 0) ⟨hx, hb, hml, hown, hts⟩ (metX1_bit l D dA dB h0 hw hs _ f g1 y z (low - 1) (by omega) hok) (cwV 1 hts (lw_V q139 q141 qs9 q12 q142) rfl rfl rfl (by decide +kernel) ⟨Nat.le_of_ble_eq_true rfl, Nat.le_of_ble_eq_true rfl⟩) hK hP hD hS hA rfl rfl rfl hl.1 rfl (Nat.le_of_ble_eq_true rfl) dX1_sum_237 ⟨Nat.le_refl _, Nat.le_refl _⟩ (fun r u H locs hp hP hD hS => ?_)
              obtain ⟨rfl, rfl⟩ := hp
              refine x_toi (bI (hfB M low)) (by rw [hM]; congr 1; unfold hfB; congr 1; exact propext ⟨fun q9 => ⟨by omega, q9⟩, fun q9 => q9.2⟩) ?_
              exact K240 H locs ls hP hD hS (lv_sub hl [0, 1, 2, 3, 4] rfl)
          | succ k ih =>
            intro H locs ls hk hP hD hS hl
            rw [show nI (low + (k + 1)) - nI 1 = nI (low + k) from nI_pred _] at hl
            refine lv_iload hx hb dX1_sum_195 (lv_at hl 5 rfl) ?_
            refine lv_iload hx hb dX1_sum_197 (lv_at hl 3 rfl) ?_
            refine lv_icmp_lt (tgt := 232) hx hb dX1_sum_199 (by decide) (fun c_ => absurd c_ (nI_nlt (by omega) (by omega))) (fun _ => ?_)
            refine lv_ldc2 hx hb hown (hts _ q143) dX1_sum_202 ?_
            refine x_tol (lN 2) (rfl) ?_
            refine lv_lload hx hb dX1_sum_205 (lv_at hl 4 rfl) ?_
            refine lv_lmul hx hb dX1_sum_207 ?_
            refine x_tol (lN (2 * (M / 2 ^ (low + (k + 1))))) (lN_mul _ _) ?_
            refine lv_aload_n hx hb dX1_sum_208 rfl (lv_at hl 0 rfl) ?_
            refine lv_iload hx hb dX1_sum_209 (lv_at hl 5 rfl) ?_
            refine x_call_i (As := [.int (nI (low + k))]) (rest := [.long (lN (2 * (M / 2 ^ (low + (k + 1)))))]) (ci := 1) (q0 := 0) ⟨hx, hb, hml, hown, hts⟩ (metX1_bit l D dA dB h0 hw hs _ f g1 y z (low + k) (by omega) hok) (cwV 1 hts (lw_V q139 q141 qs9 q12 q142) rfl rfl rfl (by decide +kernel) ⟨Nat.le_of_ble_eq_true rfl, Nat.le_of_ble_eq_true rfl⟩) hK hP hD hS hA rfl rfl rfl hl.1 rfl (Nat.le_of_ble_eq_true rfl) dX1_sum_211 ⟨Nat.le_refl _, Nat.le_refl _⟩ (fun r u H locs hp hP hD hS => ?_)
            obtain ⟨rfl, rfl⟩ := hp
            rw [hM]
            have hd := dbl M (low + k)
            refine lv_if_eq (tgt := 221) hx hb dX1_sum_214 (by decide) (fun d1 => ?_) (fun d1 => ?_)
            · have k1 : decide (M / 2 ^ (low + k) % 2 = 1) = false := (bI_0 _).mp d1
              have hbit : M / 2 ^ (low + k) % 2 = 0 := by
                have h9 := of_decide_eq_false k1
                omega
              rw [hbit] at hd
              refine lv_iconst (v := nI 0) hx hb dX1_sum_221 (by decide +kernel) ?_
              refine lv_i2l hx hb dX1_sum_222 rfl ?_
              refine x_tol (lN 0) (nI_l (by decide)) ?_
              refine lv_ladd hx hb dX1_sum_223 ?_
              refine x_tol (lN (M / 2 ^ (low + k))) (by rw [lN_add]; congr 1; exact hd.symm) ?_
              refine lv_lstore (lv' := [(7, .long (lN (M / 2 ^ (low + k)))), (0, .ref h0), (2, .int (nI md)), (3, .int (bI mi)), (6, .int (nI low)), (9, .int (nI (low + k)))]) hx hb dX1_sum_224 hl (by decide) rfl (fun ls hl => ?_)
              refine lv_iinc (v := nI (low + k) - nI 1) (lv' := [(9, .int (nI (low + k) - nI 1)), (7, .long (lN (M / 2 ^ (low + k)))), (0, .ref h0), (2, .int (nI md)), (3, .int (bI mi)), (6, .int (nI low))]) hx hb dX1_sum_226 hl (k := 5) rfl (by rw [Int32.sub_eq_add_neg]; rfl) (by decide) rfl (fun ls hl => ?_)
              refine lv_goto (tgt := 195) hx hb dX1_sum_229 (by decide) ?_
              exact ih H locs ls (by omega) hP hD hS (lv_sub hl [2, 3, 4, 5, 1, 0] rfl)
            · have k1 : decide (M / 2 ^ (low + k) % 2 = 1) = true := bI_1 d1
              have hbit : M / 2 ^ (low + k) % 2 = 1 := by
                have h9 := of_decide_eq_true k1
                omega
              rw [hbit] at hd
              refine lv_iconst (v := nI 1) hx hb dX1_sum_217 (by decide +kernel) ?_
              refine lv_goto (tgt := 222) hx hb dX1_sum_218 (by decide) ?_
              refine lv_i2l hx hb dX1_sum_222 rfl ?_
              refine x_tol (lN 1) (nI_l (by decide)) ?_
              refine lv_ladd hx hb dX1_sum_223 ?_
              refine x_tol (lN (M / 2 ^ (low + k))) (by rw [lN_add]; congr 1; exact hd.symm) ?_
              refine lv_lstore (lv' := [(7, .long (lN (M / 2 ^ (low + k)))), (0, .ref h0), (2, .int (nI md)), (3, .int (bI mi)), (6, .int (nI low)), (9, .int (nI (low + k)))]) hx hb dX1_sum_224 hl (by decide) rfl (fun ls hl => ?_)
              refine lv_iinc (v := nI (low + k) - nI 1) (lv' := [(9, .int (nI (low + k) - nI 1)), (7, .long (lN (M / 2 ^ (low + k)))), (0, .ref h0), (2, .int (nI md)), (3, .int (bI mi)), (6, .int (nI low))]) hx hb dX1_sum_226 hl (k := 5) rfl (by rw [Int32.sub_eq_add_neg]; rfl) (by decide) rfl (fun ls hl => ?_)
              refine lv_goto (tgt := 195) hx hb dX1_sum_229 (by decide) ?_
              exact ih H locs ls (by omega) hP hD hS (lv_sub hl [2, 3, 4, 5, 1, 0] rfl)
        have K186 : ∀ (ls : Array Slot), lv_has ls 14 [(0, .ref h0), (2, .int (nI md)), (3, .int (bI mi)), (5, .int (nI T))] → W p l e rmX1_sum s m ([.ref h0, .int (nI ar)] : List Value).toArray below meth c H locs 0 0 Q (F0 m 186 ls [.int (nI low)]) := by
          intro ls hl
          refine lv_istore (lv' := [(6, .int (nI low)), (0, .ref h0), (2, .int (nI md)), (3, .int (bI mi)), (5, .int (nI T))]) hx hb dX1_sum_186 hl (by decide) rfl (fun ls hl => ?_)
          refine lv_lconst (v := lN 0) hx hb dX1_sum_188 (by decide +kernel) ?_
          refine x_tol (lN (M / 2 ^ (low + (T + 1 - low)))) (by rw [show low + (T + 1 - low) = T + 1 by omega, Nat.div_eq_of_lt hlo]) ?_
          refine lv_lstore (lv' := [(7, .long (lN (M / 2 ^ (low + (T + 1 - low))))), (6, .int (nI low)), (0, .ref h0), (2, .int (nI md)), (3, .int (bI mi)), (5, .int (nI T))]) hx hb dX1_sum_189 hl (by decide) rfl (fun ls hl => ?_)
          refine lv_iload hx hb dX1_sum_191 (lv_at hl 5 rfl) ?_
          refine x_toi (nI (low + (T + 1 - low)) - nI 1) (by rw [show low + (T + 1 - low) = T + 1 by omega]; exact (nI_pred _).symm) ?_
          refine lv_istore (lv' := [(9, .int (nI (low + (T + 1 - low)) - nI 1)), (7, .long (lN (M / 2 ^ (low + (T + 1 - low))))), (6, .int (nI low)), (0, .ref h0), (2, .int (nI md)), (3, .int (bI mi)), (5, .int (nI T))]) hx hb dX1_sum_193 hl (by decide) rfl (fun ls hl => ?_)
          exact loop3 (T + 1 - low) H locs ls (by omega) hP hD hS (lv_sub hl [3, 4, 5, 2, 1, 0] rfl)
        refine lv_iload hx hb dX1_sum_170 (lv_at hl 3 rfl) ?_
        refine lv_bipush (v := nI 52) hx hb dX1_sum_172 (by decide +kernel) ?_
        refine lv_icmp_le (tgt := 185) hx hb dX1_sum_174 (by decide) (fun h1_ => ?_) (fun h1_ => ?_)
        · have hT5 : T ≤ 52 := (nI_leI (by omega) (by decide)).mp h1_
          refine lv_iconst (v := nI 0) hx hb dX1_sum_185 (by decide +kernel) ?_
          refine x_toi (nI low) (by rw [show low = 0 by omega]) ?_
          exact K186 ls hl
        · have hT5 : ¬ T ≤ 52 := fun q9 => h1_ (nI_le q9 (by decide))
          refine lv_iload hx hb dX1_sum_177 (lv_at hl 3 rfl) ?_
          refine lv_bipush (v := nI 52) hx hb dX1_sum_179 (by decide +kernel) ?_
          refine lv_isub hx hb dX1_sum_181 ?_
          refine lv_goto (tgt := 186) hx hb dX1_sum_182 (by decide) ?_
          refine x_toi (nI low) (by rw [elow]; exact pk_sub (by omega)) ?_
          exact K186 ls hl
    have loop2 : ∀ (j : Nat) (H : Heap) (locs : List Loc) (ls : Array Slot), j ≤ 2176 → M < 2 ^ j → va_P D vwCl (wX1 h0 hw hs dA dB f g1 y z) H → va_D A (wX1 h0 hw hs dA dB f g1 y z) → va_S A s.heap H locs → lv_has ls 14 [(0, .ref h0), (2, .int (nI md)), (3, .int (bI mi)), (5, .int (nI j - nI 1))] → W p l e rmX1_sum s m ([.ref h0, .int (nI ar)] : List Value).toArray below meth c H locs 0 0 Q (F0 m 108 ls []) := by
      intro j
      induction j with
      | zero =>
        intro H locs ls hj hlt hP hD hS hl
        refine lv_iload hx hb dX1_sum_108 (lv_at hl 3 rfl) ?_
        refine lv_if_lt (tgt := 131) hx hb dX1_sum_110 (by decide) (fun _ => ?_) (fun c_ => absurd c_ (not_not_intro (by decide)))
        have h0 : M = 0 := by simpa using hlt
        exact K131 H locs ls hP hD hS (by rw [show tpI M = nI 0 - nI 1 by rw [h0]; decide]; exact lv_sub hl [0, 1, 2, 3] rfl)
      | succ j ih =>
        intro H locs ls hj hlt hP hD hS hl
        rw [show nI (j + 1) - nI 1 = nI j from nI_pred _] at hl
        refine lv_iload hx hb dX1_sum_108 (lv_at hl 3 rfl) ?_
        refine lv_if_lt (tgt := 131) hx hb dX1_sum_110 (by decide) (fun c_ => absurd c_ (nI_pos (by omega))) (fun _ => ?_)
        refine lv_aload_n hx hb dX1_sum_113 rfl (lv_at hl 0 rfl) ?_
        refine lv_iload hx hb dX1_sum_114 (lv_at hl 3 rfl) ?_
        refine x_call_i (As := [.int (nI j)]) (rest := []) (ci := 1) (q0 := 0) ⟨hx, hb, hml, hown, hts⟩ (metX1_bit l D dA dB h0 hw hs _ f g1 y z j (by omega) hok) (cwV 1 hts (lw_V q139 q141 qs9 q12 q142) rfl rfl rfl (by decide +kernel) ⟨Nat.le_of_ble_eq_true rfl, Nat.le_of_ble_eq_true rfl⟩) hK hP hD hS hA rfl rfl rfl hl.1 rfl (Nat.le_of_ble_eq_true rfl) dX1_sum_116 ⟨Nat.le_refl _, Nat.le_refl _⟩ (fun r u H locs hp hP hD hS => ?_)
        obtain ⟨rfl, rfl⟩ := hp
        rw [hM]
        refine lv_if_ne (tgt := 131) hx hb dX1_sum_119 (by decide) (fun d1 => ?_) (fun d1 => ?_)
        · have k1 : decide (M / 2 ^ j % 2 = 1) = true := bI_1 d1
          exact K131 H locs ls hP hD hS (by rw [tp_hit hlt (of_decide_eq_true k1)]; exact lv_sub hl [0, 1, 2, 3] rfl)
        · have k1 : decide (M / 2 ^ j % 2 = 1) = false := (bI_0 _).mp d1
          refine lv_iload hx hb dX1_sum_122 (lv_at hl 3 rfl) ?_
          refine lv_iconst (v := nI 1) hx hb dX1_sum_124 (by decide +kernel) ?_
          refine lv_isub hx hb dX1_sum_125 ?_
          refine x_toi (nI j - nI 1) (rfl) ?_
          refine lv_istore (lv' := [(5, .int (nI j - nI 1)), (0, .ref h0), (2, .int (nI md)), (3, .int (bI mi))]) hx hb dX1_sum_126 hl (by decide) rfl (fun ls hl => ?_)
          refine lv_goto (tgt := 108) hx hb dX1_sum_128 (by decide) ?_
          exact ih H locs ls (by omega) (tp_miss hlt (of_decide_eq_false k1)) hP hD hS (lv_sub hl [1, 2, 3, 0] rfl)
    refine lv_sipush (v := nI 2175) hx hb dX1_sum_103 (by decide +kernel) ?_
    refine x_toi (nI 2176 - nI 1) (by decide +kernel) ?_
    refine lv_istore (lv' := [(5, .int (nI 2176 - nI 1)), (0, .ref h0), (2, .int (nI md)), (3, .int (bI mi))]) hx hb dX1_sum_106 hl (by decide) rfl (fun ls hl => ?_)
    exact loop2 2176 H locs ls (by decide) hMlt hP hD hS (lv_sub hl [1, 2, 3, 0] rfl)
  have loop1 : ∀ (n1 k cy : Nat) (g1 : Nat → Int32) (H : Heap) (locs : List Loc) (ls : Array Slot), k + n1 = 136 → cy ≤ 1 → (∀ j, j < k → uI (g1 j) < 65536) → (mi = false → vH g1 k + cy * 2 ^ (16 * k) = vH f k) → (mi = true → vH g1 k + cy * 2 ^ (16 * k) + vH f k = 2 ^ (16 * k)) → va_P D vwCl (wX1 h0 hw hs dA dB f g1 y z) H → va_D A (wX1 h0 hw hs dA dB f g1 y z) → va_S A s.heap H locs → lv_has ls 14 [(0, .ref h0), (2, .int (nI md)), (3, .int (bI mi)), (4, .int (nI cy)), (5, .int (nI k))] → W p l e rmX1_sum s m ([.ref h0, .int (nI ar)] : List Value).toArray below meth c H locs 0 0 Q (F0 m 41 ls []) := by
    intro n1
    induction n1 with
    | zero =>
      intro k cy g1 H locs ls hi hc hok h1 h2 hP hD hS hl
      have hi : k = 136 := by omega
      subst hi
      refine lv_iload hx hb dX1_sum_41 (lv_at hl 4 rfl) ?_
      refine lv_sipush (v := nI 136) hx hb dX1_sum_43 (by decide +kernel) ?_
      refine lv_icmp_ge (tgt := 103) hx hb dX1_sum_46 (by decide) (fun _ => ?_) (fun c_ => absurd c_ (not_not_intro (nI_le (Nat.le_refl _) (by decide))))
      have hok2 : okH g1 := hok
      have hF := vH_lt hf0 (Nat.le_refl 136)
      have hG := vH_lt hok2 (Nat.le_refl 136)
      have hMv : vH g1 136 = M := by
        generalize 2 ^ (16 * 136) = N at h1 h2 hF hG hMT
        have hcy : cy = 0 ∨ cy = 1 := by omega
        cases hm : mi with
        | false =>
          have a1 := h1 hm
          have a2 := hMF hm
          rcases hcy with q | q <;> subst q <;> omega
        | true =>
          have a1 := h2 hm
          have a2 := hMT hm
          have a3 := hpos hm
          rcases hcy with q | q <;> subst q <;> omega
      exact K103 g1 hok2 hMv H locs ls hP hD hS (lv_sub hl [0, 1, 2] rfl)
    | succ n1 ih =>
      intro k cy g1 H locs ls hi hc hok h1 h2 hP hD hS hl
      refine lv_iload hx hb dX1_sum_41 (lv_at hl 4 rfl) ?_
      refine lv_sipush (v := nI 136) hx hb dX1_sum_43 (by decide +kernel) ?_
      refine lv_icmp_ge (tgt := 103) hx hb dX1_sum_46 (by decide) (fun c_ => absurd c_ (nI_ge (by omega) (by decide))) (fun _ => ?_)
      refine lv_iload_n hx hb dX1_sum_49 rfl (lv_at hl 2 rfl) ?_
      have hk16 := hf0 k (by omega)
      have K73 : ∀ (ls : Array Slot), lv_has ls 14 [(0, .ref h0), (2, .int (nI md)), (3, .int (bI mi)), (4, .int (nI cy)), (5, .int (nI k))] → W p l e rmX1_sum s m ([.ref h0, .int (nI ar)] : List Value).toArray below meth c H locs 0 0 Q (F0 m 73 ls [.int (nI (dgM mi (uI (f k))))]) := by
        intro ls hl
        have hdg : dgM mi (uI (f k)) < 65536 := by unfold dgM; split <;> omega
        obtain ⟨dg, edg⟩ : ∃ dg, dg = dgM mi (uI (f k)) := ⟨_, rfl⟩
        rw [← edg] at hdg ⊢
        refine lv_iload hx hb dX1_sum_73 (lv_at hl 3 rfl) ?_
        refine lv_iadd hx hb dX1_sum_75 ?_
        refine x_toi (nI (dg + cy)) (nI_add _ _) ?_
        refine lv_istore (lv' := [(6, .int (nI (dg + cy))), (0, .ref h0), (2, .int (nI md)), (3, .int (bI mi)), (4, .int (nI cy)), (5, .int (nI k))]) hx hb dX1_sum_76 hl (by decide) rfl (fun ls hl => ?_)
        refine lv_aload_n hx hb dX1_sum_78 rfl (lv_at hl 1 rfl) ?_
        refine va_get (D := D) (ci := 1) (v := .ref hs) (C := RX1) (T := TX1) (N := 4) hx hb hts in_X1 hown hK hP 0 rfl rfl 3 (by decide) (hts _ q103) (fun _ h9 => h9) rfl dX1_sum_79 ?_
        refine lv_iload hx hb dX1_sum_82 (lv_at hl 5 rfl) ?_
        refine lv_iload hx hb dX1_sum_84 (lv_at hl 0 rfl) ?_
        refine lv_ldc hx hb hown (hts _ q124) dX1_sum_86 ?_
        refine x_toi (nI 65535) (rfl) ?_
        refine lv_iand hx hb dX1_sum_88 ?_
        refine x_toi (nI ((dg + cy) % 65536)) (nI_l16 _) ?_
        refine x_iast hx hb hK hP hD hS 2 1 rfl rfl (k := k) (by omega) (by decide) dX1_sum_89 (fun H locs hP hD hS => ?_)
        have hP : va_P D vwCl (wX1 h0 hw hs dA dB f (upd g1 k (nI ((dg + cy) % 65536))) y z) H := hP
        have hD : va_D A (wX1 h0 hw hs dA dB f (upd g1 k (nI ((dg + cy) % 65536))) y z) := hD
        refine lv_iload hx hb dX1_sum_90 (lv_at hl 0 rfl) ?_
        refine lv_bipush (v := nI 16) hx hb dX1_sum_92 (by decide +kernel) ?_
        refine lv_ishr hx hb dX1_sum_94 ?_
        refine x_toi (nI ((dg + cy) / 65536)) (pk_shrN (by omega) _ 16 (by decide)) ?_
        refine lv_istore (lv' := [(4, .int (nI ((dg + cy) / 65536))), (6, .int (nI (dg + cy))), (0, .ref h0), (2, .int (nI md)), (3, .int (bI mi)), (5, .int (nI k))]) hx hb dX1_sum_95 hl (by decide) rfl (fun ls hl => ?_)
        refine lv_iinc (v := nI (k + 1)) (lv' := [(5, .int (nI (k + 1))), (4, .int (nI ((dg + cy) / 65536))), (6, .int (nI (dg + cy))), (0, .ref h0), (2, .int (nI md)), (3, .int (bI mi))]) hx hb dX1_sum_97 hl (k := 5) rfl (by rw [nI_succ]; rfl) (by decide) rfl (fun ls hl => ?_)
        refine lv_goto (tgt := 41) hx hb dX1_sum_100 (by decide) ?_
        exact ih (k + 1) ((dg + cy) / 65536) _ H locs ls (by omega) (by omega) (ok_step hok (by omega)) (fun h => by rw [edg, h]; exact mz_stepF (h1 h)) (fun h => by rw [edg, h]; exact mz_stepT hk16 (h2 h)) hP hD hS (lv_sub hl [3, 4, 5, 1, 0] rfl)
      refine lv_if_eq (tgt := 66) hx hb dX1_sum_50 (by decide) (fun d1 => ?_) (fun d1 => ?_)
      · have k1 : mi = false := (bI_0 _).mp d1
        refine lv_aload_n hx hb dX1_sum_66 rfl (lv_at hl 0 rfl) ?_
        refine va_get (D := D) (ci := 1) (v := .ref hw) (C := RX1) (T := TX1) (N := 4) hx hb hts in_X1 hown hK hP 0 rfl rfl 0 (by decide) (hts _ q100) (fun _ h9 => h9) rfl dX1_sum_67 ?_
        refine lv_iload hx hb dX1_sum_70 (lv_at hl 4 rfl) ?_
        refine x_iald hx hb hK hP 1 0 rfl rfl (k := k) (by omega) (by decide) dX1_sum_72 ?_
        refine x_toi (nI (dgM mi (uI (f k)))) (by rw [k1]; exact (nI_uI _).symm) ?_
        exact K73 ls hl
      · have k1 : mi = true := bI_1 d1
        refine lv_ldc hx hb hown (hts _ q124) dX1_sum_53 ?_
        refine x_toi (nI 65535) (rfl) ?_
        refine lv_aload_n hx hb dX1_sum_55 rfl (lv_at hl 0 rfl) ?_
        refine va_get (D := D) (ci := 1) (v := .ref hw) (C := RX1) (T := TX1) (N := 4) hx hb hts in_X1 hown hK hP 0 rfl rfl 0 (by decide) (hts _ q100) (fun _ h9 => h9) rfl dX1_sum_56 ?_
        refine lv_iload hx hb dX1_sum_59 (lv_at hl 4 rfl) ?_
        refine x_iald hx hb hK hP 1 0 rfl rfl (k := k) (by omega) (by decide) dX1_sum_61 ?_
        refine x_toi (nI (uI (f k))) ((nI_uI _).symm) ?_
        refine lv_isub hx hb dX1_sum_62 ?_
        refine x_toi (nI (dgM mi (uI (f k)))) (by rw [k1]; exact pk_sub (by omega)) ?_
        refine lv_goto (tgt := 73) hx hb dX1_sum_63 (by decide) ?_
        exact K73 ls hl
  have K36 : ∀ (ls : Array Slot), lv_has ls 14 [(0, .ref h0), (2, .int (nI md)), (3, .int (bI mi))] → W p l e rmX1_sum s m ([.ref h0, .int (nI ar)] : List Value).toArray below meth c s.heap [] 0 0 Q (F0 m 36 ls [.int (nI (cM mi))]) := by
    intro ls hl
    refine lv_istore (lv' := [(4, .int (nI (cM mi))), (0, .ref h0), (2, .int (nI md)), (3, .int (bI mi))]) hx hb dX1_sum_36 hl (by decide) rfl (fun ls hl => ?_)
    refine lv_iconst (v := nI 0) hx hb dX1_sum_38 (by decide +kernel) ?_
    refine lv_istore (lv' := [(5, .int (nI 0)), (4, .int (nI (cM mi))), (0, .ref h0), (2, .int (nI md)), (3, .int (bI mi))]) hx hb dX1_sum_39 hl (by decide) rfl (fun ls hl => ?_)
    exact loop1 136 0 (cM mi) g _ _ ls rfl (by cases mi <;> decide) (fun j h => absurd h (Nat.not_lt_zero _)) (fun h => by rw [h]; rfl) (fun h => by rw [h]; rfl) hP hD hS (lv_sub hl [2, 3, 4, 1, 0] rfl)
  have K26 : ∀ (ls : Array Slot), lv_has ls 14 [(2, .int (nI md)), (0, .ref h0), (1, .int (nI ar))] → W p l e rmX1_sum s m ([.ref h0, .int (nI ar)] : List Value).toArray below meth c s.heap [] 0 0 Q (F0 m 26 ls [.int (bI mi)]) := by
    intro ls hl
    refine lv_istore_n (lv' := [(3, .int (bI mi)), (2, .int (nI md)), (0, .ref h0), (1, .int (nI ar))]) hx hb dX1_sum_26 rfl hl (by decide) rfl (fun ls hl => ?_)
    refine lv_iload_n hx hb dX1_sum_27 rfl (lv_at hl 0 rfl) ?_
    refine lv_if_eq (tgt := 35) hx hb dX1_sum_28 (by decide) (fun d1 => ?_) (fun d1 => ?_)
    · have k1 : mi = false := (bI_0 _).mp d1
      refine lv_iconst (v := nI 0) hx hb dX1_sum_35 (by decide +kernel) ?_
      refine x_toi (nI (cM mi)) (by rw [k1]; rfl) ?_
      exact K36 ls (lv_sub hl [2, 1, 0] rfl)
    · have k1 : mi = true := bI_1 d1
      refine lv_iconst (v := nI 1) hx hb dX1_sum_31 (by decide +kernel) ?_
      refine lv_goto (tgt := 36) hx hb dX1_sum_32 (by decide) ?_
      refine x_toi (nI (cM mi)) (by rw [k1]; rfl) ?_
      exact K36 ls (lv_sub hl [2, 1, 0] rfl)
  refine lv_if_eq (tgt := 25) hx hb dX1_sum_18 (by decide) (fun c0 => ?_) (fun c0 => ?_)
  · have hmi0 : mi = false := by rw [hmi]; exact decide_eq_false (by have h9 := (nI_mod0 (by omega)).mp c0; omega)
    refine lv_iconst (v := nI 0) hx hb dX1_sum_25 (by decide +kernel) ?_
    refine x_toi (bI mi) (by rw [hmi0]; rfl) ?_
    exact K26 ls hl
  · have hmi0 : mi = true := by rw [hmi]; exact decide_eq_true (by have h9 : ¬ uI (f 135) / 32768 = 0 := fun q9 => c0 (by rw [q9]; rfl); omega)
    refine lv_iconst (v := nI 1) hx hb dX1_sum_21 (by decide +kernel) ?_
    refine lv_goto (tgt := 26) hx hb dX1_sum_22 (by decide) ?_
    refine x_toi (bI mi) (by rw [hmi0]; rfl) ?_
    exact K26 ls hl
end
section
/-- a constructor's start and end: its world grows, and so do the known array classes -/
theorem x_met_n {l : Launch} {y : MethodName} {cc : ByteArray} {maxL mc ms : Nat} {rm : Room} {D : va_G} {W0 : va_W} {sz : Nat} {av : List Value} {post : va_W × List (ClassId × FieldType) → Prop} (hy : plainName y.cls = true) (hav : (lg_sl av).length ≤ maxL)
    (body : ∀ (p : Program) (e : Env) (s : State) (m : MethodId) (below : List Frame) (meth : Method) (c : Code) (A : Nat → Prop) (Q : State → Prop) (ls : Array Slot), p.tables.exec = Jvm.exec → c.code = cc → c.maxLocals = maxL → s.vm.findClass y.cls = some m.cls → (∀ w ∈ lw_all, w.before av.toArray s = true) → meth.name = y.name → (∀ q : Nat, s.heap.size ≤ q → A q) → va_K D vwCl [] s → va_P D vwCl W0 s.heap → va_D A W0 → va_S A s.heap s.heap [] → lv_has ls maxL (lv_args 0 av) →
      (∀ (u : va_W × List (ClassId × FieldType)) (H : Heap) (locs : List Loc) (ls : Array Slot) (pc : Nat), decode cc pc = .ok (.return_, 1) → post u → va_K D vwCl u.2 s → va_P D vwCl u.1 H → va_D A u.1 → va_S A s.heap H locs → W p l e rm s m av.toArray below meth c H locs mc ms Q (F0 m pc ls [])) →
      W p l e rm s m av.toArray below meth c s.heap [] 0 0 Q (F0 m 0 ls [])) :
    Met l y (ws_ y cc maxL none) rm (va_Pc av (x_pre D [] W0 sz)) (va_Qv post (fun u => x_post D u.2 (va_A W0 sz) u.1) (va_A W0 sz)) mc ms (va_A W0 sz) := by
  refine Met.ofW (cc := cc) (maxL := maxL) (ret := none) hy rfl ?_
  intro p e s m args below meth c s₁ B hml hv
  obtain ⟨rfl, hsz, hP, hK, hD0⟩ := hv
  have hx := B.exec
  have hb := B.bytes
  have hr := B.returns
  have hts := atoms_spec (ws := ws_ y cc maxL none) B.pre
  have hts : ∀ w ∈ lw_all, w.before _ s = true := fun w h => hts w (List.mem_cons_of_mem _ h)
  have hown : s.vm.findClass y.cls = some m.cls := findClass_of_methodNamed B.named
  have hlocks := B.notSynchronized
  have hin : meth.name = y.name := (name_of_methodNamed B.named B.method).1
  subst hsz
  have hD := hD0.self (sz := s.heap.size)
  have hS : va_S (va_A W0 s.heap.size) s.heap s.heap [] := va_S.rf
  have hl := lv_entry av (n := maxL) hav
  rw [lg_entry_eq]
  generalize (lg_sl av ++ List.replicate (maxL - (lg_sl av).length) Slot.unset).toArray = ls at hl ⊢
  refine body p e s m below meth c (va_A W0 s.heap.size) _ ls hx hb hml hown hts hin (fun q h => Or.inr h) hK hP hD hS hl ?_
  intro u H locs ls pc hd hp hK hP hD hS
  exact W.vret hx hb hr (fun t ht hW => ⟨⟨u, rfl, hp, by rw [ht]; exact hP, va_K.moved hW.alike hK, hD⟩, hS.F ht⟩) hS.2.2 hd
section XI
variable {p : Program} {l : Launch} {e : Env} {R : Room} {s : State} {m : MethodId} {args : Array Value} {below : List Frame} {meth : Method} {c : Code} {H : Heap} {locs : List Loc} {cells slots : Nat} {Q : State → Prop}
variable {y : MethodName} {bytes cc : ByteArray} {maxL nL n index mc ms : Nat} {ws : List Cond} {rm : Room} {Ts : List Cond} {own : String} {b : Addr} {As rest st : List Value} {D : va_G} {tys : List (ClassId × FieldType)} {W0 wa wr : va_W} {A : Nat → Prop} {pc : Nat} {ls : Array Slot}
theorem x_callI {post : va_W × List (ClassId × FieldType) → Prop} (S : CallFix p m c cc nL s args Ts own) (hM : Met l y ws rm (va_Pc (.ref b :: As) (x_pre D [] W0 H.size)) (va_Qv post (fun u => x_post D u.2 (va_A W0 H.size) u.1) (va_A W0 H.size)) mc ms (va_A W0 H.size)) (cw : CallB R s args own index y bytes maxL none ws rm mc ms n ∧ y.name = "<init>" ∧ (Cond.instanceMethod y).before args s = true) (hK : va_K D vwCl tys s) (hP : va_P D vwCl wa H) (hD : va_D A wa) (hS : va_S A s.heap H locs) (hA : ∀ q : Nat, s.heap.size ≤ q → A q) (isC isR : List Nat) (hC : isC.map (fun i => wa[i]?) = W0.map some) (hCn : va_nd isC = true) (hRr : isR.map (fun i => wa[i]?) = wr.map some) (hRn : va_nd isR = true) (hdis : ∀ i ∈ isR, i ∉ isC) (hn : As.length = n) (hsize : ls.size = nL) (hst : st = As.reverse ++ .ref b :: rest) (hroom : (rest.map fun v => v.category).sum ≤ 8) (hdg : decode cc pc = .ok (.invokespecial index, 3)) (hR : cells + mc ≤ R.cells ∧ slots + ms ≤ R.slots)
    (kk : ∀ (u : va_W × List (ClassId × FieldType)) (H1 : Heap) (locs1 : List Loc), post u → va_K D vwCl u.2 s → va_P D vwCl (wr ++ u.1) H1 → va_D A (wr ++ u.1) → va_S A s.heap H1 locs1 → W p l e R s m args below meth c H1 locs1 (cells + mc) (slots + ms) Q (F0 m (pc + 3) ls rest)) : W p l e R s m args below meth c H locs cells slots Q (F0 m pc ls st) := by
  have hDc := hD.sub isC hCn hC
  have hPc : va_P D vwCl W0 H := hP.sub isC (by
    have h := congrArg (fun z => z.filterMap id) hC
    simpa [List.filterMap_map, Function.comp_def] using h)
  have hFc := va_free hD hS hA isC hC
  have hK0 : va_K D vwCl [] s := hK.sub [] rfl
  refine va_callv (va_runI (As := As) (rest := rest) S hM cw ⟨x_blind _ _ _ _ _, fun U hU hW => ⟨rfl, by rw [hU], by rw [hU]; exact hPc, va_K.moved hW.alike hK0, hDc.weaken (fun _ _ _ _ => trivial)⟩⟩ rfl hn hsize hst (lv_room hroom) hdg hR) hS (fun q _ h => hFc q h) hFc (fun u t H1 locs1 ht hvm hp hB hz hk hS => ?_)
  obtain ⟨hP1, hK1, hD1⟩ := hB
  rw [ht] at hP1
  obtain ⟨hP2, hD2⟩ := va_join hP hD isC isR hC hRr hRn hdis hk hFc hP1 hD1
  exact kk u H1 locs1 hp (va_K.moved hvm.symm hK1) hP2 hD2 hS
/-- the script's ints by a Nat place -/
theorem x_sld (hexec : p.tables.exec = Jvm.exec) (hb : c.code = cc) {b L : Nat} {xs : Nat → Int32} (hX : va_X b L xs s s.heap) (hbl : b < s.heap.size) (hbA : ¬ A b) (hS : va_S A s.heap H locs) {k : Nat} (hk : k < L) (hL : L < 2 ^ 31) (hdg : decode cc pc = .ok (.iaload, 1))
    (kk : W p l e R s m args below meth c H locs cells slots Q (F0 m (pc + 1) ls (.int (xs k) :: rest))) : W p l e R s m args below meth c H locs cells slots Q (F0 m pc ls (.int (nI k) :: .ref b :: rest)) := by
  refine va_sld hexec hb hX hbl hbA hS (vp_in_nI hk hL) hdg ?_
  rw [nI_clamp (Nat.lt_trans hk hL)]
  exact kk
end XI

abbrev wsX0_init : List Cond := ws_ yX0_init cX0_init 1 none
abbrev rmX0_init : Room := { frames := 1, cells := 2, slots := 134, locals := 15 }
set_option maxHeartbeats 4000000 in
set_option maxRecDepth 100000 in
/-- X0: its constructor -/
theorem metX0_init (l : Launch) (D : va_G) (h0 sz : Nat) : Met l yX0_init wsX0_init rmX0_init (va_Pc [.ref h0] (x_pre D [] [(h0, .inr (0, [.null, .null, .int 0, .int 0]))] sz)) (va_Qv (fun u : va_W × List (ClassId × FieldType) => ∃ (u1 u2 : Nat) (c1 c2 : ClassId), u = (wX0 h0 u1 u2 c1 c2 (fun _ => 0) (fun _ => 0) 0 0, tAB c1 c2)) (fun u => x_post D u.2 (va_A [(h0, .inr (0, [.null, .null, .int 0, .int 0]))] sz) u.1) (va_A [(h0, .inr (0, [.null, .null, .int 0, .int 0]))] sz)) 2 134 (va_A [(h0, .inr (0, [.null, .null, .int 0, .int 0]))] sz) := by
  refine x_met_n (by decide) (Nat.le_of_ble_eq_true rfl) ?_
  intro p e s m below meth c A Q ls hx hb hml hown hts hin hA hK hP hD hS hl hret
  have hown : s.vm.findClass RX0 = some m.cls := hown
  have hin : meth.name = "<init>" := hin
  have hl : lv_has ls 1 [(0, .ref h0)] := hl
  refine lv_aload_n hx hb dX0_init_0 rfl (lv_at hl 0 rfl) ?_
  refine W.objInit hx hb hown (hts _ q18) (hts _ q19) (hts _ q20) rfl (by rw [hml]; exact hl.1) rfl dX0_init_1 (Nat.le_of_ble_eq_true rfl) (Nat.le_of_ble_eq_true rfl) ?_
  refine W.eq (g2 := F0 m 4 ls []) rfl ?_
  refine lv_aload_n hx hb dX0_init_4 rfl (lv_at hl 0 rfl) ?_
  refine lv_bipush (v := nI 67) hx hb dX0_init_5 (by decide +kernel) ?_
  refine va_newa (atype := .int) (ty := .int) (N' := 67) (a0 := (67, .inl (fun _ => 0))) hx hb (hts _ q34) rfl hK hP hD hS hA (fun _ => rfl) (by decide) (by decide) (by decide) (by decide) (by decide) dX0_init_7 (fun u1 c1 H hK hP hD hS => ?_)
  have hK : va_K D vwCl [(c1, .int)] s := hK
  have hP : va_P D vwCl [(h0, .inr (0, [.null, .null, .int 0, .int 0])), (u1, .inl (c1, 67, .inl (fun _ => 0)))] H := hP
  have hD : va_D A [(h0, .inr (0, [.null, .null, .int 0, .int 0])), (u1, .inl (c1, 67, .inl (fun _ => 0)))] := hD
  refine va_putF (D := D) (ci := 0) (v := .ref u1) (ty := .array .int) (C := RX0) (T := TX0) (N := 4) hx hb hts in_X0 tyX0 tyX0_ok nmX0 hown hK hP hD hS 0 rfl rfl 0 (by decide) (hts _ q21) (fun _ h9 => h9) rfl hin rfl (by decide +kernel) rfl rfl (Nat.le_of_ble_eq_true rfl) dX0_init_9 (fun H locs hP hD hS => ?_)
  have hP : va_P D vwCl [(h0, .inr (0, [.ref u1, .null, .int 0, .int 0])), (u1, .inl (c1, 67, .inl (fun _ => 0)))] H := hP
  have hD : va_D A [(h0, .inr (0, [.ref u1, .null, .int 0, .int 0])), (u1, .inl (c1, 67, .inl (fun _ => 0)))] := hD
  refine lv_aload_n hx hb dX0_init_12 rfl (lv_at hl 0 rfl) ?_
  refine lv_bipush (v := nI 67) hx hb dX0_init_13 (by decide +kernel) ?_
  refine va_newa (atype := .int) (ty := .int) (N' := 67) (a0 := (67, .inl (fun _ => 0))) hx hb (hts _ q34) rfl hK hP hD hS hA (fun _ => rfl) (by decide) (by decide) (by decide) (by decide) (by decide) dX0_init_15 (fun u2 c2 H hK hP hD hS => ?_)
  have hK : va_K D vwCl [(c1, .int), (c2, .int)] s := hK
  have hP : va_P D vwCl [(h0, .inr (0, [.ref u1, .null, .int 0, .int 0])), (u1, .inl (c1, 67, .inl (fun _ => 0))), (u2, .inl (c2, 67, .inl (fun _ => 0)))] H := hP
  have hD : va_D A [(h0, .inr (0, [.ref u1, .null, .int 0, .int 0])), (u1, .inl (c1, 67, .inl (fun _ => 0))), (u2, .inl (c2, 67, .inl (fun _ => 0)))] := hD
  refine va_putF (D := D) (ci := 0) (v := .ref u2) (ty := .array .int) (C := RX0) (T := TX0) (N := 4) hx hb hts in_X0 tyX0 tyX0_ok nmX0 hown hK hP hD hS 0 rfl rfl 1 (by decide) (hts _ q22) (fun _ h9 => h9) rfl hin rfl (by decide +kernel) rfl rfl (Nat.le_of_ble_eq_true rfl) dX0_init_17 (fun H locs hP hD hS => ?_)
  have hP : va_P D vwCl [(h0, .inr (0, [.ref u1, .ref u2, .int 0, .int 0])), (u1, .inl (c1, 67, .inl (fun _ => 0))), (u2, .inl (c2, 67, .inl (fun _ => 0)))] H := hP
  have hD : va_D A [(h0, .inr (0, [.ref u1, .ref u2, .int 0, .int 0])), (u1, .inl (c1, 67, .inl (fun _ => 0))), (u2, .inl (c2, 67, .inl (fun _ => 0)))] := hD
  exact hret (wX0 h0 u1 u2 c1 c2 (fun _ => 0) (fun _ => 0) 0 0, tAB c1 c2) _ _ _ _ dX0_init_20 ⟨u1, u2, c1, c2, rfl⟩ hK hP hD hS
abbrev wsX1_init : List Cond := ws_ yX1_init cX1_init 1 none
abbrev rmX1_init : Room := { frames := 1, cells := 2, slots := 272, locals := 15 }
set_option maxHeartbeats 4000000 in
set_option maxRecDepth 100000 in
/-- X1: its constructor -/
theorem metX1_init (l : Launch) (D : va_G) (h0 sz : Nat) : Met l yX1_init wsX1_init rmX1_init (va_Pc [.ref h0] (x_pre D [] [(h0, .inr (1, [.null, .int 0, .int 0, .null]))] sz)) (va_Qv (fun u : va_W × List (ClassId × FieldType) => ∃ (u1 u2 : Nat) (c1 c2 : ClassId), u = (wX1 h0 u1 u2 c1 c2 (fun _ => 0) (fun _ => 0) 0 (bI true), tAB c1 c2)) (fun u => x_post D u.2 (va_A [(h0, .inr (1, [.null, .int 0, .int 0, .null]))] sz) u.1) (va_A [(h0, .inr (1, [.null, .int 0, .int 0, .null]))] sz)) 2 272 (va_A [(h0, .inr (1, [.null, .int 0, .int 0, .null]))] sz) := by
  refine x_met_n (by decide) (Nat.le_of_ble_eq_true rfl) ?_
  intro p e s m below meth c A Q ls hx hb hml hown hts hin hA hK hP hD hS hl hret
  have hown : s.vm.findClass RX1 = some m.cls := hown
  have hin : meth.name = "<init>" := hin
  have hl : lv_has ls 1 [(0, .ref h0)] := hl
  refine lv_aload_n hx hb dX1_init_0 rfl (lv_at hl 0 rfl) ?_
  refine W.objInit hx hb hown (hts _ q99) (hts _ q19) (hts _ q20) rfl (by rw [hml]; exact hl.1) rfl dX1_init_1 (Nat.le_of_ble_eq_true rfl) (Nat.le_of_ble_eq_true rfl) ?_
  refine W.eq (g2 := F0 m 4 ls []) rfl ?_
  refine lv_aload_n hx hb dX1_init_4 rfl (lv_at hl 0 rfl) ?_
  refine lv_sipush (v := nI 136) hx hb dX1_init_5 (by decide +kernel) ?_
  refine va_newa (atype := .int) (ty := .int) (N' := 136) (a0 := (136, .inl (fun _ => 0))) hx hb (hts _ q34) rfl hK hP hD hS hA (fun _ => rfl) (by decide) (by decide) (by decide) (by decide) (by decide) dX1_init_8 (fun u1 c1 H hK hP hD hS => ?_)
  have hK : va_K D vwCl [(c1, .int)] s := hK
  have hP : va_P D vwCl [(h0, .inr (1, [.null, .int 0, .int 0, .null])), (u1, .inl (c1, 136, .inl (fun _ => 0)))] H := hP
  have hD : va_D A [(h0, .inr (1, [.null, .int 0, .int 0, .null])), (u1, .inl (c1, 136, .inl (fun _ => 0)))] := hD
  refine va_putF (D := D) (ci := 1) (v := .ref u1) (ty := .array .int) (C := RX1) (T := TX1) (N := 4) hx hb hts in_X1 tyX1 tyX1_ok nmX1 hown hK hP hD hS 0 rfl rfl 0 (by decide) (hts _ q100) (fun _ h9 => h9) rfl hin rfl (by decide +kernel) rfl rfl (Nat.le_of_ble_eq_true rfl) dX1_init_10 (fun H locs hP hD hS => ?_)
  have hP : va_P D vwCl [(h0, .inr (1, [.ref u1, .int 0, .int 0, .null])), (u1, .inl (c1, 136, .inl (fun _ => 0)))] H := hP
  have hD : va_D A [(h0, .inr (1, [.ref u1, .int 0, .int 0, .null])), (u1, .inl (c1, 136, .inl (fun _ => 0)))] := hD
  refine lv_aload_n hx hb dX1_init_13 rfl (lv_at hl 0 rfl) ?_
  refine lv_iconst (v := nI 1) hx hb dX1_init_14 (by decide +kernel) ?_
  refine x_toi (bI true) (rfl) ?_
  refine va_put (D := D) (ci := 1) (v := .int (bI true)) (ty := .boolean) (C := RX1) (T := TX1) (N := 4) hx hb hts in_X1 tyX1 tyX1_ok nmX1 hown hK hP hD hS 0 rfl rfl 2 (by decide) (hts _ q102) (fun _ h9 => h9) rfl (by decide +kernel) rfl rfl (Nat.le_of_ble_eq_true rfl) dX1_init_15 (fun H locs hP hD hS => ?_)
  have hP : va_P D vwCl [(h0, .inr (1, [.ref u1, .int 0, .int (bI true), .null])), (u1, .inl (c1, 136, .inl (fun _ => 0)))] H := hP
  have hD : va_D A [(h0, .inr (1, [.ref u1, .int 0, .int (bI true), .null])), (u1, .inl (c1, 136, .inl (fun _ => 0)))] := hD
  refine lv_aload_n hx hb dX1_init_18 rfl (lv_at hl 0 rfl) ?_
  refine lv_sipush (v := nI 136) hx hb dX1_init_19 (by decide +kernel) ?_
  refine va_newa (atype := .int) (ty := .int) (N' := 136) (a0 := (136, .inl (fun _ => 0))) hx hb (hts _ q34) rfl hK hP hD hS hA (fun _ => rfl) (by decide) (by decide) (by decide) (by decide) (by decide) dX1_init_22 (fun u2 c2 H hK hP hD hS => ?_)
  have hK : va_K D vwCl [(c1, .int), (c2, .int)] s := hK
  have hP : va_P D vwCl [(h0, .inr (1, [.ref u1, .int 0, .int (bI true), .null])), (u1, .inl (c1, 136, .inl (fun _ => 0))), (u2, .inl (c2, 136, .inl (fun _ => 0)))] H := hP
  have hD : va_D A [(h0, .inr (1, [.ref u1, .int 0, .int (bI true), .null])), (u1, .inl (c1, 136, .inl (fun _ => 0))), (u2, .inl (c2, 136, .inl (fun _ => 0)))] := hD
  refine va_putF (D := D) (ci := 1) (v := .ref u2) (ty := .array .int) (C := RX1) (T := TX1) (N := 4) hx hb hts in_X1 tyX1 tyX1_ok nmX1 hown hK hP hD hS 0 rfl rfl 3 (by decide) (hts _ q103) (fun _ h9 => h9) rfl hin rfl (by decide +kernel) rfl rfl (Nat.le_of_ble_eq_true rfl) dX1_init_24 (fun H locs hP hD hS => ?_)
  have hP : va_P D vwCl [(h0, .inr (1, [.ref u1, .int 0, .int (bI true), .ref u2])), (u1, .inl (c1, 136, .inl (fun _ => 0))), (u2, .inl (c2, 136, .inl (fun _ => 0)))] H := hP
  have hD : va_D A [(h0, .inr (1, [.ref u1, .int 0, .int (bI true), .ref u2])), (u1, .inl (c1, 136, .inl (fun _ => 0))), (u2, .inl (c2, 136, .inl (fun _ => 0)))] := hD
  exact hret (wX1 h0 u1 u2 c1 c2 (fun _ => 0) (fun _ => 0) 0 (bI true), tAB c1 c2) _ _ _ _ dX1_init_27 ⟨u1, u2, c1, c2, rfl⟩ hK hP hD hS
end
section
/-! what the two classes hold in common: one whole number S -/
/-- V is S to the base N, two's complement -/
def repN (N V : Nat) (S : Int) : Prop := (0 ≤ S → (V : Int) = S) ∧ (S < 0 → (V : Int) = S + N)
theorem rep_in {N V V' P c : Nat} {S : Int} (hV : V' < N) (hc : c ≤ 1) (h : V' + c * N = V + P) (hr : repN N V S) (hb : 2 * S.natAbs < N) (hb2 : 2 * (S + P).natAbs < N) : repN N V' (S + P) := by
  unfold repN at *
  rcases (show c = 0 ∨ c = 1 by omega) with q | q
  · subst q
    rcases Int.lt_or_le S 0 with h1 | h1
    · have := hr.2 h1
      constructor <;> intro h2 <;> omega
    · have := hr.1 h1
      constructor <;> intro h2 <;> omega
  · subst q
    rcases Int.lt_or_le S 0 with h1 | h1
    · have := hr.2 h1
      constructor <;> intro h2 <;> omega
    · have := hr.1 h1
      constructor <;> intro h2 <;> omega
theorem rep_out {N V V' P c : Nat} {S : Int} (hV : V' < N) (hc : c ≤ 1) (h : V' + P = V + c * N) (hr : repN N V S) (hb : 2 * S.natAbs < N) (hb2 : 2 * (S - P).natAbs < N) : repN N V' (S - P) := by
  unfold repN at *
  rcases (show c = 0 ∨ c = 1 by omega) with q | q
  · subst q
    rcases Int.lt_or_le S 0 with h1 | h1
    · have := hr.2 h1
      constructor <;> intro h2 <;> omega
    · have := hr.1 h1
      constructor <;> intro h2 <;> omega
  · subst q
    rcases Int.lt_or_le S 0 with h1 | h1
    · have := hr.2 h1
      constructor <;> intro h2 <;> omega
    · have := hr.1 h1
      constructor <;> intro h2 <;> omega
theorem rep_0 (N : Nat) : repN N 0 0 := ⟨fun _ => rfl, fun h => absurd h (by decide)⟩
/-- the sign by the highest digit -/
theorem rep_sign {N V q d h : Nat} {S : Int} (hr : repN N V S) (hb : 2 * S.natAbs < N) (hN : N = 2 * (h * q)) {lo : Nat} (hlo : lo < q) (hV : V = lo + d * q) : decide (h ≤ d) = decide (S < 0) := by
  unfold repN at hr
  by_cases h1 : h ≤ d
  · rw [decide_eq_true h1]
    have h2 : h * q ≤ d * q := Nat.mul_le_mul_right _ h1
    symm
    apply decide_eq_true
    rcases Int.lt_or_le S 0 with h3 | h3
    · exact h3
    · have := hr.1 h3
      generalize d * q = x at *
      generalize h * q = z at *
      omega
  · rw [decide_eq_false h1]
    have h2 : (d + 1) * q ≤ h * q := Nat.mul_le_mul_right _ (by omega)
    rw [Nat.add_mul, Nat.one_mul] at h2
    symm
    apply decide_eq_false
    intro h3
    have := hr.2 h3
    generalize d * q = x at *
    generalize h * q = z at *
    omega
theorem rep_F {N V : Nat} {S : Int} (hr : repN N V S) (h : decide (S < 0) = false) : S.natAbs = V := by
  have := of_decide_eq_false h
  have := hr.1 (by omega)
  omega
theorem rep_T {N V : Nat} {S : Int} (hr : repN N V S) (h : decide (S < 0) = true) : S.natAbs + V = N := by
  have := of_decide_eq_true h
  have := hr.2 (by omega)
  omega
/-- one addend is less than 2^2098 -/
theorem pA_lt {a b : Nat} (hb : b < 4294967296) (he : eA a ≠ 2047) : mA a b * 2 ^ (eA a - 1) < 2 ^ 2098 := by
  have h1 := mA_lt (a := a) hb
  have h2 := eA_lt a
  have h3 : mA a b * 2 ^ (eA a - 1) < 2 ^ 53 * 2 ^ (eA a - 1) := Nat.mul_lt_mul_of_pos_right h1 (Nat.two_pow_pos _)
  rw [← Nat.pow_add] at h3
  exact Nat.lt_of_lt_of_le h3 (Nat.pow_le_pow_right (by decide) (by omega))
theorem big_N {x B : Nat} (h : x ≤ 193 * B) (hB : B = 2 ^ 2098) (k : Nat) (hk : 2107 ≤ k) : 2 * x < 2 ^ k := by
  have h1 : 512 * B = 2 ^ 2107 := by
    rw [hB, show (512 : Nat) = 2 ^ 9 from rfl, ← Nat.pow_add]
  have h2 : 2 ^ 2107 ≤ 2 ^ k := Nat.pow_le_pow_right (by decide) hk
  have h3 : 0 < B := by rw [hB]; exact Nat.two_pow_pos _
  generalize 2 ^ 2107 = z at *
  generalize 2 ^ k = y at *
  omega
/-- what holds between the two, n calls of add counted, k of them minus nought -/
def lwI (n k : Nat) (om : Bool) (f a : Nat → Int32) : Prop := k ≤ n ∧ om = decide (k = n) ∧ okH a ∧ ∃ S : Int, S.natAbs ≤ n * 2 ^ 2098 ∧ repN (2 ^ (32 * 67)) (vW f 67) S ∧ repN (2 ^ (16 * 136)) (vH a 136) S
theorem lwI_0 {f a : Nat → Int32} (hf : vW f 67 = 0) (ha : vH a 136 = 0) : lwI 0 0 true f a := ⟨Nat.le_refl _, rfl, okH_zero ha, 0, Nat.zero_le _, by rw [hf]; exact rep_0 _, by rw [ha]; exact rep_0 _⟩
theorem lwI_add {n k : Nat} {om : Bool} {f a f' a' : Nat → Int32} {x b c1 c2 : Nat} (hI : lwI n k om f a) (hn : n ≤ 192) (hb : b < 4294967296) (he : eA x ≠ 2047) (hc1 : c1 ≤ 1) (hc2 : c2 ≤ 1) (hok : okH a')
    (i1 : oA x = false → vW f' 67 + c1 * 2 ^ (32 * 67) = vW f 67 + mA x b * 2 ^ (eA x - 1)) (o1 : oA x = true → vW f' 67 + mA x b * 2 ^ (eA x - 1) = vW f 67 + c1 * 2 ^ (32 * 67))
    (i2 : oA x = false → vH a' 136 + c2 * 2 ^ (16 * 136) = vH a 136 + mA x b * 2 ^ (eA x - 1)) (o2 : oA x = true → vH a' 136 + mA x b * 2 ^ (eA x - 1) = vH a 136 + c2 * 2 ^ (16 * 136)) : lwI (n + 1) (k + if nzA x b then 1 else 0) (om && nzA x b) f' a' := by
  obtain ⟨h1, h2, h3, S, hS, hr1, hr2⟩ := hI
  have hP := pA_lt (a := x) hb he
  have hF := vW_lt f' 67
  have hA := vH_lt hok (Nat.le_refl 136)
  generalize mA x b * 2 ^ (eA x - 1) = P at *
  obtain ⟨B, hB⟩ : ∃ B, B = 2 ^ 2098 := ⟨_, rfl⟩
  rw [← hB] at hP hS
  have hS0 : S.natAbs ≤ 193 * B := Nat.le_trans hS (Nat.mul_le_mul_right _ (by omega))
  have hnB : (n + 1) * B ≤ 193 * B := Nat.mul_le_mul_right _ (by omega)
  have hSn : (n + 1) * B = n * B + B := by rw [Nat.add_mul, Nat.one_mul]
  have b1 := big_N hS0 hB (32 * 67) (by decide)
  have b2 := big_N hS0 hB (16 * 136) (by decide)
  refine ⟨by split <;> omega, ?_, hok, ?_⟩
  · rw [h2]
    cases hz : nzA x b with
    | false =>
      simp only [Bool.and_false, Bool.false_eq_true, if_false]
      symm
      exact decide_eq_false (by omega)
    | true =>
      simp only [Bool.and_true, if_true]
      by_cases hq : k = n
      · rw [decide_eq_true hq, decide_eq_true (by omega)]
      · rw [decide_eq_false hq, decide_eq_false (by omega)]
  · cases ho : oA x with
    | false =>
      have s1 : (S + P).natAbs ≤ (n + 1) * B := by rw [hSn]; omega
      exact ⟨S + P, by rw [← hB]; exact s1, rep_in hF hc1 (i1 ho) hr1 b1 (big_N (Nat.le_trans s1 hnB) hB _ (by decide)), rep_in hA hc2 (i2 ho) hr2 b2 (big_N (Nat.le_trans s1 hnB) hB _ (by decide))⟩
    | true =>
      have s1 : (S - P).natAbs ≤ (n + 1) * B := by rw [hSn]; omega
      exact ⟨S - P, by rw [← hB]; exact s1, rep_out hF hc1 (o1 ho) hr1 b1 (big_N (Nat.le_trans s1 hnB) hB _ (by decide)), rep_out hA hc2 (o2 ho) hr2 b2 (big_N (Nat.le_trans s1 hnB) hB _ (by decide))⟩
/-- what sum rests on -/
theorem lwI_sum {n k : Nat} {om : Bool} {f a : Nat → Int32} (hI : lwI n k om f a) (hn : n ≤ 192) : ∃ (mi : Bool) (M : Nat), mi = decide (2147483648 ≤ uI (f 66)) ∧ mi = decide (32768 ≤ uI (a 135)) ∧ (mi = false → M = vW f 67) ∧ (mi = true → M + vW f 67 = 2 ^ (32 * 67)) ∧ (mi = false → M = vH a 136) ∧ (mi = true → M + vH a 136 = 2 ^ (16 * 136)) := by
  obtain ⟨h1, h2, h3, S, hS, hr1, hr2⟩ := hI
  obtain ⟨B, hB⟩ : ∃ B, B = 2 ^ 2098 := ⟨_, rfl⟩
  rw [← hB] at hS
  have hS0 : S.natAbs ≤ 193 * B := Nat.le_trans hS (Nat.mul_le_mul_right _ (by omega))
  have b1 := big_N hS0 hB (32 * 67) (by decide)
  have b2 := big_N hS0 hB (16 * 136) (by decide)
  have n1 : 2 ^ (32 * 67) = 2 * (2147483648 * 2 ^ (32 * 66)) := by
    rw [tk_q 66]
    generalize 2 ^ (32 * 66) = q
    omega
  have n2 : 2 ^ (16 * 136) = 2 * (32768 * 2 ^ (16 * 135)) := by
    rw [on_q 135]
    generalize 2 ^ (16 * 135) = q
    omega
  refine ⟨decide (S < 0), S.natAbs, ?_, ?_, rep_F hr1, rep_T hr1, rep_F hr2, rep_T hr2⟩
  · exact (rep_sign hr1 b1 n1 (vW_lt f 66) (vW_s f 66)).symm
  · exact (rep_sign hr2 b2 n2 (vH_lt h3 (show 135 ≤ 136 by decide)) (vH_s a 135)).symm
theorem zflag {n k md : Nat} {om : Bool} (h : om = decide (k = n)) : decide (0 < n ∧ (k = n ∨ md = 3)) = decide (0 < n ∧ (om = true ∨ md = 3)) := by
  rw [h]
  congr 1
  rw [decide_eq_true_iff]
theorem law_gt {L i : Nat} (hL : L ≤ 192) (hi : i ≤ 192) : nI L - nI 3 < nI i ↔ L < i + 3 := by
  rw [Int32.lt_iff_toInt_lt, pk_sub_toInt (by omega) (by decide), nI_toInt (by omega)]
  omega
theorem zadd {k : Nat} {o : Bool} : nI k + bI o = nI (k + if o then 1 else 0) := by
  cases o
  · exact Int32.add_zero _
  · exact nI_add k 1
end
section
theorem dv_const0 (w n : Nat) : dv w (fun _ => 0) n = 0 := by
  induction n with
  | zero => rfl
  | succ n ih => rw [dv_s, ih, Nat.zero_mul]
/-! THE CLAIM OUT OF ONE WALK OF THE LAW'S BODY. Your part is whole_start (and what it stands on); all else here is the same for every law, but numbers. -/
def R_law : String := "ExactSumLaw"
def lw_P (b : Addr) (xs : List Int32) (args : Array Value) (s : State) : Prop := args = #[.ref b] ∧ s.IntsAt b xs ∧ xs.length ≤ 192 ∧ (Jvm.Cond.and given_1 narrow_1).before args s = true
def lw_Q (_ : Array Value) (s : State) (o : Outcome) (t : State) : Prop := o = .returned (some (.int 1)) ∧ Framed s o t [] 600000 7290000
def lw_Z (below : List Frame) (a : Array Value) (s : State) : State → Prop := fun t => ∃ o, t.status = .running ∧ Ended t below o ∧ lw_Q a s o t
/-- the law's own end, with 1 on the stack, nothing written that was there before, its room as the claim has it -/
theorem lw_ret {p : Program} {l : Launch} {e : Env} {s : State} {m : MethodId} {below : List Frame} {meth : Method} {c : Code} {b : Nat} (hx : p.tables.exec = Jvm.exec) (hb : c.code = code) (hr : meth.sig.returnType = ret) (hlocks : meth.locks = false) {pc : Nat} {H : Heap} {ls : Array Slot} (hdg : decode code pc = .ok (.ireturn, 1)) : W p l e room_1 s m #[Value.ref b] below meth c H [] 600000 7290000 (lw_Z below #[Value.ref b] s) (F0 m pc ls [.int 1]) := by
  intro T hT X
  obtain ⟨fs, hret, hrun, hended, hW, hframe⟩ := X.leave (v := some (.int 1)) (hlocks := hlocks) (fun h => by rw [hr] at h; cases h)
  have hmeth' : T.vm.method? m = some meth := X.method'
  refine ⟨T.setFrames fs, ?_, .returned (some (.int 1)), hrun, hended, rfl, ⟨_, rfl⟩, hW, hframe⟩
  jvm_step X.here [X.here.top, hx, hb, hdg, hmeth', hr, ret, narrow_b1]
  (try refine ⟨rfl, ?_⟩); (try refine ⟨rfl, ?_⟩)
  first | (intro acts; rw [hret _ acts rfl rfl rfl]) | rw [hret _ _ rfl rfl rfl]
  exact Steps.refl _
/-- what holds at the law's entry: the machine, the code, the tables' words (any of lw_tbl by 'hts w (by decide +kernel)'), the script of L ints xs at the cell b, what the Statement gives of the start (any of its parts by flat_of_before) -/
def lw_At (p : Program) (s : State) (m : MethodId) (meth : Method) (c : Code) (b L : Nat) (xs : Nat → Int32) : Prop :=
  p.tables.exec = Jvm.exec ∧ c.code = code ∧ meth.sig.returnType = ret ∧ c.maxLocals = 4 ∧ s.vm.findClass R_law = some m.cls ∧ (∀ w ∈ lw_tbl, w.before #[Value.ref b] s = true) ∧ va_X b L xs s s.heap ∧ b < s.heap.size ∧ meth.locks = false ∧ (Jvm.Cond.and given_1 narrow_1).before #[Value.ref b] s = true
set_option maxHeartbeats 4000000 in
set_option maxRecDepth 100000 in
/-- the law, from its entry: for every script of at most 192 ints it comes to its end with true -/
theorem whole_start {p : Program} {e : Env} {s : State} {m : MethodId} {below : List Frame} {meth : Method} {c : Code} (l : Launch) {b L : Nat} {xs : Nat → Int32} (hL : L ≤ 192) (C0 : lw_At p s m meth c b L xs) : W p l e room_1 s m #[Value.ref b] below meth c s.heap [] 0 0 (lw_Z below #[Value.ref b] s) (entryFrame m ([Value.ref b] : List Value).toArray 4) := by
  obtain ⟨hx, hb, hr, hml, hown, hts0, hX, hbl, hlocks, hgv⟩ := C0
  have hts : ∀ w ∈ lw_all, w.before #[Value.ref b] s = true := fun w h => hts0 w (lw_all_tbl h)
  obtain ⟨A, hAe⟩ : ∃ A : Nat → Prop, A = fun q => s.heap.size ≤ q := ⟨_, rfl⟩
  have hA : ∀ q : Nat, s.heap.size ≤ q → A q := fun q h => by rw [hAe]; exact h
  have hA2 : ∀ q : Nat, A q → s.heap.size ≤ q := fun q h => by rw [hAe] at h; exact h
  have hbA : ¬ A b := fun h => absurd (hA2 b h) (Nat.not_le.mpr hbl)
  obtain ⟨c0, iS0, hKn0⟩ := u_known (C := RX0) (T := TX0) (N := 4) (n := 4) hts in_X0 (hts _ q14)
  obtain ⟨c1, iS1, hKn1⟩ := u_known (C := RX1) (T := TX1) (N := 4) (n := 4) hts in_X1 (hts _ q95)
  obtain ⟨D, hKc⟩ : ∃ D : va_G, ∀ (k : Nat) (q : vw_C), vwCl[k]? = some q → u_Kn s q.1 q.2.1 q.2.2 (D.1 k) (D.2 k) := by
    refine ⟨(fun k => if k = 0 then c0 else c1, fun k => if k = 0 then iS0 else iS1), ?_⟩
    intro k q hq
    match k, hq with
    | 0, hq => cases hq; exact hKn0
    | 1, hq => cases hq; exact hKn1
    | k + 2, hq => simp [vwCl] at hq
  have hS : va_S A s.heap s.heap [] := va_S.rf
  have hK : va_K D vwCl [] s := ⟨hKc, fun k q h => by simp at h⟩
  have hP : va_P D vwCl [] s.heap := fun k q h => by simp at h
  have hD : va_D A [] := ⟨fun i j p q h => by simp at h, fun k q h => by simp at h⟩
  have hl := lv_entry ([Value.ref b]) (n := 4) (Nat.le_of_ble_eq_true rfl)
  rw [lg_entry_eq]
  generalize (lg_sl [Value.ref b] ++ List.replicate (4 - (lg_sl [Value.ref b]).length) Slot.unset).toArray = ls at hl ⊢
  have hl : lv_has ls 4 [(0, .ref b)] := hl
  refine va_new (D := D) (ci := 0) (fs := [.null, .null, .int 0, .int 0]) (C := RX0) (T := TX0) (N := 4) hx hb hts in_X0 tyX0 tyX0_ok hown (hts _ q13) (hts _ q14) (hts _ q11) hK hP hD hS hA rfl (fun j hj => by rcases (show j = 0 ∨ j = 1 ∨ j = 2 ∨ j = 3 by omega) with q9 | q9 | q9 | q9 <;> subst q9 <;> rfl) (Nat.le_of_ble_eq_true rfl) (Nat.le_of_ble_eq_true rfl) dL_law_0 (fun p0 H hP hD hS => ?_)
  refine lv_dup hx hb dL_law_3 rfl ?_
  have hP : va_P D vwCl [(p0, .inr (0, [.null, .null, .int 0, .int 0]))] H := hP
  have hD : va_D A [(p0, .inr (0, [.null, .null, .int 0, .int 0]))] := hD
  refine x_callI (As := []) (rest := [.ref p0]) ⟨hx, hb, hml, hown, hts⟩ (metX0_init l D p0 _) (cwI 0 hts (lw_meth q17) rfl rfl rfl (hts _ q11) (hts _ q15) (hts _ q16) rfl (by decide +kernel) ⟨Nat.le_of_ble_eq_true rfl, Nat.le_of_ble_eq_true rfl⟩) hK hP hD hS hA [0] [] (wr := []) rfl rfl rfl rfl (by decide) rfl hl.1 rfl (Nat.le_of_ble_eq_true rfl) dL_law_4 ⟨Nat.le_of_ble_eq_true rfl, Nat.le_of_ble_eq_true rfl⟩ (fun u H locs hp hK hP hD hS => ?_)
  obtain ⟨a0, b0, d1, d2, rfl⟩ := hp
  have hK0 : va_K D vwCl (tAB d1 d2) s := hK
  have hP : va_P D vwCl (wX0 p0 a0 b0 d1 d2 (fun _ => 0) (fun _ => 0) 0 0) H := hP
  have hD : va_D A (wX0 p0 a0 b0 d1 d2 (fun _ => 0) (fun _ => 0) 0 0) := hD
  refine lv_astore_n (lv' := [(1, .ref p0), (0, .ref b)]) hx hb dL_law_7 rfl hl (by decide) rfl (fun ls hl => ?_)
  refine va_new (D := D) (ci := 1) (fs := [.null, .int 0, .int 0, .null]) (C := RX1) (T := TX1) (N := 4) hx hb hts in_X1 tyX1 tyX1_ok hown (hts _ q94) (hts _ q95) (hts _ q12) hK0 hP hD hS hA rfl (fun j hj => by rcases (show j = 0 ∨ j = 1 ∨ j = 2 ∨ j = 3 by omega) with q9 | q9 | q9 | q9 <;> subst q9 <;> rfl) (Nat.le_of_ble_eq_true rfl) (Nat.le_of_ble_eq_true rfl) dL_law_8 (fun p1 H hP hD hS => ?_)
  refine lv_dup hx hb dL_law_11 rfl ?_
  have hP : va_P D vwCl (wX0 p0 a0 b0 d1 d2 (fun _ => 0) (fun _ => 0) 0 0 ++ [(p1, .inr (1, [.null, .int 0, .int 0, .null]))]) H := hP
  have hD : va_D A (wX0 p0 a0 b0 d1 d2 (fun _ => 0) (fun _ => 0) 0 0 ++ [(p1, .inr (1, [.null, .int 0, .int 0, .null]))]) := hD
  refine x_callI (As := []) (rest := [.ref p1]) ⟨hx, hb, hml, hown, hts⟩ (metX1_init l D p1 _) (cwI 0 hts (lw_meth q98) rfl rfl rfl (hts _ q12) (hts _ q96) (hts _ q97) rfl (by decide +kernel) ⟨Nat.le_of_ble_eq_true rfl, Nat.le_of_ble_eq_true rfl⟩) hK0 hP hD hS hA [3] [0, 1, 2] (wr := wX0 p0 a0 b0 d1 d2 (fun _ => 0) (fun _ => 0) 0 0) rfl rfl rfl rfl (by decide) rfl hl.1 rfl (Nat.le_of_ble_eq_true rfl) dL_law_12 ⟨Nat.le_of_ble_eq_true rfl, Nat.le_of_ble_eq_true rfl⟩ (fun u H locs hp hK hP hD hS => ?_)
  obtain ⟨a1, b1, d3, d4, rfl⟩ := hp
  have hK1 : va_K D vwCl (tAB d3 d4) s := hK
  refine lv_astore_n (lv' := [(2, .ref p1), (1, .ref p0), (0, .ref b)]) hx hb dL_law_15 rfl hl (by decide) rfl (fun ls hl => ?_)
  refine lv_iconst (v := nI 0) hx hb dL_law_16 (by decide +kernel) ?_
  refine lv_istore_n (lv' := [(3, .int (nI 0)), (2, .ref p1), (1, .ref p0), (0, .ref b)]) hx hb dL_law_17 rfl hl (by decide) rfl (fun ls hl => ?_)
  have loop : ∀ (nn i n k : Nat) (om : Bool) (f g f' g' : Nat → Int32) (H : Heap) (locs : List Loc) (ls : Array Slot), i ≤ L → L + 1 ≤ i + nn → n ≤ i → lwI n k om f f' → va_P D vwCl (wX0 p0 a0 b0 d1 d2 f g (nI n) (nI k) ++ wX1 p1 a1 b1 d3 d4 f' g' (nI n) (bI om)) H → va_D A (wX0 p0 a0 b0 d1 d2 f g (nI n) (nI k) ++ wX1 p1 a1 b1 d3 d4 f' g' (nI n) (bI om)) → va_S A s.heap H locs → lv_has ls 4 [(0, .ref b), (1, .ref p0), (2, .ref p1), (3, .int (nI i))] → W p l e room_1 s m #[Value.ref b] below meth c H locs 6 414 (lw_Z below #[Value.ref b] s) (F0 m 18 ls []) := by
    intro nn
    induction nn with
    | zero =>
      intro i n k om f g f' g' H locs ls h1 h2
      exact absurd h2 (by omega)
    | succ nn ih =>
      intro i n k om f g f' g' H locs ls hi hin hn hI hP hD hS hl
      refine lv_iload_n hx hb dL_law_18 rfl (lv_at hl 3 rfl) ?_
      refine lv_aload_n hx hb dL_law_19 rfl (lv_at hl 0 rfl) ?_
      refine va_slen hx hb hX hbl hbA hS dL_law_20 ?_
      refine x_toi (nI L) (rfl) ?_
      refine lv_iconst (v := nI 3) hx hb dL_law_21 (by decide +kernel) ?_
      refine lv_isub hx hb dL_law_22 ?_
      refine lv_icmp_gt (tgt := 147) hx hb dL_law_23 (by decide) (fun c1 => ?_) (fun c1 => ?_)
      · refine lv_iconst (v := nI 1) hx hb dL_law_147 (by decide +kernel) ?_
        refine x_toi 1 (rfl) ?_
        refine va_forget (fun q hq => hA2 _ (hS.2.2 q hq)) ?_
        refine W.widen (k := 600000) (n := 7290000) (by decide) (by decide) ?_
        exact lw_ret hx hb hr hlocks dL_law_148
      · have hi3 : i + 3 ≤ L := by
          have h9 : ¬ L < i + 3 := fun q9 => c1 ((law_gt hL (by omega)).mpr q9)
          omega
        refine lv_aload_n hx hb dL_law_26 rfl (lv_at hl 0 rfl) ?_
        refine lv_iload_n hx hb dL_law_27 rfl (lv_at hl 3 rfl) ?_
        refine x_sld hx hb hX hbl hbA hS (k := i) (by omega) (by omega) dL_law_28 ?_
        refine lv_iconst (v := nI 3) hx hb dL_law_29 (by decide +kernel) ?_
        refine lv_iand hx hb dL_law_30 ?_
        refine x_toi (nI (uI (xs i) % 4)) (pk_and _ 2 (by decide)) ?_
        obtain ⟨dd, edd⟩ : ∃ dd, dd = uI (xs i) % 4 := ⟨_, rfl⟩
        have hdd : dd < 4 := by omega
        rw [← edd]
        have K141 : ∀ (n1 k1 : Nat) (om : Bool) (f g f' g' : Nat → Int32) (H : Heap) (locs : List Loc) (ls : Array Slot), n1 ≤ i + 1 → lwI n1 k1 om f f' → va_P D vwCl (wX0 p0 a0 b0 d1 d2 f g (nI n1) (nI k1) ++ wX1 p1 a1 b1 d3 d4 f' g' (nI n1) (bI om)) H → va_D A (wX0 p0 a0 b0 d1 d2 f g (nI n1) (nI k1) ++ wX1 p1 a1 b1 d3 d4 f' g' (nI n1) (bI om)) → va_S A s.heap H locs → lv_has ls 4 [(0, .ref b), (1, .ref p0), (2, .ref p1), (3, .int (nI i))] → W p l e room_1 s m #[Value.ref b] below meth c H locs 6 414 (lw_Z below #[Value.ref b] s) (F0 m 141 ls []) := by
          intro n1 k1 om f g f' g' H locs ls hn1 hI1 hP hD hS hl
          refine lv_iinc (v := nI (i + 3)) (lv' := [(3, .int (nI (i + 3))), (0, .ref b), (1, .ref p0), (2, .ref p1)]) hx hb dL_law_141 hl (k := 3) rfl (nI_add i 3) (by decide) rfl (fun ls hl => ?_)
          refine lv_goto (tgt := 18) hx hb dL_law_144 (by decide) ?_
          exact ih (i + 3) n1 k1 om f g f' g' H locs ls hi3 (by omega) (by omega) hI1 hP hD hS (lv_sub hl [1, 2, 3, 0] rfl)
        rcases (show dd = 0 ∨ dd = 1 ∨ dd = 2 ∨ dd = 3 by omega) with q9 | q9 | q9 | q9 <;> subst q9
        · refine lv_tableIn (tgt := 60) hx hb dL_law_31 (by decide) (by decide) rfl (by decide) ?_
          have hx1 := uI_lt (xs (i + 1))
          have hx2 := uI_lt (xs (i + 2))
          obtain ⟨x1, e1⟩ : ∃ x1, x1 = uI (xs (i + 1)) := ⟨_, rfl⟩
          obtain ⟨x2, e2⟩ : ∃ x2, x2 = uI (xs (i + 2)) := ⟨_, rfl⟩
          rw [← e1] at hx1
          rw [← e2] at hx2
          refine lv_aload_n hx hb dL_law_60 rfl (lv_at hl 1 rfl) ?_
          refine lv_aload_n hx hb dL_law_61 rfl (lv_at hl 0 rfl) ?_
          refine lv_iload_n hx hb dL_law_62 rfl (lv_at hl 3 rfl) ?_
          refine lv_iconst (v := nI 1) hx hb dL_law_63 (by decide +kernel) ?_
          refine lv_iadd hx hb dL_law_64 ?_
          refine x_toi (nI (i + 1)) (nI_add i 1) ?_
          refine x_sld hx hb hX hbl hbA hS (k := i + 1) (by omega) (by omega) dL_law_65 ?_
          refine x_toi (nI x1) (by rw [e1]; exact (nI_uI _).symm) ?_
          refine lv_aload_n hx hb dL_law_66 rfl (lv_at hl 0 rfl) ?_
          refine lv_iload_n hx hb dL_law_67 rfl (lv_at hl 3 rfl) ?_
          refine lv_iconst (v := nI 2) hx hb dL_law_68 (by decide +kernel) ?_
          refine lv_iadd hx hb dL_law_69 ?_
          refine x_toi (nI (i + 2)) (nI_add i 2) ?_
          refine x_sld hx hb hX hbl hbA hS (k := i + 2) (by omega) (by omega) dL_law_70 ?_
          refine x_toi (nI x2) (by rw [e2]; exact (nI_uI _).symm) ?_
          refine x_callF_i (As := [.int (nI x1), .int (nI x2)]) (rest := []) (ci := 0) (q0 := 0) (wr := wX1 p1 a1 b1 d3 d4 f' g' (nI n) (bI om)) ⟨hx, hb, hml, hown, hts⟩ (metX0_add l D d1 d2 p0 a0 b0 _ f g (nI n) (nI k) x1 x2 n hx1 hx2 (by omega) rfl) (cwV 2 hts (lw_V q35 q36 q37 q11 q38) rfl rfl rfl (by decide +kernel) ⟨Nat.le_of_ble_eq_true rfl, Nat.le_of_ble_eq_true rfl⟩) hK0 hP hD hS hA [0, 1, 2] [3, 4, 5] rfl rfl rfl rfl (by decide) rfl rfl rfl hl.1 rfl (Nat.le_of_ble_eq_true rfl) dL_law_71 ⟨Nat.le_of_ble_eq_true rfl, Nat.le_of_ble_eq_true rfl⟩ (fun r0 u0 H locs hp0 hP hD hS => ?_)
          by_cases he : eA x1 = 2047
          · obtain ⟨rfl, rfl⟩ := hp0.1 he
            refine lv_aload_n hx hb dL_law_74 rfl (lv_at hl 2 rfl) ?_
            refine lv_aload_n hx hb dL_law_75 rfl (lv_at hl 0 rfl) ?_
            refine lv_iload_n hx hb dL_law_76 rfl (lv_at hl 3 rfl) ?_
            refine lv_iconst (v := nI 1) hx hb dL_law_77 (by decide +kernel) ?_
            refine lv_iadd hx hb dL_law_78 ?_
            refine x_toi (nI (i + 1)) (nI_add i 1) ?_
            refine x_sld hx hb hX hbl hbA hS (k := i + 1) (by omega) (by omega) dL_law_79 ?_
            refine x_toi (nI x1) (by rw [e1]; exact (nI_uI _).symm) ?_
            refine lv_aload_n hx hb dL_law_80 rfl (lv_at hl 0 rfl) ?_
            refine lv_iload_n hx hb dL_law_81 rfl (lv_at hl 3 rfl) ?_
            refine lv_iconst (v := nI 2) hx hb dL_law_82 (by decide +kernel) ?_
            refine lv_iadd hx hb dL_law_83 ?_
            refine x_toi (nI (i + 2)) (nI_add i 2) ?_
            refine x_sld hx hb hX hbl hbA hS (k := i + 2) (by omega) (by omega) dL_law_84 ?_
            refine x_toi (nI x2) (by rw [e2]; exact (nI_uI _).symm) ?_
            refine x_callF_i (As := [.int (nI x1), .int (nI x2)]) (rest := [.int 0]) (ci := 1) (q0 := 0) (wr := wX0 p0 a0 b0 d1 d2 f g (nI n) (nI k)) ⟨hx, hb, hml, hown, hts⟩ (metX1_add l D d3 d4 p1 a1 b1 _ f' g' (nI n) (bI om) x1 x2 n om hx1 hx2 (by omega) rfl rfl hI.2.2.1) (cwV 2 hts (lw_V q113 q114 q115 q12 q116) rfl rfl rfl (by decide +kernel) ⟨Nat.le_of_ble_eq_true rfl, Nat.le_of_ble_eq_true rfl⟩) hK1 hP hD hS hA [0, 1, 2] [3, 4, 5] rfl rfl rfl rfl (by decide) rfl rfl rfl hl.1 rfl (Nat.le_of_ble_eq_true rfl) dL_law_85 ⟨Nat.le_of_ble_eq_true rfl, Nat.le_of_ble_eq_true rfl⟩ (fun r1 u1 H locs hp1 hP hD hS => ?_)
            obtain ⟨rfl, rfl⟩ := hp1.1 he
            refine lv_icmp_eq (tgt := 141) hx hb dL_law_88 (by decide) (fun _ => ?_) (fun c_ => absurd c_ (not_not_intro rfl))
            exact K141 n k om f g f' g' H locs ls (by omega) hI hP hD hS hl
          · obtain ⟨rfl, f1, c1, hc1, rfl, i1, o1⟩ := hp0.2 he
            refine lv_aload_n hx hb dL_law_74 rfl (lv_at hl 2 rfl) ?_
            refine lv_aload_n hx hb dL_law_75 rfl (lv_at hl 0 rfl) ?_
            refine lv_iload_n hx hb dL_law_76 rfl (lv_at hl 3 rfl) ?_
            refine lv_iconst (v := nI 1) hx hb dL_law_77 (by decide +kernel) ?_
            refine lv_iadd hx hb dL_law_78 ?_
            refine x_toi (nI (i + 1)) (nI_add i 1) ?_
            refine x_sld hx hb hX hbl hbA hS (k := i + 1) (by omega) (by omega) dL_law_79 ?_
            refine x_toi (nI x1) (by rw [e1]; exact (nI_uI _).symm) ?_
            refine lv_aload_n hx hb dL_law_80 rfl (lv_at hl 0 rfl) ?_
            refine lv_iload_n hx hb dL_law_81 rfl (lv_at hl 3 rfl) ?_
            refine lv_iconst (v := nI 2) hx hb dL_law_82 (by decide +kernel) ?_
            refine lv_iadd hx hb dL_law_83 ?_
            refine x_toi (nI (i + 2)) (nI_add i 2) ?_
            refine x_sld hx hb hX hbl hbA hS (k := i + 2) (by omega) (by omega) dL_law_84 ?_
            refine x_toi (nI x2) (by rw [e2]; exact (nI_uI _).symm) ?_
            refine x_callF_i (As := [.int (nI x1), .int (nI x2)]) (rest := [.int 1]) (ci := 1) (q0 := 0) (wr := wX0 p0 a0 b0 d1 d2 f1 g (nI (n + 1)) (nI k + bI (nzA x1 x2))) ⟨hx, hb, hml, hown, hts⟩ (metX1_add l D d3 d4 p1 a1 b1 _ f' g' (nI n) (bI om) x1 x2 n om hx1 hx2 (by omega) rfl rfl hI.2.2.1) (cwV 2 hts (lw_V q113 q114 q115 q12 q116) rfl rfl rfl (by decide +kernel) ⟨Nat.le_of_ble_eq_true rfl, Nat.le_of_ble_eq_true rfl⟩) hK1 hP hD hS hA [0, 1, 2] [3, 4, 5] rfl rfl rfl rfl (by decide) rfl rfl rfl hl.1 rfl (Nat.le_of_ble_eq_true rfl) dL_law_85 ⟨Nat.le_of_ble_eq_true rfl, Nat.le_of_ble_eq_true rfl⟩ (fun r1 u1 H locs hp1 hP hD hS => ?_)
            obtain ⟨rfl, f2, c2, hc2, hok2, rfl, i2, o2⟩ := hp1.2 he
            refine lv_icmp_eq (tgt := 141) hx hb dL_law_88 (by decide) (fun _ => ?_) (fun c_ => absurd c_ (not_not_intro rfl))
            rw [zadd] at hP hD
            exact K141 (n + 1) (k + if nzA x1 x2 then 1 else 0) (om && nzA x1 x2) f1 g f2 g' H locs ls (by omega) (lwI_add hI (by omega) hx2 he hc1 hc2 hok2 i1 o1 i2 o2) hP hD hS hl
        · refine lv_tableIn (tgt := 93) hx hb dL_law_31 (by decide) (by decide) rfl (by decide) ?_
          refine lv_aload_n hx hb dL_law_93 rfl (lv_at hl 1 rfl) ?_
          refine x_callF_i (As := []) (rest := []) (ci := 0) (q0 := 0) (wr := wX1 p1 a1 b1 d3 d4 f' g' (nI n) (bI om)) ⟨hx, hb, hml, hown, hts⟩ (metX0_many l D d1 d2 p0 a0 b0 _ f g (nI n) (nI k)) (cwV 0 hts (lw_V q50 q51 q52 q11 q53) rfl rfl rfl (by decide +kernel) ⟨Nat.le_of_ble_eq_true rfl, Nat.le_of_ble_eq_true rfl⟩) hK0 hP hD hS hA [0, 1, 2] [3, 4, 5] rfl rfl rfl rfl (by decide) rfl rfl rfl hl.1 rfl (Nat.le_of_ble_eq_true rfl) dL_law_94 ⟨Nat.le_of_ble_eq_true rfl, Nat.le_of_ble_eq_true rfl⟩ (fun r0 u0 H locs hp0 hP hD hS => ?_)
          obtain ⟨rfl, rfl⟩ := hp0
          refine lv_aload_n hx hb dL_law_97 rfl (lv_at hl 2 rfl) ?_
          refine x_callF_i (As := []) (rest := [.int (nI n)]) (ci := 1) (q0 := 0) (wr := wX0 p0 a0 b0 d1 d2 f g (nI n) (nI k)) ⟨hx, hb, hml, hown, hts⟩ (metX1_many l D d3 d4 p1 a1 b1 _ f' g' (nI n) (bI om)) (cwV 0 hts (lw_V q126 q127 q128 q12 q129) rfl rfl rfl (by decide +kernel) ⟨Nat.le_of_ble_eq_true rfl, Nat.le_of_ble_eq_true rfl⟩) hK1 hP hD hS hA [0, 1, 2] [3, 4, 5] rfl rfl rfl rfl (by decide) rfl rfl rfl hl.1 rfl (Nat.le_of_ble_eq_true rfl) dL_law_98 ⟨Nat.le_of_ble_eq_true rfl, Nat.le_of_ble_eq_true rfl⟩ (fun r1 u1 H locs hp1 hP hD hS => ?_)
          obtain ⟨rfl, rfl⟩ := hp1
          refine lv_icmp_eq (tgt := 141) hx hb dL_law_101 (by decide) (fun _ => ?_) (fun c_ => absurd c_ (not_not_intro rfl))
          exact K141 n k om f g f' g' H locs ls (by omega) hI hP hD hS hl
        · refine lv_tableIn (tgt := 106) hx hb dL_law_31 (by decide) (by decide) rfl (by decide) ?_
          refine lv_aload_n hx hb dL_law_106 rfl (lv_at hl 1 rfl) ?_
          refine x_callF_v (As := []) (rest := []) (ci := 0) (q0 := 0) (wr := wX1 p1 a1 b1 d3 d4 f' g' (nI n) (bI om)) ⟨hx, hb, hml, hown, hts⟩ (metX0_wipe l D d1 d2 p0 a0 b0 _ f g (nI n) (nI k)) (cwV 0 hts (lw_V q54 q55 q56 q11 q57) rfl rfl rfl (by decide +kernel) ⟨Nat.le_of_ble_eq_true rfl, Nat.le_of_ble_eq_true rfl⟩) hK0 hP hD hS hA [0, 1, 2] [3, 4, 5] rfl rfl rfl rfl (by decide) rfl rfl rfl hl.1 rfl (Nat.le_of_ble_eq_true rfl) dL_law_107 ⟨Nat.le_of_ble_eq_true rfl, Nat.le_of_ble_eq_true rfl⟩ (fun u0 H locs hp0 hP hD hS => ?_)
          obtain ⟨f1, rfl, hv1⟩ := hp0
          refine lv_aload_n hx hb dL_law_110 rfl (lv_at hl 2 rfl) ?_
          refine x_callF_v (As := []) (rest := []) (ci := 1) (q0 := 0) (wr := wX0 p0 a0 b0 d1 d2 f1 g 0 0) ⟨hx, hb, hml, hown, hts⟩ (metX1_wipe l D d3 d4 p1 a1 b1 _ f' g' (nI n) (bI om)) (cwV 0 hts (lw_V q130 q131 q132 q12 q133) rfl rfl rfl (by decide +kernel) ⟨Nat.le_of_ble_eq_true rfl, Nat.le_of_ble_eq_true rfl⟩) hK1 hP hD hS hA [0, 1, 2] [3, 4, 5] rfl rfl rfl rfl (by decide) rfl rfl rfl hl.1 rfl (Nat.le_of_ble_eq_true rfl) dL_law_111 ⟨Nat.le_of_ble_eq_true rfl, Nat.le_of_ble_eq_true rfl⟩ (fun u1 H locs hp1 hP hD hS => ?_)
          obtain ⟨f2, rfl, hv2⟩ := hp1
          refine lv_goto (tgt := 141) hx hb dL_law_114 (by decide) ?_
          exact K141 0 0 true f1 g f2 g' H locs ls (by omega) (lwI_0 hv1 hv2) hP hD hS hl
        · refine lv_tableIn (tgt := 117) hx hb dL_law_31 (by decide) (by decide) rfl (by decide) ?_
          have hx1 := uI_lt (xs (i + 1))
          obtain ⟨x1, e1⟩ : ∃ x1, x1 = uI (xs (i + 1)) := ⟨_, rfl⟩
          rw [← e1] at hx1
          obtain ⟨mi, M, m1, m2, m3, m4, m5, m6⟩ := lwI_sum hI (by omega)
          refine lv_aload_n hx hb dL_law_117 rfl (lv_at hl 1 rfl) ?_
          refine lv_aload_n hx hb dL_law_118 rfl (lv_at hl 0 rfl) ?_
          refine lv_iload_n hx hb dL_law_119 rfl (lv_at hl 3 rfl) ?_
          refine lv_iconst (v := nI 1) hx hb dL_law_120 (by decide +kernel) ?_
          refine lv_iadd hx hb dL_law_121 ?_
          refine x_toi (nI (i + 1)) (nI_add i 1) ?_
          refine x_sld hx hb hX hbl hbA hS (k := i + 1) (by omega) (by omega) dL_law_122 ?_
          refine x_toi (nI x1) (by rw [e1]; exact (nI_uI _).symm) ?_
          refine x_callF_l (As := [.int (nI x1)]) (rest := []) (ci := 0) (q0 := 0) (wr := wX1 p1 a1 b1 d3 d4 f' g' (nI n) (bI om)) ⟨hx, hb, hml, hown, hts⟩ (metX0_sum l D d1 d2 p0 a0 b0 _ f g (nI n) (nI k) x1 n k M mi hx1 (by omega) (by have := hI.1; omega) rfl rfl m1 m3 m4) (cwV 1 hts (lw_V q58 q59 q60 q11 q61) rfl rfl rfl (by decide +kernel) ⟨Nat.le_of_ble_eq_true rfl, Nat.le_of_ble_eq_true rfl⟩) hK0 hP hD hS hA [0, 1, 2] [3, 4, 5] rfl rfl rfl rfl (by decide) rfl rfl rfl hl.1 rfl (Nat.le_of_ble_eq_true rfl) dL_law_123 ⟨Nat.le_of_ble_eq_true rfl, Nat.le_of_ble_eq_true rfl⟩ (fun r0 u0 H locs hp0 hP hD hS => ?_)
          obtain ⟨rfl, g1, rfl⟩ := hp0
          refine lv_aload_n hx hb dL_law_126 rfl (lv_at hl 2 rfl) ?_
          refine lv_aload_n hx hb dL_law_127 rfl (lv_at hl 0 rfl) ?_
          refine lv_iload_n hx hb dL_law_128 rfl (lv_at hl 3 rfl) ?_
          refine lv_iconst (v := nI 1) hx hb dL_law_129 (by decide +kernel) ?_
          refine lv_iadd hx hb dL_law_130 ?_
          refine x_toi (nI (i + 1)) (nI_add i 1) ?_
          refine x_sld hx hb hX hbl hbA hS (k := i + 1) (by omega) (by omega) dL_law_131 ?_
          refine x_toi (nI x1) (by rw [e1]; exact (nI_uI _).symm) ?_
          refine x_callF_l (As := [.int (nI x1)]) (rest := [.long _]) (ci := 1) (q0 := 0) (wr := wX0 p0 a0 b0 d1 d2 f g1 (nI n) (nI k)) ⟨hx, hb, hml, hown, hts⟩ (metX1_sum l D d3 d4 p1 a1 b1 _ f' g' (nI n) (bI om) x1 n M mi om hx1 (by omega) rfl rfl hI.2.2.1 m2 m5 m6) (cwV 1 hts (lw_V q134 q135 q136 q12 q137) rfl rfl rfl (by decide +kernel) ⟨Nat.le_of_ble_eq_true rfl, Nat.le_of_ble_eq_true rfl⟩) hK1 hP hD hS hA [0, 1, 2] [3, 4, 5] rfl rfl rfl rfl (by decide) rfl rfl rfl hl.1 rfl (Nat.le_of_ble_eq_true rfl) dL_law_132 ⟨Nat.le_of_ble_eq_true rfl, Nat.le_of_ble_eq_true rfl⟩ (fun r1 u1 H locs hp1 hP hD hS => ?_)
          obtain ⟨rfl, g2, rfl⟩ := hp1
          refine W.lcmp hx hb dL_law_135 ?_
          refine lv_if_eq (tgt := 141) hx hb dL_law_136 (by decide) (fun _ => ?_) (fun c_ => absurd c_ (not_not_intro ((lg_cmp_eq _ _).mpr (by rw [zflag hI.2.1]))))
          exact K141 n k om f g1 f' g2 H locs ls (by omega) hI hP hD hS hl
  refine W.widen (k := 6) (n := 414) (by decide) (by decide) ?_
  exact loop (L + 1) 0 0 0 true (fun _ => 0) (fun _ => 0) (fun _ => 0) (fun _ => 0) H locs ls (Nat.zero_le _) (by omega) (Nat.le_refl _) (lwI_0 (by rw [show vW (fun _ => 0) 67 = dv 32 (fun _ => 0) 67 from rfl]; exact dv_const0 _ _) (by rw [show vH (fun _ => 0) 136 = dv 16 (fun _ => 0) 136 from rfl]; exact dv_const0 _ _)) hP hD hS (lv_sub hl [3, 2, 1, 0] rfl)
set_option maxHeartbeats 4000000 in
theorem lw_walk (l : Launch) (b : Addr) (xs : List Int32) : MetFree l x (headSpec (Jvm.Cond.code x code maxLocals ret :: tables_1) room_1) (lw_P b xs) (fun _ _ _ _ _ => True) lw_Q := by
  refine MetFree.of_bodyS (code := code) (maxLocals := maxLocals) (ret := ret) (by decide) ?_ ?_
  · intro args s m h hn
    obtain ⟨meth, c, h1, h2, h3, h4, h5, h6, -, -⟩ := Cond.code_spec hn (atoms_spec (ws := Jvm.Cond.code x code maxLocals ret :: tables_1) h _ List.mem_cons_self)
    exact ⟨meth, c, h1, h2, h3, h4, h5, h6⟩
  · intro p e s m args below meth c s₁ B hml0 hP _
    obtain ⟨rfl, hx, hbd, hgv⟩ := hP
    obtain ⟨scr, harrAt, hlist, hof, hsmall⟩ := hx
    obtain ⟨hcb, hkn, -, -⟩ := State.arrayAt?_spec harrAt
    have hown : s.vm.findClass R_law = some m.cls := findClass_of_methodNamed B.named
    have hts0 : ∀ c ∈ (Jvm.Cond.code x code maxLocals ret :: tables_1), c.before #[Value.ref b] s = true := atoms_spec (ws := Jvm.Cond.code x code maxLocals ret :: tables_1) B.pre
    have hts : ∀ w ∈ lw_tbl, w.before #[Value.ref b] s = true := k2_hts_sels lw_privs (fun w hw => hts0 w (List.mem_cons_of_mem _ hw)) lw_privs_ok
    have hml : c.maxLocals = 4 := B.maxLocals_eq (hts0 _ List.mem_cons_self)
    have X₀ : Stand p l e room_1 s m #[Value.ref b] below meth c s₁ [] 0 0 := Stand.of_body B
    have hh0 : s₁.heap = s.heap := by rw [B.state]; rfl
    have hsz : scr.slots.size = xs.length := by rw [← Array.length_toList, hlist, List.length_map]
    have hval : ∀ j : Nat, j < xs.length → scr.slots[j]? = some (.int (xs.getD j 0)) := fun j hj => by
      rw [← Array.getElem?_toList, hlist]
      simp [hj]
    have hbl : b < s.heap.size := (Array.getElem?_eq_some_iff.mp hcb).1
    have hX : va_X b xs.length (fun j => xs.getD j 0) s s.heap := ⟨scr, hcb, hof, hkn, hsz, hval⟩
    have K : W p l e room_1 s m #[Value.ref b] below meth c s₁.heap [] 0 0 (lw_Z below #[Value.ref b] s) (entryFrame m ([Value.ref b] : List Value).toArray 4) := by
      rw [hh0]
      exact whole_start l hbd ⟨B.exec, B.bytes, B.returns, hml, hown, hts, hX, hbl, B.notSynchronized, hgv⟩
    obtain ⟨t, a1, o, b1, b2, b3⟩ := K s₁ rfl X₀
    exact ⟨t, o, a1, b1, b2, b3⟩
theorem lw_pre_spec {args : Array Value} {s : State} (h : (Jvm.Cond.and given_1 narrow_1).before args s = true) (hr : rest_1_c.before args s = true) : ∃ (b : Addr) (xs : List Int32), lw_P b xs args s := by
  have hs := flat_of_before _ h
  have hq := flat_of_before _ hr
  have hc : (Cond.count 1).before args s = true := hs _ (by decide +kernel)
  have harr : (Cond.arrayOf (.arg 0) .int).before args s = true := hs _ (by decide +kernel)
  have hle : (Cond.le (.length (.arg 0)) (.int 192)).before args s = true := hs _ (by decide +kernel)
  have hlen : (Cond.isInt (.length (.arg 0))).before args s = true := hq _ (by decide +kernel)
  have hall : (Cond.all (.arg 0) (.isInt (.elem (.arg 0) (.index 0)))).before args s = true := hq _ (by decide +kernel)
  obtain ⟨b, xs, hb, hx⟩ := State.ints_of_pre rfl harr hlen hall
  have hsm : xs.length < 2 ^ 31 := hx.choose_spec.2.2.2
  have hev : (Term.length (.arg 0)).eval args s none [] s = some (.int xs.length.toInt32) := hx.length_eval hb
  have hv := Cond.le_ints hev (show (Term.int 192).eval args s none [] s = some (.int 192) from rfl)
  have hd : xs.length.toInt32 ≤ 192 := by
    simpa [Cond.before, Cond.holds, hv] using hle
  have hN : xs.length ≤ 192 := (Int32.ofNat_le_ofNat hsm (by decide)).mp (show Int32.ofNat xs.length ≤ Int32.ofNat 192 from hd)
  exact ⟨b, xs, Cond.one_arg hc (show args[0]? = some (.ref b) from hb), hx, hN, h⟩
theorem lw_comes (l : Launch) : Comes l x (Jvm.Cond.code x code maxLocals ret :: tables_1) room_1 (fun tb e args s => Calls_1 tb e args s ∧ rest_1 tb e args s ∧ Pre_1 tb e args s)
    (fun _ _ args s o t => lw_Q args s o t) := by
  intro p e ha hc hk s m args below hf hfit hheap happ hpre
  obtain ⟨b, xs, hP⟩ := lw_pre_spec hpre.2.2 hpre.2.1
  obtain ⟨k, o, h1, h2, h3, hQ⟩ := lw_walk l b xs p e ha hc hk s m args below hf ((Spec.applies_iff_loose hf).mp happ).1 hP trivial
  exact ⟨k, o, h1, h2, h3, hQ⟩
theorem lw_frame {s t : State} {o : Outcome} {args : Array Value} (h : Framed s o t [] 600000 7290000) :
    Framed s o t (fieldLocs frame_1_writes args s ++ arrayLocs frame_1_arrays args s ++ staticLocs frame_1_statics s) 600000 7290000 := h
theorem lw_limb (L : Cond) (hL : ∀ (args : Array Value) (s t : State), L.after args s (.returned (some (.int 1))) t = true) :
    ArmFor flags0 classFile x code maxLocals ret World_1 tables_1 room_1 Calls_1 rest_1 Pre_1
      (fun tb e a s o t => postC L tb e a s o t ∧ Framed s o t (fieldLocs frame_1_writes a s ++ arrayLocs frame_1_arrays a s ++ staticLocs frame_1_statics s) 600000 7290000) := by
  intro l _ _ _ p e ha hc hk s m args below hf hfit hheap happ hpre
  obtain ⟨k, o, h1, h2, h3, rfl, hF⟩ := lw_comes l p e ha hc hk s m args below hf hfit hheap happ hpre
  exact ⟨k, _, h1, h2, h3, hL args s _, lw_frame hF⟩
theorem i_vc : Claimed_1_1 ∧ Claimed_1_2 := ⟨lw_limb limb_1_1 (fun args s t => by simp [limb_1_1, Cond.after, Cond.holds, Cond.value]), lw_limb limb_1_2 (fun args s t => Cond.after_iff.mpr (by
  first | (rw [show limb_1_2 = Cond.eq .result (.int 1) from rfl, Cond.eq_ints (x := 1) (y := 1) rfl rfl]; simp; done) | (simp [limb_1_2, Cond.value, Term.eval]; done)))⟩
end
