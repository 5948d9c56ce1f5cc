section
-- ===== PART A: goes FIRST, ahead of the names: the tables' words, and 'selects' of the private methods out of them =====
/-- a private method of a class that the tables say can be made, by its rows of tables_1 -/
def lw_okq (q : MethodName × Nat) : Prop := (q.1.cls ≠ "java/lang/invoke/MethodHandle" ∧ q.1.cls ≠ "java/lang/invoke/VarHandle") ∧ Cond.instantiable q.1.cls q.2 ∈ tables_1 ∧ Cond.privateMethod q.1 ∈ tables_1 ∧ Cond.instanceMethod q.1 ∈ tables_1
set_option maxRecDepth 100000
theorem lw_p0 : lw_okq (⟨"RingProver", "push", "(J)I"⟩, 2) := ⟨⟨by decide +kernel, by decide +kernel⟩, List.mem_of_getElem? (i := 4) rfl, List.mem_of_getElem? (i := 24) rfl, List.mem_of_getElem? (i := 25) rfl⟩
theorem lw_p1 : lw_okq (⟨"RingProver", "isFormula", "(I)Z"⟩, 2) := ⟨⟨by decide +kernel, by decide +kernel⟩, List.mem_of_getElem? (i := 4) rfl, List.mem_of_getElem? (i := 63) rfl, List.mem_of_getElem? (i := 64) rfl⟩
theorem lw_p2 : lw_okq (⟨"RingProverModel", "push", "(J)I"⟩, 2) := ⟨⟨by decide +kernel, by decide +kernel⟩, List.mem_of_getElem? (i := 102) rfl, List.mem_of_getElem? (i := 119) rfl, List.mem_of_getElem? (i := 120) rfl⟩
theorem lw_p3 : lw_okq (⟨"RingProverModel", "missing", "(I)Z"⟩, 2) := ⟨⟨by decide +kernel, by decide +kernel⟩, List.mem_of_getElem? (i := 102) rfl, List.mem_of_getElem? (i := 146) rfl, List.mem_of_getElem? (i := 147) rfl⟩
theorem lw_p4 : lw_okq (⟨"RingProverModel", "found", "(I)J"⟩, 2) := ⟨⟨by decide +kernel, by decide +kernel⟩, List.mem_of_getElem? (i := 102) rfl, List.mem_of_getElem? (i := 162) rfl, List.mem_of_getElem? (i := 163) rfl⟩
def lw_privs_1 : List (MethodName × Nat) := [(⟨"RingProver", "push", "(J)I"⟩, 2), (⟨"RingProver", "isFormula", "(I)Z"⟩, 2), (⟨"RingProverModel", "push", "(J)I"⟩, 2), (⟨"RingProverModel", "missing", "(I)Z"⟩, 2), (⟨"RingProverModel", "found", "(I)J"⟩, 2)]
theorem lw_r1 : ∀ q ∈ lw_privs_1, lw_okq q := List.forall_mem_cons.mpr ⟨lw_p0, List.forall_mem_cons.mpr ⟨lw_p1, List.forall_mem_cons.mpr ⟨lw_p2, List.forall_mem_cons.mpr ⟨lw_p3, List.forall_mem_cons.mpr ⟨lw_p4, fun _ h => absurd h List.not_mem_nil⟩⟩⟩⟩⟩
def lw_privs : List (MethodName × Nat) := lw_privs_1
def lw_tbl : List Cond := k2_sels lw_privs ++ tables_1
theorem lw_privs_ok : ∀ q ∈ lw_privs, lw_okq q := lw_r1
-- ===== ONE list of words for every method: the tables' words that hold all through a run =====
def lw_all : List Cond := lw_tbl.filter goodWord
/-- a word of the tables by its place: claim/WORDS.tsv -/
theorem lw_w {w : Cond} (i : Nat) (h : lw_tbl[i]? = some w) (g : goodWord w = true) : w ∈ lw_all := List.mem_filter.mpr ⟨List.mem_of_getElem? h, g⟩
theorem lw_all_tbl {w : Cond} (h : w ∈ lw_all) : w ∈ lw_tbl := (List.mem_filter.mp h).1
theorem lw_self : GoodIn lw_all lw_all := fun w h => ⟨h, good_of_word (List.mem_filter.mp h).2⟩
/-- a class's field words, by their places -/
theorem lw_in (ws : List Cond) (ps : List Nat) (hp : ws = ps.filterMap (fun i => lw_tbl[i]?)) (hg : ws.all goodWord = true) : ∀ w ∈ ws, w ∈ lw_all := by
  intro w h
  have h1 := List.all_eq_true.mp hg w h
  rw [hp] at h
  obtain ⟨i, -, hi⟩ := List.mem_filterMap.mp h
  exact lw_w i hi h1
/-- the words of a contract for the method y with code b, L locals, answer r -/
abbrev ws_ (y : MethodName) (b : ByteArray) (L : Nat) (r : Option FieldType) : List Cond := Cond.code y b L r :: lw_all
theorem lw_meth {y : MethodName} {b : ByteArray} {L : Nat} {r : Option FieldType} (h : Cond.code y b L r ∈ lw_all) : GoodIn lw_all (ws_ y b L r) := by
  intro w hw
  rcases List.mem_cons.mp hw with e | e
  · rw [e]
    exact lw_self _ h
  · exact lw_self _ e
theorem lw_app {a c : List Cond} (ha : ∀ w ∈ a, w ∈ lw_all) (hc : GoodIn lw_all c) : GoodIn lw_all (a ++ c) := by
  intro w hw
  rcases List.mem_append.mp hw with e | e
  · exact lw_self w (ha w e)
  · exact hc w e
/-- what a call through an object asks: cwV n hts (lw_V ..) -/
theorem lw_V {own : String} {idx : Nat} {C : String} {y : MethodName} {b : ByteArray} {L : Nat} {r : Option FieldType} (h1 : Cond.methodLink own idx y ∈ lw_all) (h2 : Cond.instanceMethod y ∈ lw_all) (h3 : Cond.selects C y y ∈ lw_all) (h4 : Cond.initialized C ∈ lw_all) (h5 : Cond.code y b L r ∈ lw_all) : GoodIn lw_all (wsV own idx C y (ws_ y b L r)) := by
  refine lw_app ?_ (lw_meth h5)
  intro w hw
  simp only [List.mem_cons, List.not_mem_nil, or_false] at hw
  rcases hw with e | e | e | e
  · rw [e]; exact h1
  · rw [e]; exact h2
  · rw [e]; exact h3
  · rw [e]; exact h4
/-- what a static call asks: va_cwS n hts (lw_S ..) -/
theorem lw_S {own : String} {idx : Nat} {y : MethodName} {b : ByteArray} {L : Nat} {r : Option FieldType} (h1 : Cond.methodLink own idx y ∈ lw_all) (h2 : Cond.static y ∈ lw_all) (h3 : Cond.initialized y.cls ∈ lw_all) (h4 : Cond.code y b L r ∈ lw_all) : GoodIn lw_all (va_wsS own idx y (ws_ y b L r)) := by
  refine lw_app ?_ (lw_meth h4)
  intro w hw
  simp only [List.mem_cons, List.not_mem_nil, or_false] at hw
  rcases hw with e | e | e
  · rw [e]; exact h1
  · rw [e]; exact h2
  · rw [e]; exact h3
/-- the words of a contract for a method WITH HANDLERS (hh: its table) -/
abbrev wsW_ (y : MethodName) (b : ByteArray) (L : Nat) (r : Option FieldType) (hh : List (Nat × Nat × Nat × Nat)) : List Cond := Cond.codeWith y b L r hh :: lw_all
theorem lw_methW {y : MethodName} {b : ByteArray} {L : Nat} {r : Option FieldType} {hh : List (Nat × Nat × Nat × Nat)} (h : Cond.codeWith y b L r hh ∈ lw_all) : GoodIn lw_all (wsW_ y b L r hh) := by
  intro w hw
  rcases List.mem_cons.mp hw with e | e
  · rw [e]
    exact lw_self _ h
  · exact lw_self _ e
/-- any list of words by their places (lw_in), good -/
theorem lw_good {ws : List Cond} (h : ∀ w ∈ ws, w ∈ lw_all) : GoodIn lw_all ws := fun w hw => lw_self w (h w hw)
/-- what a call of a method with handlers asks: vx_cwVW n hts (lw_VW ..), vx_cwSW n hts (lw_SW ..) -/
theorem lw_VW {own : String} {idx : Nat} {C : String} {y : MethodName} {b : ByteArray} {L : Nat} {r : Option FieldType} {hh : List (Nat × Nat × Nat × Nat)} (h1 : Cond.methodLink own idx y ∈ lw_all) (h2 : Cond.instanceMethod y ∈ lw_all) (h3 : Cond.selects C y y ∈ lw_all) (h4 : Cond.initialized C ∈ lw_all) (h5 : Cond.codeWith y b L r hh ∈ lw_all) : GoodIn lw_all (wsV own idx C y (wsW_ y b L r hh)) := by
  refine lw_app ?_ (lw_methW h5)
  intro w hw
  simp only [List.mem_cons, List.not_mem_nil, or_false] at hw
  rcases hw with e | e | e | e
  · rw [e]; exact h1
  · rw [e]; exact h2
  · rw [e]; exact h3
  · rw [e]; exact h4
theorem lw_SW {own : String} {idx : Nat} {y : MethodName} {b : ByteArray} {L : Nat} {r : Option FieldType} {hh : List (Nat × Nat × Nat × Nat)} (h1 : Cond.methodLink own idx y ∈ lw_all) (h2 : Cond.static y ∈ lw_all) (h3 : Cond.initialized y.cls ∈ lw_all) (h4 : Cond.codeWith y b L r hh ∈ lw_all) : GoodIn lw_all (va_wsS own idx y (wsW_ y b L r hh)) := by
  refine lw_app ?_ (lw_methW h4)
  intro w hw
  simp only [List.mem_cons, List.not_mem_nil, or_false] at hw
  rcases hw with e | e | e
  · rw [e]; exact h1
  · rw [e]; exact h2
  · rw [e]; exact h3
/-- a word by its place in its run of the tables -/
theorem lw_at {r : List Cond} (hr : ∀ w ∈ r, w ∈ lw_tbl) {w : Cond} (i : Nat) (h : r[i]? = some w) : w ∈ lw_tbl := hr w (List.mem_of_getElem? h)
theorem lw_g {w : Cond} (h : w ∈ lw_tbl) (g : goodWord w = true) : w ∈ lw_all := List.mem_filter.mpr ⟨h, g⟩
theorem lw_ms : ∀ w ∈ k2_sels lw_privs, w ∈ lw_tbl := fun w h => show w ∈ k2_sels lw_privs ++ tables_1 from List.mem_append_left _ h
theorem lw_m0 : ∀ w ∈ tables_1, w ∈ lw_tbl := fun w h => show w ∈ k2_sels lw_privs ++ tables_1 from List.mem_append_right (k2_sels lw_privs) h
theorem qs0 : (Cond.selects "RingProver" ⟨"RingProver", "push", "(J)I"⟩ ⟨"RingProver", "push", "(J)I"⟩) ∈ lw_all := lw_g (lw_at lw_ms 0 rfl) rfl
theorem qs1 : (Cond.selects "RingProver" ⟨"RingProver", "isFormula", "(I)Z"⟩ ⟨"RingProver", "isFormula", "(I)Z"⟩) ∈ lw_all := lw_g (lw_at lw_ms 1 rfl) rfl
theorem qs2 : (Cond.selects "RingProverModel" ⟨"RingProverModel", "push", "(J)I"⟩ ⟨"RingProverModel", "push", "(J)I"⟩) ∈ lw_all := lw_g (lw_at lw_ms 2 rfl) rfl
theorem qs3 : (Cond.selects "RingProverModel" ⟨"RingProverModel", "missing", "(I)Z"⟩ ⟨"RingProverModel", "missing", "(I)Z"⟩) ∈ lw_all := lw_g (lw_at lw_ms 3 rfl) rfl
theorem qs4 : (Cond.selects "RingProverModel" ⟨"RingProverModel", "found", "(I)J"⟩ ⟨"RingProverModel", "found", "(I)J"⟩) ∈ lw_all := lw_g (lw_at lw_ms 4 rfl) rfl
end
section
/-! RingProver -/
set_option maxRecDepth 100000
def RX0 : String := "RingProver"
def TX0 : u_T := fun k => match k with
  | 0 => ("RingProver", "depth", "I", false)
  | _ => ("RingProver", "sum", "[J", true)
def tyX0 : Nat → FieldType := fun k => match k with
  | 0 => .int
  | _ => .array .long
abbrev wsX00 : List Cond := u_ws RX0 TX0 2
theorem nmX0 : ∀ a, a < 2 → ∀ b, b < 2 → a ≠ b → (TX0 a).2.1 ≠ (TX0 b).2.1 := by decide +kernel
theorem tyX0_ok : ∀ k, k < 2 → parseFieldDescriptor (TX0 k).2.2.1 = some (tyX0 k) := by decide +kernel
abbrev cX0_init : ByteArray := prog_1_method_1_code
def yX0_init : MethodName := ⟨RX0, "<init>", "()V"⟩
theorem dX0_init_0 : decode cX0_init 0 = .ok (.aload_n 0, 1) := by decide +kernel
theorem dX0_init_1 : decode cX0_init 1 = .ok (.invokespecial 1, 3) := by decide +kernel
theorem dX0_init_4 : decode cX0_init 4 = .ok (.aload_n 0, 1) := by decide +kernel
theorem dX0_init_5 : decode cX0_init 5 = .ok (.bipush 12, 2) := by decide +kernel
theorem dX0_init_7 : decode cX0_init 7 = .ok (.newarray .long, 2) := by decide +kernel
theorem dX0_init_9 : decode cX0_init 9 = .ok (.putfield 7, 3) := by decide +kernel
theorem dX0_init_12 : decode cX0_init 12 = .ok (.return_, 1) := by decide +kernel
abbrev cX0_variable : ByteArray := prog_1_method_2_code
def yX0_variable : MethodName := ⟨RX0, "variable", "(I)I"⟩
theorem dX0_variable_0 : decode cX0_variable 0 = .ok (.iload_n 1, 1) := by decide +kernel
theorem dX0_variable_1 : decode cX0_variable 1 = .ok (.ifCond .lt 17, 3) := by decide +kernel
theorem dX0_variable_4 : decode cX0_variable 4 = .ok (.iload_n 1, 1) := by decide +kernel
theorem dX0_variable_5 : decode cX0_variable 5 = .ok (.iconst 5, 1) := by decide +kernel
theorem dX0_variable_6 : decode cX0_variable 6 = .ok (.if_icmp .gt 12, 3) := by decide +kernel
theorem dX0_variable_9 : decode cX0_variable 9 = .ok (.aload_n 0, 1) := by decide +kernel
theorem dX0_variable_10 : decode cX0_variable 10 = .ok (.getfield 13, 3) := by decide +kernel
theorem dX0_variable_13 : decode cX0_variable 13 = .ok (.bipush 12, 2) := by decide +kernel
theorem dX0_variable_15 : decode cX0_variable 15 = .ok (.if_icmp .lt 5, 3) := by decide +kernel
theorem dX0_variable_18 : decode cX0_variable 18 = .ok (.iconst (-1), 1) := by decide +kernel
theorem dX0_variable_19 : decode cX0_variable 19 = .ok (.ireturn, 1) := by decide +kernel
theorem dX0_variable_20 : decode cX0_variable 20 = .ok (.aload_n 0, 1) := by decide +kernel
theorem dX0_variable_21 : decode cX0_variable 21 = .ok (.lconst 1, 1) := by decide +kernel
theorem dX0_variable_22 : decode cX0_variable 22 = .ok (.iconst 1, 1) := by decide +kernel
theorem dX0_variable_23 : decode cX0_variable 23 = .ok (.iload_n 1, 1) := by decide +kernel
theorem dX0_variable_24 : decode cX0_variable 24 = .ok (.ishl, 1) := by decide +kernel
theorem dX0_variable_25 : decode cX0_variable 25 = .ok (.lshl, 1) := by decide +kernel
theorem dX0_variable_26 : decode cX0_variable 26 = .ok (.invokevirtual 17, 3) := by decide +kernel
theorem dX0_variable_29 : decode cX0_variable 29 = .ok (.ireturn, 1) := by decide +kernel
abbrev cX0_push : ByteArray := prog_1_method_15_code
def yX0_push : MethodName := ⟨RX0, "push", "(J)I"⟩
theorem dX0_push_0 : decode cX0_push 0 = .ok (.aload_n 0, 1) := by decide +kernel
theorem dX0_push_1 : decode cX0_push 1 = .ok (.getfield 7, 3) := by decide +kernel
theorem dX0_push_4 : decode cX0_push 4 = .ok (.aload_n 0, 1) := by decide +kernel
theorem dX0_push_5 : decode cX0_push 5 = .ok (.getfield 13, 3) := by decide +kernel
theorem dX0_push_8 : decode cX0_push 8 = .ok (.lload_n 1, 1) := by decide +kernel
theorem dX0_push_9 : decode cX0_push 9 = .ok (.lastore, 1) := by decide +kernel
theorem dX0_push_10 : decode cX0_push 10 = .ok (.aload_n 0, 1) := by decide +kernel
theorem dX0_push_11 : decode cX0_push 11 = .ok (.dup, 1) := by decide +kernel
theorem dX0_push_12 : decode cX0_push 12 = .ok (.getfield 13, 3) := by decide +kernel
theorem dX0_push_15 : decode cX0_push 15 = .ok (.iconst 1, 1) := by decide +kernel
theorem dX0_push_16 : decode cX0_push 16 = .ok (.iadd, 1) := by decide +kernel
theorem dX0_push_17 : decode cX0_push 17 = .ok (.putfield 13, 3) := by decide +kernel
theorem dX0_push_20 : decode cX0_push 20 = .ok (.aload_n 0, 1) := by decide +kernel
theorem dX0_push_21 : decode cX0_push 21 = .ok (.getfield 13, 3) := by decide +kernel
theorem dX0_push_24 : decode cX0_push 24 = .ok (.ireturn, 1) := by decide +kernel
abbrev cX0_constant : ByteArray := prog_1_method_3_code
def yX0_constant : MethodName := ⟨RX0, "constant", "(I)I"⟩
theorem dX0_constant_0 : decode cX0_constant 0 = .ok (.aload_n 0, 1) := by decide +kernel
theorem dX0_constant_1 : decode cX0_constant 1 = .ok (.getfield 13, 3) := by decide +kernel
theorem dX0_constant_4 : decode cX0_constant 4 = .ok (.bipush 12, 2) := by decide +kernel
theorem dX0_constant_6 : decode cX0_constant 6 = .ok (.if_icmp .lt 5, 3) := by decide +kernel
theorem dX0_constant_9 : decode cX0_constant 9 = .ok (.iconst (-1), 1) := by decide +kernel
theorem dX0_constant_10 : decode cX0_constant 10 = .ok (.ireturn, 1) := by decide +kernel
theorem dX0_constant_11 : decode cX0_constant 11 = .ok (.aload_n 0, 1) := by decide +kernel
theorem dX0_constant_12 : decode cX0_constant 12 = .ok (.iload_n 1, 1) := by decide +kernel
theorem dX0_constant_13 : decode cX0_constant 13 = .ok (.iconst 1, 1) := by decide +kernel
theorem dX0_constant_14 : decode cX0_constant 14 = .ok (.iand, 1) := by decide +kernel
theorem dX0_constant_15 : decode cX0_constant 15 = .ok (.i2l, 1) := by decide +kernel
theorem dX0_constant_16 : decode cX0_constant 16 = .ok (.invokevirtual 17, 3) := by decide +kernel
theorem dX0_constant_19 : decode cX0_constant 19 = .ok (.ireturn, 1) := by decide +kernel
abbrev cX0_join : ByteArray := prog_1_method_4_code
def yX0_join : MethodName := ⟨RX0, "join", "(I)I"⟩
theorem dX0_join_0 : decode cX0_join 0 = .ok (.iload_n 1, 1) := by decide +kernel
theorem dX0_join_1 : decode cX0_join 1 = .ok (.ifCond .lt 16, 3) := by decide +kernel
theorem dX0_join_4 : decode cX0_join 4 = .ok (.iload_n 1, 1) := by decide +kernel
theorem dX0_join_5 : decode cX0_join 5 = .ok (.iconst 5, 1) := by decide +kernel
theorem dX0_join_6 : decode cX0_join 6 = .ok (.if_icmp .gt 11, 3) := by decide +kernel
theorem dX0_join_9 : decode cX0_join 9 = .ok (.aload_n 0, 1) := by decide +kernel
theorem dX0_join_10 : decode cX0_join 10 = .ok (.getfield 13, 3) := by decide +kernel
theorem dX0_join_13 : decode cX0_join 13 = .ok (.iconst 2, 1) := by decide +kernel
theorem dX0_join_14 : decode cX0_join 14 = .ok (.if_icmp .ge 5, 3) := by decide +kernel
theorem dX0_join_17 : decode cX0_join 17 = .ok (.iconst (-1), 1) := by decide +kernel
theorem dX0_join_18 : decode cX0_join 18 = .ok (.ireturn, 1) := by decide +kernel
theorem dX0_join_19 : decode cX0_join 19 = .ok (.aload_n 0, 1) := by decide +kernel
theorem dX0_join_20 : decode cX0_join 20 = .ok (.getfield 7, 3) := by decide +kernel
theorem dX0_join_23 : decode cX0_join 23 = .ok (.aload_n 0, 1) := by decide +kernel
theorem dX0_join_24 : decode cX0_join 24 = .ok (.getfield 13, 3) := by decide +kernel
theorem dX0_join_27 : decode cX0_join 27 = .ok (.iconst 2, 1) := by decide +kernel
theorem dX0_join_28 : decode cX0_join 28 = .ok (.isub, 1) := by decide +kernel
theorem dX0_join_29 : decode cX0_join 29 = .ok (.laload, 1) := by decide +kernel
theorem dX0_join_30 : decode cX0_join 30 = .ok (.lstore_n 2, 1) := by decide +kernel
theorem dX0_join_31 : decode cX0_join 31 = .ok (.aload_n 0, 1) := by decide +kernel
theorem dX0_join_32 : decode cX0_join 32 = .ok (.getfield 7, 3) := by decide +kernel
theorem dX0_join_35 : decode cX0_join 35 = .ok (.aload_n 0, 1) := by decide +kernel
theorem dX0_join_36 : decode cX0_join 36 = .ok (.getfield 13, 3) := by decide +kernel
theorem dX0_join_39 : decode cX0_join 39 = .ok (.iconst 1, 1) := by decide +kernel
theorem dX0_join_40 : decode cX0_join 40 = .ok (.isub, 1) := by decide +kernel
theorem dX0_join_41 : decode cX0_join 41 = .ok (.laload, 1) := by decide +kernel
theorem dX0_join_42 : decode cX0_join 42 = .ok (.lstore 4, 2) := by decide +kernel
theorem dX0_join_44 : decode cX0_join 44 = .ok (.aload_n 0, 1) := by decide +kernel
theorem dX0_join_45 : decode cX0_join 45 = .ok (.dup, 1) := by decide +kernel
theorem dX0_join_46 : decode cX0_join 46 = .ok (.getfield 13, 3) := by decide +kernel
theorem dX0_join_49 : decode cX0_join 49 = .ok (.iconst 2, 1) := by decide +kernel
theorem dX0_join_50 : decode cX0_join 50 = .ok (.isub, 1) := by decide +kernel
theorem dX0_join_51 : decode cX0_join 51 = .ok (.putfield 13, 3) := by decide +kernel
theorem dX0_join_54 : decode cX0_join 54 = .ok (.iload_n 1, 1) := by decide +kernel
theorem dX0_join_55 : decode cX0_join 55 = .ok (.lload_n 2, 1) := by decide +kernel
theorem dX0_join_56 : decode cX0_join 56 = .ok (.lload 4, 2) := by decide +kernel
theorem dX0_join_58 : decode cX0_join 58 = .ok (.invokestatic 21, 3) := by decide +kernel
theorem dX0_join_61 : decode cX0_join 61 = .ok (.lstore 6, 2) := by decide +kernel
theorem dX0_join_63 : decode cX0_join 63 = .ok (.aload_n 0, 1) := by decide +kernel
theorem dX0_join_64 : decode cX0_join 64 = .ok (.lload 6, 2) := by decide +kernel
theorem dX0_join_66 : decode cX0_join 66 = .ok (.invokevirtual 17, 3) := by decide +kernel
theorem dX0_join_69 : decode cX0_join 69 = .ok (.ireturn, 1) := by decide +kernel
abbrev cX0_combine : ByteArray := prog_1_method_16_code
def yX0_combine : MethodName := ⟨RX0, "combine", "(IJJ)J"⟩
theorem dX0_combine_0 : decode cX0_combine 0 = .ok (.iload_n 0, 1) := by decide +kernel
theorem dX0_combine_1 : decode cX0_combine 1 = .ok (.iconst 2, 1) := by decide +kernel
theorem dX0_combine_2 : decode cX0_combine 2 = .ok (.if_icmp .ne 7, 3) := by decide +kernel
theorem dX0_combine_5 : decode cX0_combine 5 = .ok (.lload_n 1, 1) := by decide +kernel
theorem dX0_combine_6 : decode cX0_combine 6 = .ok (.lload_n 3, 1) := by decide +kernel
theorem dX0_combine_7 : decode cX0_combine 7 = .ok (.lxor, 1) := by decide +kernel
theorem dX0_combine_8 : decode cX0_combine 8 = .ok (.lreturn, 1) := by decide +kernel
theorem dX0_combine_9 : decode cX0_combine 9 = .ok (.iload_n 0, 1) := by decide +kernel
theorem dX0_combine_10 : decode cX0_combine 10 = .ok (.iconst 3, 1) := by decide +kernel
theorem dX0_combine_11 : decode cX0_combine 11 = .ok (.if_icmp .ne 9, 3) := by decide +kernel
theorem dX0_combine_14 : decode cX0_combine 14 = .ok (.lload_n 1, 1) := by decide +kernel
theorem dX0_combine_15 : decode cX0_combine 15 = .ok (.lload_n 3, 1) := by decide +kernel
theorem dX0_combine_16 : decode cX0_combine 16 = .ok (.lxor, 1) := by decide +kernel
theorem dX0_combine_17 : decode cX0_combine 17 = .ok (.lconst 1, 1) := by decide +kernel
theorem dX0_combine_18 : decode cX0_combine 18 = .ok (.lxor, 1) := by decide +kernel
theorem dX0_combine_19 : decode cX0_combine 19 = .ok (.lreturn, 1) := by decide +kernel
theorem dX0_combine_20 : decode cX0_combine 20 = .ok (.lload_n 1, 1) := by decide +kernel
theorem dX0_combine_21 : decode cX0_combine 21 = .ok (.lload_n 3, 1) := by decide +kernel
theorem dX0_combine_22 : decode cX0_combine 22 = .ok (.invokestatic 35, 3) := by decide +kernel
theorem dX0_combine_25 : decode cX0_combine 25 = .ok (.lstore 5, 2) := by decide +kernel
theorem dX0_combine_27 : decode cX0_combine 27 = .ok (.iload_n 0, 1) := by decide +kernel
theorem dX0_combine_28 : decode cX0_combine 28 = .ok (.ifCond .ne 6, 3) := by decide +kernel
theorem dX0_combine_31 : decode cX0_combine 31 = .ok (.lload 5, 2) := by decide +kernel
theorem dX0_combine_33 : decode cX0_combine 33 = .ok (.lreturn, 1) := by decide +kernel
theorem dX0_combine_34 : decode cX0_combine 34 = .ok (.iload_n 0, 1) := by decide +kernel
theorem dX0_combine_35 : decode cX0_combine 35 = .ok (.iconst 1, 1) := by decide +kernel
theorem dX0_combine_36 : decode cX0_combine 36 = .ok (.if_icmp .ne 10, 3) := by decide +kernel
theorem dX0_combine_39 : decode cX0_combine 39 = .ok (.lload_n 1, 1) := by decide +kernel
theorem dX0_combine_40 : decode cX0_combine 40 = .ok (.lload_n 3, 1) := by decide +kernel
theorem dX0_combine_41 : decode cX0_combine 41 = .ok (.lxor, 1) := by decide +kernel
theorem dX0_combine_42 : decode cX0_combine 42 = .ok (.lload 5, 2) := by decide +kernel
theorem dX0_combine_44 : decode cX0_combine 44 = .ok (.lxor, 1) := by decide +kernel
theorem dX0_combine_45 : decode cX0_combine 45 = .ok (.lreturn, 1) := by decide +kernel
theorem dX0_combine_46 : decode cX0_combine 46 = .ok (.iload_n 0, 1) := by decide +kernel
theorem dX0_combine_47 : decode cX0_combine 47 = .ok (.iconst 4, 1) := by decide +kernel
theorem dX0_combine_48 : decode cX0_combine 48 = .ok (.if_icmp .ne 12, 3) := by decide +kernel
theorem dX0_combine_51 : decode cX0_combine 51 = .ok (.lconst 1, 1) := by decide +kernel
theorem dX0_combine_52 : decode cX0_combine 52 = .ok (.lload_n 1, 1) := by decide +kernel
theorem dX0_combine_53 : decode cX0_combine 53 = .ok (.lxor, 1) := by decide +kernel
theorem dX0_combine_54 : decode cX0_combine 54 = .ok (.lload 5, 2) := by decide +kernel
theorem dX0_combine_56 : decode cX0_combine 56 = .ok (.lxor, 1) := by decide +kernel
theorem dX0_combine_57 : decode cX0_combine 57 = .ok (.goto 7, 3) := by decide +kernel
theorem dX0_combine_60 : decode cX0_combine 60 = .ok (.lconst 1, 1) := by decide +kernel
theorem dX0_combine_61 : decode cX0_combine 61 = .ok (.lload 5, 2) := by decide +kernel
theorem dX0_combine_63 : decode cX0_combine 63 = .ok (.lxor, 1) := by decide +kernel
theorem dX0_combine_64 : decode cX0_combine 64 = .ok (.lreturn, 1) := by decide +kernel
abbrev cX0_multiply : ByteArray := prog_1_method_17_code
def yX0_multiply : MethodName := ⟨RX0, "multiply", "(JJ)J"⟩
theorem dX0_multiply_0 : decode cX0_multiply 0 = .ok (.lconst 0, 1) := by decide +kernel
theorem dX0_multiply_1 : decode cX0_multiply 1 = .ok (.lstore 4, 2) := by decide +kernel
theorem dX0_multiply_3 : decode cX0_multiply 3 = .ok (.iconst 0, 1) := by decide +kernel
theorem dX0_multiply_4 : decode cX0_multiply 4 = .ok (.istore 6, 2) := by decide +kernel
theorem dX0_multiply_6 : decode cX0_multiply 6 = .ok (.iload 6, 2) := by decide +kernel
theorem dX0_multiply_8 : decode cX0_multiply 8 = .ok (.bipush 64, 2) := by decide +kernel
theorem dX0_multiply_10 : decode cX0_multiply 10 = .ok (.if_icmp .ge 31, 3) := by decide +kernel
theorem dX0_multiply_13 : decode cX0_multiply 13 = .ok (.lload_n 0, 1) := by decide +kernel
theorem dX0_multiply_14 : decode cX0_multiply 14 = .ok (.iload 6, 2) := by decide +kernel
theorem dX0_multiply_16 : decode cX0_multiply 16 = .ok (.lushr, 1) := by decide +kernel
theorem dX0_multiply_17 : decode cX0_multiply 17 = .ok (.lconst 1, 1) := by decide +kernel
theorem dX0_multiply_18 : decode cX0_multiply 18 = .ok (.land, 1) := by decide +kernel
theorem dX0_multiply_19 : decode cX0_multiply 19 = .ok (.lconst 0, 1) := by decide +kernel
theorem dX0_multiply_20 : decode cX0_multiply 20 = .ok (.lcmp, 1) := by decide +kernel
theorem dX0_multiply_21 : decode cX0_multiply 21 = .ok (.ifCond .eq 14, 3) := by decide +kernel
theorem dX0_multiply_24 : decode cX0_multiply 24 = .ok (.lload 4, 2) := by decide +kernel
theorem dX0_multiply_26 : decode cX0_multiply 26 = .ok (.lload_n 2, 1) := by decide +kernel
theorem dX0_multiply_27 : decode cX0_multiply 27 = .ok (.iload 6, 2) := by decide +kernel
theorem dX0_multiply_29 : decode cX0_multiply 29 = .ok (.invokestatic 46, 3) := by decide +kernel
theorem dX0_multiply_32 : decode cX0_multiply 32 = .ok (.lxor, 1) := by decide +kernel
theorem dX0_multiply_33 : decode cX0_multiply 33 = .ok (.lstore 4, 2) := by decide +kernel
theorem dX0_multiply_35 : decode cX0_multiply 35 = .ok (.iinc 6 1, 3) := by decide +kernel
theorem dX0_multiply_38 : decode cX0_multiply 38 = .ok (.goto (-32), 3) := by decide +kernel
theorem dX0_multiply_41 : decode cX0_multiply 41 = .ok (.lload 4, 2) := by decide +kernel
theorem dX0_multiply_43 : decode cX0_multiply 43 = .ok (.lreturn, 1) := by decide +kernel
abbrev cX0_timesProduct : ByteArray := prog_1_method_18_code
def yX0_timesProduct : MethodName := ⟨RX0, "timesProduct", "(JI)J"⟩
theorem dX0_timesProduct_0 : decode cX0_timesProduct 0 = .ok (.lload_n 0, 1) := by decide +kernel
theorem dX0_timesProduct_1 : decode cX0_timesProduct 1 = .ok (.lstore_n 3, 1) := by decide +kernel
theorem dX0_timesProduct_2 : decode cX0_timesProduct 2 = .ok (.iconst 0, 1) := by decide +kernel
theorem dX0_timesProduct_3 : decode cX0_timesProduct 3 = .ok (.istore 5, 2) := by decide +kernel
theorem dX0_timesProduct_5 : decode cX0_timesProduct 5 = .ok (.iload 5, 2) := by decide +kernel
theorem dX0_timesProduct_7 : decode cX0_timesProduct 7 = .ok (.bipush 6, 2) := by decide +kernel
theorem dX0_timesProduct_9 : decode cX0_timesProduct 9 = .ok (.if_icmp .ge 47, 3) := by decide +kernel
theorem dX0_timesProduct_12 : decode cX0_timesProduct 12 = .ok (.iload_n 2, 1) := by decide +kernel
theorem dX0_timesProduct_13 : decode cX0_timesProduct 13 = .ok (.iload 5, 2) := by decide +kernel
theorem dX0_timesProduct_15 : decode cX0_timesProduct 15 = .ok (.iushr, 1) := by decide +kernel
theorem dX0_timesProduct_16 : decode cX0_timesProduct 16 = .ok (.iconst 1, 1) := by decide +kernel
theorem dX0_timesProduct_17 : decode cX0_timesProduct 17 = .ok (.iand, 1) := by decide +kernel
theorem dX0_timesProduct_18 : decode cX0_timesProduct 18 = .ok (.ifCond .eq 32, 3) := by decide +kernel
theorem dX0_timesProduct_21 : decode cX0_timesProduct 21 = .ok (.lload_n 3, 1) := by decide +kernel
theorem dX0_timesProduct_22 : decode cX0_timesProduct 22 = .ok (.iload 5, 2) := by decide +kernel
theorem dX0_timesProduct_24 : decode cX0_timesProduct 24 = .ok (.invokestatic 29, 3) := by decide +kernel
theorem dX0_timesProduct_27 : decode cX0_timesProduct 27 = .ok (.land, 1) := by decide +kernel
theorem dX0_timesProduct_28 : decode cX0_timesProduct 28 = .ok (.lstore 6, 2) := by decide +kernel
theorem dX0_timesProduct_30 : decode cX0_timesProduct 30 = .ok (.lload_n 3, 1) := by decide +kernel
theorem dX0_timesProduct_31 : decode cX0_timesProduct 31 = .ok (.iload 5, 2) := by decide +kernel
theorem dX0_timesProduct_33 : decode cX0_timesProduct 33 = .ok (.invokestatic 29, 3) := by decide +kernel
theorem dX0_timesProduct_36 : decode cX0_timesProduct 36 = .ok (.ldc2_w 33, 3) := by decide +kernel
theorem dX0_timesProduct_39 : decode cX0_timesProduct 39 = .ok (.lxor, 1) := by decide +kernel
theorem dX0_timesProduct_40 : decode cX0_timesProduct 40 = .ok (.land, 1) := by decide +kernel
theorem dX0_timesProduct_41 : decode cX0_timesProduct 41 = .ok (.lload 6, 2) := by decide +kernel
theorem dX0_timesProduct_43 : decode cX0_timesProduct 43 = .ok (.iconst 1, 1) := by decide +kernel
theorem dX0_timesProduct_44 : decode cX0_timesProduct 44 = .ok (.iload 5, 2) := by decide +kernel
theorem dX0_timesProduct_46 : decode cX0_timesProduct 46 = .ok (.ishl, 1) := by decide +kernel
theorem dX0_timesProduct_47 : decode cX0_timesProduct 47 = .ok (.lshl, 1) := by decide +kernel
theorem dX0_timesProduct_48 : decode cX0_timesProduct 48 = .ok (.lxor, 1) := by decide +kernel
theorem dX0_timesProduct_49 : decode cX0_timesProduct 49 = .ok (.lstore_n 3, 1) := by decide +kernel
theorem dX0_timesProduct_50 : decode cX0_timesProduct 50 = .ok (.iinc 5 1, 3) := by decide +kernel
theorem dX0_timesProduct_53 : decode cX0_timesProduct 53 = .ok (.goto (-48), 3) := by decide +kernel
theorem dX0_timesProduct_56 : decode cX0_timesProduct 56 = .ok (.lload_n 3, 1) := by decide +kernel
theorem dX0_timesProduct_57 : decode cX0_timesProduct 57 = .ok (.lreturn, 1) := by decide +kernel
abbrev cX0_productsWithout : ByteArray := prog_1_method_19_code
def yX0_productsWithout : MethodName := ⟨RX0, "productsWithout", "(I)J"⟩
theorem dX0_productsWithout_0 : decode cX0_productsWithout 0 = .ok (.iload_n 0, 1) := by decide +kernel
theorem dX0_productsWithout_1 : decode cX0_productsWithout 1 = .ok (.ifCond .ne 7, 3) := by decide +kernel
theorem dX0_productsWithout_4 : decode cX0_productsWithout 4 = .ok (.ldc2_w 50, 3) := by decide +kernel
theorem dX0_productsWithout_7 : decode cX0_productsWithout 7 = .ok (.lreturn, 1) := by decide +kernel
theorem dX0_productsWithout_8 : decode cX0_productsWithout 8 = .ok (.iload_n 0, 1) := by decide +kernel
theorem dX0_productsWithout_9 : decode cX0_productsWithout 9 = .ok (.iconst 1, 1) := by decide +kernel
theorem dX0_productsWithout_10 : decode cX0_productsWithout 10 = .ok (.if_icmp .ne 7, 3) := by decide +kernel
theorem dX0_productsWithout_13 : decode cX0_productsWithout 13 = .ok (.ldc2_w 52, 3) := by decide +kernel
theorem dX0_productsWithout_16 : decode cX0_productsWithout 16 = .ok (.lreturn, 1) := by decide +kernel
theorem dX0_productsWithout_17 : decode cX0_productsWithout 17 = .ok (.iload_n 0, 1) := by decide +kernel
theorem dX0_productsWithout_18 : decode cX0_productsWithout 18 = .ok (.iconst 2, 1) := by decide +kernel
theorem dX0_productsWithout_19 : decode cX0_productsWithout 19 = .ok (.if_icmp .ne 7, 3) := by decide +kernel
theorem dX0_productsWithout_22 : decode cX0_productsWithout 22 = .ok (.ldc2_w 54, 3) := by decide +kernel
theorem dX0_productsWithout_25 : decode cX0_productsWithout 25 = .ok (.lreturn, 1) := by decide +kernel
theorem dX0_productsWithout_26 : decode cX0_productsWithout 26 = .ok (.iload_n 0, 1) := by decide +kernel
theorem dX0_productsWithout_27 : decode cX0_productsWithout 27 = .ok (.iconst 3, 1) := by decide +kernel
theorem dX0_productsWithout_28 : decode cX0_productsWithout 28 = .ok (.if_icmp .ne 7, 3) := by decide +kernel
theorem dX0_productsWithout_31 : decode cX0_productsWithout 31 = .ok (.ldc2_w 56, 3) := by decide +kernel
theorem dX0_productsWithout_34 : decode cX0_productsWithout 34 = .ok (.lreturn, 1) := by decide +kernel
theorem dX0_productsWithout_35 : decode cX0_productsWithout 35 = .ok (.iload_n 0, 1) := by decide +kernel
theorem dX0_productsWithout_36 : decode cX0_productsWithout 36 = .ok (.iconst 4, 1) := by decide +kernel
theorem dX0_productsWithout_37 : decode cX0_productsWithout 37 = .ok (.if_icmp .ne 9, 3) := by decide +kernel
theorem dX0_productsWithout_40 : decode cX0_productsWithout 40 = .ok (.ldc2_w 58, 3) := by decide +kernel
theorem dX0_productsWithout_43 : decode cX0_productsWithout 43 = .ok (.goto 6, 3) := by decide +kernel
theorem dX0_productsWithout_46 : decode cX0_productsWithout 46 = .ok (.ldc2_w 60, 3) := by decide +kernel
theorem dX0_productsWithout_49 : decode cX0_productsWithout 49 = .ok (.lreturn, 1) := by decide +kernel
abbrev cX0_not : ByteArray := prog_1_method_5_code
def yX0_not : MethodName := ⟨RX0, "not", "()I"⟩
theorem dX0_not_0 : decode cX0_not 0 = .ok (.aload_n 0, 1) := by decide +kernel
theorem dX0_not_1 : decode cX0_not 1 = .ok (.getfield 13, 3) := by decide +kernel
theorem dX0_not_4 : decode cX0_not 4 = .ok (.iconst 1, 1) := by decide +kernel
theorem dX0_not_5 : decode cX0_not 5 = .ok (.if_icmp .ge 5, 3) := by decide +kernel
theorem dX0_not_8 : decode cX0_not 8 = .ok (.iconst (-1), 1) := by decide +kernel
theorem dX0_not_9 : decode cX0_not 9 = .ok (.ireturn, 1) := by decide +kernel
theorem dX0_not_10 : decode cX0_not 10 = .ok (.aload_n 0, 1) := by decide +kernel
theorem dX0_not_11 : decode cX0_not 11 = .ok (.getfield 7, 3) := by decide +kernel
theorem dX0_not_14 : decode cX0_not 14 = .ok (.aload_n 0, 1) := by decide +kernel
theorem dX0_not_15 : decode cX0_not 15 = .ok (.getfield 13, 3) := by decide +kernel
theorem dX0_not_18 : decode cX0_not 18 = .ok (.iconst 1, 1) := by decide +kernel
theorem dX0_not_19 : decode cX0_not 19 = .ok (.isub, 1) := by decide +kernel
theorem dX0_not_20 : decode cX0_not 20 = .ok (.dup2, 1) := by decide +kernel
theorem dX0_not_21 : decode cX0_not 21 = .ok (.laload, 1) := by decide +kernel
theorem dX0_not_22 : decode cX0_not 22 = .ok (.lconst 1, 1) := by decide +kernel
theorem dX0_not_23 : decode cX0_not 23 = .ok (.lxor, 1) := by decide +kernel
theorem dX0_not_24 : decode cX0_not 24 = .ok (.lastore, 1) := by decide +kernel
theorem dX0_not_25 : decode cX0_not 25 = .ok (.iconst 0, 1) := by decide +kernel
theorem dX0_not_26 : decode cX0_not 26 = .ok (.ireturn, 1) := by decide +kernel
abbrev cX0_copy : ByteArray := prog_1_method_6_code
def yX0_copy : MethodName := ⟨RX0, "copy", "(I)I"⟩
theorem dX0_copy_0 : decode cX0_copy 0 = .ok (.aload_n 0, 1) := by decide +kernel
theorem dX0_copy_1 : decode cX0_copy 1 = .ok (.iload_n 1, 1) := by decide +kernel
theorem dX0_copy_2 : decode cX0_copy 2 = .ok (.invokevirtual 25, 3) := by decide +kernel
theorem dX0_copy_5 : decode cX0_copy 5 = .ok (.ifCond .eq 12, 3) := by decide +kernel
theorem dX0_copy_8 : decode cX0_copy 8 = .ok (.aload_n 0, 1) := by decide +kernel
theorem dX0_copy_9 : decode cX0_copy 9 = .ok (.getfield 13, 3) := by decide +kernel
theorem dX0_copy_12 : decode cX0_copy 12 = .ok (.bipush 12, 2) := by decide +kernel
theorem dX0_copy_14 : decode cX0_copy 14 = .ok (.if_icmp .lt 5, 3) := by decide +kernel
theorem dX0_copy_17 : decode cX0_copy 17 = .ok (.iconst (-1), 1) := by decide +kernel
theorem dX0_copy_18 : decode cX0_copy 18 = .ok (.ireturn, 1) := by decide +kernel
theorem dX0_copy_19 : decode cX0_copy 19 = .ok (.aload_n 0, 1) := by decide +kernel
theorem dX0_copy_20 : decode cX0_copy 20 = .ok (.aload_n 0, 1) := by decide +kernel
theorem dX0_copy_21 : decode cX0_copy 21 = .ok (.getfield 7, 3) := by decide +kernel
theorem dX0_copy_24 : decode cX0_copy 24 = .ok (.aload_n 0, 1) := by decide +kernel
theorem dX0_copy_25 : decode cX0_copy 25 = .ok (.getfield 13, 3) := by decide +kernel
theorem dX0_copy_28 : decode cX0_copy 28 = .ok (.iconst 1, 1) := by decide +kernel
theorem dX0_copy_29 : decode cX0_copy 29 = .ok (.isub, 1) := by decide +kernel
theorem dX0_copy_30 : decode cX0_copy 30 = .ok (.iload_n 1, 1) := by decide +kernel
theorem dX0_copy_31 : decode cX0_copy 31 = .ok (.isub, 1) := by decide +kernel
theorem dX0_copy_32 : decode cX0_copy 32 = .ok (.laload, 1) := by decide +kernel
theorem dX0_copy_33 : decode cX0_copy 33 = .ok (.invokevirtual 17, 3) := by decide +kernel
theorem dX0_copy_36 : decode cX0_copy 36 = .ok (.ireturn, 1) := by decide +kernel
abbrev cX0_isFormula : ByteArray := prog_1_method_14_code
def yX0_isFormula : MethodName := ⟨RX0, "isFormula", "(I)Z"⟩
theorem dX0_isFormula_0 : decode cX0_isFormula 0 = .ok (.iload_n 1, 1) := by decide +kernel
theorem dX0_isFormula_1 : decode cX0_isFormula 1 = .ok (.ifCond .lt 15, 3) := by decide +kernel
theorem dX0_isFormula_4 : decode cX0_isFormula 4 = .ok (.iload_n 1, 1) := by decide +kernel
theorem dX0_isFormula_5 : decode cX0_isFormula 5 = .ok (.aload_n 0, 1) := by decide +kernel
theorem dX0_isFormula_6 : decode cX0_isFormula 6 = .ok (.getfield 13, 3) := by decide +kernel
theorem dX0_isFormula_9 : decode cX0_isFormula 9 = .ok (.if_icmp .ge 7, 3) := by decide +kernel
theorem dX0_isFormula_12 : decode cX0_isFormula 12 = .ok (.iconst 1, 1) := by decide +kernel
theorem dX0_isFormula_13 : decode cX0_isFormula 13 = .ok (.goto 4, 3) := by decide +kernel
theorem dX0_isFormula_16 : decode cX0_isFormula 16 = .ok (.iconst 0, 1) := by decide +kernel
theorem dX0_isFormula_17 : decode cX0_isFormula 17 = .ok (.ireturn, 1) := by decide +kernel
abbrev cX0_drop : ByteArray := prog_1_method_7_code
def yX0_drop : MethodName := ⟨RX0, "drop", "()I"⟩
theorem dX0_drop_0 : decode cX0_drop 0 = .ok (.aload_n 0, 1) := by decide +kernel
theorem dX0_drop_1 : decode cX0_drop 1 = .ok (.getfield 13, 3) := by decide +kernel
theorem dX0_drop_4 : decode cX0_drop 4 = .ok (.iconst 1, 1) := by decide +kernel
theorem dX0_drop_5 : decode cX0_drop 5 = .ok (.if_icmp .ge 5, 3) := by decide +kernel
theorem dX0_drop_8 : decode cX0_drop 8 = .ok (.iconst (-1), 1) := by decide +kernel
theorem dX0_drop_9 : decode cX0_drop 9 = .ok (.ireturn, 1) := by decide +kernel
theorem dX0_drop_10 : decode cX0_drop 10 = .ok (.aload_n 0, 1) := by decide +kernel
theorem dX0_drop_11 : decode cX0_drop 11 = .ok (.dup, 1) := by decide +kernel
theorem dX0_drop_12 : decode cX0_drop 12 = .ok (.getfield 13, 3) := by decide +kernel
theorem dX0_drop_15 : decode cX0_drop 15 = .ok (.iconst 1, 1) := by decide +kernel
theorem dX0_drop_16 : decode cX0_drop 16 = .ok (.isub, 1) := by decide +kernel
theorem dX0_drop_17 : decode cX0_drop 17 = .ok (.putfield 13, 3) := by decide +kernel
theorem dX0_drop_20 : decode cX0_drop 20 = .ok (.aload_n 0, 1) := by decide +kernel
theorem dX0_drop_21 : decode cX0_drop 21 = .ok (.getfield 13, 3) := by decide +kernel
theorem dX0_drop_24 : decode cX0_drop 24 = .ok (.ireturn, 1) := by decide +kernel
abbrev cX0_replace : ByteArray := prog_1_method_8_code
def yX0_replace : MethodName := ⟨RX0, "replace", "(I)I"⟩
theorem dX0_replace_0 : decode cX0_replace 0 = .ok (.iload_n 1, 1) := by decide +kernel
theorem dX0_replace_1 : decode cX0_replace 1 = .ok (.ifCond .lt 16, 3) := by decide +kernel
theorem dX0_replace_4 : decode cX0_replace 4 = .ok (.iload_n 1, 1) := by decide +kernel
theorem dX0_replace_5 : decode cX0_replace 5 = .ok (.iconst 5, 1) := by decide +kernel
theorem dX0_replace_6 : decode cX0_replace 6 = .ok (.if_icmp .gt 11, 3) := by decide +kernel
theorem dX0_replace_9 : decode cX0_replace 9 = .ok (.aload_n 0, 1) := by decide +kernel
theorem dX0_replace_10 : decode cX0_replace 10 = .ok (.getfield 13, 3) := by decide +kernel
theorem dX0_replace_13 : decode cX0_replace 13 = .ok (.iconst 2, 1) := by decide +kernel
theorem dX0_replace_14 : decode cX0_replace 14 = .ok (.if_icmp .ge 5, 3) := by decide +kernel
theorem dX0_replace_17 : decode cX0_replace 17 = .ok (.iconst (-1), 1) := by decide +kernel
theorem dX0_replace_18 : decode cX0_replace 18 = .ok (.ireturn, 1) := by decide +kernel
theorem dX0_replace_19 : decode cX0_replace 19 = .ok (.aload_n 0, 1) := by decide +kernel
theorem dX0_replace_20 : decode cX0_replace 20 = .ok (.getfield 7, 3) := by decide +kernel
theorem dX0_replace_23 : decode cX0_replace 23 = .ok (.aload_n 0, 1) := by decide +kernel
theorem dX0_replace_24 : decode cX0_replace 24 = .ok (.getfield 13, 3) := by decide +kernel
theorem dX0_replace_27 : decode cX0_replace 27 = .ok (.iconst 1, 1) := by decide +kernel
theorem dX0_replace_28 : decode cX0_replace 28 = .ok (.isub, 1) := by decide +kernel
theorem dX0_replace_29 : decode cX0_replace 29 = .ok (.laload, 1) := by decide +kernel
theorem dX0_replace_30 : decode cX0_replace 30 = .ok (.lstore_n 2, 1) := by decide +kernel
theorem dX0_replace_31 : decode cX0_replace 31 = .ok (.aload_n 0, 1) := by decide +kernel
theorem dX0_replace_32 : decode cX0_replace 32 = .ok (.getfield 7, 3) := by decide +kernel
theorem dX0_replace_35 : decode cX0_replace 35 = .ok (.aload_n 0, 1) := by decide +kernel
theorem dX0_replace_36 : decode cX0_replace 36 = .ok (.getfield 13, 3) := by decide +kernel
theorem dX0_replace_39 : decode cX0_replace 39 = .ok (.iconst 2, 1) := by decide +kernel
theorem dX0_replace_40 : decode cX0_replace 40 = .ok (.isub, 1) := by decide +kernel
theorem dX0_replace_41 : decode cX0_replace 41 = .ok (.laload, 1) := by decide +kernel
theorem dX0_replace_42 : decode cX0_replace 42 = .ok (.lstore 4, 2) := by decide +kernel
theorem dX0_replace_44 : decode cX0_replace 44 = .ok (.lload_n 2, 1) := by decide +kernel
theorem dX0_replace_45 : decode cX0_replace 45 = .ok (.iload_n 1, 1) := by decide +kernel
theorem dX0_replace_46 : decode cX0_replace 46 = .ok (.invokestatic 29, 3) := by decide +kernel
theorem dX0_replace_49 : decode cX0_replace 49 = .ok (.land, 1) := by decide +kernel
theorem dX0_replace_50 : decode cX0_replace 50 = .ok (.lstore 6, 2) := by decide +kernel
theorem dX0_replace_52 : decode cX0_replace 52 = .ok (.lload_n 2, 1) := by decide +kernel
theorem dX0_replace_53 : decode cX0_replace 53 = .ok (.iload_n 1, 1) := by decide +kernel
theorem dX0_replace_54 : decode cX0_replace 54 = .ok (.invokestatic 29, 3) := by decide +kernel
theorem dX0_replace_57 : decode cX0_replace 57 = .ok (.ldc2_w 33, 3) := by decide +kernel
theorem dX0_replace_60 : decode cX0_replace 60 = .ok (.lxor, 1) := by decide +kernel
theorem dX0_replace_61 : decode cX0_replace 61 = .ok (.land, 1) := by decide +kernel
theorem dX0_replace_62 : decode cX0_replace 62 = .ok (.iconst 1, 1) := by decide +kernel
theorem dX0_replace_63 : decode cX0_replace 63 = .ok (.iload_n 1, 1) := by decide +kernel
theorem dX0_replace_64 : decode cX0_replace 64 = .ok (.ishl, 1) := by decide +kernel
theorem dX0_replace_65 : decode cX0_replace 65 = .ok (.lushr, 1) := by decide +kernel
theorem dX0_replace_66 : decode cX0_replace 66 = .ok (.lstore 8, 2) := by decide +kernel
theorem dX0_replace_68 : decode cX0_replace 68 = .ok (.aload_n 0, 1) := by decide +kernel
theorem dX0_replace_69 : decode cX0_replace 69 = .ok (.dup, 1) := by decide +kernel
theorem dX0_replace_70 : decode cX0_replace 70 = .ok (.getfield 13, 3) := by decide +kernel
theorem dX0_replace_73 : decode cX0_replace 73 = .ok (.iconst 2, 1) := by decide +kernel
theorem dX0_replace_74 : decode cX0_replace 74 = .ok (.isub, 1) := by decide +kernel
theorem dX0_replace_75 : decode cX0_replace 75 = .ok (.putfield 13, 3) := by decide +kernel
theorem dX0_replace_78 : decode cX0_replace 78 = .ok (.lload 6, 2) := by decide +kernel
theorem dX0_replace_80 : decode cX0_replace 80 = .ok (.lload 4, 2) := by decide +kernel
theorem dX0_replace_82 : decode cX0_replace 82 = .ok (.lload 8, 2) := by decide +kernel
theorem dX0_replace_84 : decode cX0_replace 84 = .ok (.invokestatic 35, 3) := by decide +kernel
theorem dX0_replace_87 : decode cX0_replace 87 = .ok (.lxor, 1) := by decide +kernel
theorem dX0_replace_88 : decode cX0_replace 88 = .ok (.lstore 10, 2) := by decide +kernel
theorem dX0_replace_90 : decode cX0_replace 90 = .ok (.aload_n 0, 1) := by decide +kernel
theorem dX0_replace_91 : decode cX0_replace 91 = .ok (.lload 10, 2) := by decide +kernel
theorem dX0_replace_93 : decode cX0_replace 93 = .ok (.invokevirtual 17, 3) := by decide +kernel
theorem dX0_replace_96 : decode cX0_replace 96 = .ok (.ireturn, 1) := by decide +kernel
abbrev cX0_products : ByteArray := prog_1_method_9_code
def yX0_products : MethodName := ⟨RX0, "products", "(I)I"⟩
theorem dX0_products_0 : decode cX0_products 0 = .ok (.aload_n 0, 1) := by decide +kernel
theorem dX0_products_1 : decode cX0_products 1 = .ok (.iload_n 1, 1) := by decide +kernel
theorem dX0_products_2 : decode cX0_products 2 = .ok (.invokevirtual 25, 3) := by decide +kernel
theorem dX0_products_5 : decode cX0_products 5 = .ok (.ifCond .eq 22, 3) := by decide +kernel
theorem dX0_products_8 : decode cX0_products 8 = .ok (.aload_n 0, 1) := by decide +kernel
theorem dX0_products_9 : decode cX0_products 9 = .ok (.getfield 7, 3) := by decide +kernel
theorem dX0_products_12 : decode cX0_products 12 = .ok (.aload_n 0, 1) := by decide +kernel
theorem dX0_products_13 : decode cX0_products 13 = .ok (.getfield 13, 3) := by decide +kernel
theorem dX0_products_16 : decode cX0_products 16 = .ok (.iconst 1, 1) := by decide +kernel
theorem dX0_products_17 : decode cX0_products 17 = .ok (.isub, 1) := by decide +kernel
theorem dX0_products_18 : decode cX0_products 18 = .ok (.iload_n 1, 1) := by decide +kernel
theorem dX0_products_19 : decode cX0_products 19 = .ok (.isub, 1) := by decide +kernel
theorem dX0_products_20 : decode cX0_products 20 = .ok (.laload, 1) := by decide +kernel
theorem dX0_products_21 : decode cX0_products 21 = .ok (.invokestatic 39, 3) := by decide +kernel
theorem dX0_products_24 : decode cX0_products 24 = .ok (.goto 4, 3) := by decide +kernel
theorem dX0_products_27 : decode cX0_products 27 = .ok (.iconst (-1), 1) := by decide +kernel
theorem dX0_products_28 : decode cX0_products 28 = .ok (.ireturn, 1) := by decide +kernel
abbrev cX0_ones : ByteArray := prog_1_method_21_code
def yX0_ones : MethodName := ⟨RX0, "ones", "(J)I"⟩
theorem dX0_ones_0 : decode cX0_ones 0 = .ok (.lload_n 0, 1) := by decide +kernel
theorem dX0_ones_1 : decode cX0_ones 1 = .ok (.lload_n 0, 1) := by decide +kernel
theorem dX0_ones_2 : decode cX0_ones 2 = .ok (.iconst 1, 1) := by decide +kernel
theorem dX0_ones_3 : decode cX0_ones 3 = .ok (.lushr, 1) := by decide +kernel
theorem dX0_ones_4 : decode cX0_ones 4 = .ok (.ldc2_w 50, 3) := by decide +kernel
theorem dX0_ones_7 : decode cX0_ones 7 = .ok (.land, 1) := by decide +kernel
theorem dX0_ones_8 : decode cX0_ones 8 = .ok (.lsub, 1) := by decide +kernel
theorem dX0_ones_9 : decode cX0_ones 9 = .ok (.lstore_n 2, 1) := by decide +kernel
theorem dX0_ones_10 : decode cX0_ones 10 = .ok (.lload_n 2, 1) := by decide +kernel
theorem dX0_ones_11 : decode cX0_ones 11 = .ok (.ldc2_w 52, 3) := by decide +kernel
theorem dX0_ones_14 : decode cX0_ones 14 = .ok (.land, 1) := by decide +kernel
theorem dX0_ones_15 : decode cX0_ones 15 = .ok (.lload_n 2, 1) := by decide +kernel
theorem dX0_ones_16 : decode cX0_ones 16 = .ok (.iconst 2, 1) := by decide +kernel
theorem dX0_ones_17 : decode cX0_ones 17 = .ok (.lushr, 1) := by decide +kernel
theorem dX0_ones_18 : decode cX0_ones 18 = .ok (.ldc2_w 52, 3) := by decide +kernel
theorem dX0_ones_21 : decode cX0_ones 21 = .ok (.land, 1) := by decide +kernel
theorem dX0_ones_22 : decode cX0_ones 22 = .ok (.ladd, 1) := by decide +kernel
theorem dX0_ones_23 : decode cX0_ones 23 = .ok (.lstore_n 2, 1) := by decide +kernel
theorem dX0_ones_24 : decode cX0_ones 24 = .ok (.lload_n 2, 1) := by decide +kernel
theorem dX0_ones_25 : decode cX0_ones 25 = .ok (.lload_n 2, 1) := by decide +kernel
theorem dX0_ones_26 : decode cX0_ones 26 = .ok (.iconst 4, 1) := by decide +kernel
theorem dX0_ones_27 : decode cX0_ones 27 = .ok (.lushr, 1) := by decide +kernel
theorem dX0_ones_28 : decode cX0_ones 28 = .ok (.ladd, 1) := by decide +kernel
theorem dX0_ones_29 : decode cX0_ones 29 = .ok (.ldc2_w 54, 3) := by decide +kernel
theorem dX0_ones_32 : decode cX0_ones 32 = .ok (.land, 1) := by decide +kernel
theorem dX0_ones_33 : decode cX0_ones 33 = .ok (.lstore_n 2, 1) := by decide +kernel
theorem dX0_ones_34 : decode cX0_ones 34 = .ok (.lload_n 2, 1) := by decide +kernel
theorem dX0_ones_35 : decode cX0_ones 35 = .ok (.ldc2_w 62, 3) := by decide +kernel
theorem dX0_ones_38 : decode cX0_ones 38 = .ok (.lmul, 1) := by decide +kernel
theorem dX0_ones_39 : decode cX0_ones 39 = .ok (.bipush 56, 2) := by decide +kernel
theorem dX0_ones_41 : decode cX0_ones 41 = .ok (.lushr, 1) := by decide +kernel
theorem dX0_ones_42 : decode cX0_ones 42 = .ok (.l2i, 1) := by decide +kernel
theorem dX0_ones_43 : decode cX0_ones 43 = .ok (.ireturn, 1) := by decide +kernel
abbrev cX0_has : ByteArray := prog_1_method_10_code
def yX0_has : MethodName := ⟨RX0, "has", "(II)I"⟩
theorem dX0_has_0 : decode cX0_has 0 = .ok (.aload_n 0, 1) := by decide +kernel
theorem dX0_has_1 : decode cX0_has 1 = .ok (.iload_n 1, 1) := by decide +kernel
theorem dX0_has_2 : decode cX0_has 2 = .ok (.invokevirtual 25, 3) := by decide +kernel
theorem dX0_has_5 : decode cX0_has 5 = .ok (.ifCond .eq 13, 3) := by decide +kernel
theorem dX0_has_8 : decode cX0_has 8 = .ok (.iload_n 2, 1) := by decide +kernel
theorem dX0_has_9 : decode cX0_has 9 = .ok (.ifCond .lt 9, 3) := by decide +kernel
theorem dX0_has_12 : decode cX0_has 12 = .ok (.iload_n 2, 1) := by decide +kernel
theorem dX0_has_13 : decode cX0_has 13 = .ok (.bipush 63, 2) := by decide +kernel
theorem dX0_has_15 : decode cX0_has 15 = .ok (.if_icmp .le 5, 3) := by decide +kernel
theorem dX0_has_18 : decode cX0_has 18 = .ok (.iconst (-1), 1) := by decide +kernel
theorem dX0_has_19 : decode cX0_has 19 = .ok (.ireturn, 1) := by decide +kernel
theorem dX0_has_20 : decode cX0_has 20 = .ok (.aload_n 0, 1) := by decide +kernel
theorem dX0_has_21 : decode cX0_has 21 = .ok (.getfield 7, 3) := by decide +kernel
theorem dX0_has_24 : decode cX0_has 24 = .ok (.aload_n 0, 1) := by decide +kernel
theorem dX0_has_25 : decode cX0_has 25 = .ok (.getfield 13, 3) := by decide +kernel
theorem dX0_has_28 : decode cX0_has 28 = .ok (.iconst 1, 1) := by decide +kernel
theorem dX0_has_29 : decode cX0_has 29 = .ok (.isub, 1) := by decide +kernel
theorem dX0_has_30 : decode cX0_has 30 = .ok (.iload_n 1, 1) := by decide +kernel
theorem dX0_has_31 : decode cX0_has 31 = .ok (.isub, 1) := by decide +kernel
theorem dX0_has_32 : decode cX0_has 32 = .ok (.laload, 1) := by decide +kernel
theorem dX0_has_33 : decode cX0_has 33 = .ok (.iload_n 2, 1) := by decide +kernel
theorem dX0_has_34 : decode cX0_has 34 = .ok (.lushr, 1) := by decide +kernel
theorem dX0_has_35 : decode cX0_has 35 = .ok (.l2i, 1) := by decide +kernel
theorem dX0_has_36 : decode cX0_has 36 = .ok (.iconst 1, 1) := by decide +kernel
theorem dX0_has_37 : decode cX0_has 37 = .ok (.iand, 1) := by decide +kernel
theorem dX0_has_38 : decode cX0_has 38 = .ok (.ireturn, 1) := by decide +kernel
abbrev cX0_degree : ByteArray := prog_1_method_11_code
def yX0_degree : MethodName := ⟨RX0, "degree", "(I)I"⟩
theorem dX0_degree_0 : decode cX0_degree 0 = .ok (.aload_n 0, 1) := by decide +kernel
theorem dX0_degree_1 : decode cX0_degree 1 = .ok (.iload_n 1, 1) := by decide +kernel
theorem dX0_degree_2 : decode cX0_degree 2 = .ok (.invokevirtual 25, 3) := by decide +kernel
theorem dX0_degree_5 : decode cX0_degree 5 = .ok (.ifCond .ne 5, 3) := by decide +kernel
theorem dX0_degree_8 : decode cX0_degree 8 = .ok (.iconst (-1), 1) := by decide +kernel
theorem dX0_degree_9 : decode cX0_degree 9 = .ok (.ireturn, 1) := by decide +kernel
theorem dX0_degree_10 : decode cX0_degree 10 = .ok (.aload_n 0, 1) := by decide +kernel
theorem dX0_degree_11 : decode cX0_degree 11 = .ok (.getfield 7, 3) := by decide +kernel
theorem dX0_degree_14 : decode cX0_degree 14 = .ok (.aload_n 0, 1) := by decide +kernel
theorem dX0_degree_15 : decode cX0_degree 15 = .ok (.getfield 13, 3) := by decide +kernel
theorem dX0_degree_18 : decode cX0_degree 18 = .ok (.iconst 1, 1) := by decide +kernel
theorem dX0_degree_19 : decode cX0_degree 19 = .ok (.isub, 1) := by decide +kernel
theorem dX0_degree_20 : decode cX0_degree 20 = .ok (.iload_n 1, 1) := by decide +kernel
theorem dX0_degree_21 : decode cX0_degree 21 = .ok (.isub, 1) := by decide +kernel
theorem dX0_degree_22 : decode cX0_degree 22 = .ok (.laload, 1) := by decide +kernel
theorem dX0_degree_23 : decode cX0_degree 23 = .ok (.lstore_n 2, 1) := by decide +kernel
theorem dX0_degree_24 : decode cX0_degree 24 = .ok (.iconst 0, 1) := by decide +kernel
theorem dX0_degree_25 : decode cX0_degree 25 = .ok (.istore 4, 2) := by decide +kernel
theorem dX0_degree_27 : decode cX0_degree 27 = .ok (.iconst 0, 1) := by decide +kernel
theorem dX0_degree_28 : decode cX0_degree 28 = .ok (.istore 5, 2) := by decide +kernel
theorem dX0_degree_30 : decode cX0_degree 30 = .ok (.iload 5, 2) := by decide +kernel
theorem dX0_degree_32 : decode cX0_degree 32 = .ok (.bipush 64, 2) := by decide +kernel
theorem dX0_degree_34 : decode cX0_degree 34 = .ok (.if_icmp .ge 39, 3) := by decide +kernel
theorem dX0_degree_37 : decode cX0_degree 37 = .ok (.iload 5, 2) := by decide +kernel
theorem dX0_degree_39 : decode cX0_degree 39 = .ok (.i2l, 1) := by decide +kernel
theorem dX0_degree_40 : decode cX0_degree 40 = .ok (.invokestatic 39, 3) := by decide +kernel
theorem dX0_degree_43 : decode cX0_degree 43 = .ok (.istore 6, 2) := by decide +kernel
theorem dX0_degree_45 : decode cX0_degree 45 = .ok (.lload_n 2, 1) := by decide +kernel
theorem dX0_degree_46 : decode cX0_degree 46 = .ok (.iload 5, 2) := by decide +kernel
theorem dX0_degree_48 : decode cX0_degree 48 = .ok (.lushr, 1) := by decide +kernel
theorem dX0_degree_49 : decode cX0_degree 49 = .ok (.lconst 1, 1) := by decide +kernel
theorem dX0_degree_50 : decode cX0_degree 50 = .ok (.land, 1) := by decide +kernel
theorem dX0_degree_51 : decode cX0_degree 51 = .ok (.lconst 0, 1) := by decide +kernel
theorem dX0_degree_52 : decode cX0_degree 52 = .ok (.lcmp, 1) := by decide +kernel
theorem dX0_degree_53 : decode cX0_degree 53 = .ok (.ifCond .eq 14, 3) := by decide +kernel
theorem dX0_degree_56 : decode cX0_degree 56 = .ok (.iload 6, 2) := by decide +kernel
theorem dX0_degree_58 : decode cX0_degree 58 = .ok (.iload 4, 2) := by decide +kernel
theorem dX0_degree_60 : decode cX0_degree 60 = .ok (.if_icmp .le 7, 3) := by decide +kernel
theorem dX0_degree_63 : decode cX0_degree 63 = .ok (.iload 6, 2) := by decide +kernel
theorem dX0_degree_65 : decode cX0_degree 65 = .ok (.istore 4, 2) := by decide +kernel
theorem dX0_degree_67 : decode cX0_degree 67 = .ok (.iinc 5 1, 3) := by decide +kernel
theorem dX0_degree_70 : decode cX0_degree 70 = .ok (.goto (-40), 3) := by decide +kernel
theorem dX0_degree_73 : decode cX0_degree 73 = .ok (.iload 4, 2) := by decide +kernel
theorem dX0_degree_75 : decode cX0_degree 75 = .ok (.ireturn, 1) := by decide +kernel
abbrev cX0_models : ByteArray := prog_1_method_12_code
def yX0_models : MethodName := ⟨RX0, "models", "(I)I"⟩
theorem dX0_models_0 : decode cX0_models 0 = .ok (.aload_n 0, 1) := by decide +kernel
theorem dX0_models_1 : decode cX0_models 1 = .ok (.iload_n 1, 1) := by decide +kernel
theorem dX0_models_2 : decode cX0_models 2 = .ok (.invokevirtual 25, 3) := by decide +kernel
theorem dX0_models_5 : decode cX0_models 5 = .ok (.ifCond .ne 5, 3) := by decide +kernel
theorem dX0_models_8 : decode cX0_models 8 = .ok (.iconst (-1), 1) := by decide +kernel
theorem dX0_models_9 : decode cX0_models 9 = .ok (.ireturn, 1) := by decide +kernel
theorem dX0_models_10 : decode cX0_models 10 = .ok (.aload_n 0, 1) := by decide +kernel
theorem dX0_models_11 : decode cX0_models 11 = .ok (.getfield 7, 3) := by decide +kernel
theorem dX0_models_14 : decode cX0_models 14 = .ok (.aload_n 0, 1) := by decide +kernel
theorem dX0_models_15 : decode cX0_models 15 = .ok (.getfield 13, 3) := by decide +kernel
theorem dX0_models_18 : decode cX0_models 18 = .ok (.iconst 1, 1) := by decide +kernel
theorem dX0_models_19 : decode cX0_models 19 = .ok (.isub, 1) := by decide +kernel
theorem dX0_models_20 : decode cX0_models 20 = .ok (.iload_n 1, 1) := by decide +kernel
theorem dX0_models_21 : decode cX0_models 21 = .ok (.isub, 1) := by decide +kernel
theorem dX0_models_22 : decode cX0_models 22 = .ok (.laload, 1) := by decide +kernel
theorem dX0_models_23 : decode cX0_models 23 = .ok (.invokestatic 42, 3) := by decide +kernel
theorem dX0_models_26 : decode cX0_models 26 = .ok (.lstore_n 2, 1) := by decide +kernel
theorem dX0_models_27 : decode cX0_models 27 = .ok (.lload_n 2, 1) := by decide +kernel
theorem dX0_models_28 : decode cX0_models 28 = .ok (.invokestatic 39, 3) := by decide +kernel
theorem dX0_models_31 : decode cX0_models 31 = .ok (.ireturn, 1) := by decide +kernel
abbrev cX0_valuesOf : ByteArray := prog_1_method_20_code
def yX0_valuesOf : MethodName := ⟨RX0, "valuesOf", "(J)J"⟩
theorem dX0_valuesOf_0 : decode cX0_valuesOf 0 = .ok (.lload_n 0, 1) := by decide +kernel
theorem dX0_valuesOf_1 : decode cX0_valuesOf 1 = .ok (.lstore_n 2, 1) := by decide +kernel
theorem dX0_valuesOf_2 : decode cX0_valuesOf 2 = .ok (.iconst 0, 1) := by decide +kernel
theorem dX0_valuesOf_3 : decode cX0_valuesOf 3 = .ok (.istore 4, 2) := by decide +kernel
theorem dX0_valuesOf_5 : decode cX0_valuesOf 5 = .ok (.iload 4, 2) := by decide +kernel
theorem dX0_valuesOf_7 : decode cX0_valuesOf 7 = .ok (.bipush 6, 2) := by decide +kernel
theorem dX0_valuesOf_9 : decode cX0_valuesOf 9 = .ok (.if_icmp .ge 28, 3) := by decide +kernel
theorem dX0_valuesOf_12 : decode cX0_valuesOf 12 = .ok (.lload_n 2, 1) := by decide +kernel
theorem dX0_valuesOf_13 : decode cX0_valuesOf 13 = .ok (.iload 4, 2) := by decide +kernel
theorem dX0_valuesOf_15 : decode cX0_valuesOf 15 = .ok (.invokestatic 29, 3) := by decide +kernel
theorem dX0_valuesOf_18 : decode cX0_valuesOf 18 = .ok (.land, 1) := by decide +kernel
theorem dX0_valuesOf_19 : decode cX0_valuesOf 19 = .ok (.lstore 5, 2) := by decide +kernel
theorem dX0_valuesOf_21 : decode cX0_valuesOf 21 = .ok (.lload_n 2, 1) := by decide +kernel
theorem dX0_valuesOf_22 : decode cX0_valuesOf 22 = .ok (.lload 5, 2) := by decide +kernel
theorem dX0_valuesOf_24 : decode cX0_valuesOf 24 = .ok (.iconst 1, 1) := by decide +kernel
theorem dX0_valuesOf_25 : decode cX0_valuesOf 25 = .ok (.iload 4, 2) := by decide +kernel
theorem dX0_valuesOf_27 : decode cX0_valuesOf 27 = .ok (.ishl, 1) := by decide +kernel
theorem dX0_valuesOf_28 : decode cX0_valuesOf 28 = .ok (.lshl, 1) := by decide +kernel
theorem dX0_valuesOf_29 : decode cX0_valuesOf 29 = .ok (.lxor, 1) := by decide +kernel
theorem dX0_valuesOf_30 : decode cX0_valuesOf 30 = .ok (.lstore_n 2, 1) := by decide +kernel
theorem dX0_valuesOf_31 : decode cX0_valuesOf 31 = .ok (.iinc 4 1, 3) := by decide +kernel
theorem dX0_valuesOf_34 : decode cX0_valuesOf 34 = .ok (.goto (-29), 3) := by decide +kernel
theorem dX0_valuesOf_37 : decode cX0_valuesOf 37 = .ok (.lload_n 2, 1) := by decide +kernel
theorem dX0_valuesOf_38 : decode cX0_valuesOf 38 = .ok (.lreturn, 1) := by decide +kernel
abbrev cX0_differ : ByteArray := prog_1_method_13_code
def yX0_differ : MethodName := ⟨RX0, "differ", "(II)I"⟩
theorem dX0_differ_0 : decode cX0_differ 0 = .ok (.aload_n 0, 1) := by decide +kernel
theorem dX0_differ_1 : decode cX0_differ 1 = .ok (.iload_n 1, 1) := by decide +kernel
theorem dX0_differ_2 : decode cX0_differ 2 = .ok (.invokevirtual 25, 3) := by decide +kernel
theorem dX0_differ_5 : decode cX0_differ 5 = .ok (.ifCond .eq 11, 3) := by decide +kernel
theorem dX0_differ_8 : decode cX0_differ 8 = .ok (.aload_n 0, 1) := by decide +kernel
theorem dX0_differ_9 : decode cX0_differ 9 = .ok (.iload_n 2, 1) := by decide +kernel
theorem dX0_differ_10 : decode cX0_differ 10 = .ok (.invokevirtual 25, 3) := by decide +kernel
theorem dX0_differ_13 : decode cX0_differ 13 = .ok (.ifCond .ne 5, 3) := by decide +kernel
theorem dX0_differ_16 : decode cX0_differ 16 = .ok (.iconst (-1), 1) := by decide +kernel
theorem dX0_differ_17 : decode cX0_differ 17 = .ok (.ireturn, 1) := by decide +kernel
theorem dX0_differ_18 : decode cX0_differ 18 = .ok (.aload_n 0, 1) := by decide +kernel
theorem dX0_differ_19 : decode cX0_differ 19 = .ok (.getfield 7, 3) := by decide +kernel
theorem dX0_differ_22 : decode cX0_differ 22 = .ok (.aload_n 0, 1) := by decide +kernel
theorem dX0_differ_23 : decode cX0_differ 23 = .ok (.getfield 13, 3) := by decide +kernel
theorem dX0_differ_26 : decode cX0_differ 26 = .ok (.iconst 1, 1) := by decide +kernel
theorem dX0_differ_27 : decode cX0_differ 27 = .ok (.isub, 1) := by decide +kernel
theorem dX0_differ_28 : decode cX0_differ 28 = .ok (.iload_n 1, 1) := by decide +kernel
theorem dX0_differ_29 : decode cX0_differ 29 = .ok (.isub, 1) := by decide +kernel
theorem dX0_differ_30 : decode cX0_differ 30 = .ok (.laload, 1) := by decide +kernel
theorem dX0_differ_31 : decode cX0_differ 31 = .ok (.aload_n 0, 1) := by decide +kernel
theorem dX0_differ_32 : decode cX0_differ 32 = .ok (.getfield 7, 3) := by decide +kernel
theorem dX0_differ_35 : decode cX0_differ 35 = .ok (.aload_n 0, 1) := by decide +kernel
theorem dX0_differ_36 : decode cX0_differ 36 = .ok (.getfield 13, 3) := by decide +kernel
theorem dX0_differ_39 : decode cX0_differ 39 = .ok (.iconst 1, 1) := by decide +kernel
theorem dX0_differ_40 : decode cX0_differ 40 = .ok (.isub, 1) := by decide +kernel
theorem dX0_differ_41 : decode cX0_differ 41 = .ok (.iload_n 2, 1) := by decide +kernel
theorem dX0_differ_42 : decode cX0_differ 42 = .ok (.isub, 1) := by decide +kernel
theorem dX0_differ_43 : decode cX0_differ 43 = .ok (.laload, 1) := by decide +kernel
theorem dX0_differ_44 : decode cX0_differ 44 = .ok (.lxor, 1) := by decide +kernel
theorem dX0_differ_45 : decode cX0_differ 45 = .ok (.lstore_n 3, 1) := by decide +kernel
theorem dX0_differ_46 : decode cX0_differ 46 = .ok (.lload_n 3, 1) := by decide +kernel
theorem dX0_differ_47 : decode cX0_differ 47 = .ok (.lconst 0, 1) := by decide +kernel
theorem dX0_differ_48 : decode cX0_differ 48 = .ok (.lcmp, 1) := by decide +kernel
theorem dX0_differ_49 : decode cX0_differ 49 = .ok (.ifCond .ne 6, 3) := by decide +kernel
theorem dX0_differ_52 : decode cX0_differ 52 = .ok (.bipush 64, 2) := by decide +kernel
theorem dX0_differ_54 : decode cX0_differ 54 = .ok (.ireturn, 1) := by decide +kernel
theorem dX0_differ_55 : decode cX0_differ 55 = .ok (.lload_n 3, 1) := by decide +kernel
theorem dX0_differ_56 : decode cX0_differ 56 = .ok (.invokestatic 42, 3) := by decide +kernel
theorem dX0_differ_59 : decode cX0_differ 59 = .ok (.lstore 5, 2) := by decide +kernel
theorem dX0_differ_61 : decode cX0_differ 61 = .ok (.lload 5, 2) := by decide +kernel
theorem dX0_differ_63 : decode cX0_differ 63 = .ok (.lload 5, 2) := by decide +kernel
theorem dX0_differ_65 : decode cX0_differ 65 = .ok (.lneg, 1) := by decide +kernel
theorem dX0_differ_66 : decode cX0_differ 66 = .ok (.land, 1) := by decide +kernel
theorem dX0_differ_67 : decode cX0_differ 67 = .ok (.lconst 1, 1) := by decide +kernel
theorem dX0_differ_68 : decode cX0_differ 68 = .ok (.lsub, 1) := by decide +kernel
theorem dX0_differ_69 : decode cX0_differ 69 = .ok (.invokestatic 39, 3) := by decide +kernel
theorem dX0_differ_72 : decode cX0_differ 72 = .ok (.ireturn, 1) := by decide +kernel
theorem q6 : (Jvm.Cond.initialized "RingProver") ∈ lw_all := lw_g (lw_at lw_m0 1 rfl) rfl
theorem q9 : (Jvm.Cond.instantiable "RingProver" (2 : Nat)) ∈ lw_all := lw_g (lw_at lw_m0 4 rfl) rfl
theorem q11 : (Jvm.Cond.instanceMethod ({ cls := "RingProver", name := "<init>", desc := "()V" } : Jvm.MethodName)) ∈ lw_all := lw_g (lw_at lw_m0 6 rfl) rfl
theorem q12 : (Jvm.Cond.code ({ cls := "RingProver", name := "<init>", desc := "()V" } : Jvm.MethodName) prog_1_method_1_code (1 : Nat) (Option.none : Option Jvm.ClassFile.FieldType)) ∈ lw_all := lw_g (lw_at lw_m0 7 rfl) rfl
theorem q13 : (Jvm.Cond.methodLink "RingProver" (1 : Nat) ({ cls := "java/lang/Object", name := "<init>", desc := "()V" } : Jvm.MethodName)) ∈ lw_all := lw_g (lw_at lw_m0 8 rfl) rfl
theorem q16 : (Jvm.Cond.fieldLink "RingProver" (13 : Nat) "RingProver" "depth" "I") ∈ lw_all := lw_g (lw_at lw_m0 11 rfl) rfl
theorem q17 : (Jvm.Cond.fieldLink "RingProver" (7 : Nat) "RingProver" "sum" "[J") ∈ lw_all := lw_g (lw_at lw_m0 12 rfl) rfl
theorem q18 : (Jvm.Cond.lays "RingProver" "RingProver" "depth" "I") ∈ lw_all := lw_g (lw_at lw_m0 13 rfl) rfl
theorem q19 : (Jvm.Cond.soleField "RingProver" "depth") ∈ lw_all := lw_g (lw_at lw_m0 14 rfl) rfl
theorem q20 : (Jvm.Cond.laysFinal "RingProver" "RingProver" "sum" "[J") ∈ lw_all := lw_g (lw_at lw_m0 15 rfl) rfl
theorem q21 : (Jvm.Cond.soleField "RingProver" "sum") ∈ lw_all := lw_g (lw_at lw_m0 16 rfl) rfl
theorem q22 : (Jvm.Cond.superclass "RingProver" "java/lang/Object") ∈ lw_all := lw_g (lw_at lw_m0 17 rfl) rfl
theorem q25 : (Jvm.Cond.instanceMethod ({ cls := "RingProver", name := "variable", desc := "(I)I" } : Jvm.MethodName)) ∈ lw_all := lw_g (lw_at lw_m0 20 rfl) rfl
theorem q26 : (Jvm.Cond.selects "RingProver" ({ cls := "RingProver", name := "variable", desc := "(I)I" } : Jvm.MethodName) ({ cls := "RingProver", name := "variable", desc := "(I)I" } : Jvm.MethodName)) ∈ lw_all := lw_g (lw_at lw_m0 21 rfl) rfl
theorem q27 : (Jvm.Cond.code ({ cls := "RingProver", name := "variable", desc := "(I)I" } : Jvm.MethodName) prog_1_method_2_code (2 : Nat) (Option.some Jvm.ClassFile.FieldType.int)) ∈ lw_all := lw_g (lw_at lw_m0 22 rfl) rfl
theorem q28 : (Jvm.Cond.methodLink "RingProver" (17 : Nat) ({ cls := "RingProver", name := "push", desc := "(J)I" } : Jvm.MethodName)) ∈ lw_all := lw_g (lw_at lw_m0 23 rfl) rfl
theorem q29 : (Jvm.Cond.privateMethod ({ cls := "RingProver", name := "push", desc := "(J)I" } : Jvm.MethodName)) ∈ lw_tbl := lw_at lw_m0 24 rfl
theorem q30 : (Jvm.Cond.instanceMethod ({ cls := "RingProver", name := "push", desc := "(J)I" } : Jvm.MethodName)) ∈ lw_all := lw_g (lw_at lw_m0 25 rfl) rfl
theorem q31 : (Jvm.Cond.code ({ cls := "RingProver", name := "push", desc := "(J)I" } : Jvm.MethodName) prog_1_method_15_code (3 : Nat) (Option.some Jvm.ClassFile.FieldType.int)) ∈ lw_all := lw_g (lw_at lw_m0 26 rfl) rfl
theorem q33 : (Jvm.Cond.instanceMethod ({ cls := "RingProver", name := "constant", desc := "(I)I" } : Jvm.MethodName)) ∈ lw_all := lw_g (lw_at lw_m0 28 rfl) rfl
theorem q34 : (Jvm.Cond.selects "RingProver" ({ cls := "RingProver", name := "constant", desc := "(I)I" } : Jvm.MethodName) ({ cls := "RingProver", name := "constant", desc := "(I)I" } : Jvm.MethodName)) ∈ lw_all := lw_g (lw_at lw_m0 29 rfl) rfl
theorem q35 : (Jvm.Cond.code ({ cls := "RingProver", name := "constant", desc := "(I)I" } : Jvm.MethodName) prog_1_method_3_code (2 : Nat) (Option.some Jvm.ClassFile.FieldType.int)) ∈ lw_all := lw_g (lw_at lw_m0 30 rfl) rfl
theorem q37 : (Jvm.Cond.instanceMethod ({ cls := "RingProver", name := "join", desc := "(I)I" } : Jvm.MethodName)) ∈ lw_all := lw_g (lw_at lw_m0 32 rfl) rfl
theorem q38 : (Jvm.Cond.selects "RingProver" ({ cls := "RingProver", name := "join", desc := "(I)I" } : Jvm.MethodName) ({ cls := "RingProver", name := "join", desc := "(I)I" } : Jvm.MethodName)) ∈ lw_all := lw_g (lw_at lw_m0 33 rfl) rfl
theorem q39 : (Jvm.Cond.code ({ cls := "RingProver", name := "join", desc := "(I)I" } : Jvm.MethodName) prog_1_method_4_code (8 : Nat) (Option.some Jvm.ClassFile.FieldType.int)) ∈ lw_all := lw_g (lw_at lw_m0 34 rfl) rfl
theorem q40 : (Jvm.Cond.methodLink "RingProver" (21 : Nat) ({ cls := "RingProver", name := "combine", desc := "(IJJ)J" } : Jvm.MethodName)) ∈ lw_all := lw_g (lw_at lw_m0 35 rfl) rfl
theorem q41 : (Jvm.Cond.static ({ cls := "RingProver", name := "combine", desc := "(IJJ)J" } : Jvm.MethodName)) ∈ lw_all := lw_g (lw_at lw_m0 36 rfl) rfl
theorem q42 : (Jvm.Cond.code ({ cls := "RingProver", name := "combine", desc := "(IJJ)J" } : Jvm.MethodName) prog_1_method_16_code (7 : Nat) (Option.some Jvm.ClassFile.FieldType.long)) ∈ lw_all := lw_g (lw_at lw_m0 37 rfl) rfl
theorem q43 : (Jvm.Cond.methodLink "RingProver" (35 : Nat) ({ cls := "RingProver", name := "multiply", desc := "(JJ)J" } : Jvm.MethodName)) ∈ lw_all := lw_g (lw_at lw_m0 38 rfl) rfl
theorem q44 : (Jvm.Cond.static ({ cls := "RingProver", name := "multiply", desc := "(JJ)J" } : Jvm.MethodName)) ∈ lw_all := lw_g (lw_at lw_m0 39 rfl) rfl
theorem q45 : (Jvm.Cond.code ({ cls := "RingProver", name := "multiply", desc := "(JJ)J" } : Jvm.MethodName) prog_1_method_17_code (7 : Nat) (Option.some Jvm.ClassFile.FieldType.long)) ∈ lw_all := lw_g (lw_at lw_m0 40 rfl) rfl
theorem q46 : (Jvm.Cond.methodLink "RingProver" (46 : Nat) ({ cls := "RingProver", name := "timesProduct", desc := "(JI)J" } : Jvm.MethodName)) ∈ lw_all := lw_g (lw_at lw_m0 41 rfl) rfl
theorem q47 : (Jvm.Cond.static ({ cls := "RingProver", name := "timesProduct", desc := "(JI)J" } : Jvm.MethodName)) ∈ lw_all := lw_g (lw_at lw_m0 42 rfl) rfl
theorem q48 : (Jvm.Cond.code ({ cls := "RingProver", name := "timesProduct", desc := "(JI)J" } : Jvm.MethodName) prog_1_method_18_code (8 : Nat) (Option.some Jvm.ClassFile.FieldType.long)) ∈ lw_all := lw_g (lw_at lw_m0 43 rfl) rfl
theorem q49 : (Jvm.Cond.methodLink "RingProver" (29 : Nat) ({ cls := "RingProver", name := "productsWithout", desc := "(I)J" } : Jvm.MethodName)) ∈ lw_all := lw_g (lw_at lw_m0 44 rfl) rfl
theorem q50 : (Jvm.Cond.static ({ cls := "RingProver", name := "productsWithout", desc := "(I)J" } : Jvm.MethodName)) ∈ lw_all := lw_g (lw_at lw_m0 45 rfl) rfl
theorem q51 : (Jvm.Cond.code ({ cls := "RingProver", name := "productsWithout", desc := "(I)J" } : Jvm.MethodName) prog_1_method_19_code (1 : Nat) (Option.some Jvm.ClassFile.FieldType.long)) ∈ lw_all := lw_g (lw_at lw_m0 46 rfl) rfl
theorem q52 : (Jvm.Cond.constantLong "RingProver" (50 : Nat) (6148914691236517205 : Int64)) ∈ lw_all := lw_g (lw_at lw_m0 47 rfl) rfl
theorem q53 : (Jvm.Cond.constantLong "RingProver" (52 : Nat) (3689348814741910323 : Int64)) ∈ lw_all := lw_g (lw_at lw_m0 48 rfl) rfl
theorem q54 : (Jvm.Cond.constantLong "RingProver" (54 : Nat) (1085102592571150095 : Int64)) ∈ lw_all := lw_g (lw_at lw_m0 49 rfl) rfl
theorem q55 : (Jvm.Cond.constantLong "RingProver" (56 : Nat) (71777214294589695 : Int64)) ∈ lw_all := lw_g (lw_at lw_m0 50 rfl) rfl
theorem q56 : (Jvm.Cond.constantLong "RingProver" (58 : Nat) (281470681808895 : Int64)) ∈ lw_all := lw_g (lw_at lw_m0 51 rfl) rfl
theorem q57 : (Jvm.Cond.constantLong "RingProver" (60 : Nat) (4294967295 : Int64)) ∈ lw_all := lw_g (lw_at lw_m0 52 rfl) rfl
theorem q58 : (Jvm.Cond.constantLong "RingProver" (33 : Nat) (-1 : Int64)) ∈ lw_all := lw_g (lw_at lw_m0 53 rfl) rfl
theorem q60 : (Jvm.Cond.instanceMethod ({ cls := "RingProver", name := "not", desc := "()I" } : Jvm.MethodName)) ∈ lw_all := lw_g (lw_at lw_m0 55 rfl) rfl
theorem q61 : (Jvm.Cond.selects "RingProver" ({ cls := "RingProver", name := "not", desc := "()I" } : Jvm.MethodName) ({ cls := "RingProver", name := "not", desc := "()I" } : Jvm.MethodName)) ∈ lw_all := lw_g (lw_at lw_m0 56 rfl) rfl
theorem q62 : (Jvm.Cond.code ({ cls := "RingProver", name := "not", desc := "()I" } : Jvm.MethodName) prog_1_method_5_code (1 : Nat) (Option.some Jvm.ClassFile.FieldType.int)) ∈ lw_all := lw_g (lw_at lw_m0 57 rfl) rfl
theorem q64 : (Jvm.Cond.instanceMethod ({ cls := "RingProver", name := "copy", desc := "(I)I" } : Jvm.MethodName)) ∈ lw_all := lw_g (lw_at lw_m0 59 rfl) rfl
theorem q65 : (Jvm.Cond.selects "RingProver" ({ cls := "RingProver", name := "copy", desc := "(I)I" } : Jvm.MethodName) ({ cls := "RingProver", name := "copy", desc := "(I)I" } : Jvm.MethodName)) ∈ lw_all := lw_g (lw_at lw_m0 60 rfl) rfl
theorem q66 : (Jvm.Cond.code ({ cls := "RingProver", name := "copy", desc := "(I)I" } : Jvm.MethodName) prog_1_method_6_code (2 : Nat) (Option.some Jvm.ClassFile.FieldType.int)) ∈ lw_all := lw_g (lw_at lw_m0 61 rfl) rfl
theorem q67 : (Jvm.Cond.methodLink "RingProver" (25 : Nat) ({ cls := "RingProver", name := "isFormula", desc := "(I)Z" } : Jvm.MethodName)) ∈ lw_all := lw_g (lw_at lw_m0 62 rfl) rfl
theorem q68 : (Jvm.Cond.privateMethod ({ cls := "RingProver", name := "isFormula", desc := "(I)Z" } : Jvm.MethodName)) ∈ lw_tbl := lw_at lw_m0 63 rfl
theorem q69 : (Jvm.Cond.instanceMethod ({ cls := "RingProver", name := "isFormula", desc := "(I)Z" } : Jvm.MethodName)) ∈ lw_all := lw_g (lw_at lw_m0 64 rfl) rfl
theorem q70 : (Jvm.Cond.code ({ cls := "RingProver", name := "isFormula", desc := "(I)Z" } : Jvm.MethodName) prog_1_method_14_code (2 : Nat) (Option.some Jvm.ClassFile.FieldType.boolean)) ∈ lw_all := lw_g (lw_at lw_m0 65 rfl) rfl
theorem q72 : (Jvm.Cond.instanceMethod ({ cls := "RingProver", name := "drop", desc := "()I" } : Jvm.MethodName)) ∈ lw_all := lw_g (lw_at lw_m0 67 rfl) rfl
theorem q73 : (Jvm.Cond.selects "RingProver" ({ cls := "RingProver", name := "drop", desc := "()I" } : Jvm.MethodName) ({ cls := "RingProver", name := "drop", desc := "()I" } : Jvm.MethodName)) ∈ lw_all := lw_g (lw_at lw_m0 68 rfl) rfl
theorem q74 : (Jvm.Cond.code ({ cls := "RingProver", name := "drop", desc := "()I" } : Jvm.MethodName) prog_1_method_7_code (1 : Nat) (Option.some Jvm.ClassFile.FieldType.int)) ∈ lw_all := lw_g (lw_at lw_m0 69 rfl) rfl
theorem q76 : (Jvm.Cond.instanceMethod ({ cls := "RingProver", name := "replace", desc := "(I)I" } : Jvm.MethodName)) ∈ lw_all := lw_g (lw_at lw_m0 71 rfl) rfl
theorem q77 : (Jvm.Cond.selects "RingProver" ({ cls := "RingProver", name := "replace", desc := "(I)I" } : Jvm.MethodName) ({ cls := "RingProver", name := "replace", desc := "(I)I" } : Jvm.MethodName)) ∈ lw_all := lw_g (lw_at lw_m0 72 rfl) rfl
theorem q78 : (Jvm.Cond.code ({ cls := "RingProver", name := "replace", desc := "(I)I" } : Jvm.MethodName) prog_1_method_8_code (12 : Nat) (Option.some Jvm.ClassFile.FieldType.int)) ∈ lw_all := lw_g (lw_at lw_m0 73 rfl) rfl
theorem q80 : (Jvm.Cond.instanceMethod ({ cls := "RingProver", name := "products", desc := "(I)I" } : Jvm.MethodName)) ∈ lw_all := lw_g (lw_at lw_m0 75 rfl) rfl
theorem q81 : (Jvm.Cond.selects "RingProver" ({ cls := "RingProver", name := "products", desc := "(I)I" } : Jvm.MethodName) ({ cls := "RingProver", name := "products", desc := "(I)I" } : Jvm.MethodName)) ∈ lw_all := lw_g (lw_at lw_m0 76 rfl) rfl
theorem q82 : (Jvm.Cond.code ({ cls := "RingProver", name := "products", desc := "(I)I" } : Jvm.MethodName) prog_1_method_9_code (2 : Nat) (Option.some Jvm.ClassFile.FieldType.int)) ∈ lw_all := lw_g (lw_at lw_m0 77 rfl) rfl
theorem q83 : (Jvm.Cond.methodLink "RingProver" (39 : Nat) ({ cls := "RingProver", name := "ones", desc := "(J)I" } : Jvm.MethodName)) ∈ lw_all := lw_g (lw_at lw_m0 78 rfl) rfl
theorem q84 : (Jvm.Cond.static ({ cls := "RingProver", name := "ones", desc := "(J)I" } : Jvm.MethodName)) ∈ lw_all := lw_g (lw_at lw_m0 79 rfl) rfl
theorem q85 : (Jvm.Cond.code ({ cls := "RingProver", name := "ones", desc := "(J)I" } : Jvm.MethodName) prog_1_method_21_code (4 : Nat) (Option.some Jvm.ClassFile.FieldType.int)) ∈ lw_all := lw_g (lw_at lw_m0 80 rfl) rfl
theorem q86 : (Jvm.Cond.constantLong "RingProver" (62 : Nat) (72340172838076673 : Int64)) ∈ lw_all := lw_g (lw_at lw_m0 81 rfl) rfl
theorem q88 : (Jvm.Cond.instanceMethod ({ cls := "RingProver", name := "has", desc := "(II)I" } : Jvm.MethodName)) ∈ lw_all := lw_g (lw_at lw_m0 83 rfl) rfl
theorem q89 : (Jvm.Cond.selects "RingProver" ({ cls := "RingProver", name := "has", desc := "(II)I" } : Jvm.MethodName) ({ cls := "RingProver", name := "has", desc := "(II)I" } : Jvm.MethodName)) ∈ lw_all := lw_g (lw_at lw_m0 84 rfl) rfl
theorem q90 : (Jvm.Cond.code ({ cls := "RingProver", name := "has", desc := "(II)I" } : Jvm.MethodName) prog_1_method_10_code (3 : Nat) (Option.some Jvm.ClassFile.FieldType.int)) ∈ lw_all := lw_g (lw_at lw_m0 85 rfl) rfl
theorem q92 : (Jvm.Cond.instanceMethod ({ cls := "RingProver", name := "degree", desc := "(I)I" } : Jvm.MethodName)) ∈ lw_all := lw_g (lw_at lw_m0 87 rfl) rfl
theorem q93 : (Jvm.Cond.selects "RingProver" ({ cls := "RingProver", name := "degree", desc := "(I)I" } : Jvm.MethodName) ({ cls := "RingProver", name := "degree", desc := "(I)I" } : Jvm.MethodName)) ∈ lw_all := lw_g (lw_at lw_m0 88 rfl) rfl
theorem q94 : (Jvm.Cond.code ({ cls := "RingProver", name := "degree", desc := "(I)I" } : Jvm.MethodName) prog_1_method_11_code (7 : Nat) (Option.some Jvm.ClassFile.FieldType.int)) ∈ lw_all := lw_g (lw_at lw_m0 89 rfl) rfl
theorem q96 : (Jvm.Cond.instanceMethod ({ cls := "RingProver", name := "models", desc := "(I)I" } : Jvm.MethodName)) ∈ lw_all := lw_g (lw_at lw_m0 91 rfl) rfl
theorem q97 : (Jvm.Cond.selects "RingProver" ({ cls := "RingProver", name := "models", desc := "(I)I" } : Jvm.MethodName) ({ cls := "RingProver", name := "models", desc := "(I)I" } : Jvm.MethodName)) ∈ lw_all := lw_g (lw_at lw_m0 92 rfl) rfl
theorem q98 : (Jvm.Cond.code ({ cls := "RingProver", name := "models", desc := "(I)I" } : Jvm.MethodName) prog_1_method_12_code (4 : Nat) (Option.some Jvm.ClassFile.FieldType.int)) ∈ lw_all := lw_g (lw_at lw_m0 93 rfl) rfl
theorem q99 : (Jvm.Cond.methodLink "RingProver" (42 : Nat) ({ cls := "RingProver", name := "valuesOf", desc := "(J)J" } : Jvm.MethodName)) ∈ lw_all := lw_g (lw_at lw_m0 94 rfl) rfl
theorem q100 : (Jvm.Cond.static ({ cls := "RingProver", name := "valuesOf", desc := "(J)J" } : Jvm.MethodName)) ∈ lw_all := lw_g (lw_at lw_m0 95 rfl) rfl
theorem q101 : (Jvm.Cond.code ({ cls := "RingProver", name := "valuesOf", desc := "(J)J" } : Jvm.MethodName) prog_1_method_20_code (7 : Nat) (Option.some Jvm.ClassFile.FieldType.long)) ∈ lw_all := lw_g (lw_at lw_m0 96 rfl) rfl
theorem q103 : (Jvm.Cond.instanceMethod ({ cls := "RingProver", name := "differ", desc := "(II)I" } : Jvm.MethodName)) ∈ lw_all := lw_g (lw_at lw_m0 98 rfl) rfl
theorem q104 : (Jvm.Cond.selects "RingProver" ({ cls := "RingProver", name := "differ", desc := "(II)I" } : Jvm.MethodName) ({ cls := "RingProver", name := "differ", desc := "(II)I" } : Jvm.MethodName)) ∈ lw_all := lw_g (lw_at lw_m0 99 rfl) rfl
theorem q105 : (Jvm.Cond.code ({ cls := "RingProver", name := "differ", desc := "(II)I" } : Jvm.MethodName) prog_1_method_13_code (7 : Nat) (Option.some Jvm.ClassFile.FieldType.int)) ∈ lw_all := lw_g (lw_at lw_m0 100 rfl) rfl
theorem in_X0 : ∀ w ∈ wsX00, w ∈ lw_all := lw_in wsX00 [18, 20] (by decide +kernel) (by decide +kernel)
end
section
/-! RingProverModel -/
set_option maxRecDepth 100000
def RX1 : String := "RingProverModel"
def TX1 : u_T := fun k => match k with
  | 0 => ("RingProverModel", "height", "I", false)
  | _ => ("RingProverModel", "stack", "[J", true)
def tyX1 : Nat → FieldType := fun k => match k with
  | 0 => .int
  | _ => .array .long
abbrev wsX10 : List Cond := u_ws RX1 TX1 2
theorem nmX1 : ∀ a, a < 2 → ∀ b, b < 2 → a ≠ b → (TX1 a).2.1 ≠ (TX1 b).2.1 := by decide +kernel
theorem tyX1_ok : ∀ k, k < 2 → parseFieldDescriptor (TX1 k).2.2.1 = some (tyX1 k) := by decide +kernel
abbrev cX1_init : ByteArray := prog_3_method_1_code
def yX1_init : MethodName := ⟨RX1, "<init>", "()V"⟩
theorem dX1_init_0 : decode cX1_init 0 = .ok (.aload_n 0, 1) := by decide +kernel
theorem dX1_init_1 : decode cX1_init 1 = .ok (.invokespecial 1, 3) := by decide +kernel
theorem dX1_init_4 : decode cX1_init 4 = .ok (.aload_n 0, 1) := by decide +kernel
theorem dX1_init_5 : decode cX1_init 5 = .ok (.bipush 12, 2) := by decide +kernel
theorem dX1_init_7 : decode cX1_init 7 = .ok (.newarray .long, 2) := by decide +kernel
theorem dX1_init_9 : decode cX1_init 9 = .ok (.putfield 7, 3) := by decide +kernel
theorem dX1_init_12 : decode cX1_init 12 = .ok (.return_, 1) := by decide +kernel
abbrev cX1_variable : ByteArray := prog_3_method_4_code
def yX1_variable : MethodName := ⟨RX1, "variable", "(I)I"⟩
theorem dX1_variable_0 : decode cX1_variable 0 = .ok (.iload_n 1, 1) := by decide +kernel
theorem dX1_variable_1 : decode cX1_variable 1 = .ok (.ifCond .lt 8, 3) := by decide +kernel
theorem dX1_variable_4 : decode cX1_variable 4 = .ok (.iload_n 1, 1) := by decide +kernel
theorem dX1_variable_5 : decode cX1_variable 5 = .ok (.iconst 5, 1) := by decide +kernel
theorem dX1_variable_6 : decode cX1_variable 6 = .ok (.if_icmp .le 5, 3) := by decide +kernel
theorem dX1_variable_9 : decode cX1_variable 9 = .ok (.iconst (-1), 1) := by decide +kernel
theorem dX1_variable_10 : decode cX1_variable 10 = .ok (.ireturn, 1) := by decide +kernel
theorem dX1_variable_11 : decode cX1_variable 11 = .ok (.lconst 0, 1) := by decide +kernel
theorem dX1_variable_12 : decode cX1_variable 12 = .ok (.lstore_n 2, 1) := by decide +kernel
theorem dX1_variable_13 : decode cX1_variable 13 = .ok (.iconst 0, 1) := by decide +kernel
theorem dX1_variable_14 : decode cX1_variable 14 = .ok (.istore 4, 2) := by decide +kernel
theorem dX1_variable_16 : decode cX1_variable 16 = .ok (.iload 4, 2) := by decide +kernel
theorem dX1_variable_18 : decode cX1_variable 18 = .ok (.bipush 64, 2) := by decide +kernel
theorem dX1_variable_20 : decode cX1_variable 20 = .ok (.if_icmp .ge 26, 3) := by decide +kernel
theorem dX1_variable_23 : decode cX1_variable 23 = .ok (.iload 4, 2) := by decide +kernel
theorem dX1_variable_25 : decode cX1_variable 25 = .ok (.iload_n 1, 1) := by decide +kernel
theorem dX1_variable_26 : decode cX1_variable 26 = .ok (.ishr, 1) := by decide +kernel
theorem dX1_variable_27 : decode cX1_variable 27 = .ok (.iconst 1, 1) := by decide +kernel
theorem dX1_variable_28 : decode cX1_variable 28 = .ok (.iand, 1) := by decide +kernel
theorem dX1_variable_29 : decode cX1_variable 29 = .ok (.iconst 1, 1) := by decide +kernel
theorem dX1_variable_30 : decode cX1_variable 30 = .ok (.if_icmp .ne 10, 3) := by decide +kernel
theorem dX1_variable_33 : decode cX1_variable 33 = .ok (.lload_n 2, 1) := by decide +kernel
theorem dX1_variable_34 : decode cX1_variable 34 = .ok (.lconst 1, 1) := by decide +kernel
theorem dX1_variable_35 : decode cX1_variable 35 = .ok (.iload 4, 2) := by decide +kernel
theorem dX1_variable_37 : decode cX1_variable 37 = .ok (.lshl, 1) := by decide +kernel
theorem dX1_variable_38 : decode cX1_variable 38 = .ok (.lor, 1) := by decide +kernel
theorem dX1_variable_39 : decode cX1_variable 39 = .ok (.lstore_n 2, 1) := by decide +kernel
theorem dX1_variable_40 : decode cX1_variable 40 = .ok (.iinc 4 1, 3) := by decide +kernel
theorem dX1_variable_43 : decode cX1_variable 43 = .ok (.goto (-27), 3) := by decide +kernel
theorem dX1_variable_46 : decode cX1_variable 46 = .ok (.aload_n 0, 1) := by decide +kernel
theorem dX1_variable_47 : decode cX1_variable 47 = .ok (.lload_n 2, 1) := by decide +kernel
theorem dX1_variable_48 : decode cX1_variable 48 = .ok (.invokevirtual 17, 3) := by decide +kernel
theorem dX1_variable_51 : decode cX1_variable 51 = .ok (.ireturn, 1) := by decide +kernel
abbrev cX1_push : ByteArray := prog_3_method_2_code
def yX1_push : MethodName := ⟨RX1, "push", "(J)I"⟩
theorem dX1_push_0 : decode cX1_push 0 = .ok (.aload_n 0, 1) := by decide +kernel
theorem dX1_push_1 : decode cX1_push 1 = .ok (.getfield 13, 3) := by decide +kernel
theorem dX1_push_4 : decode cX1_push 4 = .ok (.bipush 12, 2) := by decide +kernel
theorem dX1_push_6 : decode cX1_push 6 = .ok (.if_icmp .ne 5, 3) := by decide +kernel
theorem dX1_push_9 : decode cX1_push 9 = .ok (.iconst (-1), 1) := by decide +kernel
theorem dX1_push_10 : decode cX1_push 10 = .ok (.ireturn, 1) := by decide +kernel
theorem dX1_push_11 : decode cX1_push 11 = .ok (.aload_n 0, 1) := by decide +kernel
theorem dX1_push_12 : decode cX1_push 12 = .ok (.getfield 7, 3) := by decide +kernel
theorem dX1_push_15 : decode cX1_push 15 = .ok (.aload_n 0, 1) := by decide +kernel
theorem dX1_push_16 : decode cX1_push 16 = .ok (.getfield 13, 3) := by decide +kernel
theorem dX1_push_19 : decode cX1_push 19 = .ok (.lload_n 1, 1) := by decide +kernel
theorem dX1_push_20 : decode cX1_push 20 = .ok (.lastore, 1) := by decide +kernel
theorem dX1_push_21 : decode cX1_push 21 = .ok (.aload_n 0, 1) := by decide +kernel
theorem dX1_push_22 : decode cX1_push 22 = .ok (.dup, 1) := by decide +kernel
theorem dX1_push_23 : decode cX1_push 23 = .ok (.getfield 13, 3) := by decide +kernel
theorem dX1_push_26 : decode cX1_push 26 = .ok (.iconst 1, 1) := by decide +kernel
theorem dX1_push_27 : decode cX1_push 27 = .ok (.iadd, 1) := by decide +kernel
theorem dX1_push_28 : decode cX1_push 28 = .ok (.putfield 13, 3) := by decide +kernel
theorem dX1_push_31 : decode cX1_push 31 = .ok (.aload_n 0, 1) := by decide +kernel
theorem dX1_push_32 : decode cX1_push 32 = .ok (.getfield 13, 3) := by decide +kernel
theorem dX1_push_35 : decode cX1_push 35 = .ok (.ireturn, 1) := by decide +kernel
abbrev cX1_constant : ByteArray := prog_3_method_5_code
def yX1_constant : MethodName := ⟨RX1, "constant", "(I)I"⟩
theorem dX1_constant_0 : decode cX1_constant 0 = .ok (.aload_n 0, 1) := by decide +kernel
theorem dX1_constant_1 : decode cX1_constant 1 = .ok (.iload_n 1, 1) := by decide +kernel
theorem dX1_constant_2 : decode cX1_constant 2 = .ok (.iconst 1, 1) := by decide +kernel
theorem dX1_constant_3 : decode cX1_constant 3 = .ok (.iand, 1) := by decide +kernel
theorem dX1_constant_4 : decode cX1_constant 4 = .ok (.iconst 1, 1) := by decide +kernel
theorem dX1_constant_5 : decode cX1_constant 5 = .ok (.if_icmp .ne 9, 3) := by decide +kernel
theorem dX1_constant_8 : decode cX1_constant 8 = .ok (.ldc2_w 21, 3) := by decide +kernel
theorem dX1_constant_11 : decode cX1_constant 11 = .ok (.goto 4, 3) := by decide +kernel
theorem dX1_constant_14 : decode cX1_constant 14 = .ok (.lconst 0, 1) := by decide +kernel
theorem dX1_constant_15 : decode cX1_constant 15 = .ok (.invokevirtual 17, 3) := by decide +kernel
theorem dX1_constant_18 : decode cX1_constant 18 = .ok (.ireturn, 1) := by decide +kernel
abbrev cX1_join : ByteArray := prog_3_method_7_code
def yX1_join : MethodName := ⟨RX1, "join", "(I)I"⟩
theorem dX1_join_0 : decode cX1_join 0 = .ok (.aload_n 0, 1) := by decide +kernel
theorem dX1_join_1 : decode cX1_join 1 = .ok (.getfield 13, 3) := by decide +kernel
theorem dX1_join_4 : decode cX1_join 4 = .ok (.iconst 2, 1) := by decide +kernel
theorem dX1_join_5 : decode cX1_join 5 = .ok (.if_icmp .lt 12, 3) := by decide +kernel
theorem dX1_join_8 : decode cX1_join 8 = .ok (.iload_n 1, 1) := by decide +kernel
theorem dX1_join_9 : decode cX1_join 9 = .ok (.ifCond .lt 8, 3) := by decide +kernel
theorem dX1_join_12 : decode cX1_join 12 = .ok (.iload_n 1, 1) := by decide +kernel
theorem dX1_join_13 : decode cX1_join 13 = .ok (.iconst 5, 1) := by decide +kernel
theorem dX1_join_14 : decode cX1_join 14 = .ok (.if_icmp .le 5, 3) := by decide +kernel
theorem dX1_join_17 : decode cX1_join 17 = .ok (.iconst (-1), 1) := by decide +kernel
theorem dX1_join_18 : decode cX1_join 18 = .ok (.ireturn, 1) := by decide +kernel
theorem dX1_join_19 : decode cX1_join 19 = .ok (.lconst 0, 1) := by decide +kernel
theorem dX1_join_20 : decode cX1_join 20 = .ok (.lstore_n 2, 1) := by decide +kernel
theorem dX1_join_21 : decode cX1_join 21 = .ok (.iconst 0, 1) := by decide +kernel
theorem dX1_join_22 : decode cX1_join 22 = .ok (.istore 4, 2) := by decide +kernel
theorem dX1_join_24 : decode cX1_join 24 = .ok (.iload 4, 2) := by decide +kernel
theorem dX1_join_26 : decode cX1_join 26 = .ok (.bipush 64, 2) := by decide +kernel
theorem dX1_join_28 : decode cX1_join 28 = .ok (.if_icmp .ge 81, 3) := by decide +kernel
theorem dX1_join_31 : decode cX1_join 31 = .ok (.aload_n 0, 1) := by decide +kernel
theorem dX1_join_32 : decode cX1_join 32 = .ok (.getfield 7, 3) := by decide +kernel
theorem dX1_join_35 : decode cX1_join 35 = .ok (.aload_n 0, 1) := by decide +kernel
theorem dX1_join_36 : decode cX1_join 36 = .ok (.getfield 13, 3) := by decide +kernel
theorem dX1_join_39 : decode cX1_join 39 = .ok (.iconst 2, 1) := by decide +kernel
theorem dX1_join_40 : decode cX1_join 40 = .ok (.isub, 1) := by decide +kernel
theorem dX1_join_41 : decode cX1_join 41 = .ok (.laload, 1) := by decide +kernel
theorem dX1_join_42 : decode cX1_join 42 = .ok (.iload 4, 2) := by decide +kernel
theorem dX1_join_44 : decode cX1_join 44 = .ok (.invokestatic 23, 3) := by decide +kernel
theorem dX1_join_47 : decode cX1_join 47 = .ok (.iconst 1, 1) := by decide +kernel
theorem dX1_join_48 : decode cX1_join 48 = .ok (.if_icmp .ne 7, 3) := by decide +kernel
theorem dX1_join_51 : decode cX1_join 51 = .ok (.iconst 1, 1) := by decide +kernel
theorem dX1_join_52 : decode cX1_join 52 = .ok (.goto 4, 3) := by decide +kernel
theorem dX1_join_55 : decode cX1_join 55 = .ok (.iconst 0, 1) := by decide +kernel
theorem dX1_join_56 : decode cX1_join 56 = .ok (.istore 5, 2) := by decide +kernel
theorem dX1_join_58 : decode cX1_join 58 = .ok (.aload_n 0, 1) := by decide +kernel
theorem dX1_join_59 : decode cX1_join 59 = .ok (.getfield 7, 3) := by decide +kernel
theorem dX1_join_62 : decode cX1_join 62 = .ok (.aload_n 0, 1) := by decide +kernel
theorem dX1_join_63 : decode cX1_join 63 = .ok (.getfield 13, 3) := by decide +kernel
theorem dX1_join_66 : decode cX1_join 66 = .ok (.iconst 1, 1) := by decide +kernel
theorem dX1_join_67 : decode cX1_join 67 = .ok (.isub, 1) := by decide +kernel
theorem dX1_join_68 : decode cX1_join 68 = .ok (.laload, 1) := by decide +kernel
theorem dX1_join_69 : decode cX1_join 69 = .ok (.iload 4, 2) := by decide +kernel
theorem dX1_join_71 : decode cX1_join 71 = .ok (.invokestatic 23, 3) := by decide +kernel
theorem dX1_join_74 : decode cX1_join 74 = .ok (.iconst 1, 1) := by decide +kernel
theorem dX1_join_75 : decode cX1_join 75 = .ok (.if_icmp .ne 7, 3) := by decide +kernel
theorem dX1_join_78 : decode cX1_join 78 = .ok (.iconst 1, 1) := by decide +kernel
theorem dX1_join_79 : decode cX1_join 79 = .ok (.goto 4, 3) := by decide +kernel
theorem dX1_join_82 : decode cX1_join 82 = .ok (.iconst 0, 1) := by decide +kernel
theorem dX1_join_83 : decode cX1_join 83 = .ok (.istore 6, 2) := by decide +kernel
theorem dX1_join_85 : decode cX1_join 85 = .ok (.iload_n 1, 1) := by decide +kernel
theorem dX1_join_86 : decode cX1_join 86 = .ok (.iload 5, 2) := by decide +kernel
theorem dX1_join_88 : decode cX1_join 88 = .ok (.iload 6, 2) := by decide +kernel
theorem dX1_join_90 : decode cX1_join 90 = .ok (.invokestatic 27, 3) := by decide +kernel
theorem dX1_join_93 : decode cX1_join 93 = .ok (.ifCond .eq 10, 3) := by decide +kernel
theorem dX1_join_96 : decode cX1_join 96 = .ok (.lload_n 2, 1) := by decide +kernel
theorem dX1_join_97 : decode cX1_join 97 = .ok (.lconst 1, 1) := by decide +kernel
theorem dX1_join_98 : decode cX1_join 98 = .ok (.iload 4, 2) := by decide +kernel
theorem dX1_join_100 : decode cX1_join 100 = .ok (.lshl, 1) := by decide +kernel
theorem dX1_join_101 : decode cX1_join 101 = .ok (.lor, 1) := by decide +kernel
theorem dX1_join_102 : decode cX1_join 102 = .ok (.lstore_n 2, 1) := by decide +kernel
theorem dX1_join_103 : decode cX1_join 103 = .ok (.iinc 4 1, 3) := by decide +kernel
theorem dX1_join_106 : decode cX1_join 106 = .ok (.goto (-82), 3) := by decide +kernel
theorem dX1_join_109 : decode cX1_join 109 = .ok (.aload_n 0, 1) := by decide +kernel
theorem dX1_join_110 : decode cX1_join 110 = .ok (.dup, 1) := by decide +kernel
theorem dX1_join_111 : decode cX1_join 111 = .ok (.getfield 13, 3) := by decide +kernel
theorem dX1_join_114 : decode cX1_join 114 = .ok (.iconst 1, 1) := by decide +kernel
theorem dX1_join_115 : decode cX1_join 115 = .ok (.isub, 1) := by decide +kernel
theorem dX1_join_116 : decode cX1_join 116 = .ok (.putfield 13, 3) := by decide +kernel
theorem dX1_join_119 : decode cX1_join 119 = .ok (.aload_n 0, 1) := by decide +kernel
theorem dX1_join_120 : decode cX1_join 120 = .ok (.getfield 7, 3) := by decide +kernel
theorem dX1_join_123 : decode cX1_join 123 = .ok (.aload_n 0, 1) := by decide +kernel
theorem dX1_join_124 : decode cX1_join 124 = .ok (.getfield 13, 3) := by decide +kernel
theorem dX1_join_127 : decode cX1_join 127 = .ok (.iconst 1, 1) := by decide +kernel
theorem dX1_join_128 : decode cX1_join 128 = .ok (.isub, 1) := by decide +kernel
theorem dX1_join_129 : decode cX1_join 129 = .ok (.lload_n 2, 1) := by decide +kernel
theorem dX1_join_130 : decode cX1_join 130 = .ok (.lastore, 1) := by decide +kernel
theorem dX1_join_131 : decode cX1_join 131 = .ok (.aload_n 0, 1) := by decide +kernel
theorem dX1_join_132 : decode cX1_join 132 = .ok (.getfield 13, 3) := by decide +kernel
theorem dX1_join_135 : decode cX1_join 135 = .ok (.ireturn, 1) := by decide +kernel
abbrev cX1_bit : ByteArray := prog_3_method_3_code
def yX1_bit : MethodName := ⟨RX1, "bit", "(JI)I"⟩
theorem dX1_bit_0 : decode cX1_bit 0 = .ok (.lload_n 0, 1) := by decide +kernel
theorem dX1_bit_1 : decode cX1_bit 1 = .ok (.iload_n 2, 1) := by decide +kernel
theorem dX1_bit_2 : decode cX1_bit 2 = .ok (.lshr, 1) := by decide +kernel
theorem dX1_bit_3 : decode cX1_bit 3 = .ok (.l2i, 1) := by decide +kernel
theorem dX1_bit_4 : decode cX1_bit 4 = .ok (.iconst 1, 1) := by decide +kernel
theorem dX1_bit_5 : decode cX1_bit 5 = .ok (.iand, 1) := by decide +kernel
theorem dX1_bit_6 : decode cX1_bit 6 = .ok (.ireturn, 1) := by decide +kernel
abbrev cX1_joined : ByteArray := prog_3_method_6_code
def yX1_joined : MethodName := ⟨RX1, "joined", "(IZZ)Z"⟩
theorem dX1_joined_0 : decode cX1_joined 0 = .ok (.iload_n 0, 1) := by decide +kernel
theorem dX1_joined_1 : decode cX1_joined 1 = .ok (.ifCond .ne 17, 3) := by decide +kernel
theorem dX1_joined_4 : decode cX1_joined 4 = .ok (.iload_n 1, 1) := by decide +kernel
theorem dX1_joined_5 : decode cX1_joined 5 = .ok (.ifCond .eq 11, 3) := by decide +kernel
theorem dX1_joined_8 : decode cX1_joined 8 = .ok (.iload_n 2, 1) := by decide +kernel
theorem dX1_joined_9 : decode cX1_joined 9 = .ok (.ifCond .eq 7, 3) := by decide +kernel
theorem dX1_joined_12 : decode cX1_joined 12 = .ok (.iconst 1, 1) := by decide +kernel
theorem dX1_joined_13 : decode cX1_joined 13 = .ok (.goto 4, 3) := by decide +kernel
theorem dX1_joined_16 : decode cX1_joined 16 = .ok (.iconst 0, 1) := by decide +kernel
theorem dX1_joined_17 : decode cX1_joined 17 = .ok (.ireturn, 1) := by decide +kernel
theorem dX1_joined_18 : decode cX1_joined 18 = .ok (.iload_n 0, 1) := by decide +kernel
theorem dX1_joined_19 : decode cX1_joined 19 = .ok (.iconst 1, 1) := by decide +kernel
theorem dX1_joined_20 : decode cX1_joined 20 = .ok (.if_icmp .ne 17, 3) := by decide +kernel
theorem dX1_joined_23 : decode cX1_joined 23 = .ok (.iload_n 1, 1) := by decide +kernel
theorem dX1_joined_24 : decode cX1_joined 24 = .ok (.ifCond .ne 7, 3) := by decide +kernel
theorem dX1_joined_27 : decode cX1_joined 27 = .ok (.iload_n 2, 1) := by decide +kernel
theorem dX1_joined_28 : decode cX1_joined 28 = .ok (.ifCond .eq 7, 3) := by decide +kernel
theorem dX1_joined_31 : decode cX1_joined 31 = .ok (.iconst 1, 1) := by decide +kernel
theorem dX1_joined_32 : decode cX1_joined 32 = .ok (.goto 4, 3) := by decide +kernel
theorem dX1_joined_35 : decode cX1_joined 35 = .ok (.iconst 0, 1) := by decide +kernel
theorem dX1_joined_36 : decode cX1_joined 36 = .ok (.ireturn, 1) := by decide +kernel
theorem dX1_joined_37 : decode cX1_joined 37 = .ok (.iload_n 0, 1) := by decide +kernel
theorem dX1_joined_38 : decode cX1_joined 38 = .ok (.iconst 2, 1) := by decide +kernel
theorem dX1_joined_39 : decode cX1_joined 39 = .ok (.if_icmp .ne 14, 3) := by decide +kernel
theorem dX1_joined_42 : decode cX1_joined 42 = .ok (.iload_n 1, 1) := by decide +kernel
theorem dX1_joined_43 : decode cX1_joined 43 = .ok (.iload_n 2, 1) := by decide +kernel
theorem dX1_joined_44 : decode cX1_joined 44 = .ok (.if_icmp .eq 7, 3) := by decide +kernel
theorem dX1_joined_47 : decode cX1_joined 47 = .ok (.iconst 1, 1) := by decide +kernel
theorem dX1_joined_48 : decode cX1_joined 48 = .ok (.goto 4, 3) := by decide +kernel
theorem dX1_joined_51 : decode cX1_joined 51 = .ok (.iconst 0, 1) := by decide +kernel
theorem dX1_joined_52 : decode cX1_joined 52 = .ok (.ireturn, 1) := by decide +kernel
theorem dX1_joined_53 : decode cX1_joined 53 = .ok (.iload_n 0, 1) := by decide +kernel
theorem dX1_joined_54 : decode cX1_joined 54 = .ok (.iconst 3, 1) := by decide +kernel
theorem dX1_joined_55 : decode cX1_joined 55 = .ok (.if_icmp .ne 14, 3) := by decide +kernel
theorem dX1_joined_58 : decode cX1_joined 58 = .ok (.iload_n 1, 1) := by decide +kernel
theorem dX1_joined_59 : decode cX1_joined 59 = .ok (.iload_n 2, 1) := by decide +kernel
theorem dX1_joined_60 : decode cX1_joined 60 = .ok (.if_icmp .ne 7, 3) := by decide +kernel
theorem dX1_joined_63 : decode cX1_joined 63 = .ok (.iconst 1, 1) := by decide +kernel
theorem dX1_joined_64 : decode cX1_joined 64 = .ok (.goto 4, 3) := by decide +kernel
theorem dX1_joined_67 : decode cX1_joined 67 = .ok (.iconst 0, 1) := by decide +kernel
theorem dX1_joined_68 : decode cX1_joined 68 = .ok (.ireturn, 1) := by decide +kernel
theorem dX1_joined_69 : decode cX1_joined 69 = .ok (.iload_n 0, 1) := by decide +kernel
theorem dX1_joined_70 : decode cX1_joined 70 = .ok (.iconst 4, 1) := by decide +kernel
theorem dX1_joined_71 : decode cX1_joined 71 = .ok (.if_icmp .ne 17, 3) := by decide +kernel
theorem dX1_joined_74 : decode cX1_joined 74 = .ok (.iload_n 1, 1) := by decide +kernel
theorem dX1_joined_75 : decode cX1_joined 75 = .ok (.ifCond .eq 7, 3) := by decide +kernel
theorem dX1_joined_78 : decode cX1_joined 78 = .ok (.iload_n 2, 1) := by decide +kernel
theorem dX1_joined_79 : decode cX1_joined 79 = .ok (.ifCond .eq 7, 3) := by decide +kernel
theorem dX1_joined_82 : decode cX1_joined 82 = .ok (.iconst 1, 1) := by decide +kernel
theorem dX1_joined_83 : decode cX1_joined 83 = .ok (.goto 4, 3) := by decide +kernel
theorem dX1_joined_86 : decode cX1_joined 86 = .ok (.iconst 0, 1) := by decide +kernel
theorem dX1_joined_87 : decode cX1_joined 87 = .ok (.ireturn, 1) := by decide +kernel
theorem dX1_joined_88 : decode cX1_joined 88 = .ok (.iload_n 1, 1) := by decide +kernel
theorem dX1_joined_89 : decode cX1_joined 89 = .ok (.ifCond .eq 7, 3) := by decide +kernel
theorem dX1_joined_92 : decode cX1_joined 92 = .ok (.iload_n 2, 1) := by decide +kernel
theorem dX1_joined_93 : decode cX1_joined 93 = .ok (.ifCond .ne 7, 3) := by decide +kernel
theorem dX1_joined_96 : decode cX1_joined 96 = .ok (.iconst 1, 1) := by decide +kernel
theorem dX1_joined_97 : decode cX1_joined 97 = .ok (.goto 4, 3) := by decide +kernel
theorem dX1_joined_100 : decode cX1_joined 100 = .ok (.iconst 0, 1) := by decide +kernel
theorem dX1_joined_101 : decode cX1_joined 101 = .ok (.ireturn, 1) := by decide +kernel
abbrev cX1_not : ByteArray := prog_3_method_8_code
def yX1_not : MethodName := ⟨RX1, "not", "()I"⟩
theorem dX1_not_0 : decode cX1_not 0 = .ok (.aload_n 0, 1) := by decide +kernel
theorem dX1_not_1 : decode cX1_not 1 = .ok (.getfield 13, 3) := by decide +kernel
theorem dX1_not_4 : decode cX1_not 4 = .ok (.ifCond .ne 5, 3) := by decide +kernel
theorem dX1_not_7 : decode cX1_not 7 = .ok (.iconst (-1), 1) := by decide +kernel
theorem dX1_not_8 : decode cX1_not 8 = .ok (.ireturn, 1) := by decide +kernel
theorem dX1_not_9 : decode cX1_not 9 = .ok (.aload_n 0, 1) := by decide +kernel
theorem dX1_not_10 : decode cX1_not 10 = .ok (.getfield 7, 3) := by decide +kernel
theorem dX1_not_13 : decode cX1_not 13 = .ok (.aload_n 0, 1) := by decide +kernel
theorem dX1_not_14 : decode cX1_not 14 = .ok (.getfield 13, 3) := by decide +kernel
theorem dX1_not_17 : decode cX1_not 17 = .ok (.iconst 1, 1) := by decide +kernel
theorem dX1_not_18 : decode cX1_not 18 = .ok (.isub, 1) := by decide +kernel
theorem dX1_not_19 : decode cX1_not 19 = .ok (.aload_n 0, 1) := by decide +kernel
theorem dX1_not_20 : decode cX1_not 20 = .ok (.getfield 7, 3) := by decide +kernel
theorem dX1_not_23 : decode cX1_not 23 = .ok (.aload_n 0, 1) := by decide +kernel
theorem dX1_not_24 : decode cX1_not 24 = .ok (.getfield 13, 3) := by decide +kernel
theorem dX1_not_27 : decode cX1_not 27 = .ok (.iconst 1, 1) := by decide +kernel
theorem dX1_not_28 : decode cX1_not 28 = .ok (.isub, 1) := by decide +kernel
theorem dX1_not_29 : decode cX1_not 29 = .ok (.laload, 1) := by decide +kernel
theorem dX1_not_30 : decode cX1_not 30 = .ok (.ldc2_w 21, 3) := by decide +kernel
theorem dX1_not_33 : decode cX1_not 33 = .ok (.lxor, 1) := by decide +kernel
theorem dX1_not_34 : decode cX1_not 34 = .ok (.lastore, 1) := by decide +kernel
theorem dX1_not_35 : decode cX1_not 35 = .ok (.iconst 0, 1) := by decide +kernel
theorem dX1_not_36 : decode cX1_not 36 = .ok (.ireturn, 1) := by decide +kernel
abbrev cX1_copy : ByteArray := prog_3_method_10_code
def yX1_copy : MethodName := ⟨RX1, "copy", "(I)I"⟩
theorem dX1_copy_0 : decode cX1_copy 0 = .ok (.aload_n 0, 1) := by decide +kernel
theorem dX1_copy_1 : decode cX1_copy 1 = .ok (.iload_n 1, 1) := by decide +kernel
theorem dX1_copy_2 : decode cX1_copy 2 = .ok (.invokevirtual 31, 3) := by decide +kernel
theorem dX1_copy_5 : decode cX1_copy 5 = .ok (.ifCond .eq 7, 3) := by decide +kernel
theorem dX1_copy_8 : decode cX1_copy 8 = .ok (.iconst (-1), 1) := by decide +kernel
theorem dX1_copy_9 : decode cX1_copy 9 = .ok (.goto 20, 3) := by decide +kernel
theorem dX1_copy_12 : decode cX1_copy 12 = .ok (.aload_n 0, 1) := by decide +kernel
theorem dX1_copy_13 : decode cX1_copy 13 = .ok (.aload_n 0, 1) := by decide +kernel
theorem dX1_copy_14 : decode cX1_copy 14 = .ok (.getfield 7, 3) := by decide +kernel
theorem dX1_copy_17 : decode cX1_copy 17 = .ok (.aload_n 0, 1) := by decide +kernel
theorem dX1_copy_18 : decode cX1_copy 18 = .ok (.getfield 13, 3) := by decide +kernel
theorem dX1_copy_21 : decode cX1_copy 21 = .ok (.iconst 1, 1) := by decide +kernel
theorem dX1_copy_22 : decode cX1_copy 22 = .ok (.isub, 1) := by decide +kernel
theorem dX1_copy_23 : decode cX1_copy 23 = .ok (.iload_n 1, 1) := by decide +kernel
theorem dX1_copy_24 : decode cX1_copy 24 = .ok (.isub, 1) := by decide +kernel
theorem dX1_copy_25 : decode cX1_copy 25 = .ok (.laload, 1) := by decide +kernel
theorem dX1_copy_26 : decode cX1_copy 26 = .ok (.invokevirtual 17, 3) := by decide +kernel
theorem dX1_copy_29 : decode cX1_copy 29 = .ok (.ireturn, 1) := by decide +kernel
abbrev cX1_missing : ByteArray := prog_3_method_9_code
def yX1_missing : MethodName := ⟨RX1, "missing", "(I)Z"⟩
theorem dX1_missing_0 : decode cX1_missing 0 = .ok (.iload_n 1, 1) := by decide +kernel
theorem dX1_missing_1 : decode cX1_missing 1 = .ok (.ifCond .lt 11, 3) := by decide +kernel
theorem dX1_missing_4 : decode cX1_missing 4 = .ok (.iload_n 1, 1) := by decide +kernel
theorem dX1_missing_5 : decode cX1_missing 5 = .ok (.aload_n 0, 1) := by decide +kernel
theorem dX1_missing_6 : decode cX1_missing 6 = .ok (.getfield 13, 3) := by decide +kernel
theorem dX1_missing_9 : decode cX1_missing 9 = .ok (.if_icmp .lt 7, 3) := by decide +kernel
theorem dX1_missing_12 : decode cX1_missing 12 = .ok (.iconst 1, 1) := by decide +kernel
theorem dX1_missing_13 : decode cX1_missing 13 = .ok (.goto 4, 3) := by decide +kernel
theorem dX1_missing_16 : decode cX1_missing 16 = .ok (.iconst 0, 1) := by decide +kernel
theorem dX1_missing_17 : decode cX1_missing 17 = .ok (.ireturn, 1) := by decide +kernel
abbrev cX1_drop : ByteArray := prog_3_method_11_code
def yX1_drop : MethodName := ⟨RX1, "drop", "()I"⟩
theorem dX1_drop_0 : decode cX1_drop 0 = .ok (.aload_n 0, 1) := by decide +kernel
theorem dX1_drop_1 : decode cX1_drop 1 = .ok (.getfield 13, 3) := by decide +kernel
theorem dX1_drop_4 : decode cX1_drop 4 = .ok (.ifCond .ne 5, 3) := by decide +kernel
theorem dX1_drop_7 : decode cX1_drop 7 = .ok (.iconst (-1), 1) := by decide +kernel
theorem dX1_drop_8 : decode cX1_drop 8 = .ok (.ireturn, 1) := by decide +kernel
theorem dX1_drop_9 : decode cX1_drop 9 = .ok (.aload_n 0, 1) := by decide +kernel
theorem dX1_drop_10 : decode cX1_drop 10 = .ok (.dup, 1) := by decide +kernel
theorem dX1_drop_11 : decode cX1_drop 11 = .ok (.getfield 13, 3) := by decide +kernel
theorem dX1_drop_14 : decode cX1_drop 14 = .ok (.iconst 1, 1) := by decide +kernel
theorem dX1_drop_15 : decode cX1_drop 15 = .ok (.isub, 1) := by decide +kernel
theorem dX1_drop_16 : decode cX1_drop 16 = .ok (.putfield 13, 3) := by decide +kernel
theorem dX1_drop_19 : decode cX1_drop 19 = .ok (.aload_n 0, 1) := by decide +kernel
theorem dX1_drop_20 : decode cX1_drop 20 = .ok (.getfield 13, 3) := by decide +kernel
theorem dX1_drop_23 : decode cX1_drop 23 = .ok (.ireturn, 1) := by decide +kernel
abbrev cX1_replace : ByteArray := prog_3_method_12_code
def yX1_replace : MethodName := ⟨RX1, "replace", "(I)I"⟩
theorem dX1_replace_0 : decode cX1_replace 0 = .ok (.aload_n 0, 1) := by decide +kernel
theorem dX1_replace_1 : decode cX1_replace 1 = .ok (.getfield 13, 3) := by decide +kernel
theorem dX1_replace_4 : decode cX1_replace 4 = .ok (.iconst 2, 1) := by decide +kernel
theorem dX1_replace_5 : decode cX1_replace 5 = .ok (.if_icmp .lt 12, 3) := by decide +kernel
theorem dX1_replace_8 : decode cX1_replace 8 = .ok (.iload_n 1, 1) := by decide +kernel
theorem dX1_replace_9 : decode cX1_replace 9 = .ok (.ifCond .lt 8, 3) := by decide +kernel
theorem dX1_replace_12 : decode cX1_replace 12 = .ok (.iload_n 1, 1) := by decide +kernel
theorem dX1_replace_13 : decode cX1_replace 13 = .ok (.iconst 5, 1) := by decide +kernel
theorem dX1_replace_14 : decode cX1_replace 14 = .ok (.if_icmp .le 5, 3) := by decide +kernel
theorem dX1_replace_17 : decode cX1_replace 17 = .ok (.iconst (-1), 1) := by decide +kernel
theorem dX1_replace_18 : decode cX1_replace 18 = .ok (.ireturn, 1) := by decide +kernel
theorem dX1_replace_19 : decode cX1_replace 19 = .ok (.aload_n 0, 1) := by decide +kernel
theorem dX1_replace_20 : decode cX1_replace 20 = .ok (.getfield 7, 3) := by decide +kernel
theorem dX1_replace_23 : decode cX1_replace 23 = .ok (.aload_n 0, 1) := by decide +kernel
theorem dX1_replace_24 : decode cX1_replace 24 = .ok (.getfield 13, 3) := by decide +kernel
theorem dX1_replace_27 : decode cX1_replace 27 = .ok (.iconst 1, 1) := by decide +kernel
theorem dX1_replace_28 : decode cX1_replace 28 = .ok (.isub, 1) := by decide +kernel
theorem dX1_replace_29 : decode cX1_replace 29 = .ok (.laload, 1) := by decide +kernel
theorem dX1_replace_30 : decode cX1_replace 30 = .ok (.lstore_n 2, 1) := by decide +kernel
theorem dX1_replace_31 : decode cX1_replace 31 = .ok (.aload_n 0, 1) := by decide +kernel
theorem dX1_replace_32 : decode cX1_replace 32 = .ok (.getfield 7, 3) := by decide +kernel
theorem dX1_replace_35 : decode cX1_replace 35 = .ok (.aload_n 0, 1) := by decide +kernel
theorem dX1_replace_36 : decode cX1_replace 36 = .ok (.getfield 13, 3) := by decide +kernel
theorem dX1_replace_39 : decode cX1_replace 39 = .ok (.iconst 2, 1) := by decide +kernel
theorem dX1_replace_40 : decode cX1_replace 40 = .ok (.isub, 1) := by decide +kernel
theorem dX1_replace_41 : decode cX1_replace 41 = .ok (.laload, 1) := by decide +kernel
theorem dX1_replace_42 : decode cX1_replace 42 = .ok (.lstore 4, 2) := by decide +kernel
theorem dX1_replace_44 : decode cX1_replace 44 = .ok (.lconst 0, 1) := by decide +kernel
theorem dX1_replace_45 : decode cX1_replace 45 = .ok (.lstore 6, 2) := by decide +kernel
theorem dX1_replace_47 : decode cX1_replace 47 = .ok (.iconst 0, 1) := by decide +kernel
theorem dX1_replace_48 : decode cX1_replace 48 = .ok (.istore 8, 2) := by decide +kernel
theorem dX1_replace_50 : decode cX1_replace 50 = .ok (.iload 8, 2) := by decide +kernel
theorem dX1_replace_52 : decode cX1_replace 52 = .ok (.bipush 64, 2) := by decide +kernel
theorem dX1_replace_54 : decode cX1_replace 54 = .ok (.if_icmp .ge 48, 3) := by decide +kernel
theorem dX1_replace_57 : decode cX1_replace 57 = .ok (.iload 8, 2) := by decide +kernel
theorem dX1_replace_59 : decode cX1_replace 59 = .ok (.iconst 1, 1) := by decide +kernel
theorem dX1_replace_60 : decode cX1_replace 60 = .ok (.iload_n 1, 1) := by decide +kernel
theorem dX1_replace_61 : decode cX1_replace 61 = .ok (.ishl, 1) := by decide +kernel
theorem dX1_replace_62 : decode cX1_replace 62 = .ok (.iconst (-1), 1) := by decide +kernel
theorem dX1_replace_63 : decode cX1_replace 63 = .ok (.ixor, 1) := by decide +kernel
theorem dX1_replace_64 : decode cX1_replace 64 = .ok (.iand, 1) := by decide +kernel
theorem dX1_replace_65 : decode cX1_replace 65 = .ok (.lload 4, 2) := by decide +kernel
theorem dX1_replace_67 : decode cX1_replace 67 = .ok (.iload 8, 2) := by decide +kernel
theorem dX1_replace_69 : decode cX1_replace 69 = .ok (.invokestatic 23, 3) := by decide +kernel
theorem dX1_replace_72 : decode cX1_replace 72 = .ok (.iload_n 1, 1) := by decide +kernel
theorem dX1_replace_73 : decode cX1_replace 73 = .ok (.ishl, 1) := by decide +kernel
theorem dX1_replace_74 : decode cX1_replace 74 = .ok (.ior, 1) := by decide +kernel
theorem dX1_replace_75 : decode cX1_replace 75 = .ok (.istore 9, 2) := by decide +kernel
theorem dX1_replace_77 : decode cX1_replace 77 = .ok (.lload_n 2, 1) := by decide +kernel
theorem dX1_replace_78 : decode cX1_replace 78 = .ok (.iload 9, 2) := by decide +kernel
theorem dX1_replace_80 : decode cX1_replace 80 = .ok (.invokestatic 23, 3) := by decide +kernel
theorem dX1_replace_83 : decode cX1_replace 83 = .ok (.iconst 1, 1) := by decide +kernel
theorem dX1_replace_84 : decode cX1_replace 84 = .ok (.if_icmp .ne 12, 3) := by decide +kernel
theorem dX1_replace_87 : decode cX1_replace 87 = .ok (.lload 6, 2) := by decide +kernel
theorem dX1_replace_89 : decode cX1_replace 89 = .ok (.lconst 1, 1) := by decide +kernel
theorem dX1_replace_90 : decode cX1_replace 90 = .ok (.iload 8, 2) := by decide +kernel
theorem dX1_replace_92 : decode cX1_replace 92 = .ok (.lshl, 1) := by decide +kernel
theorem dX1_replace_93 : decode cX1_replace 93 = .ok (.lor, 1) := by decide +kernel
theorem dX1_replace_94 : decode cX1_replace 94 = .ok (.lstore 6, 2) := by decide +kernel
theorem dX1_replace_96 : decode cX1_replace 96 = .ok (.iinc 8 1, 3) := by decide +kernel
theorem dX1_replace_99 : decode cX1_replace 99 = .ok (.goto (-49), 3) := by decide +kernel
theorem dX1_replace_102 : decode cX1_replace 102 = .ok (.aload_n 0, 1) := by decide +kernel
theorem dX1_replace_103 : decode cX1_replace 103 = .ok (.dup, 1) := by decide +kernel
theorem dX1_replace_104 : decode cX1_replace 104 = .ok (.getfield 13, 3) := by decide +kernel
theorem dX1_replace_107 : decode cX1_replace 107 = .ok (.iconst 1, 1) := by decide +kernel
theorem dX1_replace_108 : decode cX1_replace 108 = .ok (.isub, 1) := by decide +kernel
theorem dX1_replace_109 : decode cX1_replace 109 = .ok (.putfield 13, 3) := by decide +kernel
theorem dX1_replace_112 : decode cX1_replace 112 = .ok (.aload_n 0, 1) := by decide +kernel
theorem dX1_replace_113 : decode cX1_replace 113 = .ok (.getfield 7, 3) := by decide +kernel
theorem dX1_replace_116 : decode cX1_replace 116 = .ok (.aload_n 0, 1) := by decide +kernel
theorem dX1_replace_117 : decode cX1_replace 117 = .ok (.getfield 13, 3) := by decide +kernel
theorem dX1_replace_120 : decode cX1_replace 120 = .ok (.iconst 1, 1) := by decide +kernel
theorem dX1_replace_121 : decode cX1_replace 121 = .ok (.isub, 1) := by decide +kernel
theorem dX1_replace_122 : decode cX1_replace 122 = .ok (.lload 6, 2) := by decide +kernel
theorem dX1_replace_124 : decode cX1_replace 124 = .ok (.lastore, 1) := by decide +kernel
theorem dX1_replace_125 : decode cX1_replace 125 = .ok (.aload_n 0, 1) := by decide +kernel
theorem dX1_replace_126 : decode cX1_replace 126 = .ok (.getfield 13, 3) := by decide +kernel
theorem dX1_replace_129 : decode cX1_replace 129 = .ok (.ireturn, 1) := by decide +kernel
abbrev cX1_products : ByteArray := prog_3_method_17_code
def yX1_products : MethodName := ⟨RX1, "products", "(I)I"⟩
theorem dX1_products_0 : decode cX1_products 0 = .ok (.aload_n 0, 1) := by decide +kernel
theorem dX1_products_1 : decode cX1_products 1 = .ok (.iload_n 1, 1) := by decide +kernel
theorem dX1_products_2 : decode cX1_products 2 = .ok (.invokevirtual 31, 3) := by decide +kernel
theorem dX1_products_5 : decode cX1_products 5 = .ok (.ifCond .eq 5, 3) := by decide +kernel
theorem dX1_products_8 : decode cX1_products 8 = .ok (.iconst (-1), 1) := by decide +kernel
theorem dX1_products_9 : decode cX1_products 9 = .ok (.ireturn, 1) := by decide +kernel
theorem dX1_products_10 : decode cX1_products 10 = .ok (.aload_n 0, 1) := by decide +kernel
theorem dX1_products_11 : decode cX1_products 11 = .ok (.iload_n 1, 1) := by decide +kernel
theorem dX1_products_12 : decode cX1_products 12 = .ok (.invokevirtual 43, 3) := by decide +kernel
theorem dX1_products_15 : decode cX1_products 15 = .ok (.lstore_n 2, 1) := by decide +kernel
theorem dX1_products_16 : decode cX1_products 16 = .ok (.lload_n 2, 1) := by decide +kernel
theorem dX1_products_17 : decode cX1_products 17 = .ok (.invokestatic 47, 3) := by decide +kernel
theorem dX1_products_20 : decode cX1_products 20 = .ok (.ireturn, 1) := by decide +kernel
abbrev cX1_found : ByteArray := prog_3_method_16_code
def yX1_found : MethodName := ⟨RX1, "found", "(I)J"⟩
theorem dX1_found_0 : decode cX1_found 0 = .ok (.aload_n 0, 1) := by decide +kernel
theorem dX1_found_1 : decode cX1_found 1 = .ok (.getfield 7, 3) := by decide +kernel
theorem dX1_found_4 : decode cX1_found 4 = .ok (.aload_n 0, 1) := by decide +kernel
theorem dX1_found_5 : decode cX1_found 5 = .ok (.getfield 13, 3) := by decide +kernel
theorem dX1_found_8 : decode cX1_found 8 = .ok (.iconst 1, 1) := by decide +kernel
theorem dX1_found_9 : decode cX1_found 9 = .ok (.isub, 1) := by decide +kernel
theorem dX1_found_10 : decode cX1_found 10 = .ok (.iload_n 1, 1) := by decide +kernel
theorem dX1_found_11 : decode cX1_found 11 = .ok (.isub, 1) := by decide +kernel
theorem dX1_found_12 : decode cX1_found 12 = .ok (.laload, 1) := by decide +kernel
theorem dX1_found_13 : decode cX1_found 13 = .ok (.invokestatic 39, 3) := by decide +kernel
theorem dX1_found_16 : decode cX1_found 16 = .ok (.lreturn, 1) := by decide +kernel
abbrev cX1_productsOf : ByteArray := prog_3_method_14_code
def yX1_productsOf : MethodName := ⟨RX1, "productsOf", "(J)J"⟩
theorem dX1_productsOf_0 : decode cX1_productsOf 0 = .ok (.lload_n 0, 1) := by decide +kernel
theorem dX1_productsOf_1 : decode cX1_productsOf 1 = .ok (.lstore_n 2, 1) := by decide +kernel
theorem dX1_productsOf_2 : decode cX1_productsOf 2 = .ok (.lconst 0, 1) := by decide +kernel
theorem dX1_productsOf_3 : decode cX1_productsOf 3 = .ok (.lstore 4, 2) := by decide +kernel
theorem dX1_productsOf_5 : decode cX1_productsOf 5 = .ok (.iconst 0, 1) := by decide +kernel
theorem dX1_productsOf_6 : decode cX1_productsOf 6 = .ok (.istore 6, 2) := by decide +kernel
theorem dX1_productsOf_8 : decode cX1_productsOf 8 = .ok (.iload 6, 2) := by decide +kernel
theorem dX1_productsOf_10 : decode cX1_productsOf 10 = .ok (.bipush 64, 2) := by decide +kernel
theorem dX1_productsOf_12 : decode cX1_productsOf 12 = .ok (.if_icmp .ge 61, 3) := by decide +kernel
theorem dX1_productsOf_15 : decode cX1_productsOf 15 = .ok (.lload_n 2, 1) := by decide +kernel
theorem dX1_productsOf_16 : decode cX1_productsOf 16 = .ok (.iload 6, 2) := by decide +kernel
theorem dX1_productsOf_18 : decode cX1_productsOf 18 = .ok (.invokestatic 23, 3) := by decide +kernel
theorem dX1_productsOf_21 : decode cX1_productsOf 21 = .ok (.iconst 1, 1) := by decide +kernel
theorem dX1_productsOf_22 : decode cX1_productsOf 22 = .ok (.if_icmp .ne 45, 3) := by decide +kernel
theorem dX1_productsOf_25 : decode cX1_productsOf 25 = .ok (.lload 4, 2) := by decide +kernel
theorem dX1_productsOf_27 : decode cX1_productsOf 27 = .ok (.lconst 1, 1) := by decide +kernel
theorem dX1_productsOf_28 : decode cX1_productsOf 28 = .ok (.iload 6, 2) := by decide +kernel
theorem dX1_productsOf_30 : decode cX1_productsOf 30 = .ok (.lshl, 1) := by decide +kernel
theorem dX1_productsOf_31 : decode cX1_productsOf 31 = .ok (.lor, 1) := by decide +kernel
theorem dX1_productsOf_32 : decode cX1_productsOf 32 = .ok (.lstore 4, 2) := by decide +kernel
theorem dX1_productsOf_34 : decode cX1_productsOf 34 = .ok (.iconst 0, 1) := by decide +kernel
theorem dX1_productsOf_35 : decode cX1_productsOf 35 = .ok (.istore 7, 2) := by decide +kernel
theorem dX1_productsOf_37 : decode cX1_productsOf 37 = .ok (.iload 7, 2) := by decide +kernel
theorem dX1_productsOf_39 : decode cX1_productsOf 39 = .ok (.bipush 64, 2) := by decide +kernel
theorem dX1_productsOf_41 : decode cX1_productsOf 41 = .ok (.if_icmp .ge 26, 3) := by decide +kernel
theorem dX1_productsOf_44 : decode cX1_productsOf 44 = .ok (.iload 6, 2) := by decide +kernel
theorem dX1_productsOf_46 : decode cX1_productsOf 46 = .ok (.iload 7, 2) := by decide +kernel
theorem dX1_productsOf_48 : decode cX1_productsOf 48 = .ok (.invokestatic 35, 3) := by decide +kernel
theorem dX1_productsOf_51 : decode cX1_productsOf 51 = .ok (.ifCond .eq 10, 3) := by decide +kernel
theorem dX1_productsOf_54 : decode cX1_productsOf 54 = .ok (.lload_n 2, 1) := by decide +kernel
theorem dX1_productsOf_55 : decode cX1_productsOf 55 = .ok (.lconst 1, 1) := by decide +kernel
theorem dX1_productsOf_56 : decode cX1_productsOf 56 = .ok (.iload 7, 2) := by decide +kernel
theorem dX1_productsOf_58 : decode cX1_productsOf 58 = .ok (.lshl, 1) := by decide +kernel
theorem dX1_productsOf_59 : decode cX1_productsOf 59 = .ok (.lxor, 1) := by decide +kernel
theorem dX1_productsOf_60 : decode cX1_productsOf 60 = .ok (.lstore_n 2, 1) := by decide +kernel
theorem dX1_productsOf_61 : decode cX1_productsOf 61 = .ok (.iinc 7 1, 3) := by decide +kernel
theorem dX1_productsOf_64 : decode cX1_productsOf 64 = .ok (.goto (-27), 3) := by decide +kernel
theorem dX1_productsOf_67 : decode cX1_productsOf 67 = .ok (.iinc 6 1, 3) := by decide +kernel
theorem dX1_productsOf_70 : decode cX1_productsOf 70 = .ok (.goto (-62), 3) := by decide +kernel
theorem dX1_productsOf_73 : decode cX1_productsOf 73 = .ok (.lload 4, 2) := by decide +kernel
theorem dX1_productsOf_75 : decode cX1_productsOf 75 = .ok (.lreturn, 1) := by decide +kernel
abbrev cX1_holds : ByteArray := prog_3_method_13_code
def yX1_holds : MethodName := ⟨RX1, "holds", "(II)Z"⟩
theorem dX1_holds_0 : decode cX1_holds 0 = .ok (.iload_n 1, 1) := by decide +kernel
theorem dX1_holds_1 : decode cX1_holds 1 = .ok (.iload_n 0, 1) := by decide +kernel
theorem dX1_holds_2 : decode cX1_holds 2 = .ok (.iand, 1) := by decide +kernel
theorem dX1_holds_3 : decode cX1_holds 3 = .ok (.iload_n 0, 1) := by decide +kernel
theorem dX1_holds_4 : decode cX1_holds 4 = .ok (.if_icmp .ne 7, 3) := by decide +kernel
theorem dX1_holds_7 : decode cX1_holds 7 = .ok (.iconst 1, 1) := by decide +kernel
theorem dX1_holds_8 : decode cX1_holds 8 = .ok (.goto 4, 3) := by decide +kernel
theorem dX1_holds_11 : decode cX1_holds 11 = .ok (.iconst 0, 1) := by decide +kernel
theorem dX1_holds_12 : decode cX1_holds 12 = .ok (.ireturn, 1) := by decide +kernel
abbrev cX1_ones : ByteArray := prog_3_method_15_code
def yX1_ones : MethodName := ⟨RX1, "ones", "(J)I"⟩
theorem dX1_ones_0 : decode cX1_ones 0 = .ok (.iconst 0, 1) := by decide +kernel
theorem dX1_ones_1 : decode cX1_ones 1 = .ok (.istore_n 2, 1) := by decide +kernel
theorem dX1_ones_2 : decode cX1_ones 2 = .ok (.iconst 0, 1) := by decide +kernel
theorem dX1_ones_3 : decode cX1_ones 3 = .ok (.istore_n 3, 1) := by decide +kernel
theorem dX1_ones_4 : decode cX1_ones 4 = .ok (.iload_n 3, 1) := by decide +kernel
theorem dX1_ones_5 : decode cX1_ones 5 = .ok (.bipush 64, 2) := by decide +kernel
theorem dX1_ones_7 : decode cX1_ones 7 = .ok (.if_icmp .ge 17, 3) := by decide +kernel
theorem dX1_ones_10 : decode cX1_ones 10 = .ok (.iload_n 2, 1) := by decide +kernel
theorem dX1_ones_11 : decode cX1_ones 11 = .ok (.lload_n 0, 1) := by decide +kernel
theorem dX1_ones_12 : decode cX1_ones 12 = .ok (.iload_n 3, 1) := by decide +kernel
theorem dX1_ones_13 : decode cX1_ones 13 = .ok (.invokestatic 23, 3) := by decide +kernel
theorem dX1_ones_16 : decode cX1_ones 16 = .ok (.iadd, 1) := by decide +kernel
theorem dX1_ones_17 : decode cX1_ones 17 = .ok (.istore_n 2, 1) := by decide +kernel
theorem dX1_ones_18 : decode cX1_ones 18 = .ok (.iinc 3 1, 3) := by decide +kernel
theorem dX1_ones_21 : decode cX1_ones 21 = .ok (.goto (-17), 3) := by decide +kernel
theorem dX1_ones_24 : decode cX1_ones 24 = .ok (.iload_n 2, 1) := by decide +kernel
theorem dX1_ones_25 : decode cX1_ones 25 = .ok (.ireturn, 1) := by decide +kernel
abbrev cX1_has : ByteArray := prog_3_method_18_code
def yX1_has : MethodName := ⟨RX1, "has", "(II)I"⟩
theorem dX1_has_0 : decode cX1_has 0 = .ok (.aload_n 0, 1) := by decide +kernel
theorem dX1_has_1 : decode cX1_has 1 = .ok (.iload_n 1, 1) := by decide +kernel
theorem dX1_has_2 : decode cX1_has 2 = .ok (.invokevirtual 31, 3) := by decide +kernel
theorem dX1_has_5 : decode cX1_has 5 = .ok (.ifCond .ne 13, 3) := by decide +kernel
theorem dX1_has_8 : decode cX1_has 8 = .ok (.iload_n 2, 1) := by decide +kernel
theorem dX1_has_9 : decode cX1_has 9 = .ok (.ifCond .lt 9, 3) := by decide +kernel
theorem dX1_has_12 : decode cX1_has 12 = .ok (.iload_n 2, 1) := by decide +kernel
theorem dX1_has_13 : decode cX1_has 13 = .ok (.bipush 63, 2) := by decide +kernel
theorem dX1_has_15 : decode cX1_has 15 = .ok (.if_icmp .le 5, 3) := by decide +kernel
theorem dX1_has_18 : decode cX1_has 18 = .ok (.iconst (-1), 1) := by decide +kernel
theorem dX1_has_19 : decode cX1_has 19 = .ok (.ireturn, 1) := by decide +kernel
theorem dX1_has_20 : decode cX1_has 20 = .ok (.aload_n 0, 1) := by decide +kernel
theorem dX1_has_21 : decode cX1_has 21 = .ok (.iload_n 1, 1) := by decide +kernel
theorem dX1_has_22 : decode cX1_has 22 = .ok (.invokevirtual 43, 3) := by decide +kernel
theorem dX1_has_25 : decode cX1_has 25 = .ok (.lstore_n 3, 1) := by decide +kernel
theorem dX1_has_26 : decode cX1_has 26 = .ok (.lload_n 3, 1) := by decide +kernel
theorem dX1_has_27 : decode cX1_has 27 = .ok (.iload_n 2, 1) := by decide +kernel
theorem dX1_has_28 : decode cX1_has 28 = .ok (.invokestatic 23, 3) := by decide +kernel
theorem dX1_has_31 : decode cX1_has 31 = .ok (.ireturn, 1) := by decide +kernel
abbrev cX1_degree : ByteArray := prog_3_method_19_code
def yX1_degree : MethodName := ⟨RX1, "degree", "(I)I"⟩
theorem dX1_degree_0 : decode cX1_degree 0 = .ok (.aload_n 0, 1) := by decide +kernel
theorem dX1_degree_1 : decode cX1_degree 1 = .ok (.iload_n 1, 1) := by decide +kernel
theorem dX1_degree_2 : decode cX1_degree 2 = .ok (.invokevirtual 31, 3) := by decide +kernel
theorem dX1_degree_5 : decode cX1_degree 5 = .ok (.ifCond .eq 5, 3) := by decide +kernel
theorem dX1_degree_8 : decode cX1_degree 8 = .ok (.iconst (-1), 1) := by decide +kernel
theorem dX1_degree_9 : decode cX1_degree 9 = .ok (.ireturn, 1) := by decide +kernel
theorem dX1_degree_10 : decode cX1_degree 10 = .ok (.aload_n 0, 1) := by decide +kernel
theorem dX1_degree_11 : decode cX1_degree 11 = .ok (.iload_n 1, 1) := by decide +kernel
theorem dX1_degree_12 : decode cX1_degree 12 = .ok (.invokevirtual 43, 3) := by decide +kernel
theorem dX1_degree_15 : decode cX1_degree 15 = .ok (.lstore_n 2, 1) := by decide +kernel
theorem dX1_degree_16 : decode cX1_degree 16 = .ok (.iconst 0, 1) := by decide +kernel
theorem dX1_degree_17 : decode cX1_degree 17 = .ok (.istore 4, 2) := by decide +kernel
theorem dX1_degree_19 : decode cX1_degree 19 = .ok (.iconst 0, 1) := by decide +kernel
theorem dX1_degree_20 : decode cX1_degree 20 = .ok (.istore 5, 2) := by decide +kernel
theorem dX1_degree_22 : decode cX1_degree 22 = .ok (.iload 5, 2) := by decide +kernel
theorem dX1_degree_24 : decode cX1_degree 24 = .ok (.bipush 64, 2) := by decide +kernel
theorem dX1_degree_26 : decode cX1_degree 26 = .ok (.if_icmp .ge 38, 3) := by decide +kernel
theorem dX1_degree_29 : decode cX1_degree 29 = .ok (.lload_n 2, 1) := by decide +kernel
theorem dX1_degree_30 : decode cX1_degree 30 = .ok (.iload 5, 2) := by decide +kernel
theorem dX1_degree_32 : decode cX1_degree 32 = .ok (.invokestatic 23, 3) := by decide +kernel
theorem dX1_degree_35 : decode cX1_degree 35 = .ok (.iconst 1, 1) := by decide +kernel
theorem dX1_degree_36 : decode cX1_degree 36 = .ok (.if_icmp .ne 22, 3) := by decide +kernel
theorem dX1_degree_39 : decode cX1_degree 39 = .ok (.iload 5, 2) := by decide +kernel
theorem dX1_degree_41 : decode cX1_degree 41 = .ok (.i2l, 1) := by decide +kernel
theorem dX1_degree_42 : decode cX1_degree 42 = .ok (.invokestatic 47, 3) := by decide +kernel
theorem dX1_degree_45 : decode cX1_degree 45 = .ok (.iload 4, 2) := by decide +kernel
theorem dX1_degree_47 : decode cX1_degree 47 = .ok (.if_icmp .le 11, 3) := by decide +kernel
theorem dX1_degree_50 : decode cX1_degree 50 = .ok (.iload 5, 2) := by decide +kernel
theorem dX1_degree_52 : decode cX1_degree 52 = .ok (.i2l, 1) := by decide +kernel
theorem dX1_degree_53 : decode cX1_degree 53 = .ok (.invokestatic 47, 3) := by decide +kernel
theorem dX1_degree_56 : decode cX1_degree 56 = .ok (.istore 4, 2) := by decide +kernel
theorem dX1_degree_58 : decode cX1_degree 58 = .ok (.iinc 5 1, 3) := by decide +kernel
theorem dX1_degree_61 : decode cX1_degree 61 = .ok (.goto (-39), 3) := by decide +kernel
theorem dX1_degree_64 : decode cX1_degree 64 = .ok (.iload 4, 2) := by decide +kernel
theorem dX1_degree_66 : decode cX1_degree 66 = .ok (.ireturn, 1) := by decide +kernel
abbrev cX1_models : ByteArray := prog_3_method_20_code
def yX1_models : MethodName := ⟨RX1, "models", "(I)I"⟩
theorem dX1_models_0 : decode cX1_models 0 = .ok (.aload_n 0, 1) := by decide +kernel
theorem dX1_models_1 : decode cX1_models 1 = .ok (.iload_n 1, 1) := by decide +kernel
theorem dX1_models_2 : decode cX1_models 2 = .ok (.invokevirtual 31, 3) := by decide +kernel
theorem dX1_models_5 : decode cX1_models 5 = .ok (.ifCond .eq 7, 3) := by decide +kernel
theorem dX1_models_8 : decode cX1_models 8 = .ok (.iconst (-1), 1) := by decide +kernel
theorem dX1_models_9 : decode cX1_models 9 = .ok (.goto 19, 3) := by decide +kernel
theorem dX1_models_12 : decode cX1_models 12 = .ok (.aload_n 0, 1) := by decide +kernel
theorem dX1_models_13 : decode cX1_models 13 = .ok (.getfield 7, 3) := by decide +kernel
theorem dX1_models_16 : decode cX1_models 16 = .ok (.aload_n 0, 1) := by decide +kernel
theorem dX1_models_17 : decode cX1_models 17 = .ok (.getfield 13, 3) := by decide +kernel
theorem dX1_models_20 : decode cX1_models 20 = .ok (.iconst 1, 1) := by decide +kernel
theorem dX1_models_21 : decode cX1_models 21 = .ok (.isub, 1) := by decide +kernel
theorem dX1_models_22 : decode cX1_models 22 = .ok (.iload_n 1, 1) := by decide +kernel
theorem dX1_models_23 : decode cX1_models 23 = .ok (.isub, 1) := by decide +kernel
theorem dX1_models_24 : decode cX1_models 24 = .ok (.laload, 1) := by decide +kernel
theorem dX1_models_25 : decode cX1_models 25 = .ok (.invokestatic 47, 3) := by decide +kernel
theorem dX1_models_28 : decode cX1_models 28 = .ok (.ireturn, 1) := by decide +kernel
abbrev cX1_differ : ByteArray := prog_3_method_21_code
def yX1_differ : MethodName := ⟨RX1, "differ", "(II)I"⟩
theorem dX1_differ_0 : decode cX1_differ 0 = .ok (.aload_n 0, 1) := by decide +kernel
theorem dX1_differ_1 : decode cX1_differ 1 = .ok (.iload_n 1, 1) := by decide +kernel
theorem dX1_differ_2 : decode cX1_differ 2 = .ok (.invokevirtual 31, 3) := by decide +kernel
theorem dX1_differ_5 : decode cX1_differ 5 = .ok (.ifCond .ne 11, 3) := by decide +kernel
theorem dX1_differ_8 : decode cX1_differ 8 = .ok (.aload_n 0, 1) := by decide +kernel
theorem dX1_differ_9 : decode cX1_differ 9 = .ok (.iload_n 2, 1) := by decide +kernel
theorem dX1_differ_10 : decode cX1_differ 10 = .ok (.invokevirtual 31, 3) := by decide +kernel
theorem dX1_differ_13 : decode cX1_differ 13 = .ok (.ifCond .eq 5, 3) := by decide +kernel
theorem dX1_differ_16 : decode cX1_differ 16 = .ok (.iconst (-1), 1) := by decide +kernel
theorem dX1_differ_17 : decode cX1_differ 17 = .ok (.ireturn, 1) := by decide +kernel
theorem dX1_differ_18 : decode cX1_differ 18 = .ok (.iconst 0, 1) := by decide +kernel
theorem dX1_differ_19 : decode cX1_differ 19 = .ok (.istore_n 3, 1) := by decide +kernel
theorem dX1_differ_20 : decode cX1_differ 20 = .ok (.iload_n 3, 1) := by decide +kernel
theorem dX1_differ_21 : decode cX1_differ 21 = .ok (.bipush 64, 2) := by decide +kernel
theorem dX1_differ_23 : decode cX1_differ 23 = .ok (.if_icmp .ge 48, 3) := by decide +kernel
theorem dX1_differ_26 : decode cX1_differ 26 = .ok (.aload_n 0, 1) := by decide +kernel
theorem dX1_differ_27 : decode cX1_differ 27 = .ok (.getfield 7, 3) := by decide +kernel
theorem dX1_differ_30 : decode cX1_differ 30 = .ok (.aload_n 0, 1) := by decide +kernel
theorem dX1_differ_31 : decode cX1_differ 31 = .ok (.getfield 13, 3) := by decide +kernel
theorem dX1_differ_34 : decode cX1_differ 34 = .ok (.iconst 1, 1) := by decide +kernel
theorem dX1_differ_35 : decode cX1_differ 35 = .ok (.isub, 1) := by decide +kernel
theorem dX1_differ_36 : decode cX1_differ 36 = .ok (.iload_n 1, 1) := by decide +kernel
theorem dX1_differ_37 : decode cX1_differ 37 = .ok (.isub, 1) := by decide +kernel
theorem dX1_differ_38 : decode cX1_differ 38 = .ok (.laload, 1) := by decide +kernel
theorem dX1_differ_39 : decode cX1_differ 39 = .ok (.iload_n 3, 1) := by decide +kernel
theorem dX1_differ_40 : decode cX1_differ 40 = .ok (.invokestatic 23, 3) := by decide +kernel
theorem dX1_differ_43 : decode cX1_differ 43 = .ok (.aload_n 0, 1) := by decide +kernel
theorem dX1_differ_44 : decode cX1_differ 44 = .ok (.getfield 7, 3) := by decide +kernel
theorem dX1_differ_47 : decode cX1_differ 47 = .ok (.aload_n 0, 1) := by decide +kernel
theorem dX1_differ_48 : decode cX1_differ 48 = .ok (.getfield 13, 3) := by decide +kernel
theorem dX1_differ_51 : decode cX1_differ 51 = .ok (.iconst 1, 1) := by decide +kernel
theorem dX1_differ_52 : decode cX1_differ 52 = .ok (.isub, 1) := by decide +kernel
theorem dX1_differ_53 : decode cX1_differ 53 = .ok (.iload_n 2, 1) := by decide +kernel
theorem dX1_differ_54 : decode cX1_differ 54 = .ok (.isub, 1) := by decide +kernel
theorem dX1_differ_55 : decode cX1_differ 55 = .ok (.laload, 1) := by decide +kernel
theorem dX1_differ_56 : decode cX1_differ 56 = .ok (.iload_n 3, 1) := by decide +kernel
theorem dX1_differ_57 : decode cX1_differ 57 = .ok (.invokestatic 23, 3) := by decide +kernel
theorem dX1_differ_60 : decode cX1_differ 60 = .ok (.if_icmp .eq 5, 3) := by decide +kernel
theorem dX1_differ_63 : decode cX1_differ 63 = .ok (.iload_n 3, 1) := by decide +kernel
theorem dX1_differ_64 : decode cX1_differ 64 = .ok (.ireturn, 1) := by decide +kernel
theorem dX1_differ_65 : decode cX1_differ 65 = .ok (.iinc 3 1, 3) := by decide +kernel
theorem dX1_differ_68 : decode cX1_differ 68 = .ok (.goto (-48), 3) := by decide +kernel
theorem dX1_differ_71 : decode cX1_differ 71 = .ok (.bipush 64, 2) := by decide +kernel
theorem dX1_differ_73 : decode cX1_differ 73 = .ok (.ireturn, 1) := by decide +kernel
theorem q7 : (Jvm.Cond.initialized "RingProverModel") ∈ lw_all := lw_g (lw_at lw_m0 2 rfl) rfl
theorem q107 : (Jvm.Cond.instantiable "RingProverModel" (2 : Nat)) ∈ lw_all := lw_g (lw_at lw_m0 102 rfl) rfl
theorem q109 : (Jvm.Cond.instanceMethod ({ cls := "RingProverModel", name := "<init>", desc := "()V" } : Jvm.MethodName)) ∈ lw_all := lw_g (lw_at lw_m0 104 rfl) rfl
theorem q110 : (Jvm.Cond.code ({ cls := "RingProverModel", name := "<init>", desc := "()V" } : Jvm.MethodName) prog_3_method_1_code (1 : Nat) (Option.none : Option Jvm.ClassFile.FieldType)) ∈ lw_all := lw_g (lw_at lw_m0 105 rfl) rfl
theorem q111 : (Jvm.Cond.methodLink "RingProverModel" (1 : Nat) ({ cls := "java/lang/Object", name := "<init>", desc := "()V" } : Jvm.MethodName)) ∈ lw_all := lw_g (lw_at lw_m0 106 rfl) rfl
theorem q112 : (Jvm.Cond.fieldLink "RingProverModel" (13 : Nat) "RingProverModel" "height" "I") ∈ lw_all := lw_g (lw_at lw_m0 107 rfl) rfl
theorem q113 : (Jvm.Cond.fieldLink "RingProverModel" (7 : Nat) "RingProverModel" "stack" "[J") ∈ lw_all := lw_g (lw_at lw_m0 108 rfl) rfl
theorem q114 : (Jvm.Cond.lays "RingProverModel" "RingProverModel" "height" "I") ∈ lw_all := lw_g (lw_at lw_m0 109 rfl) rfl
theorem q115 : (Jvm.Cond.soleField "RingProverModel" "height") ∈ lw_all := lw_g (lw_at lw_m0 110 rfl) rfl
theorem q116 : (Jvm.Cond.laysFinal "RingProverModel" "RingProverModel" "stack" "[J") ∈ lw_all := lw_g (lw_at lw_m0 111 rfl) rfl
theorem q117 : (Jvm.Cond.soleField "RingProverModel" "stack") ∈ lw_all := lw_g (lw_at lw_m0 112 rfl) rfl
theorem q118 : (Jvm.Cond.superclass "RingProverModel" "java/lang/Object") ∈ lw_all := lw_g (lw_at lw_m0 113 rfl) rfl
theorem q120 : (Jvm.Cond.instanceMethod ({ cls := "RingProverModel", name := "variable", desc := "(I)I" } : Jvm.MethodName)) ∈ lw_all := lw_g (lw_at lw_m0 115 rfl) rfl
theorem q121 : (Jvm.Cond.selects "RingProverModel" ({ cls := "RingProverModel", name := "variable", desc := "(I)I" } : Jvm.MethodName) ({ cls := "RingProverModel", name := "variable", desc := "(I)I" } : Jvm.MethodName)) ∈ lw_all := lw_g (lw_at lw_m0 116 rfl) rfl
theorem q122 : (Jvm.Cond.code ({ cls := "RingProverModel", name := "variable", desc := "(I)I" } : Jvm.MethodName) prog_3_method_4_code (5 : Nat) (Option.some Jvm.ClassFile.FieldType.int)) ∈ lw_all := lw_g (lw_at lw_m0 117 rfl) rfl
theorem q123 : (Jvm.Cond.methodLink "RingProverModel" (17 : Nat) ({ cls := "RingProverModel", name := "push", desc := "(J)I" } : Jvm.MethodName)) ∈ lw_all := lw_g (lw_at lw_m0 118 rfl) rfl
theorem q124 : (Jvm.Cond.privateMethod ({ cls := "RingProverModel", name := "push", desc := "(J)I" } : Jvm.MethodName)) ∈ lw_tbl := lw_at lw_m0 119 rfl
theorem q125 : (Jvm.Cond.instanceMethod ({ cls := "RingProverModel", name := "push", desc := "(J)I" } : Jvm.MethodName)) ∈ lw_all := lw_g (lw_at lw_m0 120 rfl) rfl
theorem q126 : (Jvm.Cond.code ({ cls := "RingProverModel", name := "push", desc := "(J)I" } : Jvm.MethodName) prog_3_method_2_code (3 : Nat) (Option.some Jvm.ClassFile.FieldType.int)) ∈ lw_all := lw_g (lw_at lw_m0 121 rfl) rfl
theorem q128 : (Jvm.Cond.instanceMethod ({ cls := "RingProverModel", name := "constant", desc := "(I)I" } : Jvm.MethodName)) ∈ lw_all := lw_g (lw_at lw_m0 123 rfl) rfl
theorem q129 : (Jvm.Cond.selects "RingProverModel" ({ cls := "RingProverModel", name := "constant", desc := "(I)I" } : Jvm.MethodName) ({ cls := "RingProverModel", name := "constant", desc := "(I)I" } : Jvm.MethodName)) ∈ lw_all := lw_g (lw_at lw_m0 124 rfl) rfl
theorem q130 : (Jvm.Cond.code ({ cls := "RingProverModel", name := "constant", desc := "(I)I" } : Jvm.MethodName) prog_3_method_5_code (2 : Nat) (Option.some Jvm.ClassFile.FieldType.int)) ∈ lw_all := lw_g (lw_at lw_m0 125 rfl) rfl
theorem q131 : (Jvm.Cond.constantLong "RingProverModel" (21 : Nat) (-1 : Int64)) ∈ lw_all := lw_g (lw_at lw_m0 126 rfl) rfl
theorem q133 : (Jvm.Cond.instanceMethod ({ cls := "RingProverModel", name := "join", desc := "(I)I" } : Jvm.MethodName)) ∈ lw_all := lw_g (lw_at lw_m0 128 rfl) rfl
theorem q134 : (Jvm.Cond.selects "RingProverModel" ({ cls := "RingProverModel", name := "join", desc := "(I)I" } : Jvm.MethodName) ({ cls := "RingProverModel", name := "join", desc := "(I)I" } : Jvm.MethodName)) ∈ lw_all := lw_g (lw_at lw_m0 129 rfl) rfl
theorem q135 : (Jvm.Cond.code ({ cls := "RingProverModel", name := "join", desc := "(I)I" } : Jvm.MethodName) prog_3_method_7_code (7 : Nat) (Option.some Jvm.ClassFile.FieldType.int)) ∈ lw_all := lw_g (lw_at lw_m0 130 rfl) rfl
theorem q136 : (Jvm.Cond.methodLink "RingProverModel" (23 : Nat) ({ cls := "RingProverModel", name := "bit", desc := "(JI)I" } : Jvm.MethodName)) ∈ lw_all := lw_g (lw_at lw_m0 131 rfl) rfl
theorem q137 : (Jvm.Cond.static ({ cls := "RingProverModel", name := "bit", desc := "(JI)I" } : Jvm.MethodName)) ∈ lw_all := lw_g (lw_at lw_m0 132 rfl) rfl
theorem q138 : (Jvm.Cond.code ({ cls := "RingProverModel", name := "bit", desc := "(JI)I" } : Jvm.MethodName) prog_3_method_3_code (3 : Nat) (Option.some Jvm.ClassFile.FieldType.int)) ∈ lw_all := lw_g (lw_at lw_m0 133 rfl) rfl
theorem q139 : (Jvm.Cond.methodLink "RingProverModel" (27 : Nat) ({ cls := "RingProverModel", name := "joined", desc := "(IZZ)Z" } : Jvm.MethodName)) ∈ lw_all := lw_g (lw_at lw_m0 134 rfl) rfl
theorem q140 : (Jvm.Cond.static ({ cls := "RingProverModel", name := "joined", desc := "(IZZ)Z" } : Jvm.MethodName)) ∈ lw_all := lw_g (lw_at lw_m0 135 rfl) rfl
theorem q141 : (Jvm.Cond.code ({ cls := "RingProverModel", name := "joined", desc := "(IZZ)Z" } : Jvm.MethodName) prog_3_method_6_code (3 : Nat) (Option.some Jvm.ClassFile.FieldType.boolean)) ∈ lw_all := lw_g (lw_at lw_m0 136 rfl) rfl
theorem q143 : (Jvm.Cond.instanceMethod ({ cls := "RingProverModel", name := "not", desc := "()I" } : Jvm.MethodName)) ∈ lw_all := lw_g (lw_at lw_m0 138 rfl) rfl
theorem q144 : (Jvm.Cond.selects "RingProverModel" ({ cls := "RingProverModel", name := "not", desc := "()I" } : Jvm.MethodName) ({ cls := "RingProverModel", name := "not", desc := "()I" } : Jvm.MethodName)) ∈ lw_all := lw_g (lw_at lw_m0 139 rfl) rfl
theorem q145 : (Jvm.Cond.code ({ cls := "RingProverModel", name := "not", desc := "()I" } : Jvm.MethodName) prog_3_method_8_code (1 : Nat) (Option.some Jvm.ClassFile.FieldType.int)) ∈ lw_all := lw_g (lw_at lw_m0 140 rfl) rfl
theorem q147 : (Jvm.Cond.instanceMethod ({ cls := "RingProverModel", name := "copy", desc := "(I)I" } : Jvm.MethodName)) ∈ lw_all := lw_g (lw_at lw_m0 142 rfl) rfl
theorem q148 : (Jvm.Cond.selects "RingProverModel" ({ cls := "RingProverModel", name := "copy", desc := "(I)I" } : Jvm.MethodName) ({ cls := "RingProverModel", name := "copy", desc := "(I)I" } : Jvm.MethodName)) ∈ lw_all := lw_g (lw_at lw_m0 143 rfl) rfl
theorem q149 : (Jvm.Cond.code ({ cls := "RingProverModel", name := "copy", desc := "(I)I" } : Jvm.MethodName) prog_3_method_10_code (2 : Nat) (Option.some Jvm.ClassFile.FieldType.int)) ∈ lw_all := lw_g (lw_at lw_m0 144 rfl) rfl
theorem q150 : (Jvm.Cond.methodLink "RingProverModel" (31 : Nat) ({ cls := "RingProverModel", name := "missing", desc := "(I)Z" } : Jvm.MethodName)) ∈ lw_all := lw_g (lw_at lw_m0 145 rfl) rfl
theorem q151 : (Jvm.Cond.privateMethod ({ cls := "RingProverModel", name := "missing", desc := "(I)Z" } : Jvm.MethodName)) ∈ lw_tbl := lw_at lw_m0 146 rfl
theorem q152 : (Jvm.Cond.instanceMethod ({ cls := "RingProverModel", name := "missing", desc := "(I)Z" } : Jvm.MethodName)) ∈ lw_all := lw_g (lw_at lw_m0 147 rfl) rfl
theorem q153 : (Jvm.Cond.code ({ cls := "RingProverModel", name := "missing", desc := "(I)Z" } : Jvm.MethodName) prog_3_method_9_code (2 : Nat) (Option.some Jvm.ClassFile.FieldType.boolean)) ∈ lw_all := lw_g (lw_at lw_m0 148 rfl) rfl
theorem q155 : (Jvm.Cond.instanceMethod ({ cls := "RingProverModel", name := "drop", desc := "()I" } : Jvm.MethodName)) ∈ lw_all := lw_g (lw_at lw_m0 150 rfl) rfl
theorem q156 : (Jvm.Cond.selects "RingProverModel" ({ cls := "RingProverModel", name := "drop", desc := "()I" } : Jvm.MethodName) ({ cls := "RingProverModel", name := "drop", desc := "()I" } : Jvm.MethodName)) ∈ lw_all := lw_g (lw_at lw_m0 151 rfl) rfl
theorem q157 : (Jvm.Cond.code ({ cls := "RingProverModel", name := "drop", desc := "()I" } : Jvm.MethodName) prog_3_method_11_code (1 : Nat) (Option.some Jvm.ClassFile.FieldType.int)) ∈ lw_all := lw_g (lw_at lw_m0 152 rfl) rfl
theorem q159 : (Jvm.Cond.instanceMethod ({ cls := "RingProverModel", name := "replace", desc := "(I)I" } : Jvm.MethodName)) ∈ lw_all := lw_g (lw_at lw_m0 154 rfl) rfl
theorem q160 : (Jvm.Cond.selects "RingProverModel" ({ cls := "RingProverModel", name := "replace", desc := "(I)I" } : Jvm.MethodName) ({ cls := "RingProverModel", name := "replace", desc := "(I)I" } : Jvm.MethodName)) ∈ lw_all := lw_g (lw_at lw_m0 155 rfl) rfl
theorem q161 : (Jvm.Cond.code ({ cls := "RingProverModel", name := "replace", desc := "(I)I" } : Jvm.MethodName) prog_3_method_12_code (10 : Nat) (Option.some Jvm.ClassFile.FieldType.int)) ∈ lw_all := lw_g (lw_at lw_m0 156 rfl) rfl
theorem q163 : (Jvm.Cond.instanceMethod ({ cls := "RingProverModel", name := "products", desc := "(I)I" } : Jvm.MethodName)) ∈ lw_all := lw_g (lw_at lw_m0 158 rfl) rfl
theorem q164 : (Jvm.Cond.selects "RingProverModel" ({ cls := "RingProverModel", name := "products", desc := "(I)I" } : Jvm.MethodName) ({ cls := "RingProverModel", name := "products", desc := "(I)I" } : Jvm.MethodName)) ∈ lw_all := lw_g (lw_at lw_m0 159 rfl) rfl
theorem q165 : (Jvm.Cond.code ({ cls := "RingProverModel", name := "products", desc := "(I)I" } : Jvm.MethodName) prog_3_method_17_code (4 : Nat) (Option.some Jvm.ClassFile.FieldType.int)) ∈ lw_all := lw_g (lw_at lw_m0 160 rfl) rfl
theorem q166 : (Jvm.Cond.methodLink "RingProverModel" (43 : Nat) ({ cls := "RingProverModel", name := "found", desc := "(I)J" } : Jvm.MethodName)) ∈ lw_all := lw_g (lw_at lw_m0 161 rfl) rfl
theorem q167 : (Jvm.Cond.privateMethod ({ cls := "RingProverModel", name := "found", desc := "(I)J" } : Jvm.MethodName)) ∈ lw_tbl := lw_at lw_m0 162 rfl
theorem q168 : (Jvm.Cond.instanceMethod ({ cls := "RingProverModel", name := "found", desc := "(I)J" } : Jvm.MethodName)) ∈ lw_all := lw_g (lw_at lw_m0 163 rfl) rfl
theorem q169 : (Jvm.Cond.code ({ cls := "RingProverModel", name := "found", desc := "(I)J" } : Jvm.MethodName) prog_3_method_16_code (2 : Nat) (Option.some Jvm.ClassFile.FieldType.long)) ∈ lw_all := lw_g (lw_at lw_m0 164 rfl) rfl
theorem q170 : (Jvm.Cond.methodLink "RingProverModel" (39 : Nat) ({ cls := "RingProverModel", name := "productsOf", desc := "(J)J" } : Jvm.MethodName)) ∈ lw_all := lw_g (lw_at lw_m0 165 rfl) rfl
theorem q171 : (Jvm.Cond.static ({ cls := "RingProverModel", name := "productsOf", desc := "(J)J" } : Jvm.MethodName)) ∈ lw_all := lw_g (lw_at lw_m0 166 rfl) rfl
theorem q172 : (Jvm.Cond.code ({ cls := "RingProverModel", name := "productsOf", desc := "(J)J" } : Jvm.MethodName) prog_3_method_14_code (8 : Nat) (Option.some Jvm.ClassFile.FieldType.long)) ∈ lw_all := lw_g (lw_at lw_m0 167 rfl) rfl
theorem q173 : (Jvm.Cond.methodLink "RingProverModel" (35 : Nat) ({ cls := "RingProverModel", name := "holds", desc := "(II)Z" } : Jvm.MethodName)) ∈ lw_all := lw_g (lw_at lw_m0 168 rfl) rfl
theorem q174 : (Jvm.Cond.static ({ cls := "RingProverModel", name := "holds", desc := "(II)Z" } : Jvm.MethodName)) ∈ lw_all := lw_g (lw_at lw_m0 169 rfl) rfl
theorem q175 : (Jvm.Cond.code ({ cls := "RingProverModel", name := "holds", desc := "(II)Z" } : Jvm.MethodName) prog_3_method_13_code (2 : Nat) (Option.some Jvm.ClassFile.FieldType.boolean)) ∈ lw_all := lw_g (lw_at lw_m0 170 rfl) rfl
theorem q176 : (Jvm.Cond.methodLink "RingProverModel" (47 : Nat) ({ cls := "RingProverModel", name := "ones", desc := "(J)I" } : Jvm.MethodName)) ∈ lw_all := lw_g (lw_at lw_m0 171 rfl) rfl
theorem q177 : (Jvm.Cond.static ({ cls := "RingProverModel", name := "ones", desc := "(J)I" } : Jvm.MethodName)) ∈ lw_all := lw_g (lw_at lw_m0 172 rfl) rfl
theorem q178 : (Jvm.Cond.code ({ cls := "RingProverModel", name := "ones", desc := "(J)I" } : Jvm.MethodName) prog_3_method_15_code (4 : Nat) (Option.some Jvm.ClassFile.FieldType.int)) ∈ lw_all := lw_g (lw_at lw_m0 173 rfl) rfl
theorem q180 : (Jvm.Cond.instanceMethod ({ cls := "RingProverModel", name := "has", desc := "(II)I" } : Jvm.MethodName)) ∈ lw_all := lw_g (lw_at lw_m0 175 rfl) rfl
theorem q181 : (Jvm.Cond.selects "RingProverModel" ({ cls := "RingProverModel", name := "has", desc := "(II)I" } : Jvm.MethodName) ({ cls := "RingProverModel", name := "has", desc := "(II)I" } : Jvm.MethodName)) ∈ lw_all := lw_g (lw_at lw_m0 176 rfl) rfl
theorem q182 : (Jvm.Cond.code ({ cls := "RingProverModel", name := "has", desc := "(II)I" } : Jvm.MethodName) prog_3_method_18_code (5 : Nat) (Option.some Jvm.ClassFile.FieldType.int)) ∈ lw_all := lw_g (lw_at lw_m0 177 rfl) rfl
theorem q184 : (Jvm.Cond.instanceMethod ({ cls := "RingProverModel", name := "degree", desc := "(I)I" } : Jvm.MethodName)) ∈ lw_all := lw_g (lw_at lw_m0 179 rfl) rfl
theorem q185 : (Jvm.Cond.selects "RingProverModel" ({ cls := "RingProverModel", name := "degree", desc := "(I)I" } : Jvm.MethodName) ({ cls := "RingProverModel", name := "degree", desc := "(I)I" } : Jvm.MethodName)) ∈ lw_all := lw_g (lw_at lw_m0 180 rfl) rfl
theorem q186 : (Jvm.Cond.code ({ cls := "RingProverModel", name := "degree", desc := "(I)I" } : Jvm.MethodName) prog_3_method_19_code (6 : Nat) (Option.some Jvm.ClassFile.FieldType.int)) ∈ lw_all := lw_g (lw_at lw_m0 181 rfl) rfl
theorem q188 : (Jvm.Cond.instanceMethod ({ cls := "RingProverModel", name := "models", desc := "(I)I" } : Jvm.MethodName)) ∈ lw_all := lw_g (lw_at lw_m0 183 rfl) rfl
theorem q189 : (Jvm.Cond.selects "RingProverModel" ({ cls := "RingProverModel", name := "models", desc := "(I)I" } : Jvm.MethodName) ({ cls := "RingProverModel", name := "models", desc := "(I)I" } : Jvm.MethodName)) ∈ lw_all := lw_g (lw_at lw_m0 184 rfl) rfl
theorem q190 : (Jvm.Cond.code ({ cls := "RingProverModel", name := "models", desc := "(I)I" } : Jvm.MethodName) prog_3_method_20_code (2 : Nat) (Option.some Jvm.ClassFile.FieldType.int)) ∈ lw_all := lw_g (lw_at lw_m0 185 rfl) rfl
theorem q192 : (Jvm.Cond.instanceMethod ({ cls := "RingProverModel", name := "differ", desc := "(II)I" } : Jvm.MethodName)) ∈ lw_all := lw_g (lw_at lw_m0 187 rfl) rfl
theorem q193 : (Jvm.Cond.selects "RingProverModel" ({ cls := "RingProverModel", name := "differ", desc := "(II)I" } : Jvm.MethodName) ({ cls := "RingProverModel", name := "differ", desc := "(II)I" } : Jvm.MethodName)) ∈ lw_all := lw_g (lw_at lw_m0 188 rfl) rfl
theorem q194 : (Jvm.Cond.code ({ cls := "RingProverModel", name := "differ", desc := "(II)I" } : Jvm.MethodName) prog_3_method_21_code (4 : Nat) (Option.some Jvm.ClassFile.FieldType.int)) ∈ lw_all := lw_g (lw_at lw_m0 189 rfl) rfl
theorem in_X1 : ∀ w ∈ wsX10, w ∈ lw_all := lw_in wsX10 [114, 116] (by decide +kernel) (by decide +kernel)
end
section
/-! java/lang/Object -/
set_option maxRecDepth 100000
def RJ0 : String := "java/lang/Object"
abbrev cJ0_init : ByteArray := object_method_1_code
def yJ0_init : MethodName := ⟨RJ0, "<init>", "()V"⟩
theorem dJ0_init_0 : decode cJ0_init 0 = .ok (.return_, 1) := by decide +kernel
theorem q14 : (Jvm.Cond.instanceMethod ({ cls := "java/lang/Object", name := "<init>", desc := "()V" } : Jvm.MethodName)) ∈ lw_all := lw_g (lw_at lw_m0 9 rfl) rfl
theorem q15 : (Jvm.Cond.code ({ cls := "java/lang/Object", name := "<init>", desc := "()V" } : Jvm.MethodName) object_method_1_code (1 : Nat) (Option.none : Option Jvm.ClassFile.FieldType)) ∈ lw_all := lw_g (lw_at lw_m0 10 rfl) rfl
theorem q5 : (Jvm.Cond.initialized "RingProverLaw") ∈ lw_all := lw_g (lw_at lw_m0 0 rfl) rfl
set_option maxRecDepth 100000
theorem q8 : (Jvm.Cond.classLink "RingProverLaw" (7 : Nat) "RingProver") ∈ lw_all := lw_g (lw_at lw_m0 3 rfl) rfl
theorem q10 : (Jvm.Cond.methodLink "RingProverLaw" (9 : Nat) ({ cls := "RingProver", name := "<init>", desc := "()V" } : Jvm.MethodName)) ∈ lw_all := lw_g (lw_at lw_m0 5 rfl) rfl
theorem q24 : (Jvm.Cond.methodLink "RingProverLaw" (13 : Nat) ({ cls := "RingProver", name := "variable", desc := "(I)I" } : Jvm.MethodName)) ∈ lw_all := lw_g (lw_at lw_m0 19 rfl) rfl
theorem q32 : (Jvm.Cond.methodLink "RingProverLaw" (18 : Nat) ({ cls := "RingProver", name := "constant", desc := "(I)I" } : Jvm.MethodName)) ∈ lw_all := lw_g (lw_at lw_m0 27 rfl) rfl
theorem q36 : (Jvm.Cond.methodLink "RingProverLaw" (22 : Nat) ({ cls := "RingProver", name := "join", desc := "(I)I" } : Jvm.MethodName)) ∈ lw_all := lw_g (lw_at lw_m0 31 rfl) rfl
theorem q59 : (Jvm.Cond.methodLink "RingProverLaw" (26 : Nat) ({ cls := "RingProver", name := "not", desc := "()I" } : Jvm.MethodName)) ∈ lw_all := lw_g (lw_at lw_m0 54 rfl) rfl
theorem q63 : (Jvm.Cond.methodLink "RingProverLaw" (31 : Nat) ({ cls := "RingProver", name := "copy", desc := "(I)I" } : Jvm.MethodName)) ∈ lw_all := lw_g (lw_at lw_m0 58 rfl) rfl
theorem q71 : (Jvm.Cond.methodLink "RingProverLaw" (35 : Nat) ({ cls := "RingProver", name := "drop", desc := "()I" } : Jvm.MethodName)) ∈ lw_all := lw_g (lw_at lw_m0 66 rfl) rfl
theorem q75 : (Jvm.Cond.methodLink "RingProverLaw" (39 : Nat) ({ cls := "RingProver", name := "replace", desc := "(I)I" } : Jvm.MethodName)) ∈ lw_all := lw_g (lw_at lw_m0 70 rfl) rfl
theorem q79 : (Jvm.Cond.methodLink "RingProverLaw" (43 : Nat) ({ cls := "RingProver", name := "products", desc := "(I)I" } : Jvm.MethodName)) ∈ lw_all := lw_g (lw_at lw_m0 74 rfl) rfl
theorem q87 : (Jvm.Cond.methodLink "RingProverLaw" (47 : Nat) ({ cls := "RingProver", name := "has", desc := "(II)I" } : Jvm.MethodName)) ∈ lw_all := lw_g (lw_at lw_m0 82 rfl) rfl
theorem q91 : (Jvm.Cond.methodLink "RingProverLaw" (52 : Nat) ({ cls := "RingProver", name := "degree", desc := "(I)I" } : Jvm.MethodName)) ∈ lw_all := lw_g (lw_at lw_m0 86 rfl) rfl
theorem q95 : (Jvm.Cond.methodLink "RingProverLaw" (56 : Nat) ({ cls := "RingProver", name := "models", desc := "(I)I" } : Jvm.MethodName)) ∈ lw_all := lw_g (lw_at lw_m0 90 rfl) rfl
theorem q102 : (Jvm.Cond.methodLink "RingProverLaw" (60 : Nat) ({ cls := "RingProver", name := "differ", desc := "(II)I" } : Jvm.MethodName)) ∈ lw_all := lw_g (lw_at lw_m0 97 rfl) rfl
theorem q106 : (Jvm.Cond.classLink "RingProverLaw" (10 : Nat) "RingProverModel") ∈ lw_all := lw_g (lw_at lw_m0 101 rfl) rfl
theorem q108 : (Jvm.Cond.methodLink "RingProverLaw" (12 : Nat) ({ cls := "RingProverModel", name := "<init>", desc := "()V" } : Jvm.MethodName)) ∈ lw_all := lw_g (lw_at lw_m0 103 rfl) rfl
theorem q119 : (Jvm.Cond.methodLink "RingProverLaw" (17 : Nat) ({ cls := "RingProverModel", name := "variable", desc := "(I)I" } : Jvm.MethodName)) ∈ lw_all := lw_g (lw_at lw_m0 114 rfl) rfl
theorem q127 : (Jvm.Cond.methodLink "RingProverLaw" (21 : Nat) ({ cls := "RingProverModel", name := "constant", desc := "(I)I" } : Jvm.MethodName)) ∈ lw_all := lw_g (lw_at lw_m0 122 rfl) rfl
theorem q132 : (Jvm.Cond.methodLink "RingProverLaw" (25 : Nat) ({ cls := "RingProverModel", name := "join", desc := "(I)I" } : Jvm.MethodName)) ∈ lw_all := lw_g (lw_at lw_m0 127 rfl) rfl
theorem q142 : (Jvm.Cond.methodLink "RingProverLaw" (30 : Nat) ({ cls := "RingProverModel", name := "not", desc := "()I" } : Jvm.MethodName)) ∈ lw_all := lw_g (lw_at lw_m0 137 rfl) rfl
theorem q146 : (Jvm.Cond.methodLink "RingProverLaw" (34 : Nat) ({ cls := "RingProverModel", name := "copy", desc := "(I)I" } : Jvm.MethodName)) ∈ lw_all := lw_g (lw_at lw_m0 141 rfl) rfl
theorem q154 : (Jvm.Cond.methodLink "RingProverLaw" (38 : Nat) ({ cls := "RingProverModel", name := "drop", desc := "()I" } : Jvm.MethodName)) ∈ lw_all := lw_g (lw_at lw_m0 149 rfl) rfl
theorem q158 : (Jvm.Cond.methodLink "RingProverLaw" (42 : Nat) ({ cls := "RingProverModel", name := "replace", desc := "(I)I" } : Jvm.MethodName)) ∈ lw_all := lw_g (lw_at lw_m0 153 rfl) rfl
theorem q162 : (Jvm.Cond.methodLink "RingProverLaw" (46 : Nat) ({ cls := "RingProverModel", name := "products", desc := "(I)I" } : Jvm.MethodName)) ∈ lw_all := lw_g (lw_at lw_m0 157 rfl) rfl
theorem q179 : (Jvm.Cond.methodLink "RingProverLaw" (51 : Nat) ({ cls := "RingProverModel", name := "has", desc := "(II)I" } : Jvm.MethodName)) ∈ lw_all := lw_g (lw_at lw_m0 174 rfl) rfl
theorem q183 : (Jvm.Cond.methodLink "RingProverLaw" (55 : Nat) ({ cls := "RingProverModel", name := "degree", desc := "(I)I" } : Jvm.MethodName)) ∈ lw_all := lw_g (lw_at lw_m0 178 rfl) rfl
theorem q187 : (Jvm.Cond.methodLink "RingProverLaw" (59 : Nat) ({ cls := "RingProverModel", name := "models", desc := "(I)I" } : Jvm.MethodName)) ∈ lw_all := lw_g (lw_at lw_m0 182 rfl) rfl
theorem q191 : (Jvm.Cond.methodLink "RingProverLaw" (63 : Nat) ({ cls := "RingProverModel", name := "differ", desc := "(II)I" } : Jvm.MethodName)) ∈ lw_all := lw_g (lw_at lw_m0 186 rfl) rfl
theorem q23 : (Jvm.Cond.arrayClass Jvm.ClassFile.FieldType.long) ∈ lw_all := lw_g (lw_at lw_m0 18 rfl) rfl
set_option maxRecDepth 100000
/-! the law's own entry -/
set_option maxRecDepth 100000
abbrev cL_law : ByteArray := code
theorem dL_law_0 : decode cL_law 0 = .ok (.new 7, 3) := by decide +kernel
theorem dL_law_3 : decode cL_law 3 = .ok (.dup, 1) := by decide +kernel
theorem dL_law_4 : decode cL_law 4 = .ok (.invokespecial 9, 3) := by decide +kernel
theorem dL_law_7 : decode cL_law 7 = .ok (.astore_n 1, 1) := by decide +kernel
theorem dL_law_8 : decode cL_law 8 = .ok (.new 10, 3) := by decide +kernel
theorem dL_law_11 : decode cL_law 11 = .ok (.dup, 1) := by decide +kernel
theorem dL_law_12 : decode cL_law 12 = .ok (.invokespecial 12, 3) := by decide +kernel
theorem dL_law_15 : decode cL_law 15 = .ok (.astore_n 2, 1) := by decide +kernel
theorem dL_law_16 : decode cL_law 16 = .ok (.iconst 0, 1) := by decide +kernel
theorem dL_law_17 : decode cL_law 17 = .ok (.istore_n 3, 1) := by decide +kernel
theorem dL_law_18 : decode cL_law 18 = .ok (.iload_n 3, 1) := by decide +kernel
theorem dL_law_19 : decode cL_law 19 = .ok (.aload_n 0, 1) := by decide +kernel
theorem dL_law_20 : decode cL_law 20 = .ok (.arraylength, 1) := by decide +kernel
theorem dL_law_21 : decode cL_law 21 = .ok (.iconst 3, 1) := by decide +kernel
theorem dL_law_22 : decode cL_law 22 = .ok (.isub, 1) := by decide +kernel
theorem dL_law_23 : decode cL_law 23 = .ok (.if_icmp .gt 355, 3) := by decide +kernel
theorem dL_law_26 : decode cL_law 26 = .ok (.aload_n 0, 1) := by decide +kernel
theorem dL_law_27 : decode cL_law 27 = .ok (.iload_n 3, 1) := by decide +kernel
theorem dL_law_28 : decode cL_law 28 = .ok (.iaload, 1) := by decide +kernel
theorem dL_law_29 : decode cL_law 29 = .ok (.bipush 15, 2) := by decide +kernel
theorem dL_law_31 : decode cL_law 31 = .ok (.iand, 1) := by decide +kernel
theorem dL_law_32 : decode cL_law 32 = .ok (.tableswitch 340 0 11 #[64, 87, 110, 133, 146, 169, 182, 205, 228, 261, 284, 307], 64) := by decide +kernel
theorem dL_law_96 : decode cL_law 96 = .ok (.aload_n 1, 1) := by decide +kernel
theorem dL_law_97 : decode cL_law 97 = .ok (.aload_n 0, 1) := by decide +kernel
theorem dL_law_98 : decode cL_law 98 = .ok (.iload_n 3, 1) := by decide +kernel
theorem dL_law_99 : decode cL_law 99 = .ok (.iconst 1, 1) := by decide +kernel
theorem dL_law_100 : decode cL_law 100 = .ok (.iadd, 1) := by decide +kernel
theorem dL_law_101 : decode cL_law 101 = .ok (.iaload, 1) := by decide +kernel
theorem dL_law_102 : decode cL_law 102 = .ok (.invokevirtual 13, 3) := by decide +kernel
theorem dL_law_105 : decode cL_law 105 = .ok (.aload_n 2, 1) := by decide +kernel
theorem dL_law_106 : decode cL_law 106 = .ok (.aload_n 0, 1) := by decide +kernel
theorem dL_law_107 : decode cL_law 107 = .ok (.iload_n 3, 1) := by decide +kernel
theorem dL_law_108 : decode cL_law 108 = .ok (.iconst 1, 1) := by decide +kernel
theorem dL_law_109 : decode cL_law 109 = .ok (.iadd, 1) := by decide +kernel
theorem dL_law_110 : decode cL_law 110 = .ok (.iaload, 1) := by decide +kernel
theorem dL_law_111 : decode cL_law 111 = .ok (.invokevirtual 17, 3) := by decide +kernel
theorem dL_law_114 : decode cL_law 114 = .ok (.if_icmp .eq 258, 3) := by decide +kernel
theorem dL_law_117 : decode cL_law 117 = .ok (.iconst 0, 1) := by decide +kernel
theorem dL_law_118 : decode cL_law 118 = .ok (.ireturn, 1) := by decide +kernel
theorem dL_law_119 : decode cL_law 119 = .ok (.aload_n 1, 1) := by decide +kernel
theorem dL_law_120 : decode cL_law 120 = .ok (.aload_n 0, 1) := by decide +kernel
theorem dL_law_121 : decode cL_law 121 = .ok (.iload_n 3, 1) := by decide +kernel
theorem dL_law_122 : decode cL_law 122 = .ok (.iconst 1, 1) := by decide +kernel
theorem dL_law_123 : decode cL_law 123 = .ok (.iadd, 1) := by decide +kernel
theorem dL_law_124 : decode cL_law 124 = .ok (.iaload, 1) := by decide +kernel
theorem dL_law_125 : decode cL_law 125 = .ok (.invokevirtual 18, 3) := by decide +kernel
theorem dL_law_128 : decode cL_law 128 = .ok (.aload_n 2, 1) := by decide +kernel
theorem dL_law_129 : decode cL_law 129 = .ok (.aload_n 0, 1) := by decide +kernel
theorem dL_law_130 : decode cL_law 130 = .ok (.iload_n 3, 1) := by decide +kernel
theorem dL_law_131 : decode cL_law 131 = .ok (.iconst 1, 1) := by decide +kernel
theorem dL_law_132 : decode cL_law 132 = .ok (.iadd, 1) := by decide +kernel
theorem dL_law_133 : decode cL_law 133 = .ok (.iaload, 1) := by decide +kernel
theorem dL_law_134 : decode cL_law 134 = .ok (.invokevirtual 21, 3) := by decide +kernel
theorem dL_law_137 : decode cL_law 137 = .ok (.if_icmp .eq 235, 3) := by decide +kernel
theorem dL_law_140 : decode cL_law 140 = .ok (.iconst 0, 1) := by decide +kernel
theorem dL_law_141 : decode cL_law 141 = .ok (.ireturn, 1) := by decide +kernel
theorem dL_law_142 : decode cL_law 142 = .ok (.aload_n 1, 1) := by decide +kernel
theorem dL_law_143 : decode cL_law 143 = .ok (.aload_n 0, 1) := by decide +kernel
theorem dL_law_144 : decode cL_law 144 = .ok (.iload_n 3, 1) := by decide +kernel
theorem dL_law_145 : decode cL_law 145 = .ok (.iconst 1, 1) := by decide +kernel
theorem dL_law_146 : decode cL_law 146 = .ok (.iadd, 1) := by decide +kernel
theorem dL_law_147 : decode cL_law 147 = .ok (.iaload, 1) := by decide +kernel
theorem dL_law_148 : decode cL_law 148 = .ok (.invokevirtual 22, 3) := by decide +kernel
theorem dL_law_151 : decode cL_law 151 = .ok (.aload_n 2, 1) := by decide +kernel
theorem dL_law_152 : decode cL_law 152 = .ok (.aload_n 0, 1) := by decide +kernel
theorem dL_law_153 : decode cL_law 153 = .ok (.iload_n 3, 1) := by decide +kernel
theorem dL_law_154 : decode cL_law 154 = .ok (.iconst 1, 1) := by decide +kernel
theorem dL_law_155 : decode cL_law 155 = .ok (.iadd, 1) := by decide +kernel
theorem dL_law_156 : decode cL_law 156 = .ok (.iaload, 1) := by decide +kernel
theorem dL_law_157 : decode cL_law 157 = .ok (.invokevirtual 25, 3) := by decide +kernel
theorem dL_law_160 : decode cL_law 160 = .ok (.if_icmp .eq 212, 3) := by decide +kernel
theorem dL_law_163 : decode cL_law 163 = .ok (.iconst 0, 1) := by decide +kernel
theorem dL_law_164 : decode cL_law 164 = .ok (.ireturn, 1) := by decide +kernel
theorem dL_law_165 : decode cL_law 165 = .ok (.aload_n 1, 1) := by decide +kernel
theorem dL_law_166 : decode cL_law 166 = .ok (.invokevirtual 26, 3) := by decide +kernel
theorem dL_law_169 : decode cL_law 169 = .ok (.aload_n 2, 1) := by decide +kernel
theorem dL_law_170 : decode cL_law 170 = .ok (.invokevirtual 30, 3) := by decide +kernel
theorem dL_law_173 : decode cL_law 173 = .ok (.if_icmp .eq 199, 3) := by decide +kernel
theorem dL_law_176 : decode cL_law 176 = .ok (.iconst 0, 1) := by decide +kernel
theorem dL_law_177 : decode cL_law 177 = .ok (.ireturn, 1) := by decide +kernel
theorem dL_law_178 : decode cL_law 178 = .ok (.aload_n 1, 1) := by decide +kernel
theorem dL_law_179 : decode cL_law 179 = .ok (.aload_n 0, 1) := by decide +kernel
theorem dL_law_180 : decode cL_law 180 = .ok (.iload_n 3, 1) := by decide +kernel
theorem dL_law_181 : decode cL_law 181 = .ok (.iconst 1, 1) := by decide +kernel
theorem dL_law_182 : decode cL_law 182 = .ok (.iadd, 1) := by decide +kernel
theorem dL_law_183 : decode cL_law 183 = .ok (.iaload, 1) := by decide +kernel
theorem dL_law_184 : decode cL_law 184 = .ok (.invokevirtual 31, 3) := by decide +kernel
theorem dL_law_187 : decode cL_law 187 = .ok (.aload_n 2, 1) := by decide +kernel
theorem dL_law_188 : decode cL_law 188 = .ok (.aload_n 0, 1) := by decide +kernel
theorem dL_law_189 : decode cL_law 189 = .ok (.iload_n 3, 1) := by decide +kernel
theorem dL_law_190 : decode cL_law 190 = .ok (.iconst 1, 1) := by decide +kernel
theorem dL_law_191 : decode cL_law 191 = .ok (.iadd, 1) := by decide +kernel
theorem dL_law_192 : decode cL_law 192 = .ok (.iaload, 1) := by decide +kernel
theorem dL_law_193 : decode cL_law 193 = .ok (.invokevirtual 34, 3) := by decide +kernel
theorem dL_law_196 : decode cL_law 196 = .ok (.if_icmp .eq 176, 3) := by decide +kernel
theorem dL_law_199 : decode cL_law 199 = .ok (.iconst 0, 1) := by decide +kernel
theorem dL_law_200 : decode cL_law 200 = .ok (.ireturn, 1) := by decide +kernel
theorem dL_law_201 : decode cL_law 201 = .ok (.aload_n 1, 1) := by decide +kernel
theorem dL_law_202 : decode cL_law 202 = .ok (.invokevirtual 35, 3) := by decide +kernel
theorem dL_law_205 : decode cL_law 205 = .ok (.aload_n 2, 1) := by decide +kernel
theorem dL_law_206 : decode cL_law 206 = .ok (.invokevirtual 38, 3) := by decide +kernel
theorem dL_law_209 : decode cL_law 209 = .ok (.if_icmp .eq 163, 3) := by decide +kernel
theorem dL_law_212 : decode cL_law 212 = .ok (.iconst 0, 1) := by decide +kernel
theorem dL_law_213 : decode cL_law 213 = .ok (.ireturn, 1) := by decide +kernel
theorem dL_law_214 : decode cL_law 214 = .ok (.aload_n 1, 1) := by decide +kernel
theorem dL_law_215 : decode cL_law 215 = .ok (.aload_n 0, 1) := by decide +kernel
theorem dL_law_216 : decode cL_law 216 = .ok (.iload_n 3, 1) := by decide +kernel
theorem dL_law_217 : decode cL_law 217 = .ok (.iconst 1, 1) := by decide +kernel
theorem dL_law_218 : decode cL_law 218 = .ok (.iadd, 1) := by decide +kernel
theorem dL_law_219 : decode cL_law 219 = .ok (.iaload, 1) := by decide +kernel
theorem dL_law_220 : decode cL_law 220 = .ok (.invokevirtual 39, 3) := by decide +kernel
theorem dL_law_223 : decode cL_law 223 = .ok (.aload_n 2, 1) := by decide +kernel
theorem dL_law_224 : decode cL_law 224 = .ok (.aload_n 0, 1) := by decide +kernel
theorem dL_law_225 : decode cL_law 225 = .ok (.iload_n 3, 1) := by decide +kernel
theorem dL_law_226 : decode cL_law 226 = .ok (.iconst 1, 1) := by decide +kernel
theorem dL_law_227 : decode cL_law 227 = .ok (.iadd, 1) := by decide +kernel
theorem dL_law_228 : decode cL_law 228 = .ok (.iaload, 1) := by decide +kernel
theorem dL_law_229 : decode cL_law 229 = .ok (.invokevirtual 42, 3) := by decide +kernel
theorem dL_law_232 : decode cL_law 232 = .ok (.if_icmp .eq 140, 3) := by decide +kernel
theorem dL_law_235 : decode cL_law 235 = .ok (.iconst 0, 1) := by decide +kernel
theorem dL_law_236 : decode cL_law 236 = .ok (.ireturn, 1) := by decide +kernel
theorem dL_law_237 : decode cL_law 237 = .ok (.aload_n 1, 1) := by decide +kernel
theorem dL_law_238 : decode cL_law 238 = .ok (.aload_n 0, 1) := by decide +kernel
theorem dL_law_239 : decode cL_law 239 = .ok (.iload_n 3, 1) := by decide +kernel
theorem dL_law_240 : decode cL_law 240 = .ok (.iconst 1, 1) := by decide +kernel
theorem dL_law_241 : decode cL_law 241 = .ok (.iadd, 1) := by decide +kernel
theorem dL_law_242 : decode cL_law 242 = .ok (.iaload, 1) := by decide +kernel
theorem dL_law_243 : decode cL_law 243 = .ok (.invokevirtual 43, 3) := by decide +kernel
theorem dL_law_246 : decode cL_law 246 = .ok (.aload_n 2, 1) := by decide +kernel
theorem dL_law_247 : decode cL_law 247 = .ok (.aload_n 0, 1) := by decide +kernel
theorem dL_law_248 : decode cL_law 248 = .ok (.iload_n 3, 1) := by decide +kernel
theorem dL_law_249 : decode cL_law 249 = .ok (.iconst 1, 1) := by decide +kernel
theorem dL_law_250 : decode cL_law 250 = .ok (.iadd, 1) := by decide +kernel
theorem dL_law_251 : decode cL_law 251 = .ok (.iaload, 1) := by decide +kernel
theorem dL_law_252 : decode cL_law 252 = .ok (.invokevirtual 46, 3) := by decide +kernel
theorem dL_law_255 : decode cL_law 255 = .ok (.if_icmp .eq 117, 3) := by decide +kernel
theorem dL_law_258 : decode cL_law 258 = .ok (.iconst 0, 1) := by decide +kernel
theorem dL_law_259 : decode cL_law 259 = .ok (.ireturn, 1) := by decide +kernel
theorem dL_law_260 : decode cL_law 260 = .ok (.aload_n 1, 1) := by decide +kernel
theorem dL_law_261 : decode cL_law 261 = .ok (.aload_n 0, 1) := by decide +kernel
theorem dL_law_262 : decode cL_law 262 = .ok (.iload_n 3, 1) := by decide +kernel
theorem dL_law_263 : decode cL_law 263 = .ok (.iconst 1, 1) := by decide +kernel
theorem dL_law_264 : decode cL_law 264 = .ok (.iadd, 1) := by decide +kernel
theorem dL_law_265 : decode cL_law 265 = .ok (.iaload, 1) := by decide +kernel
theorem dL_law_266 : decode cL_law 266 = .ok (.aload_n 0, 1) := by decide +kernel
theorem dL_law_267 : decode cL_law 267 = .ok (.iload_n 3, 1) := by decide +kernel
theorem dL_law_268 : decode cL_law 268 = .ok (.iconst 2, 1) := by decide +kernel
theorem dL_law_269 : decode cL_law 269 = .ok (.iadd, 1) := by decide +kernel
theorem dL_law_270 : decode cL_law 270 = .ok (.iaload, 1) := by decide +kernel
theorem dL_law_271 : decode cL_law 271 = .ok (.invokevirtual 47, 3) := by decide +kernel
theorem dL_law_274 : decode cL_law 274 = .ok (.aload_n 2, 1) := by decide +kernel
theorem dL_law_275 : decode cL_law 275 = .ok (.aload_n 0, 1) := by decide +kernel
theorem dL_law_276 : decode cL_law 276 = .ok (.iload_n 3, 1) := by decide +kernel
theorem dL_law_277 : decode cL_law 277 = .ok (.iconst 1, 1) := by decide +kernel
theorem dL_law_278 : decode cL_law 278 = .ok (.iadd, 1) := by decide +kernel
theorem dL_law_279 : decode cL_law 279 = .ok (.iaload, 1) := by decide +kernel
theorem dL_law_280 : decode cL_law 280 = .ok (.aload_n 0, 1) := by decide +kernel
theorem dL_law_281 : decode cL_law 281 = .ok (.iload_n 3, 1) := by decide +kernel
theorem dL_law_282 : decode cL_law 282 = .ok (.iconst 2, 1) := by decide +kernel
theorem dL_law_283 : decode cL_law 283 = .ok (.iadd, 1) := by decide +kernel
theorem dL_law_284 : decode cL_law 284 = .ok (.iaload, 1) := by decide +kernel
theorem dL_law_285 : decode cL_law 285 = .ok (.invokevirtual 51, 3) := by decide +kernel
theorem dL_law_288 : decode cL_law 288 = .ok (.if_icmp .eq 84, 3) := by decide +kernel
theorem dL_law_291 : decode cL_law 291 = .ok (.iconst 0, 1) := by decide +kernel
theorem dL_law_292 : decode cL_law 292 = .ok (.ireturn, 1) := by decide +kernel
theorem dL_law_293 : decode cL_law 293 = .ok (.aload_n 1, 1) := by decide +kernel
theorem dL_law_294 : decode cL_law 294 = .ok (.aload_n 0, 1) := by decide +kernel
theorem dL_law_295 : decode cL_law 295 = .ok (.iload_n 3, 1) := by decide +kernel
theorem dL_law_296 : decode cL_law 296 = .ok (.iconst 1, 1) := by decide +kernel
theorem dL_law_297 : decode cL_law 297 = .ok (.iadd, 1) := by decide +kernel
theorem dL_law_298 : decode cL_law 298 = .ok (.iaload, 1) := by decide +kernel
theorem dL_law_299 : decode cL_law 299 = .ok (.invokevirtual 52, 3) := by decide +kernel
theorem dL_law_302 : decode cL_law 302 = .ok (.aload_n 2, 1) := by decide +kernel
theorem dL_law_303 : decode cL_law 303 = .ok (.aload_n 0, 1) := by decide +kernel
theorem dL_law_304 : decode cL_law 304 = .ok (.iload_n 3, 1) := by decide +kernel
theorem dL_law_305 : decode cL_law 305 = .ok (.iconst 1, 1) := by decide +kernel
theorem dL_law_306 : decode cL_law 306 = .ok (.iadd, 1) := by decide +kernel
theorem dL_law_307 : decode cL_law 307 = .ok (.iaload, 1) := by decide +kernel
theorem dL_law_308 : decode cL_law 308 = .ok (.invokevirtual 55, 3) := by decide +kernel
theorem dL_law_311 : decode cL_law 311 = .ok (.if_icmp .eq 61, 3) := by decide +kernel
theorem dL_law_314 : decode cL_law 314 = .ok (.iconst 0, 1) := by decide +kernel
theorem dL_law_315 : decode cL_law 315 = .ok (.ireturn, 1) := by decide +kernel
theorem dL_law_316 : decode cL_law 316 = .ok (.aload_n 1, 1) := by decide +kernel
theorem dL_law_317 : decode cL_law 317 = .ok (.aload_n 0, 1) := by decide +kernel
theorem dL_law_318 : decode cL_law 318 = .ok (.iload_n 3, 1) := by decide +kernel
theorem dL_law_319 : decode cL_law 319 = .ok (.iconst 1, 1) := by decide +kernel
theorem dL_law_320 : decode cL_law 320 = .ok (.iadd, 1) := by decide +kernel
theorem dL_law_321 : decode cL_law 321 = .ok (.iaload, 1) := by decide +kernel
theorem dL_law_322 : decode cL_law 322 = .ok (.invokevirtual 56, 3) := by decide +kernel
theorem dL_law_325 : decode cL_law 325 = .ok (.aload_n 2, 1) := by decide +kernel
theorem dL_law_326 : decode cL_law 326 = .ok (.aload_n 0, 1) := by decide +kernel
theorem dL_law_327 : decode cL_law 327 = .ok (.iload_n 3, 1) := by decide +kernel
theorem dL_law_328 : decode cL_law 328 = .ok (.iconst 1, 1) := by decide +kernel
theorem dL_law_329 : decode cL_law 329 = .ok (.iadd, 1) := by decide +kernel
theorem dL_law_330 : decode cL_law 330 = .ok (.iaload, 1) := by decide +kernel
theorem dL_law_331 : decode cL_law 331 = .ok (.invokevirtual 59, 3) := by decide +kernel
theorem dL_law_334 : decode cL_law 334 = .ok (.if_icmp .eq 38, 3) := by decide +kernel
theorem dL_law_337 : decode cL_law 337 = .ok (.iconst 0, 1) := by decide +kernel
theorem dL_law_338 : decode cL_law 338 = .ok (.ireturn, 1) := by decide +kernel
theorem dL_law_339 : decode cL_law 339 = .ok (.aload_n 1, 1) := by decide +kernel
theorem dL_law_340 : decode cL_law 340 = .ok (.aload_n 0, 1) := by decide +kernel
theorem dL_law_341 : decode cL_law 341 = .ok (.iload_n 3, 1) := by decide +kernel
theorem dL_law_342 : decode cL_law 342 = .ok (.iconst 1, 1) := by decide +kernel
theorem dL_law_343 : decode cL_law 343 = .ok (.iadd, 1) := by decide +kernel
theorem dL_law_344 : decode cL_law 344 = .ok (.iaload, 1) := by decide +kernel
theorem dL_law_345 : decode cL_law 345 = .ok (.aload_n 0, 1) := by decide +kernel
theorem dL_law_346 : decode cL_law 346 = .ok (.iload_n 3, 1) := by decide +kernel
theorem dL_law_347 : decode cL_law 347 = .ok (.iconst 2, 1) := by decide +kernel
theorem dL_law_348 : decode cL_law 348 = .ok (.iadd, 1) := by decide +kernel
theorem dL_law_349 : decode cL_law 349 = .ok (.iaload, 1) := by decide +kernel
theorem dL_law_350 : decode cL_law 350 = .ok (.invokevirtual 60, 3) := by decide +kernel
theorem dL_law_353 : decode cL_law 353 = .ok (.aload_n 2, 1) := by decide +kernel
theorem dL_law_354 : decode cL_law 354 = .ok (.aload_n 0, 1) := by decide +kernel
theorem dL_law_355 : decode cL_law 355 = .ok (.iload_n 3, 1) := by decide +kernel
theorem dL_law_356 : decode cL_law 356 = .ok (.iconst 1, 1) := by decide +kernel
theorem dL_law_357 : decode cL_law 357 = .ok (.iadd, 1) := by decide +kernel
theorem dL_law_358 : decode cL_law 358 = .ok (.iaload, 1) := by decide +kernel
theorem dL_law_359 : decode cL_law 359 = .ok (.aload_n 0, 1) := by decide +kernel
theorem dL_law_360 : decode cL_law 360 = .ok (.iload_n 3, 1) := by decide +kernel
theorem dL_law_361 : decode cL_law 361 = .ok (.iconst 2, 1) := by decide +kernel
theorem dL_law_362 : decode cL_law 362 = .ok (.iadd, 1) := by decide +kernel
theorem dL_law_363 : decode cL_law 363 = .ok (.iaload, 1) := by decide +kernel
theorem dL_law_364 : decode cL_law 364 = .ok (.invokevirtual 63, 3) := by decide +kernel
theorem dL_law_367 : decode cL_law 367 = .ok (.if_icmp .eq 5, 3) := by decide +kernel
theorem dL_law_370 : decode cL_law 370 = .ok (.iconst 0, 1) := by decide +kernel
theorem dL_law_371 : decode cL_law 371 = .ok (.ireturn, 1) := by decide +kernel
theorem dL_law_372 : decode cL_law 372 = .ok (.iinc 3 3, 3) := by decide +kernel
theorem dL_law_375 : decode cL_law 375 = .ok (.goto (-357), 3) := by decide +kernel
theorem dL_law_378 : decode cL_law 378 = .ok (.iconst 1, 1) := by decide +kernel
theorem dL_law_379 : decode cL_law 379 = .ok (.ireturn, 1) := by decide +kernel
end
section
/-! WHAT THE METHODS COMPUTE, in plain words (rp_: RingProver, rr_: RingProverModel); each mirrors its bytecode -/
def rp_ush (x : Int64) (y : Int32) : Int64 := (x.toUInt64 >>> (y.toInt64.toUInt64 &&& Int64.toUInt64 63)).toInt64
def rp_shl (x : Int64) (y : Int32) : Int64 := x <<< (y.toInt64 &&& 63)
def rp_shr (x : Int64) (y : Int32) : Int64 := x >>> (y.toInt64 &&& 63)
def rp_iush (x y : Int32) : Int32 := (x.toUInt32 >>> (y.toUInt32 &&& Int32.toUInt32 31)).toInt32
/-- productsWithout -/
def rp_pw (v : Int32) : Int64 := if v = 0 then 6148914691236517205 else if v = 1 then 3689348814741910323 else if v = 2 then 1085102592571150095 else if v = 3 then 71777214294589695 else if v = 4 then 281470681808895 else 4294967295
/-- one stage of timesProduct -/
def rp_mulv (v : Int32) (s : Int64) : Int64 := (s &&& (rp_pw v ^^^ (-1))) ^^^ rp_shl (s &&& rp_pw v) ((1 : Int32) <<< (v &&& 31))
/-- timesProduct behind n stages -/
def rp_times (y : Int64) (q : Int32) : Nat → Int64
  | 0 => y
  | n + 1 => if (rp_iush q (nI n) &&& 1) = 0 then rp_times y q n else rp_mulv (nI n) (rp_times y q n)
/-- multiply behind n rounds -/
def rp_mul (x y : Int64) : Nat → Int64
  | 0 => 0
  | n + 1 => if lg_cmp (rp_ush x (nI n) &&& 1) 0 = 0 then rp_mul x y n else rp_mul x y n ^^^ rp_times y (nI n) 6
/-- one stage of valuesOf -/
def rp_valv (v : Int32) (w : Int64) : Int64 := w ^^^ rp_shl (w &&& rp_pw v) ((1 : Int32) <<< (v &&& 31))
/-- valuesOf behind n stages -/
def rp_val (s : Int64) : Nat → Int64
  | 0 => s
  | n + 1 => rp_valv (nI n) (rp_val s n)
def rp_o1 (x : Int64) : Int64 := x - (rp_ush x 1 &&& 6148914691236517205)
def rp_o2 (x : Int64) : Int64 := (x &&& 3689348814741910323) + (rp_ush x 2 &&& 3689348814741910323)
def rp_o3 (x : Int64) : Int64 := (x + rp_ush x 4) &&& 1085102592571150095
/-- ones -/
def rp_ones (x : Int64) : Int32 := (rp_ush (rp_o3 (rp_o2 (rp_o1 x)) * 72340172838076673) 56).toInt32
/-- combine -/
def rp_comb (q : Int32) (x y : Int64) : Int64 := if q = 2 then x ^^^ y else if q = 3 then x ^^^ y ^^^ 1 else if q = 0 then rp_mul x y 64 else if q = 1 then x ^^^ y ^^^ rp_mul x y 64 else if q = 4 then 1 ^^^ x ^^^ rp_mul x y 64 else 1 ^^^ rp_mul x y 64
/-- isFormula -/
def rp_isF (p : Int32) (k : Nat) : Int32 := if p < 0 then 0 else if nI k ≤ p then 0 else 1
/-- the place of formula p, of k -/
def rp_at (p : Int32) (k : Nat) (f : Nat → Int64) : Int64 := f ((nI k - 1) - p).toNatClampNeg
abbrev rp_T : Type := Int32 × Nat × (Nat → Int64)
def rp_push (x : Int64) (k : Nat) (f : Nat → Int64) : rp_T := (nI (k + 1), k + 1, vp_updL f k x)
def rp_variable (v : Int32) (k : Nat) (f : Nat → Int64) : rp_T := if v < 0 then (-1, k, f) else if 5 < v then (-1, k, f) else if nI k < 12 then rp_push (rp_shl 1 ((1 : Int32) <<< (v &&& 31))) k f else (-1, k, f)
def rp_constant (b : Int32) (k : Nat) (f : Nat → Int64) : rp_T := if nI k < 12 then rp_push ((b &&& 1).toInt64) k f else (-1, k, f)
def rp_join (q : Int32) (k : Nat) (f : Nat → Int64) : rp_T := if q < 0 then (-1, k, f) else if 5 < q then (-1, k, f) else if 2 ≤ nI k then rp_push (rp_comb q (f (k - 2)) (f (k - 1))) (k - 2) f else (-1, k, f)
def rp_not (k : Nat) (f : Nat → Int64) : rp_T := if 1 ≤ nI k then (0, k, vp_updL f (k - 1) (f (k - 1) ^^^ 1)) else (-1, k, f)
def rp_copy (p : Int32) (k : Nat) (f : Nat → Int64) : rp_T := if rp_isF p k = 0 then (-1, k, f) else if nI k < 12 then rp_push (rp_at p k f) k f else (-1, k, f)
def rp_drop (k : Nat) (f : Nat → Int64) : rp_T := if 1 ≤ nI k then (nI (k - 1), k - 1, f) else (-1, k, f)
def rp_repl (v : Int32) (whole inner : Int64) : Int64 := (whole &&& rp_pw v) ^^^ rp_mul inner (rp_ush (whole &&& (rp_pw v ^^^ (-1))) ((1 : Int32) <<< (v &&& 31))) 64
def rp_replace (v : Int32) (k : Nat) (f : Nat → Int64) : rp_T := if v < 0 then (-1, k, f) else if 5 < v then (-1, k, f) else if 2 ≤ nI k then rp_push (rp_repl v (f (k - 1)) (f (k - 2))) (k - 2) f else (-1, k, f)
def rp_products (p : Int32) (k : Nat) (f : Nat → Int64) : Int32 := if rp_isF p k = 0 then -1 else rp_ones (rp_at p k f)
def rp_has (p q : Int32) (k : Nat) (f : Nat → Int64) : Int32 := if rp_isF p k = 0 then -1 else if q < 0 then -1 else if q ≤ 63 then (rp_ush (rp_at p k f) q).toInt32 &&& 1 else -1
/-- degree's loop behind n rounds -/
def rp_deg (s : Int64) : Nat → Int32
  | 0 => 0
  | n + 1 => if lg_cmp (rp_ush s (nI n) &&& 1) 0 = 0 then rp_deg s n else if rp_ones (nI n).toInt64 ≤ rp_deg s n then rp_deg s n else rp_ones (nI n).toInt64
def rp_degree (p : Int32) (k : Nat) (f : Nat → Int64) : Int32 := if rp_isF p k = 0 then -1 else rp_deg (rp_at p k f) 64
def rp_models (p : Int32) (k : Nat) (f : Nat → Int64) : Int32 := if rp_isF p k = 0 then -1 else rp_ones (rp_val (rp_at p k f) 6)
/-- where two sums differ first -/
def rp_dif (x y : Int64) : Int32 := if lg_cmp (x ^^^ y) 0 = 0 then 64 else rp_ones ((rp_val (x ^^^ y) 6 &&& -(rp_val (x ^^^ y) 6)) - 1)
def rp_differ (p q : Int32) (k : Nat) (f : Nat → Int64) : Int32 := if rp_isF p k = 0 then -1 else if rp_isF q k = 0 then -1 else rp_dif (rp_at p k f) (rp_at q k f)
/-! the reference -/
def rr_bit (x : Int64) (a : Int32) : Int32 := (rp_shr x a).toInt32 &&& 1
def rr_push (x : Int64) (k : Nat) (f : Nat → Int64) : rp_T := if nI k = 12 then (-1, k, f) else (nI (k + 1), k + 1, vp_updL f k x)
/-- variable's loop behind n rounds -/
def rr_var (v : Int32) : Nat → Int64
  | 0 => 0
  | n + 1 => if ((nI n >>> (v &&& 31)) &&& 1) = 1 then rr_var v n ||| rp_shl 1 (nI n) else rr_var v n
def rr_variable (v : Int32) (k : Nat) (f : Nat → Int64) : rp_T := if v < 0 then (-1, k, f) else if v ≤ 5 then rr_push (rr_var v 64) k f else (-1, k, f)
def rr_constant (b : Int32) (k : Nat) (f : Nat → Int64) : rp_T := rr_push (if (b &&& 1) = 1 then -1 else 0) k f
def rr_joined (q x y : Int32) : Int32 :=
  if q = 0 then (if x = 0 then 0 else if y = 0 then 0 else 1)
  else if q = 1 then (if x = 0 then (if y = 0 then 0 else 1) else 1)
  else if q = 2 then (if x = y then 0 else 1)
  else if q = 3 then (if x = y then 1 else 0)
  else if q = 4 then (if x = 0 then 1 else if y = 0 then 0 else 1)
  else (if x = 0 then 1 else if y = 0 then 1 else 0)
/-- a test as an int -/
def rr_is1 (z : Int32) : Int32 := if z = 1 then 1 else 0
/-- join's loop behind n rounds -/
def rr_joi (q : Int32) (x y : Int64) : Nat → Int64
  | 0 => 0
  | n + 1 => if rr_joined q (rr_is1 (rr_bit x (nI n))) (rr_is1 (rr_bit y (nI n))) = 0 then rr_joi q x y n else rr_joi q x y n ||| rp_shl 1 (nI n)
def rr_join (q : Int32) (k : Nat) (f : Nat → Int64) : rp_T := if nI k < 2 then (-1, k, f) else if q < 0 then (-1, k, f) else if q ≤ 5 then (nI (k - 1), k - 1, vp_updL f (k - 2) (rr_joi q (f (k - 2)) (f (k - 1)) 64)) else (-1, k, f)
def rr_not (k : Nat) (f : Nat → Int64) : rp_T := if nI k = 0 then (-1, k, f) else (0, k, vp_updL f (k - 1) (f (k - 1) ^^^ (-1)))
def rr_mis (p : Int32) (k : Nat) : Int32 := if p < 0 then 1 else if p < nI k then 0 else 1
def rr_copy (p : Int32) (k : Nat) (f : Nat → Int64) : rp_T := if rr_mis p k = 0 then rr_push (rp_at p k f) k f else (-1, k, f)
def rr_drop (k : Nat) (f : Nat → Int64) : rp_T := if nI k = 0 then (-1, k, f) else (nI (k - 1), k - 1, f)
/-- replace's loop behind n rounds -/
def rr_rep (v : Int32) (top below : Int64) : Nat → Int64
  | 0 => 0
  | n + 1 => if rr_bit top ((nI n &&& (((1 : Int32) <<< (v &&& 31)) ^^^ (-1))) ||| (rr_bit below (nI n) <<< (v &&& 31))) = 1 then rr_rep v top below n ||| rp_shl 1 (nI n) else rr_rep v top below n
def rr_replace (v : Int32) (k : Nat) (f : Nat → Int64) : rp_T := if nI k < 2 then (-1, k, f) else if v < 0 then (-1, k, f) else if v ≤ 5 then (nI (k - 1), k - 1, vp_updL f (k - 2) (rr_rep v (f (k - 1)) (f (k - 2)) 64)) else (-1, k, f)
def rr_holds (q a : Int32) : Int32 := if (a &&& q) = q then 1 else 0
/-- productsOf's inner loop behind n rounds -/
def rr_inn (q : Int32) (r : Int64) : Nat → Int64
  | 0 => r
  | n + 1 => if rr_holds q (nI n) = 0 then rr_inn q r n else rr_inn q r n ^^^ rp_shl 1 (nI n)
/-- productsOf's loop behind n rounds: the rest, what is found -/
def rr_pro (x : Int64) : Nat → Int64 × Int64
  | 0 => (x, 0)
  | n + 1 => if rr_bit (rr_pro x n).1 (nI n) = 1 then (rr_inn (nI n) (rr_pro x n).1 64, (rr_pro x n).2 ||| rp_shl 1 (nI n)) else rr_pro x n
/-- ones' loop behind n rounds -/
def rr_one (x : Int64) : Nat → Int32
  | 0 => 0
  | n + 1 => rr_one x n + rr_bit x (nI n)
def rr_found (p : Int32) (k : Nat) (f : Nat → Int64) : Int64 := (rr_pro (rp_at p k f) 64).2
def rr_products (p : Int32) (k : Nat) (f : Nat → Int64) : Int32 := if rr_mis p k = 0 then rr_one (rr_found p k f) 64 else -1
def rr_has (p q : Int32) (k : Nat) (f : Nat → Int64) : Int32 := if rr_mis p k = 0 then (if q < 0 then -1 else if q ≤ 63 then rr_bit (rr_found p k f) q else -1) else -1
/-- degree's loop behind n rounds -/
def rr_deg (s : Int64) : Nat → Int32
  | 0 => 0
  | n + 1 => if rr_bit s (nI n) = 1 then (if rr_one (nI n).toInt64 64 ≤ rr_deg s n then rr_deg s n else rr_one (nI n).toInt64 64) else rr_deg s n
def rr_degree (p : Int32) (k : Nat) (f : Nat → Int64) : Int32 := if rr_mis p k = 0 then rr_deg (rr_found p k f) 64 else -1
def rr_models (p : Int32) (k : Nat) (f : Nat → Int64) : Int32 := if rr_mis p k = 0 then rr_one (rp_at p k f) 64 else -1
/-- differ's loop: n rounds from i on -/
def rr_dif (x y : Int64) : Nat → Nat → Int32
  | 0, _ => 64
  | n + 1, i => if rr_bit x (nI i) = rr_bit y (nI i) then rr_dif x y n (i + 1) else nI i
def rr_differ (p q : Int32) (k : Nat) (f : Nat → Int64) : Int32 := if rr_mis p k = 0 then (if rr_mis q k = 0 then rr_dif (rp_at p k f) (rp_at q k f) 64 0 else -1) else -1
end
section
/-! PLAIN LAW, 1: an Int64 by its bits; maps that xor goes through; the values Z of a sum of products. (ts_bit, wb_c, wb_cu, wb_sm, wb_tb, wb_inj are of kit/laws/BITS.to-paste) -/
theorem wb_tb (n : Nat) : (lN n).toBitVec = BitVec.ofNat 64 n := rfl
theorem wb_inj {a b : Int64} (h : a.toBitVec = b.toBitVec) : a = b := Int64.toBitVec_inj.mp h
theorem wb_c : ∀ k, k < 64 → ((nI k).toInt64 &&& 63) = lN k := by decide +kernel
theorem wb_cu : ∀ k, k < 64 → ((nI k).toInt64.toUInt64 &&& Int64.toUInt64 63) = UInt64.ofNat k := by decide +kernel
theorem wb_sm : ∀ k, k < 64 → (BitVec.ofNat 64 k).smod 64 = BitVec.ofNat 64 k := by decide +kernel
def rb_b (x : Int64) (i : Nat) : Bool := x.toBitVec.getLsbD i
theorem rb_ext {x y : Int64} (h : ∀ i, i < 64 → rb_b x i = rb_b y i) : x = y := Int64.toBitVec_inj.mp (BitVec.eq_of_getLsbD_eq (fun i hi => h i hi))
theorem rb_or (x y : Int64) (i : Nat) : rb_b (x ||| y) i = (rb_b x i || rb_b y i) := by unfold rb_b; rw [Int64.toBitVec_or, BitVec.getLsbD_or]
theorem rb_and (x y : Int64) (i : Nat) : rb_b (x &&& y) i = (rb_b x i && rb_b y i) := by unfold rb_b; rw [Int64.toBitVec_and, BitVec.getLsbD_and]
theorem rb_xor (x y : Int64) (i : Nat) : rb_b (x ^^^ y) i = (rb_b x i ^^ rb_b y i) := by unfold rb_b; rw [Int64.toBitVec_xor, BitVec.getLsbD_xor]
theorem rb_big {x : Int64} {i : Nat} (h : 64 ≤ i) : rb_b x i = false := BitVec.getLsbD_of_ge _ _ h
theorem rb_0 (i : Nat) : rb_b 0 i = false := BitVec.getLsbD_zero
theorem rb_m1 : ∀ i, i < 64 → rb_b (-1) i = true := by decide +kernel
theorem rb_un {k : Nat} (h : k < 64) : (UInt64.ofNat k).toNat = k := by
  show (BitVec.ofNat 64 k).toNat = k
  rw [BitVec.toNat_ofNat, Nat.mod_eq_of_lt (by omega)]
theorem rb_ushv (x : Int64) {n : Nat} (h : n < 64) : (rp_ush x (nI n)).toBitVec = x.toBitVec >>> n := by
  unfold rp_ush
  rw [wb_cu n h]
  apply BitVec.eq_of_toNat_eq
  show (x.toUInt64 >>> UInt64.ofNat n).toNat = _
  rw [UInt64.toNat_shiftRight, rb_un h, Nat.mod_eq_of_lt h, BitVec.toNat_ushiftRight]
  rfl
theorem rb_ush (x : Int64) {n : Nat} (h : n < 64) (i : Nat) : rb_b (rp_ush x (nI n)) i = rb_b x (n + i) := by
  unfold rb_b
  rw [rb_ushv x h, BitVec.getLsbD_ushiftRight]
theorem rb_shlv (x : Int64) {n : Nat} (h : n < 64) : (rp_shl x (nI n)).toBitVec = x.toBitVec <<< n := by
  unfold rp_shl
  rw [wb_c n h, Int64.toBitVec_shiftLeft, wb_tb, wb_sm n h, BitVec.shiftLeft_eq', BitVec.toNat_ofNat, Nat.mod_eq_of_lt (by omega)]
theorem rb_shl (x : Int64) {n : Nat} (h : n < 64) {i : Nat} (hi : i < 64) : rb_b (rp_shl x (nI n)) i = (decide (n ≤ i) && rb_b x (i - n)) := by
  unfold rb_b
  rw [rb_shlv x h, BitVec.getLsbD_shiftLeft]
  by_cases q : n ≤ i
  · simp [hi, q, Nat.not_lt.mpr q]
  · simp [hi, q, Nat.not_le.mp q]
theorem rb_shrv (x : Int64) {n : Nat} (h : n < 64) : (rp_shr x (nI n)).toBitVec = x.toBitVec.sshiftRight n := by
  unfold rp_shr
  rw [wb_c n h, Int64.toBitVec_shiftRight, wb_tb, wb_sm n h, BitVec.sshiftRight_eq', BitVec.toNat_ofNat, Nat.mod_eq_of_lt (by omega)]
theorem rb_low (y : Int64) : (y.toInt32 &&& 1) = if rb_b y 0 then 1 else 0 := by
  apply Int32.toBitVec_inj.mp
  rw [Int32.toBitVec_and, Int64.toBitVec_toInt32]
  apply BitVec.eq_of_getLsbD_eq
  intro i hi
  rw [BitVec.getLsbD_and, BitVec.getLsbD_signExtend]
  show _ = BitVec.getLsbD (Int32.toBitVec (if y.toBitVec.getLsbD 0 then 1 else 0)) i
  have h1 : (1 : Int32).toBitVec = 1#32 := rfl
  have h0 : (0 : Int32).toBitVec = 0#32 := rfl
  cases hb : y.toBitVec.getLsbD 0
  · cases i with
    | zero => simp [h1]; simpa using hb
    | succ i => simp [h1]
  · cases i with
    | zero => simp [h1]; simpa using hb
    | succ i => simp [h1]
/-- the reference's bit -/
theorem rb_bit (x : Int64) {n : Nat} (h : n < 64) : rr_bit x (nI n) = if rb_b x n then 1 else 0 := by
  unfold rr_bit
  rw [rb_low]
  have e : rb_b (rp_shr x (nI n)) 0 = rb_b x n := by
    unfold rb_b
    rw [rb_shrv x h, BitVec.getLsbD_sshiftRight]
    simp [h]
  rw [e]
theorem rb_bit1 (x : Int64) {n : Nat} (h : n < 64) : rr_bit x (nI n) = 1 ↔ rb_b x n = true := by
  rw [rb_bit x h]
  cases rb_b x n <;> decide
theorem rb_hasbit (x : Int64) {n : Nat} (h : n < 64) : ((rp_ush x (nI n)).toInt32 &&& 1) = rr_bit x (nI n) := by
  rw [rb_low, rb_bit x h, rb_ush x h, Nat.add_zero]
theorem ts_bit {w : Int64} {s : UInt64} {j : Nat} (hj : j < 64) (hs : s.toNat = j) : ((w.toUInt64 >>> s).toInt64 &&& 1) = 0 ↔ w.toBitVec.getLsbD j = false := by
  have e : (w.toUInt64 >>> s).toInt64.toBitVec = w.toBitVec >>> j := by
    apply BitVec.eq_of_toNat_eq
    show (w.toUInt64 >>> s).toNat = _
    rw [UInt64.toNat_shiftRight, hs, Nat.mod_eq_of_lt hj, BitVec.toNat_ushiftRight]
    rfl
  rw [← Int64.toBitVec_inj, Int64.toBitVec_and, e]
  show w.toBitVec >>> j &&& 1#64 = 0#64 ↔ _
  constructor
  · intro h
    have t := congrArg (fun x => x.getLsbD 0) h
    simpa using t
  · intro h
    apply BitVec.eq_of_getLsbD_eq
    intro i hi
    cases i with
    | zero => simp [h]
    | succ i => simp
theorem rb_cmp (x : Int64) {n : Nat} (h : n < 64) : lg_cmp (rp_ush x (nI n) &&& 1) 0 = 0 ↔ rb_b x n = false := by
  unfold rp_ush
  rw [wb_cu n h]
  exact (lg_cmp_eq _ _).trans (ts_bit h (rb_un h))
theorem rb_one (i : Nat) : rb_b 1 i = decide (i = 0) := by
  show BitVec.getLsbD 1#64 i = _
  rw [BitVec.getLsbD_one]
  simp
theorem rb_shl1 {n : Nat} (h : n < 64) {i : Nat} (hi : i < 64) : rb_b (rp_shl 1 (nI n)) i = decide (i = n) := by
  rw [rb_shl 1 h hi, rb_one]
  by_cases q : i = n
  · subst q; simp
  · by_cases r : n ≤ i
    · simp [q, r, show ¬ i - n = 0 by omega]
    · simp [q, r]
/-! maps that xor goes through -/
def rb_lin (F : Int64 → Int64) : Prop := ∀ x y, F (x ^^^ y) = F x ^^^ F y
theorem rb_lin0 {F : Int64 → Int64} (h : rb_lin F) : F 0 = 0 := by
  have e := h 0 0
  rw [Int64.xor_self, Int64.xor_self] at e
  exact e
def rb_pre (x : Int64) : Nat → Int64
  | 0 => 0
  | n + 1 => if rb_b x n then rb_pre x n ^^^ lN (2 ^ n) else rb_pre x n
theorem rb_pow {n i : Nat} (hi : i < 64) : rb_b (lN (2 ^ n)) i = decide (i = n) := by
  unfold rb_b
  rw [wb_tb, BitVec.getLsbD_ofNat, Nat.testBit_two_pow]
  by_cases q : i = n
  · subst q; simp [hi]
  · simp [q, show ¬ n = i by omega]
theorem rb_pre_b (x : Int64) : ∀ n, n ≤ 64 → ∀ i, i < 64 → rb_b (rb_pre x n) i = (decide (i < n) && rb_b x i) := by
  intro n
  induction n with
  | zero => intro _ i _; simp [rb_pre, rb_0]
  | succ n ih =>
    intro hn i hi
    have e := ih (by omega) i hi
    by_cases hb : rb_b x n = true
    · rw [rb_pre, if_pos hb, rb_xor, e, rb_pow hi]
      by_cases q : i = n
      · subst q; simp [hb]
      · have a : (i < n + 1) ↔ (i < n) := by omega
        simp [q, a]
    · rw [rb_pre, if_neg hb, e]
      by_cases q : i = n
      · subst q; simp [hb]
      · have a : (i < n + 1) ↔ (i < n) := by omega
        simp [a]
theorem rb_pre_64 (x : Int64) : rb_pre x 64 = x := rb_ext fun i hi => by
  rw [rb_pre_b x 64 (Nat.le_refl _) i hi]
  simp [hi]
theorem rb_lin_ext {F G : Int64 → Int64} (hF : rb_lin F) (hG : rb_lin G) (h : ∀ n, n < 64 → F (lN (2 ^ n)) = G (lN (2 ^ n))) (x : Int64) : F x = G x := by
  have k : ∀ n, n ≤ 64 → F (rb_pre x n) = G (rb_pre x n) := by
    intro n
    induction n with
    | zero => intro _; rw [rb_pre, rb_lin0 hF, rb_lin0 hG]
    | succ n ih =>
      intro hn
      by_cases hb : rb_b x n = true
      · rw [rb_pre, if_pos hb, hF, hG, ih (by omega), h n (by omega)]
      · rw [rb_pre, if_neg hb]; exact ih (by omega)
  have e := k 64 (Nat.le_refl _)
  rwa [rb_pre_64] at e
theorem rb_ax (x y m : Int64) : (x ^^^ y) &&& m = (x &&& m) ^^^ (y &&& m) := rb_ext fun i _ => by
  rw [rb_and, rb_xor, rb_xor, rb_and, rb_and]
  cases rb_b x i <;> cases rb_b y i <;> cases rb_b m i <;> rfl
theorem rb_xa (m x y : Int64) : m &&& (x ^^^ y) = (m &&& x) ^^^ (m &&& y) := rb_ext fun i _ => by
  rw [rb_and, rb_xor, rb_xor, rb_and, rb_and]
  cases rb_b x i <;> cases rb_b y i <;> cases rb_b m i <;> rfl
theorem rb_shl_x (x y : Int64) (c : Int32) : rp_shl (x ^^^ y) c = rp_shl x c ^^^ rp_shl y c := Int64.shiftLeft_xor
theorem rb_ush_x (x y : Int64) {n : Nat} (h : n < 64) : rp_ush (x ^^^ y) (nI n) = rp_ush x (nI n) ^^^ rp_ush y (nI n) := rb_ext fun i _ => by
  rw [rb_xor, rb_ush _ h, rb_ush _ h, rb_ush _ h, rb_xor]
theorem rb_x4 (a b c d : Int64) : (a ^^^ b) ^^^ (c ^^^ d) = (a ^^^ c) ^^^ (b ^^^ d) := rb_ext fun i _ => by
  rw [rb_xor, rb_xor, rb_xor, rb_xor, rb_xor, rb_xor]
  cases rb_b a i <;> cases rb_b b i <;> cases rb_b c i <;> cases rb_b d i <;> rfl
theorem rb_valv_lin (v : Int32) : rb_lin (rp_valv v) := fun x y => by
  unfold rp_valv
  rw [rb_ax, rb_shl_x, rb_x4]
theorem rb_val_lin : ∀ n, rb_lin (fun x => rp_val x n)
  | 0 => fun _ _ => rfl
  | n + 1 => fun x y => by
    show rp_valv (nI n) (rp_val (x ^^^ y) n) = rp_valv (nI n) (rp_val x n) ^^^ rp_valv (nI n) (rp_val y n)
    rw [← rb_valv_lin (nI n), ← rb_val_lin n x y]
/-- the values of a sum -/
def rb_Z (x : Int64) : Int64 := rp_val x 6
theorem rb_Zx (x y : Int64) : rb_Z (x ^^^ y) = rb_Z x ^^^ rb_Z y := rb_val_lin 6 x y
theorem rb_Z0 : rb_Z 0 = 0 := rb_lin0 rb_Zx
theorem rb_Z1 : rb_Z 1 = -1 := by decide +kernel
theorem rb_mulv_lin (v : Int32) : rb_lin (rp_mulv v) := fun x y => by
  unfold rp_mulv
  rw [rb_ax, rb_ax, rb_shl_x, rb_x4]
def rb_V (v : Nat) : Int64 := rb_Z (lN (2 ^ (2 ^ v)))
set_option maxRecDepth 100000 in
theorem rb_mulv_tab : ∀ v, v < 6 → ∀ n, n < 64 → rb_Z (rp_mulv (nI v) (lN (2 ^ n))) = rb_V v &&& rb_Z (lN (2 ^ n)) := by decide +kernel
theorem rb_Z_mulv {v : Nat} (hv : v < 6) (y : Int64) : rb_Z (rp_mulv (nI v) y) = rb_V v &&& rb_Z y :=
  rb_lin_ext (F := fun y => rb_Z (rp_mulv (nI v) y)) (G := fun y => rb_V v &&& rb_Z y) (fun x y => by show rb_Z (rp_mulv (nI v) (x ^^^ y)) = _; rw [rb_mulv_lin, rb_Zx]) (fun x y => by show rb_V v &&& rb_Z (x ^^^ y) = _; rw [rb_Zx, rb_xa]) (rb_mulv_tab v hv) y
def rb_av (q : Int32) : Nat → Int64
  | 0 => -1
  | n + 1 => if (rp_iush q (nI n) &&& 1) = 0 then rb_av q n else rb_V n &&& rb_av q n
theorem rb_m1a (x : Int64) : (-1) &&& x = x := rb_ext fun i hi => by rw [rb_and, rb_m1 i hi, Bool.true_and]
theorem rb_0a (x : Int64) : 0 &&& x = 0 := rb_ext fun i hi => by rw [rb_and, rb_0, Bool.false_and]
theorem rb_Z_times (y : Int64) (q : Int32) : ∀ n, n ≤ 6 → rb_Z (rp_times y q n) = rb_av q n &&& rb_Z y := by
  intro n
  induction n with
  | zero => intro _; rw [rp_times, rb_av, rb_m1a]
  | succ n ih =>
    intro hn
    have e := ih (by omega)
    by_cases h : (rp_iush q (nI n) &&& 1) = 0
    · rw [rp_times, if_pos h, rb_av, if_pos h, e]
    · rw [rp_times, if_neg h, rb_av, if_neg h, rb_Z_mulv (by omega), e, Int64.and_assoc]
set_option maxRecDepth 100000 in
theorem rb_av_tab : ∀ n, n < 64 → rb_av (nI n) 6 = rb_Z (lN (2 ^ n)) := by decide +kernel
theorem rb_Z_mul (x y : Int64) : ∀ n, n ≤ 64 → rb_Z (rp_mul x y n) = rb_Z (rb_pre x n) &&& rb_Z y := by
  intro n
  induction n with
  | zero => intro _; rw [rp_mul, rb_pre, rb_Z0, rb_0a]
  | succ n ih =>
    intro hn
    have e := ih (by omega)
    have hc := rb_cmp x (show n < 64 by omega)
    by_cases hb : rb_b x n = true
    · have h : ¬ lg_cmp (rp_ush x (nI n) &&& 1) 0 = 0 := fun q => by rw [hc.mp q] at hb; cases hb
      rw [rp_mul, if_neg h, rb_Zx, e, rb_Z_times y (nI n) 6 (Nat.le_refl _), rb_av_tab n (by omega), rb_pre, if_pos hb, rb_Zx, rb_ax]
    · have h : lg_cmp (rp_ush x (nI n) &&& 1) 0 = 0 := hc.mpr (by cases q : rb_b x n <;> simp_all)
      rw [rp_mul, if_pos h, rb_pre, if_neg hb, e]
theorem rb_Zm (x y : Int64) : rb_Z (rp_mul x y 64) = rb_Z x &&& rb_Z y := by
  have e := rb_Z_mul x y 64 (Nat.le_refl _)
  rwa [rb_pre_64] at e
/-- a loop that sets bit n where P n -/
theorem rb_orloop (L : Nat → Int64) (P : Nat → Bool) (h0 : L 0 = 0) (hs : ∀ n, n < 64 → L (n + 1) = if P n then L n ||| rp_shl 1 (nI n) else L n) : ∀ n, n ≤ 64 → ∀ i, i < 64 → rb_b (L n) i = (decide (i < n) && P i) := by
  intro n
  induction n with
  | zero => intro _ i _; rw [h0, rb_0]; simp
  | succ n ih =>
    intro hn i hi
    have e := ih (by omega) i hi
    rw [hs n (by omega)]
    by_cases hp : P n = true
    · rw [if_pos hp, rb_or, e, rb_shl1 (by omega) hi]
      by_cases q : i = n
      · subst q; simp [hp]
      · have a : (i < n + 1) ↔ (i < n) := by omega
        simp [q, a]
    · rw [if_neg hp, e]
      by_cases q : i = n
      · subst q; simp [hp]
      · have a : (i < n + 1) ↔ (i < n) := by omega
        simp [a]
end
section
/-! PLAIN LAW, 2: how many bits are set: RingProver counts by bytes at once, the reference one by one -/
theorem rn_and (a b m M k : Nat) (ha : a < 2 ^ 8) (hm : m < 2 ^ (8 - k)) (hk : k ≤ 8) : ((a + 256 * b) >>> k) &&& (m + 256 * M) = ((a >>> k) &&& m) + 256 * ((b >>> k) &&& M) := by
  have e1 : a + 256 * b = 2 ^ 8 * b + a := by omega
  have e2 : m + 256 * M = 2 ^ 8 * M + m := by omega
  have e3 : ((a >>> k) &&& m) + 256 * ((b >>> k) &&& M) = 2 ^ 8 * ((b >>> k) &&& M) + ((a >>> k) &&& m) := by omega
  have hm8 : m < 2 ^ 8 := Nat.lt_of_lt_of_le hm (Nat.pow_le_pow_right (by decide) (by omega))
  have h3 : ((a >>> k) &&& m) < 2 ^ 8 := Nat.lt_of_le_of_lt Nat.and_le_right hm8
  rw [e1, e2, e3]
  apply Nat.eq_of_testBit_eq
  intro i
  rw [Nat.testBit_and, Nat.testBit_shiftRight, Nat.testBit_two_pow_mul_add _ ha, Nat.testBit_two_pow_mul_add _ hm8, Nat.testBit_two_pow_mul_add _ h3]
  by_cases hi : i < 8
  · rw [if_pos hi, if_pos hi, Nat.testBit_and, Nat.testBit_shiftRight]
    by_cases q : k + i < 8
    · rw [if_pos q]
    · have z : m.testBit i = false := Nat.testBit_lt_two_pow (Nat.lt_of_lt_of_le hm (Nat.pow_le_pow_right (by decide) (by omega)))
      rw [z, Bool.and_false, Bool.and_false]
  · rw [if_neg hi, if_neg hi, if_neg (by omega), Nat.testBit_and, Nat.testBit_shiftRight, show k + i - 8 = k + (i - 8) by omega]
theorem rn_and0 (a b m M : Nat) (ha : a < 2 ^ 8) (hm : m < 2 ^ 8) : (a + 256 * b) &&& (m + 256 * M) = (a &&& m) + 256 * (b &&& M) := rn_and a b m M 0 ha hm (by decide)
def rn_mk (m : Nat) : Nat → Nat
  | 0 => 0
  | n + 1 => m + 256 * rn_mk m n
def rn_u (n x : Nat) : Nat := x - ((x >>> 1) &&& rn_mk 0x55 n)
def rn_w (n x : Nat) : Nat := (rn_u n x &&& rn_mk 0x33 n) + ((rn_u n x >>> 2) &&& rn_mk 0x33 n)
def rn_g (n x : Nat) : Nat := (rn_w n x + (rn_w n x >>> 4)) &&& rn_mk 0x0F n
def rn_bu (a : Nat) : Nat := a - ((a >>> 1) &&& 0x55)
def rn_bw (a : Nat) : Nat := (rn_bu a &&& 0x33) + ((rn_bu a >>> 2) &&& 0x33)
/-- the number of the bits below n that are set -/
def rn_cn (x : Nat) : Nat → Nat
  | 0 => 0
  | n + 1 => rn_cn x n + (if x.testBit n then 1 else 0)
theorem rn_tab : ∀ a, a < 256 → rn_bw a % 16 ≤ 4 ∧ rn_bw a ≤ 68 ∧ (rn_bw a + rn_bw a / 16) % 16 = rn_cn a 8 := by decide +kernel
theorem rn_cn_le (x : Nat) : ∀ n, rn_cn x n ≤ n
  | 0 => Nat.le_refl _
  | n + 1 => by
    have h := rn_cn_le x n
    rw [rn_cn]
    split <;> omega
theorem rn_u_s {a : Nat} (ha : a < 256) (n b : Nat) : rn_u (n + 1) (a + 256 * b) = rn_bu a + 256 * rn_u n b := by
  unfold rn_u rn_bu
  rw [rn_mk, rn_and a b 0x55 _ 1 ha (by decide) (by decide)]
  have h1 : ((a >>> 1) &&& 0x55) ≤ a := Nat.le_trans Nat.and_le_left (Nat.shiftRight_le a 1)
  have h2 : ((b >>> 1) &&& rn_mk 0x55 n) ≤ b := Nat.le_trans Nat.and_le_left (Nat.shiftRight_le b 1)
  omega
theorem rn_bu_lt {a : Nat} (ha : a < 256) : rn_bu a < 256 := Nat.lt_of_le_of_lt (Nat.sub_le _ _) ha
theorem rn_w_s {a : Nat} (ha : a < 256) (n b : Nat) : rn_w (n + 1) (a + 256 * b) = rn_bw a + 256 * rn_w n b := by
  unfold rn_w
  rw [rn_u_s ha, rn_mk, rn_and0 _ _ 0x33 _ (rn_bu_lt ha) (by decide), rn_and _ _ 0x33 _ 2 (rn_bu_lt ha) (by decide) (by decide)]
  unfold rn_bw
  omega
theorem rn_w_m : ∀ n x, rn_w n x % 16 ≤ 4
  | 0, x => by
    have e : rn_w 0 x = 0 := by
      unfold rn_w
      rw [rn_mk, Nat.and_zero, Nat.and_zero]
    rw [e]
    decide
  | n + 1, x => by
    have e : x = x % 256 + 256 * (x / 256) := by omega
    have h := (rn_tab (x % 256) (Nat.mod_lt _ (by decide))).1
    rw [e, rn_w_s (Nat.mod_lt _ (by decide))]
    omega
theorem rn_g_s {a : Nat} (ha : a < 256) (n b : Nat) : rn_g (n + 1) (a + 256 * b) = rn_cn a 8 + 256 * rn_g n b := by
  obtain ⟨t1, t2, t3⟩ := rn_tab a ha
  have hm := rn_w_m n b
  unfold rn_g
  rw [rn_w_s ha]
  generalize rn_w n b = X at hm ⊢
  generalize rn_bw a = c at t1 t2 t3 ⊢
  have e : c + 256 * X + ((c + 256 * X) >>> 4) = (c + c / 16 + 16 * (X % 16)) + 256 * (X + X >>> 4) := by
    rw [Nat.shiftRight_eq_div_pow, Nat.shiftRight_eq_div_pow]
    omega
  rw [e, rn_mk, rn_and0 _ _ 0x0F _ (by omega) (by decide)]
  have e2 : (c + c / 16 + 16 * (X % 16)) &&& 0x0F = (c + c / 16 + 16 * (X % 16)) % 16 := Nat.and_two_pow_sub_one_eq_mod _ 4
  rw [e2]
  omega
theorem rn_cn_lo {a : Nat} (ha : a < 256) (b : Nat) : ∀ n, n ≤ 8 → rn_cn (a + 256 * b) n = rn_cn a n := by
  intro n
  induction n with
  | zero => intro _; rfl
  | succ n ih =>
    intro hn
    have e : (a + 256 * b).testBit n = a.testBit n := by
      rw [show a + 256 * b = 2 ^ 8 * b + a by omega, Nat.testBit_two_pow_mul_add _ ha, if_pos (by omega)]
    rw [rn_cn, rn_cn, ih (by omega), e]
theorem rn_cn_s {a : Nat} (ha : a < 256) (b : Nat) : ∀ n, rn_cn (a + 256 * b) (8 + n) = rn_cn a 8 + rn_cn b n := by
  intro n
  induction n with
  | zero => exact rn_cn_lo ha b 8 (Nat.le_refl _)
  | succ n ih =>
    have e : (a + 256 * b).testBit (8 + n) = b.testBit n := by
      rw [show a + 256 * b = 2 ^ 8 * b + a by omega, Nat.testBit_two_pow_mul_add _ ha, if_neg (by omega), show 8 + n - 8 = n by omega]
    show rn_cn (a + 256 * b) (8 + n) + (if (a + 256 * b).testBit (8 + n) then 1 else 0) = rn_cn a 8 + (rn_cn b n + (if b.testBit n then 1 else 0))
    rw [ih, e]
    omega
theorem rn_g0 (x : Nat) : rn_g 0 x = 0 := by
  unfold rn_g
  rw [rn_mk, Nat.and_zero]
/-- the bytes' counts, side by side, summed up by one product -/
theorem rn_all {x : Nat} (hx : x < 2 ^ 64) : (rn_g 8 x * 72340172838076673) % 2 ^ 64 / 2 ^ 56 = rn_cn x 64 := by
  have s : ∀ n y, rn_g (n + 1) y = rn_cn (y % 256) 8 + 256 * rn_g n (y / 256) := fun n y => by
    have e : y = y % 256 + 256 * (y / 256) := by omega
    conv => lhs; rw [e]
    exact rn_g_s (Nat.mod_lt _ (by decide)) n (y / 256)
  have c : ∀ n y, rn_cn y (8 + n) = rn_cn (y % 256) 8 + rn_cn (y / 256) n := fun n y => by
    have e : y = y % 256 + 256 * (y / 256) := by omega
    conv => lhs; rw [e]
    exact rn_cn_s (Nat.mod_lt _ (by decide)) (y / 256) n
  have l : ∀ y, rn_cn y 8 ≤ 8 := fun y => rn_cn_le y 8
  rw [s 7, s 6, s 5, s 4, s 3, s 2, s 1, s 0, rn_g0]
  have h0 : rn_cn x 64 = rn_cn (x % 256) 8 + rn_cn (x / 256) 56 := c 56 x
  have h1 : rn_cn (x / 256) 56 = rn_cn (x / 256 % 256) 8 + rn_cn (x / 256 / 256) 48 := c 48 (x / 256)
  have h2 : rn_cn (x / 256 / 256) 48 = rn_cn (x / 256 / 256 % 256) 8 + rn_cn (x / 256 / 256 / 256) 40 := c 40 (x / 256 / 256)
  have h3 : rn_cn (x / 256 / 256 / 256) 40 = rn_cn (x / 256 / 256 / 256 % 256) 8 + rn_cn (x / 256 / 256 / 256 / 256) 32 := c 32 (x / 256 / 256 / 256)
  have h4 : rn_cn (x / 256 / 256 / 256 / 256) 32 = rn_cn (x / 256 / 256 / 256 / 256 % 256) 8 + rn_cn (x / 256 / 256 / 256 / 256 / 256) 24 := c 24 (x / 256 / 256 / 256 / 256)
  have h5 : rn_cn (x / 256 / 256 / 256 / 256 / 256) 24 = rn_cn (x / 256 / 256 / 256 / 256 / 256 % 256) 8 + rn_cn (x / 256 / 256 / 256 / 256 / 256 / 256) 16 := c 16 (x / 256 / 256 / 256 / 256 / 256)
  have h6 : rn_cn (x / 256 / 256 / 256 / 256 / 256 / 256) 16 = rn_cn (x / 256 / 256 / 256 / 256 / 256 / 256 % 256) 8 + rn_cn (x / 256 / 256 / 256 / 256 / 256 / 256 / 256) 8 := c 8 (x / 256 / 256 / 256 / 256 / 256 / 256)
  have h7 : rn_cn (x / 256 / 256 / 256 / 256 / 256 / 256 / 256) 8 = rn_cn (x / 256 / 256 / 256 / 256 / 256 / 256 / 256 % 256) 8 + rn_cn (x / 256 / 256 / 256 / 256 / 256 / 256 / 256 / 256) 0 := c 0 (x / 256 / 256 / 256 / 256 / 256 / 256 / 256)
  have z : rn_cn (x / 256 / 256 / 256 / 256 / 256 / 256 / 256 / 256) 0 = 0 := rfl
  rw [h0, h1, h2, h3, h4, h5, h6, h7, z]
  clear h0 h1 h2 h3 h4 h5 h6 h7
  have l0 := l (x % 256)
  have l1 := l (x / 256 % 256)
  have l2 := l (x / 256 / 256 % 256)
  have l3 := l (x / 256 / 256 / 256 % 256)
  have l4 := l (x / 256 / 256 / 256 / 256 % 256)
  have l5 := l (x / 256 / 256 / 256 / 256 / 256 % 256)
  have l6 := l (x / 256 / 256 / 256 / 256 / 256 / 256 % 256)
  have l7 := l (x / 256 / 256 / 256 / 256 / 256 / 256 / 256 % 256)
  generalize rn_cn (x % 256) 8 = c0 at *
  generalize rn_cn (x / 256 % 256) 8 = c1 at *
  generalize rn_cn (x / 256 / 256 % 256) 8 = c2 at *
  generalize rn_cn (x / 256 / 256 / 256 % 256) 8 = c3 at *
  generalize rn_cn (x / 256 / 256 / 256 / 256 % 256) 8 = c4 at *
  generalize rn_cn (x / 256 / 256 / 256 / 256 / 256 % 256) 8 = c5 at *
  generalize rn_cn (x / 256 / 256 / 256 / 256 / 256 / 256 % 256) 8 = c6 at *
  generalize rn_cn (x / 256 / 256 / 256 / 256 / 256 / 256 / 256 % 256) 8 = c7 at *
  clear s c l z hx
  have e : (c0 + 256 * (c1 + 256 * (c2 + 256 * (c3 + 256 * (c4 + 256 * (c5 + 256 * (c6 + 256 * (c7 + 256 * 0)))))))) * 72340172838076673 = (c0 + 256 * (c0 + c1) + 65536 * (c0 + c1 + c2) + 16777216 * (c0 + c1 + c2 + c3) + 4294967296 * (c0 + c1 + c2 + c3 + c4) + 1099511627776 * (c0 + c1 + c2 + c3 + c4 + c5) + 281474976710656 * (c0 + c1 + c2 + c3 + c4 + c5 + c6) + 72057594037927936 * (c0 + c1 + c2 + c3 + c4 + c5 + c6 + c7)) + 18446744073709551616 * ((c1 + c2 + c3 + c4 + c5 + c6 + c7) + 256 * (c2 + c3 + c4 + c5 + c6 + c7) + 65536 * (c3 + c4 + c5 + c6 + c7) + 16777216 * (c4 + c5 + c6 + c7) + 4294967296 * (c5 + c6 + c7) + 1099511627776 * (c6 + c7) + 281474976710656 * c7) := by omega
  rw [e, show (2 : Nat) ^ 64 = 18446744073709551616 from rfl, Nat.add_mul_mod_self_left, Nat.mod_eq_of_lt (by omega), show (2 : Nat) ^ 56 = 72057594037927936 from rfl]
  have e2 : c0 + 256 * (c0 + c1) + 65536 * (c0 + c1 + c2) + 16777216 * (c0 + c1 + c2 + c3) + 4294967296 * (c0 + c1 + c2 + c3 + c4) + 1099511627776 * (c0 + c1 + c2 + c3 + c4 + c5) + 281474976710656 * (c0 + c1 + c2 + c3 + c4 + c5 + c6) < 72057594037927936 := by omega
  generalize c0 + 256 * (c0 + c1) + 65536 * (c0 + c1 + c2) + 16777216 * (c0 + c1 + c2 + c3) + 4294967296 * (c0 + c1 + c2 + c3 + c4) + 1099511627776 * (c0 + c1 + c2 + c3 + c4 + c5) + 281474976710656 * (c0 + c1 + c2 + c3 + c4 + c5 + c6) = r at e2 ⊢
  rw [Nat.add_mul_div_left _ _ (by decide), Nat.div_eq_of_lt e2]
  omega
def rn_N (x : Int64) : Nat := x.toBitVec.toNat
theorem rn_lt (x : Int64) : rn_N x < 2 ^ 64 := x.toBitVec.isLt
theorem rn_ush (x : Int64) {n : Nat} (h : n < 64) : rn_N (rp_ush x (nI n)) = rn_N x >>> n := by
  unfold rn_N
  rw [rb_ushv x h, BitVec.toNat_ushiftRight]
theorem rn_andN (x y : Int64) : rn_N (x &&& y) = rn_N x &&& rn_N y := by
  unfold rn_N
  rw [Int64.toBitVec_and, BitVec.toNat_and]
theorem rn_addN (x y : Int64) : rn_N (x + y) = (rn_N x + rn_N y) % 2 ^ 64 := by
  unfold rn_N
  rw [Int64.toBitVec_add, BitVec.toNat_add]
theorem rn_subN {x y : Int64} (h : rn_N y ≤ rn_N x) : rn_N (x - y) = rn_N x - rn_N y := by
  unfold rn_N at *
  rw [Int64.toBitVec_sub, BitVec.toNat_sub_of_le h]
theorem rn_mulN (x y : Int64) : rn_N (x * y) = (rn_N x * rn_N y) % 2 ^ 64 := by
  unfold rn_N
  rw [Int64.toBitVec_mul, BitVec.toNat_mul]
theorem rn_o1 (x : Int64) : rn_N (rp_o1 x) = rn_u 8 (rn_N x) := by
  have e : rn_N (rp_ush x 1 &&& 6148914691236517205) = (rn_N x >>> 1) &&& rn_mk 0x55 8 := by
    rw [rn_andN, show rp_ush x 1 = rp_ush x (nI 1) from rfl, rn_ush x (by decide), show rn_N 6148914691236517205 = rn_mk 0x55 8 by decide +kernel]
  unfold rp_o1
  rw [rn_subN (by rw [e]; exact Nat.le_trans Nat.and_le_left (Nat.shiftRight_le _ 1)), e]
  rfl
theorem rn_w_lt (n x : Nat) : rn_w n x ≤ rn_mk 0x33 n + rn_mk 0x33 n := Nat.add_le_add Nat.and_le_right Nat.and_le_right
theorem rn_o2 (x : Int64) : rn_N (rp_o2 (rp_o1 x)) = rn_w 8 (rn_N x) := by
  have e : rn_N (rp_o2 (rp_o1 x)) = rn_w 8 (rn_N x) % 2 ^ 64 := by
    unfold rp_o2 rn_w
    rw [rn_addN, rn_andN, rn_andN, show rp_ush (rp_o1 x) 2 = rp_ush (rp_o1 x) (nI 2) from rfl, rn_ush _ (by decide), rn_o1, show rn_N 3689348814741910323 = rn_mk 0x33 8 by decide +kernel]
  have h := rn_w_lt 8 (rn_N x)
  have k : rn_mk 0x33 8 + rn_mk 0x33 8 < 2 ^ 64 := by decide +kernel
  rw [e, Nat.mod_eq_of_lt (by omega)]
theorem rn_o3 (x : Int64) : rn_N (rp_o3 (rp_o2 (rp_o1 x))) = rn_g 8 (rn_N x) := by
  have h := rn_w_lt 8 (rn_N x)
  have k : (rn_mk 0x33 8 + rn_mk 0x33 8) + (rn_mk 0x33 8 + rn_mk 0x33 8) < 2 ^ 64 := by decide +kernel
  have h2 : rn_w 8 (rn_N x) >>> 4 ≤ rn_w 8 (rn_N x) := Nat.shiftRight_le _ 4
  unfold rp_o3 rn_g
  rw [rn_andN, rn_addN, show rp_ush (rp_o2 (rp_o1 x)) 4 = rp_ush (rp_o2 (rp_o1 x)) (nI 4) from rfl, rn_ush _ (by decide), rn_o2, show rn_N 1085102592571150095 = rn_mk 0x0F 8 by decide +kernel, Nat.mod_eq_of_lt (by omega)]
theorem rn_of (x : Int64) : x = lN (rn_N x) := wb_inj (by rw [wb_tb]; unfold rn_N; rw [BitVec.ofNat_toNat]; simp)
theorem rn_ones (x : Int64) : rp_ones x = nI (rn_cn (rn_N x) 64) := by
  unfold rp_ones
  rw [show rp_ush (rp_o3 (rp_o2 (rp_o1 x)) * 72340172838076673) 56 = rp_ush (rp_o3 (rp_o2 (rp_o1 x)) * 72340172838076673) (nI 56) from rfl]
  have e : rn_N (rp_ush (rp_o3 (rp_o2 (rp_o1 x)) * 72340172838076673) (nI 56)) = rn_cn (rn_N x) 64 := by
    rw [rn_ush _ (by decide), rn_mulN, rn_o3, show rn_N 72340172838076673 = 72340172838076673 by decide +kernel, Nat.shiftRight_eq_div_pow]
    exact rn_all (rn_lt x)
  rw [rn_of (rp_ush _ _), e, lN_i]
theorem rn_one (x : Int64) : ∀ n, n ≤ 64 → rr_one x n = nI (rn_cn (rn_N x) n) := by
  intro n
  induction n with
  | zero => intro _; rfl
  | succ n ih =>
    intro hn
    rw [rr_one, rn_cn, ih (by omega), rb_bit x (by omega)]
    have e : rb_b x n = (rn_N x).testBit n := rfl
    rw [e]
    cases (rn_N x).testBit n
    · show nI _ + 0 = nI (_ + 0)
      rw [Nat.add_zero, Int32.add_zero]
    · exact nI_1 _
/-- both count alike -/
theorem rn_same (x : Int64) : rp_ones x = rr_one x 64 := by rw [rn_ones, rn_one x 64 (Nat.le_refl _)]
end
section
/-! PLAIN LAW, 3: join, replace, productsOf, degree, differ -/
theorem rb_joi (q : Int32) (x y : Int64) {i : Nat} (hi : i < 64) : rb_b (rr_joi q x y 64) i = decide (¬ rr_joined q (rr_is1 (rr_bit x (nI i))) (rr_is1 (rr_bit y (nI i))) = 0) := by
  rw [rb_orloop (rr_joi q x y) (fun n => decide (¬ rr_joined q (rr_is1 (rr_bit x (nI n))) (rr_is1 (rr_bit y (nI n))) = 0)) rfl (fun n _ => by
    rw [rr_joi]
    by_cases h : rr_joined q (rr_is1 (rr_bit x (nI n))) (rr_is1 (rr_bit y (nI n))) = 0 <;> simp [h]) 64 (Nat.le_refl _) i hi]
  simp [hi]
def rb_op (j : Nat) (a b : Bool) : Bool := if j = 0 then a && b else if j = 1 then a || b else if j = 2 then a ^^ b else if j = 3 then !(a ^^ b) else if j = 4 then !a || b else !(a && b)
theorem rb_op_tab : ∀ j, j < 6 → ∀ a b : Bool, decide (¬ rr_joined (nI j) (rr_is1 (if a then 1 else 0)) (rr_is1 (if b then 1 else 0)) = 0) = rb_op j a b := by decide +kernel
theorem rb_comb {j : Nat} (hj : j < 6) (x y : Int64) {i : Nat} (hi : i < 64) : rb_b (rb_Z (rp_comb (nI j) x y)) i = rb_op j (rb_b (rb_Z x) i) (rb_b (rb_Z y) i) := by
  have m1 := rb_m1 i hi
  rcases (show j = 0 ∨ j = 1 ∨ j = 2 ∨ j = 3 ∨ j = 4 ∨ j = 5 by omega) with h | h | h | h | h | h
  · subst h
    have e : rp_comb (nI 0) x y = rp_mul x y 64 := by unfold rp_comb; rw [if_neg (by decide), if_neg (by decide), if_pos (by decide)]
    rw [e, rb_Zm, rb_and]; rfl
  · subst h
    have e : rp_comb (nI 1) x y = x ^^^ y ^^^ rp_mul x y 64 := by unfold rp_comb; rw [if_neg (by decide), if_neg (by decide), if_neg (by decide), if_pos (by decide)]
    rw [e, rb_Zx, rb_Zx, rb_Zm, rb_xor, rb_xor, rb_and]
    cases rb_b (rb_Z x) i <;> cases rb_b (rb_Z y) i <;> rfl
  · subst h
    have e : rp_comb (nI 2) x y = x ^^^ y := by unfold rp_comb; rw [if_pos (by decide)]
    rw [e, rb_Zx, rb_xor]; rfl
  · subst h
    have e : rp_comb (nI 3) x y = x ^^^ y ^^^ 1 := by unfold rp_comb; rw [if_neg (by decide), if_pos (by decide)]
    rw [e, rb_Zx, rb_Zx, rb_Z1, rb_xor, rb_xor, m1]
    cases rb_b (rb_Z x) i <;> cases rb_b (rb_Z y) i <;> rfl
  · subst h
    have e : rp_comb (nI 4) x y = 1 ^^^ x ^^^ rp_mul x y 64 := by unfold rp_comb; rw [if_neg (by decide), if_neg (by decide), if_neg (by decide), if_neg (by decide), if_pos (by decide)]
    rw [e, rb_Zx, rb_Zx, rb_Zm, rb_Z1, rb_xor, rb_xor, rb_and, m1]
    cases rb_b (rb_Z x) i <;> cases rb_b (rb_Z y) i <;> rfl
  · subst h
    have e : rp_comb (nI 5) x y = 1 ^^^ rp_mul x y 64 := by unfold rp_comb; rw [if_neg (by decide), if_neg (by decide), if_neg (by decide), if_neg (by decide), if_neg (by decide)]
    rw [e, rb_Zx, rb_Zm, rb_Z1, rb_xor, rb_and, m1]
    cases rb_b (rb_Z x) i <;> cases rb_b (rb_Z y) i <;> rfl
/-- join: the values of the joined sum are the joined values -/
theorem rb_Zjoin {j : Nat} (hj : j < 6) (x y : Int64) : rb_Z (rp_comb (nI j) x y) = rr_joi (nI j) (rb_Z x) (rb_Z y) 64 := rb_ext fun i hi => by
  rw [rb_comb hj x y hi, rb_joi _ _ _ hi, rb_bit _ hi, rb_bit _ hi, rb_op_tab j hj]
/-! replace -/
def rb_C (u : Nat) (x : Int64) : Int64 := (x &&& rp_pw (nI u)) ^^^ rp_shl (x &&& rp_pw (nI u)) (nI (2 ^ u))
def rb_S (u : Nat) (x : Int64) : Int64 := (x &&& (rp_pw (nI u) ^^^ (-1))) ^^^ rp_ush (x &&& (rp_pw (nI u) ^^^ (-1))) (nI (2 ^ u))
def rb_clr (a u : Nat) : Nat := if a.testBit u then a - 2 ^ u else a
def rb_set (a u : Nat) : Nat := if a.testBit u then a else 2 ^ u + a
theorem rb_p6 : ∀ u, u < 6 → 2 ^ u < 64 := by decide +kernel
set_option maxRecDepth 100000 in
theorem rb_C_tab : ∀ u, u < 6 → ∀ n, n < 64 → rb_C u (rb_Z (lN (2 ^ n))) = rb_Z (lN (2 ^ n) &&& rp_pw (nI u)) := by decide +kernel
set_option maxRecDepth 100000 in
theorem rb_S_tab : ∀ u, u < 6 → ∀ n, n < 64 → rb_S u (rb_Z (lN (2 ^ n))) = rb_Z (lN (2 ^ n) &&& rp_pw (nI u)) ^^^ rb_Z (rp_ush (lN (2 ^ n) &&& (rp_pw (nI u) ^^^ (-1))) (nI (2 ^ u))) := by decide +kernel
theorem rb_ZC {u : Nat} (hu : u < 6) (x : Int64) : rb_C u (rb_Z x) = rb_Z (x &&& rp_pw (nI u)) :=
  rb_lin_ext (F := fun x => rb_C u (rb_Z x)) (G := fun x => rb_Z (x &&& rp_pw (nI u))) (fun x y => by
    show rb_C u (rb_Z (x ^^^ y)) = rb_C u (rb_Z x) ^^^ rb_C u (rb_Z y)
    unfold rb_C
    rw [rb_Zx, rb_ax, rb_shl_x, rb_x4]) (fun x y => by
    show rb_Z ((x ^^^ y) &&& rp_pw (nI u)) = _
    rw [rb_ax, rb_Zx]) (rb_C_tab u hu) x
theorem rb_ZS {u : Nat} (hu : u < 6) (x : Int64) : rb_S u (rb_Z x) = rb_Z (x &&& rp_pw (nI u)) ^^^ rb_Z (rp_ush (x &&& (rp_pw (nI u) ^^^ (-1))) (nI (2 ^ u))) :=
  rb_lin_ext (F := fun x => rb_S u (rb_Z x)) (G := fun x => rb_Z (x &&& rp_pw (nI u)) ^^^ rb_Z (rp_ush (x &&& (rp_pw (nI u) ^^^ (-1))) (nI (2 ^ u)))) (fun x y => by
    show rb_S u (rb_Z (x ^^^ y)) = rb_S u (rb_Z x) ^^^ rb_S u (rb_Z y)
    unfold rb_S
    rw [rb_Zx, rb_ax, rb_ush_x _ _ (rb_p6 u hu), rb_x4]) (fun x y => by
    show rb_Z ((x ^^^ y) &&& rp_pw (nI u)) ^^^ rb_Z (rp_ush ((x ^^^ y) &&& (rp_pw (nI u) ^^^ (-1))) (nI (2 ^ u))) = _
    rw [rb_ax, rb_ax, rb_ush_x _ _ (rb_p6 u hu), rb_Zx, rb_Zx, rb_x4]) (rb_S_tab u hu) x
theorem rb_pwb : ∀ u, u < 6 → ∀ a, a < 64 → rb_b (rp_pw (nI u)) a = !(a.testBit u) := by decide +kernel
theorem rb_t1 : ∀ u, u < 6 → ∀ a, a < 64 → a.testBit u = true → 2 ^ u ≤ a ∧ (a - 2 ^ u).testBit u = false := by decide +kernel
theorem rb_t2 : ∀ u, u < 6 → ∀ a, a < 64 → a.testBit u = false → 2 ^ u ≤ a → (a - 2 ^ u).testBit u = true := by decide +kernel
theorem rb_t3 : ∀ u, u < 6 → ∀ a, a < 64 → a.testBit u = false → 2 ^ u + a < 64 ∧ (2 ^ u + a).testBit u = true := by decide +kernel
theorem rb_t4 : ∀ u, u < 6 → ∀ a, a < 64 → a.testBit u = true → 2 ^ u + a < 64 → (2 ^ u + a).testBit u = false := by decide +kernel
theorem rb_Cb {u : Nat} (hu : u < 6) (x : Int64) {a : Nat} (ha : a < 64) : rb_b (rb_C u x) a = rb_b x (rb_clr a u) := by
  unfold rb_C rb_clr
  rw [rb_xor, rb_and, rb_shl _ (rb_p6 u hu) ha, rb_and, rb_pwb u hu a ha, rb_pwb u hu (a - 2 ^ u) (Nat.lt_of_le_of_lt (Nat.sub_le _ _) ha)]
  cases h : a.testBit u
  · by_cases q : 2 ^ u ≤ a
    · rw [rb_t2 u hu a ha h q]; simp
    · simp [q]
  · obtain ⟨h1, h2⟩ := rb_t1 u hu a ha h
    rw [h2]; simp [h1]
theorem rb_Sb {u : Nat} (hu : u < 6) (x : Int64) {a : Nat} (ha : a < 64) : rb_b (rb_S u x) a = rb_b x (rb_set a u) := by
  unfold rb_S rb_set
  rw [rb_xor, rb_and, rb_ush _ (rb_p6 u hu), rb_and, rb_xor, rb_xor, rb_pwb u hu a ha, rb_m1 a ha]
  cases h : a.testBit u
  · obtain ⟨h1, h2⟩ := rb_t3 u hu a ha h
    rw [rb_pwb u hu _ h1, rb_m1 _ h1, h2]; simp
  · by_cases q : 2 ^ u + a < 64
    · rw [rb_pwb u hu _ q, rb_m1 _ q, rb_t4 u hu a ha h q]; simp
    · rw [rb_big (x := x) (i := 2 ^ u + a) (by omega)]; simp
set_option maxRecDepth 100000 in
theorem rb_ix0 : ∀ u, u < 6 → ∀ a, a < 64 → ((nI a &&& (((1 : Int32) <<< (nI u &&& 31)) ^^^ (-1))) ||| ((0 : Int32) <<< (nI u &&& 31))) = nI (rb_clr a u) ∧ rb_clr a u < 64 := by decide +kernel
set_option maxRecDepth 100000 in
theorem rb_ix1 : ∀ u, u < 6 → ∀ a, a < 64 → ((nI a &&& (((1 : Int32) <<< (nI u &&& 31)) ^^^ (-1))) ||| ((1 : Int32) <<< (nI u &&& 31))) = nI (rb_set a u) ∧ rb_set a u < 64 := by decide +kernel
theorem rb_s1 : ∀ u, u < 6 → (1 : Int32) <<< (nI u &&& 31) = nI (2 ^ u) := by decide +kernel
theorem rb_rep (v : Int32) (t b : Int64) {i : Nat} (hi : i < 64) : rb_b (rr_rep v t b 64) i = decide (rr_bit t ((nI i &&& (((1 : Int32) <<< (v &&& 31)) ^^^ (-1))) ||| (rr_bit b (nI i) <<< (v &&& 31))) = 1) := by
  rw [rb_orloop (rr_rep v t b) (fun n => decide (rr_bit t ((nI n &&& (((1 : Int32) <<< (v &&& 31)) ^^^ (-1))) ||| (rr_bit b (nI n) <<< (v &&& 31))) = 1)) rfl (fun n _ => by
    rw [rr_rep]
    by_cases h : rr_bit t ((nI n &&& (((1 : Int32) <<< (v &&& 31)) ^^^ (-1))) ||| (rr_bit b (nI n) <<< (v &&& 31))) = 1 <;> simp [h]) 64 (Nat.le_refl _) i hi]
  simp [hi]
theorem rb_Zrep {u : Nat} (hu : u < 6) (w i : Int64) : rb_Z (rp_repl (nI u) w i) = rr_rep (nI u) (rb_Z w) (rb_Z i) 64 := rb_ext fun a ha => by
  rw [rb_rep _ _ _ ha, rb_bit (rb_Z i) ha]
  unfold rp_repl
  rw [rb_s1 u hu, rb_Zx, rb_Zm, rb_xor, rb_and, ← rb_s1 u hu]
  have eC := rb_Cb hu (rb_Z w) ha
  have eS := rb_Sb hu (rb_Z w) ha
  rw [rb_ZC hu] at eC
  rw [rb_ZS hu, rb_xor, ← rb_s1 u hu] at eS
  cases h : rb_b (rb_Z i) a
  · obtain ⟨e, l⟩ := rb_ix0 u hu a ha
    simp only [Bool.false_eq_true, if_false]
    rw [e, rb_bit _ l, ← eC]
    cases rb_b (rb_Z (w &&& rp_pw (nI u))) a <;> cases rb_b (rb_Z (rp_ush (w &&& (rp_pw (nI u) ^^^ (-1))) ((1 : Int32) <<< (nI u &&& 31)))) a <;> decide
  · obtain ⟨e, l⟩ := rb_ix1 u hu a ha
    simp only [if_true]
    rw [e, rb_bit _ l, ← eS]
    cases rb_b (rb_Z (w &&& rp_pw (nI u))) a <;> cases rb_b (rb_Z (rp_ush (w &&& (rp_pw (nI u) ^^^ (-1))) ((1 : Int32) <<< (nI u &&& 31)))) a <;> decide
/-! productsOf -/
theorem rb_inn (q : Int32) (r : Int64) : ∀ n, rr_inn q r n = r ^^^ rr_inn q 0 n := by
  intro n
  induction n with
  | zero => rw [rr_inn, rr_inn, Int64.xor_zero]
  | succ n ih =>
    by_cases h : rr_holds q (nI n) = 0
    · rw [rr_inn, if_pos h, rr_inn, if_pos h, ih]
    · rw [rr_inn, if_neg h, rr_inn, if_neg h, ih, Int64.xor_assoc]
set_option maxRecDepth 100000 in
theorem rb_inn_tab : ∀ n, n < 64 → rr_inn (nI n) 0 64 = rb_Z (lN (2 ^ n)) := by decide +kernel
set_option maxRecDepth 100000 in
theorem rb_Z_low : ∀ m, m < 64 → (rb_Z (lN (2 ^ m))).toBitVec.toNat % 2 ^ (m + 1) = 2 ^ m := by decide +kernel
theorem rb_Z_lowb {m n : Nat} (hm : m < 64) (hn : n ≤ m) : rb_b (rb_Z (lN (2 ^ m))) n = decide (n = m) := by
  have e := rb_Z_low m hm
  have t := Nat.testBit_mod_two_pow (rb_Z (lN (2 ^ m))).toBitVec.toNat (m + 1) n
  rw [e, Nat.testBit_two_pow] at t
  have l : n < m + 1 := by omega
  simp only [l, decide_true, Bool.true_and] at t
  show (rb_Z (lN (2 ^ m))).toBitVec.toNat.testBit n = _
  rw [← t]
  by_cases q : n = m
  · subst q; simp
  · simp [q, show ¬ m = n by omega]
theorem rb_Z_first {h : Int64} {n : Nat} (hn : n < 64) (hz : ∀ i, i < n → rb_b h i = false) : rb_b (rb_Z h) n = rb_b h n := by
  have k : ∀ m, m ≤ 64 → rb_b (rb_Z (rb_pre h m)) n = (decide (n < m) && rb_b h n) := by
    intro m
    induction m with
    | zero => intro _; rw [rb_pre, rb_Z0, rb_0]; simp
    | succ m ih =>
      intro hm
      have e := ih (by omega)
      by_cases hb : rb_b h m = true
      · have l : n ≤ m := by
          rcases Nat.lt_or_ge m n with q | q
          · rw [hz m q] at hb; cases hb
          · exact q
        rw [rb_pre, if_pos hb, rb_Zx, rb_xor, e, rb_Z_lowb (by omega) l]
        by_cases q : n = m
        · subst q; simp [hb]
        · have a1 : n < m := by omega
          have a2 : n < m + 1 := by omega
          simp [q, a1, a2]
      · rw [rb_pre, if_neg hb, e]
        by_cases q : n = m
        · subst q; simp [hb]
        · have a : (n < m + 1) ↔ (n < m) := by omega
          simp [a]
  have e := k 64 (Nat.le_refl _)
  rw [rb_pre_64] at e
  rw [e]; simp [hn]
theorem rb_pro (s : Int64) : ∀ n, n ≤ 64 → rr_pro (rb_Z s) n = (rb_Z (s ^^^ rb_pre s n), rb_pre s n) := by
  intro n
  induction n with
  | zero => intro _; rw [rr_pro, rb_pre, Int64.xor_zero]
  | succ n ih =>
    intro hn
    have e := ih (by omega)
    have l : n < 64 := by omega
    have hbit : rb_b (rb_Z (s ^^^ rb_pre s n)) n = rb_b s n := by
      rw [rb_Z_first l (fun i hi => by rw [rb_xor, rb_pre_b s n (by omega) i (by omega)]; simp [hi]), rb_xor, rb_pre_b s n (by omega) n l]
      simp
    have hc := rb_bit1 (rb_Z (s ^^^ rb_pre s n)) l
    rw [hbit] at hc
    rw [rr_pro, e]
    dsimp only
    by_cases hb : rb_b s n = true
    · rw [if_pos (hc.mpr hb), rb_inn, rb_inn_tab n l, ← rb_Zx, rb_pre, if_pos hb, Int64.xor_assoc]
      have e2 : rb_pre s n ||| rp_shl 1 (nI n) = rb_pre s n ^^^ lN (2 ^ n) := rb_ext fun i hi => by
        rw [rb_or, rb_xor, rb_shl1 l hi, rb_pow hi]
        by_cases q : i = n
        · subst q
          rw [rb_pre_b s i (by omega) i hi]; simp
        · simp [q]
      rw [e2]
    · rw [if_neg (fun q => hb (hc.mp q)), rb_pre, if_neg hb]
/-- productsOf finds the sum again -/
theorem rb_pro64 (s : Int64) : (rr_pro (rb_Z s) 64).2 = s := by
  rw [rb_pro s 64 (Nat.le_refl _)]
  exact rb_pre_64 s
/-- degree -/
theorem rb_deg (s : Int64) : ∀ n, n ≤ 64 → rp_deg s n = rr_deg s n := by
  intro n
  induction n with
  | zero => intro _; rfl
  | succ n ih =>
    intro hn
    have e := ih (by omega)
    have hc := rb_cmp s (show n < 64 by omega)
    have hd := rb_bit1 s (show n < 64 by omega)
    rw [rp_deg, rr_deg, e, rn_same]
    cases hb : rb_b s n
    · rw [if_pos (hc.mpr hb), if_neg (fun q => by rw [hd.mp q] at hb; cases hb)]
    · rw [if_neg (fun q => by rw [hc.mp q] at hb; cases hb), if_pos (hd.mpr hb)]
/-! differ -/
theorem rb_neg (x : Int64) {i : Nat} (hi : i < 64) : rb_b (-x) i = (rb_b x i ^^ decide (∃ j, j < i ∧ rb_b x j = true)) := by
  unfold rb_b
  rw [Int64.toBitVec_neg, BitVec.getLsbD_neg]
  simp [hi]
theorem rb_lowest {v : Int64} {k : Nat} (hk : k < 64) (h1 : rb_b v k = true) (h0 : ∀ j, j < k → rb_b v j = false) : (v &&& -v) - 1 = lN (2 ^ k - 1) := by
  have e : v &&& -v = lN (2 ^ k) := rb_ext fun i hi => by
    rw [rb_and, rb_neg v hi, rb_pow hi]
    rcases Nat.lt_trichotomy i k with q | q | q
    · rw [h0 i q]; simp [show ¬ i = k by omega]
    · subst q
      have n : ¬ ∃ j, j < i ∧ rb_b v j = true := fun ⟨j, a, b⟩ => by rw [h0 j a] at b; cases b
      simp [h1, n]
    · have n : ∃ j, j < i ∧ rb_b v j = true := ⟨k, q, h1⟩
      simp [n, show ¬ i = k by omega]
  rw [e]
  exact lN_sub (a := 2 ^ k) (b := 1) (Nat.one_le_two_pow)
set_option maxRecDepth 100000 in
theorem rb_ones_tab : ∀ k, k < 64 → rp_ones (lN (2 ^ k - 1)) = nI k := by decide +kernel
theorem rb_dif_same (x : Int64) : ∀ n i, rr_dif x x n i = 64
  | 0, _ => rfl
  | n + 1, i => by rw [rr_dif, if_pos rfl]; exact rb_dif_same x n (i + 1)
theorem rb_Z_inj {d : Int64} (h : rb_Z d = 0) : d = 0 := by
  have a := rb_pro64 d
  have b := rb_pro64 0
  rw [rb_Z0] at b
  rw [h, b] at a
  exact a.symm
theorem rb_dif (x y : Int64) : rp_dif x y = rr_dif (rb_Z x) (rb_Z y) 64 0 := by
  unfold rp_dif
  by_cases h : x ^^^ y = 0
  · rw [if_pos ((lg_cmp_eq _ _).mpr h)]
    rw [Int64.xor_eq_zero_iff] at h
    rw [h, rb_dif_same]
  · rw [if_neg (fun q => h ((lg_cmp_eq _ _).mp q))]
    show rp_ones ((rb_Z (x ^^^ y) &&& -(rb_Z (x ^^^ y))) - 1) = _
    have hex : ∃ k, k < 64 ∧ rb_b (rb_Z (x ^^^ y)) k = true := by
      refine Classical.byContradiction fun hx => h (rb_Z_inj (rb_ext fun i hi => ?_))
      rw [rb_0]
      cases q : rb_b (rb_Z (x ^^^ y)) i
      · rfl
      · exact absurd ⟨i, hi, q⟩ hx
    obtain ⟨k, ⟨hk, h1⟩, hl⟩ := pk_least _ hex
    have h0 : ∀ j, j < k → rb_b (rb_Z (x ^^^ y)) j = false := fun j hj => by
      cases q : rb_b (rb_Z (x ^^^ y)) j
      · rfl
      · exact absurd ⟨by omega, q⟩ (hl j hj)
    rw [rb_lowest hk h1 h0, rb_ones_tab k hk]
    have hx : ∀ i, rb_b (rb_Z (x ^^^ y)) i = (rb_b (rb_Z x) i ^^ rb_b (rb_Z y) i) := fun i => by rw [rb_Zx, rb_xor]
    have loop : ∀ n i, i ≤ k → i + n = 64 → rr_dif (rb_Z x) (rb_Z y) n i = nI k := by
      intro n
      induction n with
      | zero => intro i a b; omega
      | succ n ih =>
        intro i a b
        rw [rr_dif, rb_bit _ (show i < 64 by omega), rb_bit _ (show i < 64 by omega)]
        by_cases q : i = k
        · subst q
          have z := hx i
          rw [h1] at z
          rw [if_neg]
          generalize rb_b (rb_Z x) i = b1 at z ⊢
          generalize rb_b (rb_Z y) i = b2 at z ⊢
          clear ih hx h0 h1 hl hex
          revert z
          cases b1 <;> cases b2 <;> decide
        · have z := hx i
          rw [h0 i (by omega)] at z
          rw [if_pos]
          · exact ih (i + 1) (by omega) (by omega)
          · generalize rb_b (rb_Z x) i = b1 at z ⊢
            generalize rb_b (rb_Z y) i = b2 at z ⊢
            clear ih hx h0 h1 hl hex
            revert z
            cases b1 <;> cases b2 <;> decide
    exact (loop 64 0 (Nat.zero_le _) rfl).symm
/-! variable, constant -/
set_option maxRecDepth 100000 in
theorem rb_var : ∀ u, u < 6 → rb_Z (rp_shl 1 ((1 : Int32) <<< (nI u &&& 31))) = rr_var (nI u) 64 := by decide +kernel
theorem rb_con (b : Int32) : rb_Z ((b &&& 1).toInt64) = if (b &&& 1) = 1 then -1 else 0 := by
  obtain ⟨j, hj, e⟩ := pk_andE b (m := 1) 1 (by decide)
  rw [e]
  rcases (show j = 0 ∨ j = 1 by omega) with q | q
  · subst q; decide +kernel
  · subst q; decide +kernel
theorem rb_not (x : Int64) : rb_Z (x ^^^ 1) = rb_Z x ^^^ (-1) := by rw [rb_Zx, rb_Z1]
end
section
/-! PLAIN LAW, 4: every operation answers alike on both sides, and keeps the tie: place j of the one holds a sum whose values are place j of the other -/
def rq_I (k : Nat) (f g : Nat → Int64) : Prop := k ≤ 12 ∧ ∀ j, j < k → rb_Z (f j) = g j
def rq_ok (a b : rp_T) : Prop := a.1 = b.1 ∧ a.2.1 = b.2.1 ∧ rq_I a.2.1 a.2.2 b.2.2
theorem rq_lt {k n : Nat} (hk : k ≤ 12) (hn : n ≤ 12) : nI k < nI n ↔ k < n := nI_ltI (by omega) (by omega)
theorem rq_le {k n : Nat} (hk : k ≤ 12) (hn : n ≤ 12) : nI n ≤ nI k ↔ n ≤ k := nI_leI (by omega) (by omega)
theorem rq_eq {k n : Nat} (hk : k ≤ 12) (hn : n ≤ 12) : nI k = nI n ↔ k = n := nI_eq (by omega) (by omega)
theorem rq_lt12 {k : Nat} (hk : k ≤ 12) : nI k < 12 ↔ k < 12 := rq_lt hk (Nat.le_refl 12)
theorem rq_eq12 {k : Nat} (hk : k ≤ 12) : nI k = 12 ↔ k = 12 := rq_eq hk (Nat.le_refl 12)
theorem rq_le1 {k : Nat} (hk : k ≤ 12) : 1 ≤ nI k ↔ 1 ≤ k := rq_le hk (by decide : 1 ≤ 12)
theorem rq_eq0 {k : Nat} (hk : k ≤ 12) : nI k = 0 ↔ k = 0 := rq_eq hk (by decide : 0 ≤ 12)
theorem rq_same {k : Nat} {f g : Nat → Int64} (h : rq_I k f g) (r : Int32) : rq_ok (r, k, f) (r, k, g) := ⟨rfl, rfl, h⟩
theorem rq_upd {k m : Nat} {f g : Nat → Int64} {x y : Int64} (hm : m ≤ 12) (h : ∀ j, j < m → j ≠ k → rb_Z (f j) = g j) (hz : rb_Z x = y) : rq_I m (vp_updL f k x) (vp_updL g k y) := by
  refine ⟨hm, fun j hj => ?_⟩
  unfold vp_updL
  by_cases q : j = k
  · rw [if_pos q, if_pos q]; exact hz
  · rw [if_neg q, if_neg q]; exact h j hj q
theorem rq_push {k : Nat} {f g : Nat → Int64} (hk : k < 12) (h : ∀ j, j < k → rb_Z (f j) = g j) {x y : Int64} (hz : rb_Z x = y) : rq_ok (rp_push x k f) (nI (k + 1), k + 1, vp_updL g k y) :=
  ⟨rfl, rfl, rq_upd (k := k) (m := k + 1) hk (fun j hj q => h j (by omega)) hz⟩
theorem rq_pushR {k : Nat} {f g : Nat → Int64} (I : rq_I k f g) {x y : Int64} (hz : rb_Z x = y) : rq_ok (if nI k < 12 then rp_push x k f else (-1, k, f)) (rr_push y k g) := by
  unfold rr_push
  by_cases hk : k < 12
  · rw [if_pos ((rq_lt12 I.1).mpr hk), if_neg (fun q => by have := (rq_eq12 I.1).mp q; omega)]
    exact rq_push hk I.2 hz
  · have e : k = 12 := by have := I.1; omega
    rw [if_neg (fun q => hk ((rq_lt12 I.1).mp q)), if_pos ((rq_eq12 I.1).mpr e)]
    exact rq_same I _
theorem rq_six (v : Int32) : v < 0 ∨ (¬ v < 0 ∧ 5 < v ∧ ¬ v ≤ 5) ∨ ∃ u, u < 6 ∧ v = nI u ∧ ¬ v < 0 ∧ ¬ 5 < v ∧ v ≤ 5 := by
  by_cases h0 : v < 0
  · exact Or.inl h0
  · by_cases h5 : v ≤ 5
    · obtain ⟨u, hu, e⟩ := nI_of2 (M := 5) (n := 5) rfl h0 h5
      exact Or.inr (Or.inr ⟨u, by omega, e, h0, Int32.not_lt.mpr h5, h5⟩)
    · exact Or.inr (Or.inl ⟨h0, Int32.not_le.mp h5, h5⟩)
theorem rq_variable {k : Nat} {f g : Nat → Int64} (I : rq_I k f g) (v : Int32) : rq_ok (rp_variable v k f) (rr_variable v k g) := by
  unfold rp_variable rr_variable
  rcases rq_six v with h | ⟨h0, h1, h2⟩ | ⟨u, hu, e, h0, h1, h2⟩
  · rw [if_pos h, if_pos h]; exact rq_same I _
  · rw [if_neg h0, if_pos h1, if_neg h0, if_neg h2]; exact rq_same I _
  · rw [if_neg h0, if_neg h1, if_neg h0, if_pos h2]
    exact rq_pushR I (by rw [e]; exact rb_var u hu)
theorem rq_constant {k : Nat} {f g : Nat → Int64} (I : rq_I k f g) (b : Int32) : rq_ok (rp_constant b k f) (rr_constant b k g) := rq_pushR I (rb_con b)
theorem rq_join {k : Nat} {f g : Nat → Int64} (I : rq_I k f g) (q : Int32) : rq_ok (rp_join q k f) (rr_join q k g) := by
  unfold rp_join rr_join
  by_cases hk : 2 ≤ k
  · have c1 : 2 ≤ nI k := (rq_le I.1 (by decide : 2 ≤ 12)).mpr hk
    have c2 : ¬ nI k < 2 := Int32.not_lt.mpr c1
    rcases rq_six q with h | ⟨h0, h1, h2⟩ | ⟨u, hu, e, h0, h1, h2⟩
    · rw [if_pos h, if_neg c2, if_pos h]; exact rq_same I _
    · rw [if_neg h0, if_pos h1, if_neg c2, if_neg h0, if_neg h2]; exact rq_same I _
    · rw [if_neg h0, if_neg h1, if_pos c1, if_neg c2, if_neg h0, if_pos h2]
      have b := I.1
      have z := rq_push (k := k - 2) (f := f) (g := g) (x := rp_comb q (f (k - 2)) (f (k - 1))) (y := rr_joi q (g (k - 2)) (g (k - 1)) 64) (by omega) (fun j hj => I.2 j (by omega)) (by
        rw [e, rb_Zjoin hu, I.2 (k - 2) (by omega), I.2 (k - 1) (by omega)])
      rw [show k - 2 + 1 = k - 1 by omega] at z
      exact z
  · have c1 : ¬ 2 ≤ nI k := fun z => hk ((rq_le I.1 (by decide : 2 ≤ 12)).mp z)
    have c2 : nI k < 2 := Int32.not_le.mp c1
    rw [if_neg c1, if_pos c2]
    have e : (if q < 0 then (-1, k, f) else if 5 < q then (-1, k, f) else (-1, k, f)) = ((-1, k, f) : rp_T) := by
      by_cases a : q < 0
      · rw [if_pos a]
      · rw [if_neg a]
        by_cases b : 5 < q
        · rw [if_pos b]
        · rw [if_neg b]
    rw [e]
    exact rq_same I _
theorem rq_replace {k : Nat} {f g : Nat → Int64} (I : rq_I k f g) (q : Int32) : rq_ok (rp_replace q k f) (rr_replace q k g) := by
  unfold rp_replace rr_replace
  by_cases hk : 2 ≤ k
  · have c1 : 2 ≤ nI k := (rq_le I.1 (by decide : 2 ≤ 12)).mpr hk
    have c2 : ¬ nI k < 2 := Int32.not_lt.mpr c1
    rcases rq_six q with h | ⟨h0, h1, h2⟩ | ⟨u, hu, e, h0, h1, h2⟩
    · rw [if_pos h, if_neg c2, if_pos h]; exact rq_same I _
    · rw [if_neg h0, if_pos h1, if_neg c2, if_neg h0, if_neg h2]; exact rq_same I _
    · rw [if_neg h0, if_neg h1, if_pos c1, if_neg c2, if_neg h0, if_pos h2]
      have b := I.1
      have z := rq_push (k := k - 2) (f := f) (g := g) (x := rp_repl q (f (k - 1)) (f (k - 2))) (y := rr_rep q (g (k - 1)) (g (k - 2)) 64) (by omega) (fun j hj => I.2 j (by omega)) (by
        rw [e, rb_Zrep hu, I.2 (k - 2) (by omega), I.2 (k - 1) (by omega)])
      rw [show k - 2 + 1 = k - 1 by omega] at z
      exact z
  · have c1 : ¬ 2 ≤ nI k := fun z => hk ((rq_le I.1 (by decide : 2 ≤ 12)).mp z)
    have c2 : nI k < 2 := Int32.not_le.mp c1
    rw [if_neg c1, if_pos c2]
    have e : (if q < 0 then (-1, k, f) else if 5 < q then (-1, k, f) else (-1, k, f)) = ((-1, k, f) : rp_T) := by
      by_cases a : q < 0
      · rw [if_pos a]
      · rw [if_neg a]
        by_cases b : 5 < q
        · rw [if_pos b]
        · rw [if_neg b]
    rw [e]
    exact rq_same I _
theorem rq_not {k : Nat} {f g : Nat → Int64} (I : rq_I k f g) : rq_ok (rp_not k f) (rr_not k g) := by
  unfold rp_not rr_not
  have b := I.1
  by_cases hk : 1 ≤ k
  · rw [if_pos ((rq_le1 I.1).mpr hk), if_neg (fun q => by have := (rq_eq0 I.1).mp q; omega)]
    exact ⟨rfl, rfl, rq_upd b (fun j hj _ => I.2 j hj) (by rw [rb_not, I.2 (k - 1) (by omega)])⟩
  · rw [if_neg (fun q => hk ((rq_le1 I.1).mp q)), if_pos ((rq_eq0 I.1).mpr (by omega))]
    exact rq_same I _
theorem rq_drop {k : Nat} {f g : Nat → Int64} (I : rq_I k f g) : rq_ok (rp_drop k f) (rr_drop k g) := by
  unfold rp_drop rr_drop
  have b := I.1
  by_cases hk : 1 ≤ k
  · rw [if_pos ((rq_le1 I.1).mpr hk), if_neg (fun q => by have := (rq_eq0 I.1).mp q; omega)]
    exact ⟨rfl, rfl, by show k - 1 ≤ 12; omega, fun j hj => I.2 j (by have : j < k - 1 := hj; omega)⟩
  · rw [if_neg (fun q => hk ((rq_le1 I.1).mp q)), if_pos ((rq_eq0 I.1).mpr (by omega))]
    exact rq_same I _
theorem rq_F (p : Int32) {k : Nat} (hk : k ≤ 12) : (rp_isF p k = 0 ∧ rr_mis p k = 1) ∨ ∃ j, j < k ∧ p = nI j ∧ rp_isF p k = 1 ∧ rr_mis p k = 0 := by
  unfold rp_isF rr_mis
  rcases pk_ix p (n := k) (by omega) with h | h | ⟨j, hj, e⟩
  · exact Or.inl ⟨by rw [if_pos h], by rw [if_pos h]⟩
  · refine Or.inl ?_
    by_cases h0 : p < 0
    · exact ⟨by rw [if_pos h0], by rw [if_pos h0]⟩
    · exact ⟨by rw [if_neg h0, if_pos h], by rw [if_neg h0, if_neg (Int32.not_lt.mpr h)]⟩
  · have h0 : ¬ p < 0 := by rw [e]; exact nI_pos (by omega)
    have h1 : p < nI k := by rw [e]; exact nI_lt hj (by omega)
    exact Or.inr ⟨j, hj, e, by rw [if_neg h0, if_neg (Int32.not_le.mpr h1)], by rw [if_neg h0, if_pos h1]⟩
theorem rq_ix {j k : Nat} (hj : j < k) : (nI k - 1) - nI j = nI (k - 1 - j) := by
  rw [show (1 : Int32) = nI 1 from rfl, pk_sub (by omega), pk_sub (by omega)]
theorem rq_at {j k : Nat} (hj : j < k) (hk : k ≤ 12) (f : Nat → Int64) : rp_at (nI j) k f = f (k - 1 - j) := by
  unfold rp_at
  rw [rq_ix hj, nI_clamp (by omega)]
theorem rq_copy {k : Nat} {f g : Nat → Int64} (I : rq_I k f g) (p : Int32) : rq_ok (rp_copy p k f) (rr_copy p k g) := by
  unfold rp_copy rr_copy
  rcases rq_F p I.1 with ⟨a, b⟩ | ⟨j, hj, e, a, b⟩
  · rw [if_pos a, if_neg (by rw [b]; decide)]; exact rq_same I _
  · rw [if_neg (by rw [a]; decide), if_pos b]
    exact rq_pushR I (by rw [e, rq_at hj I.1, rq_at hj I.1]; exact I.2 _ (by omega))
theorem rq_found {k : Nat} {f g : Nat → Int64} (I : rq_I k f g) {j : Nat} (hj : j < k) : rr_found (nI j) k g = rp_at (nI j) k f := by
  unfold rr_found
  rw [rq_at hj I.1, rq_at hj I.1, ← I.2 _ (by omega), rb_pro64]
theorem rq_products {k : Nat} {f g : Nat → Int64} (I : rq_I k f g) (p : Int32) : rp_products p k f = rr_products p k g := by
  unfold rp_products rr_products
  rcases rq_F p I.1 with ⟨a, b⟩ | ⟨j, hj, e, a, b⟩
  · rw [if_pos a, if_neg (by rw [b]; decide)]
  · rw [if_neg (by rw [a]; decide), if_pos b, e, rq_found I hj, rn_same]
theorem rq_has {k : Nat} {f g : Nat → Int64} (I : rq_I k f g) (p q : Int32) : rp_has p q k f = rr_has p q k g := by
  unfold rp_has rr_has
  rcases rq_F p I.1 with ⟨a, b⟩ | ⟨j, hj, e, a, b⟩
  · rw [if_pos a, if_neg (by rw [b]; decide)]
  · rw [if_neg (by rw [a]; decide), if_pos b]
    by_cases h0 : q < 0
    · rw [if_pos h0, if_pos h0]
    · rw [if_neg h0, if_neg h0]
      by_cases h5 : q ≤ 63
      · obtain ⟨u, hu, eu⟩ := nI_of2 (M := 63) (n := 63) rfl h0 h5
        rw [if_pos h5, if_pos h5, e, rq_found I hj, eu]
        exact rb_hasbit _ (by omega)
      · rw [if_neg h5, if_neg h5]
theorem rq_degree {k : Nat} {f g : Nat → Int64} (I : rq_I k f g) (p : Int32) : rp_degree p k f = rr_degree p k g := by
  unfold rp_degree rr_degree
  rcases rq_F p I.1 with ⟨a, b⟩ | ⟨j, hj, e, a, b⟩
  · rw [if_pos a, if_neg (by rw [b]; decide)]
  · rw [if_neg (by rw [a]; decide), if_pos b, e, rq_found I hj, rb_deg _ 64 (Nat.le_refl _)]
theorem rq_models {k : Nat} {f g : Nat → Int64} (I : rq_I k f g) (p : Int32) : rp_models p k f = rr_models p k g := by
  unfold rp_models rr_models
  rcases rq_F p I.1 with ⟨a, b⟩ | ⟨j, hj, e, a, b⟩
  · rw [if_pos a, if_neg (by rw [b]; decide)]
  · rw [if_neg (by rw [a]; decide), if_pos b, e, rn_same, rq_at hj I.1, rq_at hj I.1, ← I.2 _ (by omega)]
    rfl
theorem rq_differ {k : Nat} {f g : Nat → Int64} (I : rq_I k f g) (p q : Int32) : rp_differ p q k f = rr_differ p q k g := by
  unfold rp_differ rr_differ
  rcases rq_F p I.1 with ⟨a, b⟩ | ⟨j, hj, e, a, b⟩
  · rw [if_pos a, if_neg (by rw [b]; decide)]
  · rw [if_neg (by rw [a]; decide), if_pos b]
    rcases rq_F q I.1 with ⟨a2, b2⟩ | ⟨j2, hj2, e2, a2, b2⟩
    · rw [if_pos a2, if_neg (by rw [b2]; decide)]
    · rw [if_neg (by rw [a2]; decide), if_pos b2, e, e2, rq_at hj I.1, rq_at hj I.1, rq_at hj2 I.1, rq_at hj2 I.1, rb_dif, I.2 _ (by omega), I.2 _ (by omega)]
/-! places in range, for the walks -/
theorem rq_in {p : Int32} {k : Nat} (hk : k ≤ 12) (h : ¬ rp_isF p k = 0) : vp_in ((nI k - 1) - p) 12 := by
  rcases rq_F p hk with ⟨a, b⟩ | ⟨j, hj, e, a, b⟩
  · exact absurd a h
  · rw [e, rq_ix hj]; exact vp_in_nI (by omega) (by omega)
theorem rq_inM {p : Int32} {k : Nat} (hk : k ≤ 12) (h : rr_mis p k = 0) : vp_in ((nI k - 1) - p) 12 := by
  rcases rq_F p hk with ⟨a, b⟩ | ⟨j, hj, e, a, b⟩
  · rw [b] at h; exact absurd h (by decide)
  · rw [e, rq_ix hj]; exact vp_in_nI (by omega) (by omega)
theorem rq_k2 {k : Nat} (hk : k ≤ 12) (h : 2 ≤ nI k) : 2 ≤ k := (rq_le hk (by decide : 2 ≤ 12)).mp h
theorem rq_k2n {k : Nat} (hk : k ≤ 12) (h : ¬ nI k < 2) : 2 ≤ k := rq_k2 hk (Int32.not_lt.mp h)
theorem rq_k1 {k : Nat} (hk : k ≤ 12) (h : 1 ≤ nI k) : 1 ≤ k := (rq_le hk (by decide : 1 ≤ 12)).mp h
theorem rq_k12 {k : Nat} (hk : k ≤ 12) (h : nI k < 12) : k < 12 := (rq_lt hk (Nat.le_refl 12)).mp h
theorem rq_k0 {k : Nat} (hk : k ≤ 12) (h : ¬ nI k = 0) : 1 ≤ k := by
  have : ¬ k = 0 := fun q => h ((rq_eq hk (by decide : 0 ≤ 12)).mpr q)
  omega
theorem rq_n12 {k : Nat} (hk : k ≤ 12) (h : ¬ nI k = 12) : k < 12 := by
  have : ¬ k = 12 := fun q => h ((rq_eq hk (Nat.le_refl 12)).mpr q)
  omega
theorem rq_sub {k n : Nat} (h : n ≤ k) : nI k - nI n = nI (k - n) := pk_sub h
theorem rq_cl {k : Nat} (hk : k ≤ 12) : (nI k).toNatClampNeg = k := nI_clamp (by omega)
end
section
/-! WALK, basics: what all walks share -/
abbrev rp_cl : List vw_C := [(RX0, TX0, 2), (RX1, TX1, 2)]
/-- the world of one object: its cell (the count, the array) and its array of 12 longs -/
abbrev rp_ws (ci h0 h1 : Nat) (dA : ClassId) (k : Int32) (f : Nat → Int64) : va_W := [(h0, .inr (ci, [.int k, .ref h1])), (h1, .inl (dA, 12, .inr (.inl f)))]
/-- a method that only answers -/
def rc_Q (v : Value) : Array Value → State → Outcome → State → Prop := fun _ st o t => o = .returned (some v) ∧ t.heap = st.heap
/-- the start of a method that reads its object -/
abbrev rp_B (ci : Nat) (dC : Nat → ClassId) (dI : Nat → Nat → Nat) (h0 h1 : Nat) (dA : ClassId) (k : Nat) (f : Nat → Int64) (U : State) : Prop := va_P (dC, dI) rp_cl (rp_ws ci h0 h1 dA (nI k) f) U.heap ∧ va_K (dC, dI) rp_cl [(dA, .long)] U
/-- the start of a method that changes its object -/
abbrev rp_BM (sz ci : Nat) (dC : Nat → ClassId) (dI : Nat → Nat → Nat) (h0 h1 : Nat) (dA : ClassId) (k : Nat) (f : Nat → Int64) (U : State) : Prop := U.heap.size = sz ∧ rp_B ci dC dI h0 h1 dA k f U ∧ va_D (fun _ => True) (rp_ws ci h0 h1 dA (nI k) f)
/-- its end: the answer tr.1, the count tr.2.1, the array tr.2.2 -/
abbrev rp_QM (ci : Nat) (dC : Nat → ClassId) (dI : Nat → Nat → Nat) (h0 h1 : Nat) (dA : ClassId) (tr : rp_T) (A : Nat → Prop) : Array Value → State → Outcome → State → Prop :=
  va_Qi (fun (r : Int32) (_ : Unit) => r = tr.1) (fun _ t => va_P (dC, dI) rp_cl (rp_ws ci h0 h1 dA (nI tr.2.1) tr.2.2) t.heap ∧ va_K (dC, dI) rp_cl [(dA, .long)] t ∧ va_D A (rp_ws ci h0 h1 dA (nI tr.2.1) tr.2.2)) A
section RC
variable {p : Program} {l : Launch} {e : Env} {R : Room} {s : State} {m : MethodId} {args : Array Value} {below : List Frame} {meth : Method} {c : Code} {H : Heap} {locs : List Loc} {cells slots : Nat} {Q : State → Prop}
variable {cc : ByteArray} {pc : Nat} {ls : Array Slot} {rest st0 : List Value}
theorem rc_call {v : Value} {a : Array Value} (hr : CallRun p l e R s m args below meth c H locs cells slots 0 0 (F0 m pc ls st0) rest (rc_Q v a) (fun _ => False)) (kk : W p l e R s m args below meth c H locs cells slots Q (F0 m (pc + 3) ls (v :: rest))) : W p l e R s m args below meth c H locs cells slots Q (F0 m pc ls st0) := by
  intro T hT X
  obtain ⟨v', st₀, t, T', L, h0, X', hL, e1, ⟨hv, hh⟩, st⟩ := hr T hT X
  cases hv
  obtain ⟨t2, a1, b1⟩ := kk T' (by rw [e1, hh, h0]) (Stand.forget X' (fun q h => (hL q h).elim))
  exact ⟨t2, st t2 a1, b1⟩
theorem rc_topi {x y : Int32} (h : x = y) (k : W p l e R s m args below meth c H locs cells slots Q (F0 m pc ls (.int y :: rest))) : W p l e R s m args below meth c H locs cells slots Q (F0 m pc ls (.int x :: rest)) := by
  rw [h]; exact k
theorem rc_topl {x y : Int64} (h : x = y) (k : W p l e R s m args below meth c H locs cells slots Q (F0 m pc ls (.long y :: rest))) : W p l e R s m args below meth c H locs cells slots Q (F0 m pc ls (.long x :: rest)) := by
  rw [h]; exact k
theorem rc_iret {v r : Int32} (hx : p.tables.exec = Jvm.exec) (hb : c.code = cc) (hr : meth.sig.returnType = some .int) (hlk : meth.locks = false) (hv : v = r) (hd : decode cc pc = .ok (.ireturn, 1)) : W p l e R s m args below meth c s.heap [] cells slots (MQ below (rc_Q (.int r)) args s cells slots (fun _ => False)) (F0 m pc ls [.int v]) := by
  subst hv
  exact W.iret hx hb hr (fun t ht _ => ⟨rfl, ht⟩) (fun _ h => absurd h List.not_mem_nil) hd hlk
theorem rc_zret {v r : Int32} (hx : p.tables.exec = Jvm.exec) (hb : c.code = cc) (hr : meth.sig.returnType = some .boolean) (hlk : meth.locks = false) (hn : narrow .boolean (.int v) = .int v) (hv : v = r) (hd : decode cc pc = .ok (.ireturn, 1)) : W p l e R s m args below meth c s.heap [] cells slots (MQ below (rc_Q (.int r)) args s cells slots (fun _ => False)) (F0 m pc ls [.int v]) := by
  subst hv
  exact W.zret hx hb hr hn (fun t ht _ => ⟨rfl, ht⟩) (fun _ h => absurd h List.not_mem_nil) hd hlk
theorem rc_lret {v r : Int64} (hx : p.tables.exec = Jvm.exec) (hb : c.code = cc) (hr : meth.sig.returnType = some .long) (hlk : meth.locks = false) (hv : v = r) (hd : decode cc pc = .ok (.lreturn, 1)) : W p l e R s m args below meth c s.heap [] cells slots (MQ below (rc_Q (.long r)) args s cells slots (fun _ => False)) (F0 m pc ls [.long v]) := by
  subst hv
  exact W.lret hx hb hr (fun t ht _ => ⟨rfl, ht⟩) (fun _ h => absurd h List.not_mem_nil) hd hlk
theorem rc_preS {As : List Value} : PreS s H (va_Pc As (fun _ => True)) As := ⟨fun _ _ _ _ q => q, fun _ _ _ => ⟨rfl, trivial⟩⟩
theorem rc_preV {ci h0 h1 : Nat} {dC : Nat → ClassId} {dI : Nat → Nat → Nat} {dA : ClassId} {k : Nat} {f : Nat → Int64} {C : String} {T : u_T} {As : List Value} (hc : rp_cl[ci]? = some (C, T, 2)) (hP : va_P (dC, dI) rp_cl (rp_ws ci h0 h1 dA (nI k) f) H) (hK : va_K (dC, dI) rp_cl [(dA, .long)] s) : PreV s H C h0 (va_Pc (.ref h0 :: As) (rp_B ci dC dI h0 h1 dA k f)) As :=
  ⟨fun a U g mk q => ⟨q.1, q.2.1, va_K.moved (u := U) (U := U.calling g mk a) (Vm.Alike.refl U.vm) q.2.2⟩, va_recv hK hP (q0 := 0) hc rfl, fun U hU hW => ⟨rfl, by rw [hU]; exact hP, va_K.moved hW.alike hK⟩⟩
/-- a method's start -/
theorem rc_start {y : MethodName} {nL : Nat} {ret : Option FieldType} {rm : Room} {B : State → Prop} {Qc : Array Value → State → Outcome → State → Prop} {mc ms : Nat} {free : Addr → Prop} (own : String) (av : List Value) (hy : plainName y.cls = true) (ho : y.cls = own) (hlen : (lg_sl av).length ≤ nL)
    (body : ∀ (p : Program) (e : Env) (s : State) (m : MethodId) (below : List Frame) (meth : Method) (c : Code) (ls : Array Slot), CallFix p m c cc nL s av.toArray lw_all own → meth.sig.returnType = ret → meth.locks = false → meth.name = y.name → B s → lv_has ls nL (lv_args 0 av) →
      W p l e rm s m av.toArray below meth c s.heap [] 0 0 (MQ below Qc av.toArray s mc ms free) (F0 m 0 ls [])) : Met l y (ws_ y cc nL ret) rm (va_Pc av B) Qc mc ms free := by
  refine Met.ofW (cc := cc) (maxL := nL) (ret := ret) hy rfl ?_
  intro p e s m args below meth c s₁ Bd hml hv
  obtain ⟨rfl, hB⟩ := hv
  have hts := atoms_spec (ws := ws_ y cc nL ret) Bd.pre
  have hown : s.vm.findClass own = some m.cls := by rw [← ho]; exact findClass_of_methodNamed Bd.named
  rw [lg_entry_eq]
  exact body p e s m below meth c _ ⟨Bd.exec, Bd.bytes, hml, hown, fun w h => hts w (List.mem_cons_of_mem _ h)⟩ Bd.returns Bd.notSynchronized (name_of_methodNamed Bd.named Bd.method).1 hB (lv_entry av hlen)
/-- the end of a method that changes its object -/
theorem rp_mret {ci h0 h1 : Nat} {dC : Nat → ClassId} {dI : Nat → Nat → Nat} {dA : ClassId} {A : Nat → Prop} {tr : rp_T} {r : Int32} {k' : Nat} {f' : Nat → Int64} (hx : p.tables.exec = Jvm.exec) (hb : c.code = cc) (hr : meth.sig.returnType = some .int) (hlk : meth.locks = false) (hK : va_K (dC, dI) rp_cl [(dA, .long)] s) (hP : va_P (dC, dI) rp_cl (rp_ws ci h0 h1 dA (nI k') f') H) (hD : va_D A (rp_ws ci h0 h1 dA (nI k') f')) (hS : va_S A s.heap H locs) (he : tr = (r, k', f')) (hd : decode cc pc = .ok (.ireturn, 1)) :
    W p l e R s m args below meth c H locs cells slots (MQ below (rp_QM ci dC dI h0 h1 dA tr A) args s cells slots A) (F0 m pc ls [.int r]) := by
  subst he
  exact W.iret hx hb hr (fun t ht hW => ⟨⟨r, (), rfl, rfl, by rw [ht]; exact hP, va_K.moved hW.alike hK, hD⟩, hS.F ht⟩) hS.2.2 hd hlk
/-- a call of a method that changes its object: its cells stand first, wr is the rest of the world -/
theorem rp_mut {ci h0 h1 : Nat} {dC : Nat → ClassId} {dI : Nat → Nat → Nat} {dA : ClassId} {k : Nat} {f : Nat → Int64} {tr : rp_T} {wr : va_W} {tysr : List (ClassId × FieldType)} {A : Nat → Prop} {H0 : Heap} {C own : String} {T : u_T} {y : MethodName} {bytes : ByteArray} {maxL nL n index : Nat} {ret : Option FieldType} {ws : List Cond} {rm : Room} {As : List Value} {Ts : List Cond}
    (S : CallFix p m c cc nL s args Ts own)
    (hM : Met l y ws rm (va_Pc (.ref h0 :: As) (rp_BM H.size ci dC dI h0 h1 dA k f)) (rp_QM ci dC dI h0 h1 dA tr (va_A (rp_ws ci h0 h1 dA (nI k) f) H.size)) 0 0 (va_A (rp_ws ci h0 h1 dA (nI k) f) H.size))
    (cw : CallW R s args own C index y bytes maxL ret ws rm 0 0 n) (hc : rp_cl[ci]? = some (C, T, 2))
    (hP : va_P (dC, dI) rp_cl (rp_ws ci h0 h1 dA (nI k) f ++ wr) H) (hD : va_D A (rp_ws ci h0 h1 dA (nI k) f ++ wr)) (hK : va_K (dC, dI) rp_cl ((dA, .long) :: tysr) s) (hS : va_S A H0 H locs) (hA : ∀ q, H0.size ≤ q → A q)
    (isR : List Nat) (hR : isR.map (fun i => (rp_ws ci h0 h1 dA (nI k) f ++ wr)[i]?) = wr.map some) (hnd : va_nd isR = true) (hdis : ∀ i ∈ isR, i ∉ [0, 1])
    (hn : As.length = n) (hsize : ls.size = nL) (hst : st0 = As.reverse ++ .ref h0 :: rest) (hW : 2 * (F0 m pc ls st0).monitorRoom + (rest.map fun v => v.category).sum ≤ 8) (hdg : decode cc pc = .ok (.invokevirtual index, 3)) (hf : cells ≤ R.cells ∧ slots ≤ R.slots)
    (kk : ∀ (H1 : Heap) (locs1 : List Loc), va_P (dC, dI) rp_cl (wr ++ rp_ws ci h0 h1 dA (nI tr.2.1) tr.2.2) H1 → va_D A (wr ++ rp_ws ci h0 h1 dA (nI tr.2.1) tr.2.2) → va_S A H0 H1 locs1 → W p l e R s m args below meth c H1 locs1 cells slots Q (F0 m (pc + 3) ls (.int tr.1 :: rest))) :
    W p l e R s m args below meth c H locs cells slots Q (F0 m pc ls st0) := by
  have hPc := hP.sub (ws' := rp_ws ci h0 h1 dA (nI k) f) [0, 1] rfl
  have hDc := hD.sub (ws' := rp_ws ci h0 h1 dA (nI k) f) [0, 1] (by decide) rfl
  have hKc := hK.sub (tys' := [(dA, .long)]) [0] rfl
  have hFc := va_free (wc := rp_ws ci h0 h1 dA (nI k) f) hD hS hA [0, 1] rfl
  refine va_calli (va_runV (As := As) (rest := rest) S hM cw ⟨fun a U g mk q => ⟨q.1, q.2.1, ⟨q.2.2.1.1, va_K.moved (u := U) (U := U.calling g mk a) (Vm.Alike.refl U.vm) q.2.2.1.2⟩, q.2.2.2⟩, va_recv hKc hPc (q0 := 0) hc rfl, fun U hU hW => ⟨rfl, by rw [hU], ⟨by rw [hU]; exact hPc, va_K.moved hW.alike hKc⟩, hDc.weaken (fun _ _ _ _ => trivial)⟩⟩ rfl hn hsize hst hW hdg hf) hS (fun q _ h => hFc q h) hFc (fun r u t H1 locs1 ht hvm hw hB hz1 hk1 hS1 => ?_)
  obtain ⟨hP1, hK1, hD1⟩ := hB
  rw [ht] at hP1
  obtain ⟨hP2, hD2⟩ := va_join (wr := wr) (w1 := rp_ws ci h0 h1 dA (nI tr.2.1) tr.2.2) hP hD [0, 1] isR rfl hR hnd hdis hk1 hFc hP1 hD1
  have hw : r = tr.1 := hw
  subst hw
  exact kk H1 locs1 hP2 hD2 hS1
/-- a loop's test: n is not yet reached -/
theorem rc_lt {i n : Nat} (hi : i < 2 ^ 31) (h : ¬ nI n ≤ nI i) : i < n := Nat.lt_of_not_le fun q => h (nI_le q hi)
theorem rc_eq {i n : Nat} (hi : i ≤ n) (hn : n < 2 ^ 31) (h : nI n ≤ nI i) : i = n := Nat.le_antisymm hi ((nI_leI hn (Nat.lt_of_le_of_lt hi hn)).mp h)
end RC
end
section
/-! WALK, RingProver: its static methods (written by gen.py) -/
set_option maxHeartbeats 4000000 in
set_option maxRecDepth 100000 in
/-- productsWithout -/
theorem mt0_pw (l : Launch) (v : Int32) : Met l yX0_productsWithout (ws_ yX0_productsWithout cX0_productsWithout 1 (some .long)) ({ frames := 0, cells := 0, slots := 0, locals := 0 }) (va_Pc [.int v] (fun _ => True)) (rc_Q (.long (rp_pw v))) 0 0 (fun _ => False) := by
  refine rc_start RX0 [.int v] (by decide) rfl (Nat.le_of_ble_eq_true rfl) ?_
  intro p e s m below meth c ls C hr hlk hin hB hl
  obtain ⟨hx, hb, hml, hown, hts⟩ := id C
  have hl : lv_has ls 1 [(0, .int v)] := hl
  refine lv_iload_n hx hb dX0_productsWithout_0 rfl (lv_at hl 0 rfl) ?_
  refine lv_if_ne (tgt := 8) hx hb dX0_productsWithout_1 (by decide) (fun c1 => ?_) (fun c1 => ?_)
  · refine lv_iload_n hx hb dX0_productsWithout_8 rfl (lv_at hl 0 rfl) ?_
    refine lv_iconst (v := 1) hx hb dX0_productsWithout_9 (by decide) ?_
    refine lv_icmp_ne (tgt := 17) hx hb dX0_productsWithout_10 (by decide) (fun c10 => ?_) (fun c10 => ?_)
    · refine lv_iload_n hx hb dX0_productsWithout_17 rfl (lv_at hl 0 rfl) ?_
      refine lv_iconst (v := 2) hx hb dX0_productsWithout_18 (by decide) ?_
      refine lv_icmp_ne (tgt := 26) hx hb dX0_productsWithout_19 (by decide) (fun c19 => ?_) (fun c19 => ?_)
      · refine lv_iload_n hx hb dX0_productsWithout_26 rfl (lv_at hl 0 rfl) ?_
        refine lv_iconst (v := 3) hx hb dX0_productsWithout_27 (by decide) ?_
        refine lv_icmp_ne (tgt := 35) hx hb dX0_productsWithout_28 (by decide) (fun c28 => ?_) (fun c28 => ?_)
        · refine lv_iload_n hx hb dX0_productsWithout_35 rfl (lv_at hl 0 rfl) ?_
          refine lv_iconst (v := 4) hx hb dX0_productsWithout_36 (by decide) ?_
          refine lv_icmp_ne (tgt := 46) hx hb dX0_productsWithout_37 (by decide) (fun c37 => ?_) (fun c37 => ?_)
          · refine lv_ldc2 (v := 4294967295) hx hb hown (hts _ q57) dX0_productsWithout_46 ?_
            exact rc_lret hx hb hr hlk (by rw [rp_pw, if_neg c1, if_neg c10, if_neg c19, if_neg c28, if_neg c37]) dX0_productsWithout_49
          · refine lv_ldc2 (v := 281470681808895) hx hb hown (hts _ q56) dX0_productsWithout_40 ?_
            refine lv_goto (tgt := 49) hx hb dX0_productsWithout_43 (by decide) ?_
            exact rc_lret hx hb hr hlk (by rw [rp_pw, if_neg c1, if_neg c10, if_neg c19, if_neg c28, if_pos c37]) dX0_productsWithout_49
        · refine lv_ldc2 (v := 71777214294589695) hx hb hown (hts _ q55) dX0_productsWithout_31 ?_
          exact rc_lret hx hb hr hlk (by rw [rp_pw, if_neg c1, if_neg c10, if_neg c19, if_pos c28]) dX0_productsWithout_34
      · refine lv_ldc2 (v := 1085102592571150095) hx hb hown (hts _ q54) dX0_productsWithout_22 ?_
        exact rc_lret hx hb hr hlk (by rw [rp_pw, if_neg c1, if_neg c10, if_pos c19]) dX0_productsWithout_25
    · refine lv_ldc2 (v := 3689348814741910323) hx hb hown (hts _ q53) dX0_productsWithout_13 ?_
      exact rc_lret hx hb hr hlk (by rw [rp_pw, if_neg c1, if_pos c10]) dX0_productsWithout_16
  · refine lv_ldc2 (v := 6148914691236517205) hx hb hown (hts _ q52) dX0_productsWithout_4 ?_
    exact rc_lret hx hb hr hlk (by rw [rp_pw, if_pos c1]) dX0_productsWithout_7
theorem cwX0_productsWithout {R : Room} {s : State} {args : Array Value} (ht : ∀ w ∈ lw_all, w.before args s = true) (h1 : 1 ≤ R.frames) (h2 : 20 ≤ R.locals) : CallB R s args RX0 29 yX0_productsWithout cX0_productsWithout 1 (some .long) (ws_ yX0_productsWithout cX0_productsWithout 1 (some .long)) ({ frames := 0, cells := 0, slots := 0, locals := 0 }) 0 0 1 ∧ (Cond.static yX0_productsWithout).before args s = true := va_cwS 1 ht (lw_S q49 q50 q6 q51) rfl rfl rfl (by decide +kernel) ⟨h1, h2⟩
set_option maxHeartbeats 4000000 in
set_option maxRecDepth 100000 in
/-- ones -/
theorem mt0_ones (l : Launch) (x : Int64) : Met l yX0_ones (ws_ yX0_ones cX0_ones 4 (some .int)) ({ frames := 0, cells := 0, slots := 0, locals := 0 }) (va_Pc [.long x] (fun _ => True)) (rc_Q (.int (rp_ones x))) 0 0 (fun _ => False) := by
  refine rc_start RX0 [.long x] (by decide) rfl (Nat.le_of_ble_eq_true rfl) ?_
  intro p e s m below meth c ls C hr hlk hin hB hl
  obtain ⟨hx, hb, hml, hown, hts⟩ := id C
  have hl : lv_has ls 4 [(0, .long x)] := hl
  refine lv_lload_n hx hb dX0_ones_0 rfl (lv_at hl 0 rfl) ?_
  refine lv_lload_n hx hb dX0_ones_1 rfl (lv_at hl 0 rfl) ?_
  refine lv_iconst (v := 1) hx hb dX0_ones_2 (by decide) ?_
  refine lv_lushr (v := rp_ush x 1) hx hb dX0_ones_3 rfl ?_
  refine lv_ldc2 (v := 6148914691236517205) hx hb hown (hts _ q52) dX0_ones_4 ?_
  refine lv_land hx hb dX0_ones_7 ?_
  refine lv_lsub hx hb dX0_ones_8 ?_
  refine rc_topl (y := rp_o1 x) rfl ?_
  refine lv_lstore_n (lv' := [(2, .long (rp_o1 x)), (0, .long x)]) hx hb dX0_ones_9 rfl hl (by decide) rfl (fun ls hl => ?_)
  refine lv_lload_n hx hb dX0_ones_10 rfl (lv_at hl 0 rfl) ?_
  refine lv_ldc2 (v := 3689348814741910323) hx hb hown (hts _ q53) dX0_ones_11 ?_
  refine lv_land hx hb dX0_ones_14 ?_
  refine lv_lload_n hx hb dX0_ones_15 rfl (lv_at hl 0 rfl) ?_
  refine lv_iconst (v := 2) hx hb dX0_ones_16 (by decide) ?_
  refine lv_lushr (v := rp_ush (rp_o1 x) 2) hx hb dX0_ones_17 rfl ?_
  refine lv_ldc2 (v := 3689348814741910323) hx hb hown (hts _ q53) dX0_ones_18 ?_
  refine lv_land hx hb dX0_ones_21 ?_
  refine lv_ladd hx hb dX0_ones_22 ?_
  refine rc_topl (y := rp_o2 (rp_o1 x)) rfl ?_
  refine lv_lstore_n (lv' := [(2, .long (rp_o2 (rp_o1 x))), (0, .long x)]) hx hb dX0_ones_23 rfl hl (by decide) rfl (fun ls hl => ?_)
  refine lv_lload_n hx hb dX0_ones_24 rfl (lv_at hl 0 rfl) ?_
  refine lv_lload_n hx hb dX0_ones_25 rfl (lv_at hl 0 rfl) ?_
  refine lv_iconst (v := 4) hx hb dX0_ones_26 (by decide) ?_
  refine lv_lushr (v := rp_ush (rp_o2 (rp_o1 x)) 4) hx hb dX0_ones_27 rfl ?_
  refine lv_ladd hx hb dX0_ones_28 ?_
  refine lv_ldc2 (v := 1085102592571150095) hx hb hown (hts _ q54) dX0_ones_29 ?_
  refine lv_land hx hb dX0_ones_32 ?_
  refine rc_topl (y := rp_o3 (rp_o2 (rp_o1 x))) rfl ?_
  refine lv_lstore_n (lv' := [(2, .long (rp_o3 (rp_o2 (rp_o1 x)))), (0, .long x)]) hx hb dX0_ones_33 rfl hl (by decide) rfl (fun ls hl => ?_)
  refine lv_lload_n hx hb dX0_ones_34 rfl (lv_at hl 0 rfl) ?_
  refine lv_ldc2 (v := 72340172838076673) hx hb hown (hts _ q86) dX0_ones_35 ?_
  refine lv_lmul hx hb dX0_ones_38 ?_
  refine lv_bipush (v := 56) hx hb dX0_ones_39 (by decide) ?_
  refine lv_lushr (v := rp_ush ((rp_o3 (rp_o2 (rp_o1 x))) * 72340172838076673) 56) hx hb dX0_ones_41 rfl ?_
  refine lv_l2i (v := (rp_ush ((rp_o3 (rp_o2 (rp_o1 x))) * 72340172838076673) 56).toInt32) hx hb dX0_ones_42 rfl ?_
  exact rc_iret hx hb hr hlk rfl dX0_ones_43
theorem cwX0_ones {R : Room} {s : State} {args : Array Value} (ht : ∀ w ∈ lw_all, w.before args s = true) (h1 : 1 ≤ R.frames) (h2 : 23 ≤ R.locals) : CallB R s args RX0 39 yX0_ones cX0_ones 4 (some .int) (ws_ yX0_ones cX0_ones 4 (some .int)) ({ frames := 0, cells := 0, slots := 0, locals := 0 }) 0 0 1 ∧ (Cond.static yX0_ones).before args s = true := va_cwS 1 ht (lw_S q83 q84 q6 q85) rfl rfl rfl (by decide +kernel) ⟨h1, h2⟩
section
variable {p : Program} {l : Launch} {e : Env} {R : Room} {s : State} {m : MethodId} {args : Array Value} {below : List Frame} {meth : Method} {c : Code} {H : Heap} {locs : List Loc} {cells slots : Nat} {Q : State → Prop}
set_option maxHeartbeats 4000000 in
set_option maxRecDepth 100000 in
/-- timesProduct's loop -/
theorem lp0_times (C : CallFix p m c cX0_timesProduct 8 s args lw_all RX0) (hR : 1 ≤ R.frames ∧ 31 ≤ R.locals) (hf : cells ≤ R.cells ∧ slots ≤ R.slots) (y : Int64) (q : Int32)
    (kx : ∀ ls : Array Slot, lv_has ls 8 [(5, .int (nI 6)), (3, .long (rp_times y q 6)), (2, .int q)] → W p l e R s m args below meth c H locs cells slots Q (F0 m 56 ls [])) :
    ∀ (n i : Nat), i ≤ 6 → 7 ≤ i + n → ∀ ls : Array Slot, lv_has ls 8 [(5, .int (nI i)), (3, .long (rp_times y q i)), (2, .int q)] → W p l e R s m args below meth c H locs cells slots Q (F0 m 5 ls []) := by
  obtain ⟨hx, hb, hml, hown, hts⟩ := id C
  intro n
  induction n with
  | zero =>
    intro i a1 a2
    exact absurd a2 (by omega)
  | succ n ih =>
    intro i a1 a2 ls hl
    refine lv_iload hx hb dX0_timesProduct_5 (lv_at hl 0 rfl) ?_
    refine lv_bipush (v := nI 6) hx hb dX0_timesProduct_7 (by decide) ?_
    refine lv_icmp_ge (tgt := 56) hx hb dX0_timesProduct_9 (by decide) (fun c9 => ?_) (fun c9 => ?_)
    · have hi : i = 6 := rc_eq a1 (by decide) c9
      subst hi
      exact kx ls (lv_sub hl [0, 1, 2] rfl)
    · have hi : i < 6 := rc_lt (by omega) c9
      refine lv_iload_n hx hb dX0_timesProduct_12 rfl (lv_at hl 2 rfl) ?_
      refine lv_iload hx hb dX0_timesProduct_13 (lv_at hl 0 rfl) ?_
      refine lv_iushr (v := rp_iush q (nI i)) hx hb dX0_timesProduct_15 rfl ?_
      refine lv_iconst (v := 1) hx hb dX0_timesProduct_16 (by decide) ?_
      refine lv_iand hx hb dX0_timesProduct_17 ?_
      refine lv_if_eq (tgt := 50) hx hb dX0_timesProduct_18 (by decide) (fun c18 => ?_) (fun c18 => ?_)
      · refine lv_iinc (v := nI (i + 1)) (lv' := [(5, .int (nI (i + 1))), (3, .long (rp_times y q i)), (2, .int q)]) hx hb dX0_timesProduct_50 hl (k := 0) rfl (nI_1 i) (by decide) rfl (fun ls hl => ?_)
        refine lv_goto (tgt := 5) hx hb dX0_timesProduct_53 (by decide) ?_
        exact ih (i + 1) (by omega) (by omega) ls (by rw [show rp_times y q (i + 1) = rp_times y q i from by rw [rp_times, if_pos c18]]; exact (lv_sub hl [0, 1, 2] rfl))
      · refine lv_lload_n hx hb dX0_timesProduct_21 rfl (lv_at hl 1 rfl) ?_
        refine lv_iload hx hb dX0_timesProduct_22 (lv_at hl 0 rfl) ?_
        refine rc_call (W.runS (As := [.int (nI i)]) (rest := [.long (rp_times y q i)]) C (mt0_pw l (nI i)) (cwX0_productsWithout hts (Nat.le_trans (Nat.le_of_ble_eq_true rfl) hR.1) (Nat.le_trans (Nat.le_of_ble_eq_true rfl) hR.2)) rc_preS rfl rfl hl.1 rfl (lv_room (Nat.le_of_ble_eq_true rfl)) dX0_timesProduct_24 hf) ?_
        refine lv_land hx hb dX0_timesProduct_27 ?_
        refine lv_lstore (lv' := [(6, .long ((rp_times y q i) &&& (rp_pw (nI i)))), (5, .int (nI i)), (3, .long (rp_times y q i)), (2, .int q)]) hx hb dX0_timesProduct_28 hl (by decide) rfl (fun ls hl => ?_)
        refine lv_lload_n hx hb dX0_timesProduct_30 rfl (lv_at hl 2 rfl) ?_
        refine lv_iload hx hb dX0_timesProduct_31 (lv_at hl 1 rfl) ?_
        refine rc_call (W.runS (As := [.int (nI i)]) (rest := [.long (rp_times y q i)]) C (mt0_pw l (nI i)) (cwX0_productsWithout hts (Nat.le_trans (Nat.le_of_ble_eq_true rfl) hR.1) (Nat.le_trans (Nat.le_of_ble_eq_true rfl) hR.2)) rc_preS rfl rfl hl.1 rfl (lv_room (Nat.le_of_ble_eq_true rfl)) dX0_timesProduct_33 hf) ?_
        refine lv_ldc2 (v := (-1)) hx hb hown (hts _ q58) dX0_timesProduct_36 ?_
        refine lv_lxor hx hb dX0_timesProduct_39 ?_
        refine lv_land hx hb dX0_timesProduct_40 ?_
        refine lv_lload hx hb dX0_timesProduct_41 (lv_at hl 0 rfl) ?_
        refine lv_iconst (v := 1) hx hb dX0_timesProduct_43 (by decide) ?_
        refine lv_iload hx hb dX0_timesProduct_44 (lv_at hl 1 rfl) ?_
        refine lv_ishl hx hb dX0_timesProduct_46 ?_
        refine lv_lshl (v := rp_shl ((rp_times y q i) &&& (rp_pw (nI i))) ((1 : Int32) <<< ((nI i) &&& 31))) hx hb dX0_timesProduct_47 rfl ?_
        refine lv_lxor hx hb dX0_timesProduct_48 ?_
        refine rc_topl (y := rp_times y q (i + 1)) (by rw [rp_times, if_neg c18]; rfl) ?_
        refine lv_lstore_n (lv' := [(3, .long (rp_times y q (i + 1))), (6, .long ((rp_times y q i) &&& (rp_pw (nI i)))), (5, .int (nI i)), (2, .int q)]) hx hb dX0_timesProduct_49 rfl hl (by decide) rfl (fun ls hl => ?_)
        refine lv_iinc (v := nI (i + 1)) (lv' := [(5, .int (nI (i + 1))), (3, .long (rp_times y q (i + 1))), (6, .long ((rp_times y q i) &&& (rp_pw (nI i)))), (2, .int q)]) hx hb dX0_timesProduct_50 hl (k := 2) rfl (nI_1 i) (by decide) rfl (fun ls hl => ?_)
        refine lv_goto (tgt := 5) hx hb dX0_timesProduct_53 (by decide) ?_
        exact ih (i + 1) (by omega) (by omega) ls (lv_sub hl [0, 1, 3] rfl)
end
set_option maxHeartbeats 4000000 in
set_option maxRecDepth 100000 in
/-- timesProduct -/
theorem mt0_times (l : Launch) (y : Int64) (q : Int32) : Met l yX0_timesProduct (ws_ yX0_timesProduct cX0_timesProduct 8 (some .long)) ({ frames := 1, cells := 0, slots := 0, locals := 31 }) (va_Pc [.long y, .int q] (fun _ => True)) (rc_Q (.long (rp_times y q 6))) 0 0 (fun _ => False) := by
  refine rc_start RX0 [.long y, .int q] (by decide) rfl (Nat.le_of_ble_eq_true rfl) ?_
  intro p e s m below meth c ls C hr hlk hin hB hl
  obtain ⟨hx, hb, hml, hown, hts⟩ := id C
  have hl : lv_has ls 8 [(0, .long y), (2, .int q)] := hl
  refine lv_lload_n hx hb dX0_timesProduct_0 rfl (lv_at hl 0 rfl) ?_
  refine lv_lstore_n (lv' := [(3, .long y), (0, .long y), (2, .int q)]) hx hb dX0_timesProduct_1 rfl hl (by decide) rfl (fun ls hl => ?_)
  refine lv_iconst (v := 0) hx hb dX0_timesProduct_2 (by decide) ?_
  refine lv_istore (lv' := [(5, .int 0), (3, .long y), (0, .long y), (2, .int q)]) hx hb dX0_timesProduct_3 hl (by decide) rfl (fun ls hl => ?_)
  refine lp0_times C ⟨(Nat.le_of_ble_eq_true rfl), (Nat.le_of_ble_eq_true rfl)⟩ ⟨Nat.zero_le _, Nat.zero_le _⟩ y q (fun ls hl => ?_) 7 0 (Nat.zero_le _) (Nat.le_of_ble_eq_true rfl) ls (lv_sub hl [0, 1, 3] rfl)
  refine lv_lload_n hx hb dX0_timesProduct_56 rfl (lv_at hl 1 rfl) ?_
  exact rc_lret hx hb hr hlk rfl dX0_timesProduct_57
theorem cwX0_timesProduct {R : Room} {s : State} {args : Array Value} (ht : ∀ w ∈ lw_all, w.before args s = true) (h1 : 2 ≤ R.frames) (h2 : 58 ≤ R.locals) : CallB R s args RX0 46 yX0_timesProduct cX0_timesProduct 8 (some .long) (ws_ yX0_timesProduct cX0_timesProduct 8 (some .long)) ({ frames := 1, cells := 0, slots := 0, locals := 31 }) 0 0 2 ∧ (Cond.static yX0_timesProduct).before args s = true := va_cwS 2 ht (lw_S q46 q47 q6 q48) rfl rfl rfl (by decide +kernel) ⟨h1, h2⟩
section
variable {p : Program} {l : Launch} {e : Env} {R : Room} {s : State} {m : MethodId} {args : Array Value} {below : List Frame} {meth : Method} {c : Code} {H : Heap} {locs : List Loc} {cells slots : Nat} {Q : State → Prop}
set_option maxHeartbeats 4000000 in
set_option maxRecDepth 100000 in
/-- multiply's loop -/
theorem lp0_mul (C : CallFix p m c cX0_multiply 7 s args lw_all RX0) (hR : 2 ≤ R.frames ∧ 62 ≤ R.locals) (hf : cells ≤ R.cells ∧ slots ≤ R.slots) (x y : Int64)
    (kx : ∀ ls : Array Slot, lv_has ls 7 [(6, .int (nI 64)), (4, .long (rp_mul x y 64)), (0, .long x), (2, .long y)] → W p l e R s m args below meth c H locs cells slots Q (F0 m 41 ls [])) :
    ∀ (n i : Nat), i ≤ 64 → 65 ≤ i + n → ∀ ls : Array Slot, lv_has ls 7 [(6, .int (nI i)), (4, .long (rp_mul x y i)), (0, .long x), (2, .long y)] → W p l e R s m args below meth c H locs cells slots Q (F0 m 6 ls []) := by
  obtain ⟨hx, hb, hml, hown, hts⟩ := id C
  intro n
  induction n with
  | zero =>
    intro i a1 a2
    exact absurd a2 (by omega)
  | succ n ih =>
    intro i a1 a2 ls hl
    refine lv_iload hx hb dX0_multiply_6 (lv_at hl 0 rfl) ?_
    refine lv_bipush (v := nI 64) hx hb dX0_multiply_8 (by decide) ?_
    refine lv_icmp_ge (tgt := 41) hx hb dX0_multiply_10 (by decide) (fun c10 => ?_) (fun c10 => ?_)
    · have hi : i = 64 := rc_eq a1 (by decide) c10
      subst hi
      exact kx ls (lv_sub hl [0, 1, 2, 3] rfl)
    · have hi : i < 64 := rc_lt (by omega) c10
      refine lv_lload_n hx hb dX0_multiply_13 rfl (lv_at hl 2 rfl) ?_
      refine lv_iload hx hb dX0_multiply_14 (lv_at hl 0 rfl) ?_
      refine lv_lushr (v := rp_ush x (nI i)) hx hb dX0_multiply_16 rfl ?_
      refine lv_lconst (v := 1) hx hb dX0_multiply_17 (by decide) ?_
      refine lv_land hx hb dX0_multiply_18 ?_
      refine lv_lconst (v := 0) hx hb dX0_multiply_19 (by decide) ?_
      refine W.lcmp hx hb dX0_multiply_20 ?_
      refine lv_if_eq (tgt := 35) hx hb dX0_multiply_21 (by decide) (fun c21 => ?_) (fun c21 => ?_)
      · refine lv_iinc (v := nI (i + 1)) (lv' := [(6, .int (nI (i + 1))), (4, .long (rp_mul x y i)), (0, .long x), (2, .long y)]) hx hb dX0_multiply_35 hl (k := 0) rfl (nI_1 i) (by decide) rfl (fun ls hl => ?_)
        refine lv_goto (tgt := 6) hx hb dX0_multiply_38 (by decide) ?_
        exact ih (i + 1) (by omega) (by omega) ls (by rw [show rp_mul x y (i + 1) = rp_mul x y i from by rw [rp_mul, if_pos c21]]; exact (lv_sub hl [0, 1, 2, 3] rfl))
      · refine lv_lload hx hb dX0_multiply_24 (lv_at hl 1 rfl) ?_
        refine lv_lload_n hx hb dX0_multiply_26 rfl (lv_at hl 3 rfl) ?_
        refine lv_iload hx hb dX0_multiply_27 (lv_at hl 0 rfl) ?_
        refine rc_call (W.runS (As := [.long y, .int (nI i)]) (rest := [.long (rp_mul x y i)]) C (mt0_times l y (nI i)) (cwX0_timesProduct hts (Nat.le_trans (Nat.le_of_ble_eq_true rfl) hR.1) (Nat.le_trans (Nat.le_of_ble_eq_true rfl) hR.2)) rc_preS rfl rfl hl.1 rfl (lv_room (Nat.le_of_ble_eq_true rfl)) dX0_multiply_29 hf) ?_
        refine lv_lxor hx hb dX0_multiply_32 ?_
        refine rc_topl (y := rp_mul x y (i + 1)) (by rw [rp_mul, if_neg c21]) ?_
        refine lv_lstore (lv' := [(4, .long (rp_mul x y (i + 1))), (6, .int (nI i)), (0, .long x), (2, .long y)]) hx hb dX0_multiply_33 hl (by decide) rfl (fun ls hl => ?_)
        refine lv_iinc (v := nI (i + 1)) (lv' := [(6, .int (nI (i + 1))), (4, .long (rp_mul x y (i + 1))), (0, .long x), (2, .long y)]) hx hb dX0_multiply_35 hl (k := 1) rfl (nI_1 i) (by decide) rfl (fun ls hl => ?_)
        refine lv_goto (tgt := 6) hx hb dX0_multiply_38 (by decide) ?_
        exact ih (i + 1) (by omega) (by omega) ls (lv_sub hl [0, 1, 2, 3] rfl)
end
set_option maxHeartbeats 4000000 in
set_option maxRecDepth 100000 in
/-- multiply -/
theorem mt0_mul (l : Launch) (x : Int64) (y : Int64) : Met l yX0_multiply (ws_ yX0_multiply cX0_multiply 7 (some .long)) ({ frames := 2, cells := 0, slots := 0, locals := 62 }) (va_Pc [.long x, .long y] (fun _ => True)) (rc_Q (.long (rp_mul x y 64))) 0 0 (fun _ => False) := by
  refine rc_start RX0 [.long x, .long y] (by decide) rfl (Nat.le_of_ble_eq_true rfl) ?_
  intro p e s m below meth c ls C hr hlk hin hB hl
  obtain ⟨hx, hb, hml, hown, hts⟩ := id C
  have hl : lv_has ls 7 [(0, .long x), (2, .long y)] := hl
  refine lv_lconst (v := 0) hx hb dX0_multiply_0 (by decide) ?_
  refine lv_lstore (lv' := [(4, .long 0), (0, .long x), (2, .long y)]) hx hb dX0_multiply_1 hl (by decide) rfl (fun ls hl => ?_)
  refine lv_iconst (v := 0) hx hb dX0_multiply_3 (by decide) ?_
  refine lv_istore (lv' := [(6, .int 0), (4, .long 0), (0, .long x), (2, .long y)]) hx hb dX0_multiply_4 hl (by decide) rfl (fun ls hl => ?_)
  refine lp0_mul C ⟨(Nat.le_of_ble_eq_true rfl), (Nat.le_of_ble_eq_true rfl)⟩ ⟨Nat.zero_le _, Nat.zero_le _⟩ x y (fun ls hl => ?_) 65 0 (Nat.zero_le _) (Nat.le_of_ble_eq_true rfl) ls (lv_sub hl [0, 1, 2, 3] rfl)
  refine lv_lload hx hb dX0_multiply_41 (lv_at hl 1 rfl) ?_
  exact rc_lret hx hb hr hlk rfl dX0_multiply_43
theorem cwX0_multiply {R : Room} {s : State} {args : Array Value} (ht : ∀ w ∈ lw_all, w.before args s = true) (h1 : 3 ≤ R.frames) (h2 : 88 ≤ R.locals) : CallB R s args RX0 35 yX0_multiply cX0_multiply 7 (some .long) (ws_ yX0_multiply cX0_multiply 7 (some .long)) ({ frames := 2, cells := 0, slots := 0, locals := 62 }) 0 0 2 ∧ (Cond.static yX0_multiply).before args s = true := va_cwS 2 ht (lw_S q43 q44 q6 q45) rfl rfl rfl (by decide +kernel) ⟨h1, h2⟩
set_option maxHeartbeats 4000000 in
set_option maxRecDepth 100000 in
/-- combine -/
theorem mt0_comb (l : Launch) (q : Int32) (x : Int64) (y : Int64) : Met l yX0_combine (ws_ yX0_combine cX0_combine 7 (some .long)) ({ frames := 3, cells := 0, slots := 0, locals := 93 }) (va_Pc [.int q, .long x, .long y] (fun _ => True)) (rc_Q (.long (rp_comb q x y))) 0 0 (fun _ => False) := by
  refine rc_start RX0 [.int q, .long x, .long y] (by decide) rfl (Nat.le_of_ble_eq_true rfl) ?_
  intro p e s m below meth c ls C hr hlk hin hB hl
  obtain ⟨hx, hb, hml, hown, hts⟩ := id C
  have hl : lv_has ls 7 [(0, .int q), (1, .long x), (3, .long y)] := hl
  refine lv_iload_n hx hb dX0_combine_0 rfl (lv_at hl 0 rfl) ?_
  refine lv_iconst (v := 2) hx hb dX0_combine_1 (by decide) ?_
  refine lv_icmp_ne (tgt := 9) hx hb dX0_combine_2 (by decide) (fun c2 => ?_) (fun c2 => ?_)
  · refine lv_iload_n hx hb dX0_combine_9 rfl (lv_at hl 0 rfl) ?_
    refine lv_iconst (v := 3) hx hb dX0_combine_10 (by decide) ?_
    refine lv_icmp_ne (tgt := 20) hx hb dX0_combine_11 (by decide) (fun c11 => ?_) (fun c11 => ?_)
    · refine lv_lload_n hx hb dX0_combine_20 rfl (lv_at hl 1 rfl) ?_
      refine lv_lload_n hx hb dX0_combine_21 rfl (lv_at hl 2 rfl) ?_
      refine rc_call (W.runS (As := [.long x, .long y]) (rest := []) C (mt0_mul l x y) (cwX0_multiply hts (Nat.le_of_ble_eq_true rfl) (Nat.le_of_ble_eq_true rfl)) rc_preS rfl rfl hl.1 rfl (lv_room (Nat.le_of_ble_eq_true rfl)) dX0_combine_22 ⟨Nat.zero_le _, Nat.zero_le _⟩) ?_
      refine lv_lstore (lv' := [(5, .long (rp_mul x y 64)), (0, .int q), (1, .long x), (3, .long y)]) hx hb dX0_combine_25 hl (by decide) rfl (fun ls hl => ?_)
      refine lv_iload_n hx hb dX0_combine_27 rfl (lv_at hl 1 rfl) ?_
      refine lv_if_ne (tgt := 34) hx hb dX0_combine_28 (by decide) (fun c28 => ?_) (fun c28 => ?_)
      · refine lv_iload_n hx hb dX0_combine_34 rfl (lv_at hl 1 rfl) ?_
        refine lv_iconst (v := 1) hx hb dX0_combine_35 (by decide) ?_
        refine lv_icmp_ne (tgt := 46) hx hb dX0_combine_36 (by decide) (fun c36 => ?_) (fun c36 => ?_)
        · refine lv_iload_n hx hb dX0_combine_46 rfl (lv_at hl 1 rfl) ?_
          refine lv_iconst (v := 4) hx hb dX0_combine_47 (by decide) ?_
          refine lv_icmp_ne (tgt := 60) hx hb dX0_combine_48 (by decide) (fun c48 => ?_) (fun c48 => ?_)
          · refine lv_lconst (v := 1) hx hb dX0_combine_60 (by decide) ?_
            refine lv_lload hx hb dX0_combine_61 (lv_at hl 0 rfl) ?_
            refine lv_lxor hx hb dX0_combine_63 ?_
            exact rc_lret hx hb hr hlk (by rw [rp_comb, if_neg c2, if_neg c11, if_neg c28, if_neg c36, if_neg c48]) dX0_combine_64
          · refine lv_lconst (v := 1) hx hb dX0_combine_51 (by decide) ?_
            refine lv_lload_n hx hb dX0_combine_52 rfl (lv_at hl 2 rfl) ?_
            refine lv_lxor hx hb dX0_combine_53 ?_
            refine lv_lload hx hb dX0_combine_54 (lv_at hl 0 rfl) ?_
            refine lv_lxor hx hb dX0_combine_56 ?_
            refine lv_goto (tgt := 64) hx hb dX0_combine_57 (by decide) ?_
            exact rc_lret hx hb hr hlk (by rw [rp_comb, if_neg c2, if_neg c11, if_neg c28, if_neg c36, if_pos c48]) dX0_combine_64
        · refine lv_lload_n hx hb dX0_combine_39 rfl (lv_at hl 2 rfl) ?_
          refine lv_lload_n hx hb dX0_combine_40 rfl (lv_at hl 3 rfl) ?_
          refine lv_lxor hx hb dX0_combine_41 ?_
          refine lv_lload hx hb dX0_combine_42 (lv_at hl 0 rfl) ?_
          refine lv_lxor hx hb dX0_combine_44 ?_
          exact rc_lret hx hb hr hlk (by rw [rp_comb, if_neg c2, if_neg c11, if_neg c28, if_pos c36]) dX0_combine_45
      · refine lv_lload hx hb dX0_combine_31 (lv_at hl 0 rfl) ?_
        exact rc_lret hx hb hr hlk (by rw [rp_comb, if_neg c2, if_neg c11, if_pos c28]) dX0_combine_33
    · refine lv_lload_n hx hb dX0_combine_14 rfl (lv_at hl 1 rfl) ?_
      refine lv_lload_n hx hb dX0_combine_15 rfl (lv_at hl 2 rfl) ?_
      refine lv_lxor hx hb dX0_combine_16 ?_
      refine lv_lconst (v := 1) hx hb dX0_combine_17 (by decide) ?_
      refine lv_lxor hx hb dX0_combine_18 ?_
      exact rc_lret hx hb hr hlk (by rw [rp_comb, if_neg c2, if_pos c11]) dX0_combine_19
  · refine lv_lload_n hx hb dX0_combine_5 rfl (lv_at hl 1 rfl) ?_
    refine lv_lload_n hx hb dX0_combine_6 rfl (lv_at hl 2 rfl) ?_
    refine lv_lxor hx hb dX0_combine_7 ?_
    exact rc_lret hx hb hr hlk (by rw [rp_comb, if_pos c2]) dX0_combine_8
theorem cwX0_combine {R : Room} {s : State} {args : Array Value} (ht : ∀ w ∈ lw_all, w.before args s = true) (h1 : 4 ≤ R.frames) (h2 : 119 ≤ R.locals) : CallB R s args RX0 21 yX0_combine cX0_combine 7 (some .long) (ws_ yX0_combine cX0_combine 7 (some .long)) ({ frames := 3, cells := 0, slots := 0, locals := 93 }) 0 0 3 ∧ (Cond.static yX0_combine).before args s = true := va_cwS 3 ht (lw_S q40 q41 q6 q42) rfl rfl rfl (by decide +kernel) ⟨h1, h2⟩
section
variable {p : Program} {l : Launch} {e : Env} {R : Room} {s : State} {m : MethodId} {args : Array Value} {below : List Frame} {meth : Method} {c : Code} {H : Heap} {locs : List Loc} {cells slots : Nat} {Q : State → Prop}
set_option maxHeartbeats 4000000 in
set_option maxRecDepth 100000 in
/-- valuesOf's loop -/
theorem lp0_val (C : CallFix p m c cX0_valuesOf 7 s args lw_all RX0) (hR : 1 ≤ R.frames ∧ 31 ≤ R.locals) (hf : cells ≤ R.cells ∧ slots ≤ R.slots) (s0 : Int64)
    (kx : ∀ ls : Array Slot, lv_has ls 7 [(4, .int (nI 6)), (2, .long (rp_val s0 6))] → W p l e R s m args below meth c H locs cells slots Q (F0 m 37 ls [])) :
    ∀ (n i : Nat), i ≤ 6 → 7 ≤ i + n → ∀ ls : Array Slot, lv_has ls 7 [(4, .int (nI i)), (2, .long (rp_val s0 i))] → W p l e R s m args below meth c H locs cells slots Q (F0 m 5 ls []) := by
  obtain ⟨hx, hb, hml, hown, hts⟩ := id C
  intro n
  induction n with
  | zero =>
    intro i a1 a2
    exact absurd a2 (by omega)
  | succ n ih =>
    intro i a1 a2 ls hl
    refine lv_iload hx hb dX0_valuesOf_5 (lv_at hl 0 rfl) ?_
    refine lv_bipush (v := nI 6) hx hb dX0_valuesOf_7 (by decide) ?_
    refine lv_icmp_ge (tgt := 37) hx hb dX0_valuesOf_9 (by decide) (fun c9 => ?_) (fun c9 => ?_)
    · have hi : i = 6 := rc_eq a1 (by decide) c9
      subst hi
      exact kx ls (lv_sub hl [0, 1] rfl)
    · have hi : i < 6 := rc_lt (by omega) c9
      refine lv_lload_n hx hb dX0_valuesOf_12 rfl (lv_at hl 1 rfl) ?_
      refine lv_iload hx hb dX0_valuesOf_13 (lv_at hl 0 rfl) ?_
      refine rc_call (W.runS (As := [.int (nI i)]) (rest := [.long (rp_val s0 i)]) C (mt0_pw l (nI i)) (cwX0_productsWithout hts (Nat.le_trans (Nat.le_of_ble_eq_true rfl) hR.1) (Nat.le_trans (Nat.le_of_ble_eq_true rfl) hR.2)) rc_preS rfl rfl hl.1 rfl (lv_room (Nat.le_of_ble_eq_true rfl)) dX0_valuesOf_15 hf) ?_
      refine lv_land hx hb dX0_valuesOf_18 ?_
      refine lv_lstore (lv' := [(5, .long ((rp_val s0 i) &&& (rp_pw (nI i)))), (4, .int (nI i)), (2, .long (rp_val s0 i))]) hx hb dX0_valuesOf_19 hl (by decide) rfl (fun ls hl => ?_)
      refine lv_lload_n hx hb dX0_valuesOf_21 rfl (lv_at hl 2 rfl) ?_
      refine lv_lload hx hb dX0_valuesOf_22 (lv_at hl 0 rfl) ?_
      refine lv_iconst (v := 1) hx hb dX0_valuesOf_24 (by decide) ?_
      refine lv_iload hx hb dX0_valuesOf_25 (lv_at hl 1 rfl) ?_
      refine lv_ishl hx hb dX0_valuesOf_27 ?_
      refine lv_lshl (v := rp_shl ((rp_val s0 i) &&& (rp_pw (nI i))) ((1 : Int32) <<< ((nI i) &&& 31))) hx hb dX0_valuesOf_28 rfl ?_
      refine lv_lxor hx hb dX0_valuesOf_29 ?_
      refine rc_topl (y := rp_val s0 (i + 1)) rfl ?_
      refine lv_lstore_n (lv' := [(2, .long (rp_val s0 (i + 1))), (5, .long ((rp_val s0 i) &&& (rp_pw (nI i)))), (4, .int (nI i))]) hx hb dX0_valuesOf_30 rfl hl (by decide) rfl (fun ls hl => ?_)
      refine lv_iinc (v := nI (i + 1)) (lv' := [(4, .int (nI (i + 1))), (2, .long (rp_val s0 (i + 1))), (5, .long ((rp_val s0 i) &&& (rp_pw (nI i))))]) hx hb dX0_valuesOf_31 hl (k := 2) rfl (nI_1 i) (by decide) rfl (fun ls hl => ?_)
      refine lv_goto (tgt := 5) hx hb dX0_valuesOf_34 (by decide) ?_
      exact ih (i + 1) (by omega) (by omega) ls (lv_sub hl [0, 1] rfl)
end
set_option maxHeartbeats 4000000 in
set_option maxRecDepth 100000 in
/-- valuesOf -/
theorem mt0_val (l : Launch) (s0 : Int64) : Met l yX0_valuesOf (ws_ yX0_valuesOf cX0_valuesOf 7 (some .long)) ({ frames := 1, cells := 0, slots := 0, locals := 31 }) (va_Pc [.long s0] (fun _ => True)) (rc_Q (.long (rp_val s0 6))) 0 0 (fun _ => False) := by
  refine rc_start RX0 [.long s0] (by decide) rfl (Nat.le_of_ble_eq_true rfl) ?_
  intro p e s m below meth c ls C hr hlk hin hB hl
  obtain ⟨hx, hb, hml, hown, hts⟩ := id C
  have hl : lv_has ls 7 [(0, .long s0)] := hl
  refine lv_lload_n hx hb dX0_valuesOf_0 rfl (lv_at hl 0 rfl) ?_
  refine lv_lstore_n (lv' := [(2, .long s0), (0, .long s0)]) hx hb dX0_valuesOf_1 rfl hl (by decide) rfl (fun ls hl => ?_)
  refine lv_iconst (v := 0) hx hb dX0_valuesOf_2 (by decide) ?_
  refine lv_istore (lv' := [(4, .int 0), (2, .long s0), (0, .long s0)]) hx hb dX0_valuesOf_3 hl (by decide) rfl (fun ls hl => ?_)
  refine lp0_val C ⟨(Nat.le_of_ble_eq_true rfl), (Nat.le_of_ble_eq_true rfl)⟩ ⟨Nat.zero_le _, Nat.zero_le _⟩ s0 (fun ls hl => ?_) 7 0 (Nat.zero_le _) (Nat.le_of_ble_eq_true rfl) ls (lv_sub hl [0, 1] rfl)
  refine lv_lload_n hx hb dX0_valuesOf_37 rfl (lv_at hl 1 rfl) ?_
  exact rc_lret hx hb hr hlk rfl dX0_valuesOf_38
theorem cwX0_valuesOf {R : Room} {s : State} {args : Array Value} (ht : ∀ w ∈ lw_all, w.before args s = true) (h1 : 2 ≤ R.frames) (h2 : 57 ≤ R.locals) : CallB R s args RX0 42 yX0_valuesOf cX0_valuesOf 7 (some .long) (ws_ yX0_valuesOf cX0_valuesOf 7 (some .long)) ({ frames := 1, cells := 0, slots := 0, locals := 31 }) 0 0 1 ∧ (Cond.static yX0_valuesOf).before args s = true := va_cwS 1 ht (lw_S q99 q100 q6 q101) rfl rfl rfl (by decide +kernel) ⟨h1, h2⟩
end
section
/-! WALK, RingProver: the methods of its objects (written by gen.py) -/
set_option maxHeartbeats 4000000 in
set_option maxRecDepth 100000 in
/-- isFormula -/
theorem mt0_isF (l : Launch) (dC : Nat → ClassId) (dI : Nat → Nat → Nat) (h0 h1 : Nat) (dA : ClassId) (k : Nat) (f : Nat → Int64) (hk : k ≤ 12) (p0 : Int32) : Met l yX0_isFormula (ws_ yX0_isFormula cX0_isFormula 2 (some .boolean)) ({ frames := 0, cells := 0, slots := 0, locals := 0 }) (va_Pc [.ref h0, .int p0] (rp_B 0 dC dI h0 h1 dA k f)) (rc_Q (.int (rp_isF p0 k))) 0 0 (fun _ => False) := by
  refine rc_start RX0 [.ref h0, .int p0] (by decide) rfl (Nat.le_of_ble_eq_true rfl) ?_
  intro p e s m below meth c ls C hr hlk hin hB hl
  obtain ⟨hx, hb, hml, hown, hts⟩ := id C
  obtain ⟨hP, hK⟩ := hB
  have hl : lv_has ls 2 [(0, .ref h0), (1, .int p0)] := hl
  refine lv_iload_n hx hb dX0_isFormula_0 rfl (lv_at hl 1 rfl) ?_
  refine lv_if_lt (tgt := 16) hx hb dX0_isFormula_1 (by decide) (fun c1 => ?_) (fun c1 => ?_)
  · refine lv_iconst (v := 0) hx hb dX0_isFormula_16 (by decide) ?_
    exact rc_zret hx hb hr hlk (by decide) (by rw [rp_isF, if_pos c1]) dX0_isFormula_17
  · refine lv_iload_n hx hb dX0_isFormula_4 rfl (lv_at hl 1 rfl) ?_
    refine lv_aload_n hx hb dX0_isFormula_5 rfl (lv_at hl 0 rfl) ?_
    refine va_get (D := (dC, dI)) (ci := 0) (v := .int (nI k)) (C := RX0) (T := TX0) (N := 2) hx hb hts in_X0 hown hK hP 0 rfl rfl 0 (by decide) (hts _ q16) (fun _ h9 => h9) rfl dX0_isFormula_6 ?_
    refine lv_icmp_ge (tgt := 16) hx hb dX0_isFormula_9 (by decide) (fun c9 => ?_) (fun c9 => ?_)
    · refine lv_iconst (v := 0) hx hb dX0_isFormula_16 (by decide) ?_
      exact rc_zret hx hb hr hlk (by decide) (by rw [rp_isF, if_neg c1, if_pos c9]) dX0_isFormula_17
    · refine lv_iconst (v := 1) hx hb dX0_isFormula_12 (by decide) ?_
      refine lv_goto (tgt := 17) hx hb dX0_isFormula_13 (by decide) ?_
      exact rc_zret hx hb hr hlk (by decide) (by rw [rp_isF, if_neg c1, if_neg c9]) dX0_isFormula_17
theorem cwX0_isFormula {R : Room} {s : State} {args : Array Value} (ht : ∀ w ∈ lw_all, w.before args s = true) (h1 : 1 ≤ R.frames) (h2 : 21 ≤ R.locals) : CallW R s args RX0 RX0 25 yX0_isFormula cX0_isFormula 2 (some .boolean) (ws_ yX0_isFormula cX0_isFormula 2 (some .boolean)) ({ frames := 0, cells := 0, slots := 0, locals := 0 }) 0 0 1 := cwV 1 ht (lw_V q67 q69 qs1 q6 q70) rfl rfl rfl (by decide +kernel) ⟨h1, h2⟩
set_option maxHeartbeats 4000000 in
set_option maxRecDepth 100000 in
/-- push -/
theorem mt0_push (l : Launch) (dC : Nat → ClassId) (dI : Nat → Nat → Nat) (h0 h1 : Nat) (dA : ClassId) (sz k : Nat) (f : Nat → Int64) (hk : k < 12) (x : Int64) : Met l yX0_push (ws_ yX0_push cX0_push 3 (some .int)) ({ frames := 0, cells := 0, slots := 0, locals := 0 }) (va_Pc [.ref h0, .long x] (rp_BM sz 0 dC dI h0 h1 dA k f)) (rp_QM 0 dC dI h0 h1 dA (rp_push x k f) (va_A (rp_ws 0 h0 h1 dA (nI k) f) sz)) 0 0 (va_A (rp_ws 0 h0 h1 dA (nI k) f) sz) := by
  refine rc_start RX0 [.ref h0, .long x] (by decide) rfl (Nat.le_of_ble_eq_true rfl) ?_
  intro p e s m below meth c ls C hr hlk hin hB hl
  obtain ⟨hx, hb, hml, hown, hts⟩ := id C
  obtain ⟨hsz, ⟨hP, hK⟩, hD0⟩ := hB
  subst hsz
  have hD := hD0.self (sz := s.heap.size)
  have hA : ∀ q : Nat, s.heap.size ≤ q → va_A (rp_ws 0 h0 h1 dA (nI k) f) s.heap.size q := fun q h => Or.inr h
  have hS : va_S (va_A (rp_ws 0 h0 h1 dA (nI k) f) s.heap.size) s.heap s.heap [] := va_S.rf
  generalize va_A (rp_ws 0 h0 h1 dA (nI k) f) s.heap.size = A at hD hA hS ⊢
  have hl : lv_has ls 3 [(0, .ref h0), (1, .long x)] := hl
  refine lv_aload_n hx hb dX0_push_0 rfl (lv_at hl 0 rfl) ?_
  refine va_get (D := (dC, dI)) (ci := 0) (v := .ref h1) (C := RX0) (T := TX0) (N := 2) hx hb hts in_X0 hown hK hP 0 rfl rfl 1 (by decide) (hts _ q17) (fun _ h9 => h9) rfl dX0_push_1 ?_
  refine lv_aload_n hx hb dX0_push_4 rfl (lv_at hl 0 rfl) ?_
  refine va_get (D := (dC, dI)) (ci := 0) (v := .int (nI k)) (C := RX0) (T := TX0) (N := 2) hx hb hts in_X0 hown hK hP 0 rfl rfl 0 (by decide) (hts _ q16) (fun _ h9 => h9) rfl dX0_push_5 ?_
  refine lv_lload_n hx hb dX0_push_8 rfl (lv_at hl 1 rfl) ?_
  refine va_last hx hb hK hP hD hS 1 0 rfl rfl (vp_in_nI (by omega) (by decide)) dX0_push_9 (fun H locs hP hD hS => ?_)
  rw [show (nI k).toNatClampNeg = k from nI_clamp (by omega)] at hP hD
  have hP : va_P (dC, dI) rp_cl (rp_ws 0 h0 h1 dA (nI k) (vp_updL f k x)) H := hP
  have hD : va_D _ (rp_ws 0 h0 h1 dA (nI k) (vp_updL f k x)) := hD
  refine lv_aload_n hx hb dX0_push_10 rfl (lv_at hl 0 rfl) ?_
  refine lv_dup hx hb dX0_push_11 rfl ?_
  refine va_get (D := (dC, dI)) (ci := 0) (v := .int (nI k)) (C := RX0) (T := TX0) (N := 2) hx hb hts in_X0 hown hK hP 0 rfl rfl 0 (by decide) (hts _ q16) (fun _ h9 => h9) rfl dX0_push_12 ?_
  refine lv_iconst (v := 1) hx hb dX0_push_15 (by decide) ?_
  refine lv_iadd hx hb dX0_push_16 ?_
  refine rc_topi (y := nI (k + 1)) (nI_1 k) ?_
  refine va_put (D := (dC, dI)) (ci := 0) (v := .int (nI (k + 1))) (ty := .int) (C := RX0) (T := TX0) (N := 2) hx hb hts in_X0 tyX0 tyX0_ok nmX0 hown hK hP hD hS 0 rfl rfl 0 (by decide) (hts _ q16) (fun _ h9 => h9) rfl (by decide +kernel) rfl rfl (Nat.le_of_ble_eq_true rfl) dX0_push_17 (fun H locs hP hD hS => ?_)
  have hP : va_P (dC, dI) rp_cl (rp_ws 0 h0 h1 dA (nI (k + 1)) (vp_updL f k x)) H := hP
  have hD : va_D _ (rp_ws 0 h0 h1 dA (nI (k + 1)) (vp_updL f k x)) := hD
  refine lv_aload_n hx hb dX0_push_20 rfl (lv_at hl 0 rfl) ?_
  refine va_get (D := (dC, dI)) (ci := 0) (v := .int (nI (k + 1))) (C := RX0) (T := TX0) (N := 2) hx hb hts in_X0 hown hK hP 0 rfl rfl 0 (by decide) (hts _ q16) (fun _ h9 => h9) rfl dX0_push_21 ?_
  exact rp_mret hx hb hr hlk hK hP hD hS rfl dX0_push_24
theorem cwX0_push {R : Room} {s : State} {args : Array Value} (ht : ∀ w ∈ lw_all, w.before args s = true) (h1 : 1 ≤ R.frames) (h2 : 22 ≤ R.locals) : CallW R s args RX0 RX0 17 yX0_push cX0_push 3 (some .int) (ws_ yX0_push cX0_push 3 (some .int)) ({ frames := 0, cells := 0, slots := 0, locals := 0 }) 0 0 1 := cwV 1 ht (lw_V q28 q30 qs0 q6 q31) rfl rfl rfl (by decide +kernel) ⟨h1, h2⟩
set_option maxHeartbeats 4000000 in
set_option maxRecDepth 100000 in
/-- variable -/
theorem mt0_variable (l : Launch) (dC : Nat → ClassId) (dI : Nat → Nat → Nat) (h0 h1 : Nat) (dA : ClassId) (sz k : Nat) (f : Nat → Int64) (hk : k ≤ 12) (v : Int32) : Met l yX0_variable (ws_ yX0_variable cX0_variable 2 (some .int)) ({ frames := 1, cells := 0, slots := 0, locals := 31 }) (va_Pc [.ref h0, .int v] (rp_BM sz 0 dC dI h0 h1 dA k f)) (rp_QM 0 dC dI h0 h1 dA (rp_variable v k f) (va_A (rp_ws 0 h0 h1 dA (nI k) f) sz)) 0 0 (va_A (rp_ws 0 h0 h1 dA (nI k) f) sz) := by
  refine rc_start RX0 [.ref h0, .int v] (by decide) rfl (Nat.le_of_ble_eq_true rfl) ?_
  intro p e s m below meth c ls C hr hlk hin hB hl
  obtain ⟨hx, hb, hml, hown, hts⟩ := id C
  obtain ⟨hsz, ⟨hP, hK⟩, hD0⟩ := hB
  subst hsz
  have hD := hD0.self (sz := s.heap.size)
  have hA : ∀ q : Nat, s.heap.size ≤ q → va_A (rp_ws 0 h0 h1 dA (nI k) f) s.heap.size q := fun q h => Or.inr h
  have hS : va_S (va_A (rp_ws 0 h0 h1 dA (nI k) f) s.heap.size) s.heap s.heap [] := va_S.rf
  generalize va_A (rp_ws 0 h0 h1 dA (nI k) f) s.heap.size = A at hD hA hS ⊢
  have hl : lv_has ls 2 [(0, .ref h0), (1, .int v)] := hl
  refine lv_iload_n hx hb dX0_variable_0 rfl (lv_at hl 1 rfl) ?_
  refine lv_if_lt (tgt := 18) hx hb dX0_variable_1 (by decide) (fun c1 => ?_) (fun c1 => ?_)
  · refine lv_iconst (v := (-1)) hx hb dX0_variable_18 (by decide) ?_
    exact rp_mret hx hb hr hlk hK hP hD hS (by rw [rp_variable, if_pos c1]) dX0_variable_19
  · refine lv_iload_n hx hb dX0_variable_4 rfl (lv_at hl 1 rfl) ?_
    refine lv_iconst (v := 5) hx hb dX0_variable_5 (by decide) ?_
    refine lv_icmp_gt (tgt := 18) hx hb dX0_variable_6 (by decide) (fun c6 => ?_) (fun c6 => ?_)
    · refine lv_iconst (v := (-1)) hx hb dX0_variable_18 (by decide) ?_
      exact rp_mret hx hb hr hlk hK hP hD hS (by rw [rp_variable, if_neg c1, if_pos c6]) dX0_variable_19
    · refine lv_aload_n hx hb dX0_variable_9 rfl (lv_at hl 0 rfl) ?_
      refine va_get (D := (dC, dI)) (ci := 0) (v := .int (nI k)) (C := RX0) (T := TX0) (N := 2) hx hb hts in_X0 hown hK hP 0 rfl rfl 0 (by decide) (hts _ q16) (fun _ h9 => h9) rfl dX0_variable_10 ?_
      refine lv_bipush (v := 12) hx hb dX0_variable_13 (by decide) ?_
      refine lv_icmp_lt (tgt := 20) hx hb dX0_variable_15 (by decide) (fun c15 => ?_) (fun c15 => ?_)
      · have hk9 : k < 12 := rq_k12 hk c15
        refine lv_aload_n hx hb dX0_variable_20 rfl (lv_at hl 0 rfl) ?_
        refine lv_lconst (v := 1) hx hb dX0_variable_21 (by decide) ?_
        refine lv_iconst (v := 1) hx hb dX0_variable_22 (by decide) ?_
        refine lv_iload_n hx hb dX0_variable_23 rfl (lv_at hl 1 rfl) ?_
        refine lv_ishl hx hb dX0_variable_24 ?_
        refine lv_lshl (v := rp_shl 1 ((1 : Int32) <<< (v &&& 31))) hx hb dX0_variable_25 rfl ?_
        refine rp_mut (wr := []) (tysr := []) (As := [.long (rp_shl 1 ((1 : Int32) <<< (v &&& 31)))]) (rest := []) C (mt0_push l dC dI h0 h1 dA s.heap.size k f hk9 (rp_shl 1 ((1 : Int32) <<< (v &&& 31)))) (cwX0_push hts (Nat.le_of_ble_eq_true rfl) (Nat.le_of_ble_eq_true rfl)) rfl hP hD hK hS hA [] rfl rfl (by decide) rfl hl.1 rfl (lv_room (Nat.le_of_ble_eq_true rfl)) dX0_variable_26 ⟨Nat.zero_le _, Nat.zero_le _⟩ (fun H locs hP hD hS => ?_)
        have hP : va_P (dC, dI) rp_cl (rp_ws 0 h0 h1 dA (nI (rp_push (rp_shl 1 ((1 : Int32) <<< (v &&& 31))) k f).2.1) ((rp_push (rp_shl 1 ((1 : Int32) <<< (v &&& 31))) k f).2.2)) H := hP
        have hD : va_D _ (rp_ws 0 h0 h1 dA (nI (rp_push (rp_shl 1 ((1 : Int32) <<< (v &&& 31))) k f).2.1) ((rp_push (rp_shl 1 ((1 : Int32) <<< (v &&& 31))) k f).2.2)) := hD
        exact rp_mret hx hb hr hlk hK hP hD hS (by rw [rp_variable, if_neg c1, if_neg c6, if_pos c15]) dX0_variable_29
      · refine lv_iconst (v := (-1)) hx hb dX0_variable_18 (by decide) ?_
        exact rp_mret hx hb hr hlk hK hP hD hS (by rw [rp_variable, if_neg c1, if_neg c6, if_neg c15]) dX0_variable_19
theorem cwX0_variable {R : Room} {s : State} {args : Array Value} (ht : ∀ w ∈ lw_all, w.before args s = true) (h1 : 2 ≤ R.frames) (h2 : 52 ≤ R.locals) : CallW R s args "RingProverLaw" RX0 13 yX0_variable cX0_variable 2 (some .int) (ws_ yX0_variable cX0_variable 2 (some .int)) ({ frames := 1, cells := 0, slots := 0, locals := 31 }) 0 0 1 := cwV 1 ht (lw_V q24 q25 q26 q6 q27) rfl rfl rfl (by decide +kernel) ⟨h1, h2⟩
set_option maxHeartbeats 4000000 in
set_option maxRecDepth 100000 in
/-- constant -/
theorem mt0_constant (l : Launch) (dC : Nat → ClassId) (dI : Nat → Nat → Nat) (h0 h1 : Nat) (dA : ClassId) (sz k : Nat) (f : Nat → Int64) (hk : k ≤ 12) (b : Int32) : Met l yX0_constant (ws_ yX0_constant cX0_constant 2 (some .int)) ({ frames := 1, cells := 0, slots := 0, locals := 31 }) (va_Pc [.ref h0, .int b] (rp_BM sz 0 dC dI h0 h1 dA k f)) (rp_QM 0 dC dI h0 h1 dA (rp_constant b k f) (va_A (rp_ws 0 h0 h1 dA (nI k) f) sz)) 0 0 (va_A (rp_ws 0 h0 h1 dA (nI k) f) sz) := by
  refine rc_start RX0 [.ref h0, .int b] (by decide) rfl (Nat.le_of_ble_eq_true rfl) ?_
  intro p e s m below meth c ls C hr hlk hin hB hl
  obtain ⟨hx, hb, hml, hown, hts⟩ := id C
  obtain ⟨hsz, ⟨hP, hK⟩, hD0⟩ := hB
  subst hsz
  have hD := hD0.self (sz := s.heap.size)
  have hA : ∀ q : Nat, s.heap.size ≤ q → va_A (rp_ws 0 h0 h1 dA (nI k) f) s.heap.size q := fun q h => Or.inr h
  have hS : va_S (va_A (rp_ws 0 h0 h1 dA (nI k) f) s.heap.size) s.heap s.heap [] := va_S.rf
  generalize va_A (rp_ws 0 h0 h1 dA (nI k) f) s.heap.size = A at hD hA hS ⊢
  have hl : lv_has ls 2 [(0, .ref h0), (1, .int b)] := hl
  refine lv_aload_n hx hb dX0_constant_0 rfl (lv_at hl 0 rfl) ?_
  refine va_get (D := (dC, dI)) (ci := 0) (v := .int (nI k)) (C := RX0) (T := TX0) (N := 2) hx hb hts in_X0 hown hK hP 0 rfl rfl 0 (by decide) (hts _ q16) (fun _ h9 => h9) rfl dX0_constant_1 ?_
  refine lv_bipush (v := 12) hx hb dX0_constant_4 (by decide) ?_
  refine lv_icmp_lt (tgt := 11) hx hb dX0_constant_6 (by decide) (fun c6 => ?_) (fun c6 => ?_)
  · have hk9 : k < 12 := rq_k12 hk c6
    refine lv_aload_n hx hb dX0_constant_11 rfl (lv_at hl 0 rfl) ?_
    refine lv_iload_n hx hb dX0_constant_12 rfl (lv_at hl 1 rfl) ?_
    refine lv_iconst (v := 1) hx hb dX0_constant_13 (by decide) ?_
    refine lv_iand hx hb dX0_constant_14 ?_
    refine lv_i2l (v := (b &&& 1).toInt64) hx hb dX0_constant_15 rfl ?_
    refine rp_mut (wr := []) (tysr := []) (As := [.long ((b &&& 1).toInt64)]) (rest := []) C (mt0_push l dC dI h0 h1 dA s.heap.size k f hk9 ((b &&& 1).toInt64)) (cwX0_push hts (Nat.le_of_ble_eq_true rfl) (Nat.le_of_ble_eq_true rfl)) rfl hP hD hK hS hA [] rfl rfl (by decide) rfl hl.1 rfl (lv_room (Nat.le_of_ble_eq_true rfl)) dX0_constant_16 ⟨Nat.zero_le _, Nat.zero_le _⟩ (fun H locs hP hD hS => ?_)
    have hP : va_P (dC, dI) rp_cl (rp_ws 0 h0 h1 dA (nI (rp_push ((b &&& 1).toInt64) k f).2.1) ((rp_push ((b &&& 1).toInt64) k f).2.2)) H := hP
    have hD : va_D _ (rp_ws 0 h0 h1 dA (nI (rp_push ((b &&& 1).toInt64) k f).2.1) ((rp_push ((b &&& 1).toInt64) k f).2.2)) := hD
    exact rp_mret hx hb hr hlk hK hP hD hS (by rw [rp_constant, if_pos c6]) dX0_constant_19
  · refine lv_iconst (v := (-1)) hx hb dX0_constant_9 (by decide) ?_
    exact rp_mret hx hb hr hlk hK hP hD hS (by rw [rp_constant, if_neg c6]) dX0_constant_10
theorem cwX0_constant {R : Room} {s : State} {args : Array Value} (ht : ∀ w ∈ lw_all, w.before args s = true) (h1 : 2 ≤ R.frames) (h2 : 52 ≤ R.locals) : CallW R s args "RingProverLaw" RX0 18 yX0_constant cX0_constant 2 (some .int) (ws_ yX0_constant cX0_constant 2 (some .int)) ({ frames := 1, cells := 0, slots := 0, locals := 31 }) 0 0 1 := cwV 1 ht (lw_V q32 q33 q34 q6 q35) rfl rfl rfl (by decide +kernel) ⟨h1, h2⟩
set_option maxHeartbeats 4000000 in
set_option maxRecDepth 100000 in
/-- join -/
theorem mt0_join (l : Launch) (dC : Nat → ClassId) (dI : Nat → Nat → Nat) (h0 h1 : Nat) (dA : ClassId) (sz k : Nat) (f : Nat → Int64) (hk : k ≤ 12) (q : Int32) : Met l yX0_join (ws_ yX0_join cX0_join 8 (some .int)) ({ frames := 4, cells := 0, slots := 0, locals := 124 }) (va_Pc [.ref h0, .int q] (rp_BM sz 0 dC dI h0 h1 dA k f)) (rp_QM 0 dC dI h0 h1 dA (rp_join q k f) (va_A (rp_ws 0 h0 h1 dA (nI k) f) sz)) 0 0 (va_A (rp_ws 0 h0 h1 dA (nI k) f) sz) := by
  refine rc_start RX0 [.ref h0, .int q] (by decide) rfl (Nat.le_of_ble_eq_true rfl) ?_
  intro p e s m below meth c ls C hr hlk hin hB hl
  obtain ⟨hx, hb, hml, hown, hts⟩ := id C
  obtain ⟨hsz, ⟨hP, hK⟩, hD0⟩ := hB
  subst hsz
  have hD := hD0.self (sz := s.heap.size)
  have hA : ∀ q : Nat, s.heap.size ≤ q → va_A (rp_ws 0 h0 h1 dA (nI k) f) s.heap.size q := fun q h => Or.inr h
  have hS : va_S (va_A (rp_ws 0 h0 h1 dA (nI k) f) s.heap.size) s.heap s.heap [] := va_S.rf
  generalize va_A (rp_ws 0 h0 h1 dA (nI k) f) s.heap.size = A at hD hA hS ⊢
  have hl : lv_has ls 8 [(0, .ref h0), (1, .int q)] := hl
  refine lv_iload_n hx hb dX0_join_0 rfl (lv_at hl 1 rfl) ?_
  refine lv_if_lt (tgt := 17) hx hb dX0_join_1 (by decide) (fun c1 => ?_) (fun c1 => ?_)
  · refine lv_iconst (v := (-1)) hx hb dX0_join_17 (by decide) ?_
    exact rp_mret hx hb hr hlk hK hP hD hS (by rw [rp_join, if_pos c1]) dX0_join_18
  · refine lv_iload_n hx hb dX0_join_4 rfl (lv_at hl 1 rfl) ?_
    refine lv_iconst (v := 5) hx hb dX0_join_5 (by decide) ?_
    refine lv_icmp_gt (tgt := 17) hx hb dX0_join_6 (by decide) (fun c6 => ?_) (fun c6 => ?_)
    · refine lv_iconst (v := (-1)) hx hb dX0_join_17 (by decide) ?_
      exact rp_mret hx hb hr hlk hK hP hD hS (by rw [rp_join, if_neg c1, if_pos c6]) dX0_join_18
    · refine lv_aload_n hx hb dX0_join_9 rfl (lv_at hl 0 rfl) ?_
      refine va_get (D := (dC, dI)) (ci := 0) (v := .int (nI k)) (C := RX0) (T := TX0) (N := 2) hx hb hts in_X0 hown hK hP 0 rfl rfl 0 (by decide) (hts _ q16) (fun _ h9 => h9) rfl dX0_join_10 ?_
      refine lv_iconst (v := 2) hx hb dX0_join_13 (by decide) ?_
      refine lv_icmp_ge (tgt := 19) hx hb dX0_join_14 (by decide) (fun c14 => ?_) (fun c14 => ?_)
      · have hk2 : 2 ≤ k := rq_k2 hk c14
        have hk1 : 1 ≤ k := by omega
        refine lv_aload_n hx hb dX0_join_19 rfl (lv_at hl 0 rfl) ?_
        refine va_get (D := (dC, dI)) (ci := 0) (v := .ref h1) (C := RX0) (T := TX0) (N := 2) hx hb hts in_X0 hown hK hP 0 rfl rfl 1 (by decide) (hts _ q17) (fun _ h9 => h9) rfl dX0_join_20 ?_
        refine lv_aload_n hx hb dX0_join_23 rfl (lv_at hl 0 rfl) ?_
        refine va_get (D := (dC, dI)) (ci := 0) (v := .int (nI k)) (C := RX0) (T := TX0) (N := 2) hx hb hts in_X0 hown hK hP 0 rfl rfl 0 (by decide) (hts _ q16) (fun _ h9 => h9) rfl dX0_join_24 ?_
        refine lv_iconst (v := 2) hx hb dX0_join_27 (by decide) ?_
        refine lv_isub hx hb dX0_join_28 ?_
        refine rc_topi (y := nI (k - 2)) (rq_sub (n := 2) hk2) ?_
        refine va_lald hx hb hK hP 1 0 rfl rfl (vp_in_nI (by omega) (by decide)) dX0_join_29 ?_
        refine rc_topl (y := f (k - 2)) (congrArg f (nI_clamp (by omega))) ?_
        refine lv_lstore_n (lv' := [(2, .long (f (k - 2))), (0, .ref h0), (1, .int q)]) hx hb dX0_join_30 rfl hl (by decide) rfl (fun ls hl => ?_)
        refine lv_aload_n hx hb dX0_join_31 rfl (lv_at hl 1 rfl) ?_
        refine va_get (D := (dC, dI)) (ci := 0) (v := .ref h1) (C := RX0) (T := TX0) (N := 2) hx hb hts in_X0 hown hK hP 0 rfl rfl 1 (by decide) (hts _ q17) (fun _ h9 => h9) rfl dX0_join_32 ?_
        refine lv_aload_n hx hb dX0_join_35 rfl (lv_at hl 1 rfl) ?_
        refine va_get (D := (dC, dI)) (ci := 0) (v := .int (nI k)) (C := RX0) (T := TX0) (N := 2) hx hb hts in_X0 hown hK hP 0 rfl rfl 0 (by decide) (hts _ q16) (fun _ h9 => h9) rfl dX0_join_36 ?_
        refine lv_iconst (v := 1) hx hb dX0_join_39 (by decide) ?_
        refine lv_isub hx hb dX0_join_40 ?_
        refine rc_topi (y := nI (k - 1)) (rq_sub (n := 1) hk1) ?_
        refine va_lald hx hb hK hP 1 0 rfl rfl (vp_in_nI (by omega) (by decide)) dX0_join_41 ?_
        refine rc_topl (y := f (k - 1)) (congrArg f (nI_clamp (by omega))) ?_
        refine lv_lstore (lv' := [(4, .long (f (k - 1))), (2, .long (f (k - 2))), (0, .ref h0), (1, .int q)]) hx hb dX0_join_42 hl (by decide) rfl (fun ls hl => ?_)
        refine lv_aload_n hx hb dX0_join_44 rfl (lv_at hl 2 rfl) ?_
        refine lv_dup hx hb dX0_join_45 rfl ?_
        refine va_get (D := (dC, dI)) (ci := 0) (v := .int (nI k)) (C := RX0) (T := TX0) (N := 2) hx hb hts in_X0 hown hK hP 0 rfl rfl 0 (by decide) (hts _ q16) (fun _ h9 => h9) rfl dX0_join_46 ?_
        refine lv_iconst (v := 2) hx hb dX0_join_49 (by decide) ?_
        refine lv_isub hx hb dX0_join_50 ?_
        refine rc_topi (y := nI (k - 2)) (rq_sub (n := 2) hk2) ?_
        refine va_put (D := (dC, dI)) (ci := 0) (v := .int (nI (k - 2))) (ty := .int) (C := RX0) (T := TX0) (N := 2) hx hb hts in_X0 tyX0 tyX0_ok nmX0 hown hK hP hD hS 0 rfl rfl 0 (by decide) (hts _ q16) (fun _ h9 => h9) rfl (by decide +kernel) rfl rfl (Nat.le_of_ble_eq_true rfl) dX0_join_51 (fun H locs hP hD hS => ?_)
        have hP : va_P (dC, dI) rp_cl (rp_ws 0 h0 h1 dA (nI (k - 2)) f) H := hP
        have hD : va_D _ (rp_ws 0 h0 h1 dA (nI (k - 2)) f) := hD
        refine lv_iload_n hx hb dX0_join_54 rfl (lv_at hl 3 rfl) ?_
        refine lv_lload_n hx hb dX0_join_55 rfl (lv_at hl 1 rfl) ?_
        refine lv_lload hx hb dX0_join_56 (lv_at hl 0 rfl) ?_
        refine rc_call (W.runS (As := [.int q, .long (f (k - 2)), .long (f (k - 1))]) (rest := []) C (mt0_comb l q (f (k - 2)) (f (k - 1))) (cwX0_combine hts (Nat.le_of_ble_eq_true rfl) (Nat.le_of_ble_eq_true rfl)) rc_preS rfl rfl hl.1 rfl (lv_room (Nat.le_of_ble_eq_true rfl)) dX0_join_58 ⟨Nat.zero_le _, Nat.zero_le _⟩) ?_
        refine lv_lstore (lv' := [(6, .long (rp_comb q (f (k - 2)) (f (k - 1)))), (4, .long (f (k - 1))), (2, .long (f (k - 2))), (0, .ref h0), (1, .int q)]) hx hb dX0_join_61 hl (by decide) rfl (fun ls hl => ?_)
        refine lv_aload_n hx hb dX0_join_63 rfl (lv_at hl 3 rfl) ?_
        refine lv_lload hx hb dX0_join_64 (lv_at hl 0 rfl) ?_
        refine rp_mut (wr := []) (tysr := []) (As := [.long (rp_comb q (f (k - 2)) (f (k - 1)))]) (rest := []) C (mt0_push l dC dI h0 h1 dA H.size (k - 2) f (by omega) (rp_comb q (f (k - 2)) (f (k - 1)))) (cwX0_push hts (Nat.le_of_ble_eq_true rfl) (Nat.le_of_ble_eq_true rfl)) rfl hP hD hK hS hA [] rfl rfl (by decide) rfl hl.1 rfl (lv_room (Nat.le_of_ble_eq_true rfl)) dX0_join_66 ⟨Nat.zero_le _, Nat.zero_le _⟩ (fun H locs hP hD hS => ?_)
        have hP : va_P (dC, dI) rp_cl (rp_ws 0 h0 h1 dA (nI (rp_push (rp_comb q (f (k - 2)) (f (k - 1))) (k - 2) f).2.1) ((rp_push (rp_comb q (f (k - 2)) (f (k - 1))) (k - 2) f).2.2)) H := hP
        have hD : va_D _ (rp_ws 0 h0 h1 dA (nI (rp_push (rp_comb q (f (k - 2)) (f (k - 1))) (k - 2) f).2.1) ((rp_push (rp_comb q (f (k - 2)) (f (k - 1))) (k - 2) f).2.2)) := hD
        exact rp_mret hx hb hr hlk hK hP hD hS (by rw [rp_join, if_neg c1, if_neg c6, if_pos c14]) dX0_join_69
      · refine lv_iconst (v := (-1)) hx hb dX0_join_17 (by decide) ?_
        exact rp_mret hx hb hr hlk hK hP hD hS (by rw [rp_join, if_neg c1, if_neg c6, if_neg c14]) dX0_join_18
theorem cwX0_join {R : Room} {s : State} {args : Array Value} (ht : ∀ w ∈ lw_all, w.before args s = true) (h1 : 5 ≤ R.frames) (h2 : 151 ≤ R.locals) : CallW R s args "RingProverLaw" RX0 22 yX0_join cX0_join 8 (some .int) (ws_ yX0_join cX0_join 8 (some .int)) ({ frames := 4, cells := 0, slots := 0, locals := 124 }) 0 0 1 := cwV 1 ht (lw_V q36 q37 q38 q6 q39) rfl rfl rfl (by decide +kernel) ⟨h1, h2⟩
set_option maxHeartbeats 4000000 in
set_option maxRecDepth 100000 in
/-- not -/
theorem mt0_not (l : Launch) (dC : Nat → ClassId) (dI : Nat → Nat → Nat) (h0 h1 : Nat) (dA : ClassId) (sz k : Nat) (f : Nat → Int64) (hk : k ≤ 12)  : Met l yX0_not (ws_ yX0_not cX0_not 1 (some .int)) ({ frames := 0, cells := 0, slots := 0, locals := 0 }) (va_Pc [.ref h0] (rp_BM sz 0 dC dI h0 h1 dA k f)) (rp_QM 0 dC dI h0 h1 dA (rp_not k f) (va_A (rp_ws 0 h0 h1 dA (nI k) f) sz)) 0 0 (va_A (rp_ws 0 h0 h1 dA (nI k) f) sz) := by
  refine rc_start RX0 [.ref h0] (by decide) rfl (Nat.le_of_ble_eq_true rfl) ?_
  intro p e s m below meth c ls C hr hlk hin hB hl
  obtain ⟨hx, hb, hml, hown, hts⟩ := id C
  obtain ⟨hsz, ⟨hP, hK⟩, hD0⟩ := hB
  subst hsz
  have hD := hD0.self (sz := s.heap.size)
  have hA : ∀ q : Nat, s.heap.size ≤ q → va_A (rp_ws 0 h0 h1 dA (nI k) f) s.heap.size q := fun q h => Or.inr h
  have hS : va_S (va_A (rp_ws 0 h0 h1 dA (nI k) f) s.heap.size) s.heap s.heap [] := va_S.rf
  generalize va_A (rp_ws 0 h0 h1 dA (nI k) f) s.heap.size = A at hD hA hS ⊢
  have hl : lv_has ls 1 [(0, .ref h0)] := hl
  refine lv_aload_n hx hb dX0_not_0 rfl (lv_at hl 0 rfl) ?_
  refine va_get (D := (dC, dI)) (ci := 0) (v := .int (nI k)) (C := RX0) (T := TX0) (N := 2) hx hb hts in_X0 hown hK hP 0 rfl rfl 0 (by decide) (hts _ q16) (fun _ h9 => h9) rfl dX0_not_1 ?_
  refine lv_iconst (v := 1) hx hb dX0_not_4 (by decide) ?_
  refine lv_icmp_ge (tgt := 10) hx hb dX0_not_5 (by decide) (fun c5 => ?_) (fun c5 => ?_)
  · have hk1 : 1 ≤ k := rq_k1 hk c5
    refine lv_aload_n hx hb dX0_not_10 rfl (lv_at hl 0 rfl) ?_
    refine va_get (D := (dC, dI)) (ci := 0) (v := .ref h1) (C := RX0) (T := TX0) (N := 2) hx hb hts in_X0 hown hK hP 0 rfl rfl 1 (by decide) (hts _ q17) (fun _ h9 => h9) rfl dX0_not_11 ?_
    refine lv_aload_n hx hb dX0_not_14 rfl (lv_at hl 0 rfl) ?_
    refine va_get (D := (dC, dI)) (ci := 0) (v := .int (nI k)) (C := RX0) (T := TX0) (N := 2) hx hb hts in_X0 hown hK hP 0 rfl rfl 0 (by decide) (hts _ q16) (fun _ h9 => h9) rfl dX0_not_15 ?_
    refine lv_iconst (v := 1) hx hb dX0_not_18 (by decide) ?_
    refine lv_isub hx hb dX0_not_19 ?_
    refine rc_topi (y := nI (k - 1)) (rq_sub (n := 1) hk1) ?_
    refine lv_dup2_11 hx hb dX0_not_20 rfl rfl ?_
    refine va_lald hx hb hK hP 1 0 rfl rfl (vp_in_nI (by omega) (by decide)) dX0_not_21 ?_
    refine rc_topl (y := f (k - 1)) (congrArg f (nI_clamp (by omega))) ?_
    refine lv_lconst (v := 1) hx hb dX0_not_22 (by decide) ?_
    refine lv_lxor hx hb dX0_not_23 ?_
    refine va_last hx hb hK hP hD hS 1 0 rfl rfl (vp_in_nI (by omega) (by decide)) dX0_not_24 (fun H locs hP hD hS => ?_)
    rw [show (nI (k - 1)).toNatClampNeg = (k - 1) from nI_clamp (by omega)] at hP hD
    have hP : va_P (dC, dI) rp_cl (rp_ws 0 h0 h1 dA (nI k) (vp_updL f (k - 1) ((f (k - 1)) ^^^ 1))) H := hP
    have hD : va_D _ (rp_ws 0 h0 h1 dA (nI k) (vp_updL f (k - 1) ((f (k - 1)) ^^^ 1))) := hD
    refine lv_iconst (v := 0) hx hb dX0_not_25 (by decide) ?_
    exact rp_mret hx hb hr hlk hK hP hD hS (by rw [rp_not, if_pos c5]) dX0_not_26
  · refine lv_iconst (v := (-1)) hx hb dX0_not_8 (by decide) ?_
    exact rp_mret hx hb hr hlk hK hP hD hS (by rw [rp_not, if_neg c5]) dX0_not_9
theorem cwX0_not {R : Room} {s : State} {args : Array Value} (ht : ∀ w ∈ lw_all, w.before args s = true) (h1 : 1 ≤ R.frames) (h2 : 20 ≤ R.locals) : CallW R s args "RingProverLaw" RX0 26 yX0_not cX0_not 1 (some .int) (ws_ yX0_not cX0_not 1 (some .int)) ({ frames := 0, cells := 0, slots := 0, locals := 0 }) 0 0 0 := cwV 0 ht (lw_V q59 q60 q61 q6 q62) rfl rfl rfl (by decide +kernel) ⟨h1, h2⟩
set_option maxHeartbeats 4000000 in
set_option maxRecDepth 100000 in
/-- copy -/
theorem mt0_copy (l : Launch) (dC : Nat → ClassId) (dI : Nat → Nat → Nat) (h0 h1 : Nat) (dA : ClassId) (sz k : Nat) (f : Nat → Int64) (hk : k ≤ 12) (p0 : Int32) : Met l yX0_copy (ws_ yX0_copy cX0_copy 2 (some .int)) ({ frames := 1, cells := 0, slots := 0, locals := 31 }) (va_Pc [.ref h0, .int p0] (rp_BM sz 0 dC dI h0 h1 dA k f)) (rp_QM 0 dC dI h0 h1 dA (rp_copy p0 k f) (va_A (rp_ws 0 h0 h1 dA (nI k) f) sz)) 0 0 (va_A (rp_ws 0 h0 h1 dA (nI k) f) sz) := by
  refine rc_start RX0 [.ref h0, .int p0] (by decide) rfl (Nat.le_of_ble_eq_true rfl) ?_
  intro p e s m below meth c ls C hr hlk hin hB hl
  obtain ⟨hx, hb, hml, hown, hts⟩ := id C
  obtain ⟨hsz, ⟨hP, hK⟩, hD0⟩ := hB
  subst hsz
  have hD := hD0.self (sz := s.heap.size)
  have hA : ∀ q : Nat, s.heap.size ≤ q → va_A (rp_ws 0 h0 h1 dA (nI k) f) s.heap.size q := fun q h => Or.inr h
  have hS : va_S (va_A (rp_ws 0 h0 h1 dA (nI k) f) s.heap.size) s.heap s.heap [] := va_S.rf
  generalize va_A (rp_ws 0 h0 h1 dA (nI k) f) s.heap.size = A at hD hA hS ⊢
  have hl : lv_has ls 2 [(0, .ref h0), (1, .int p0)] := hl
  refine lv_aload_n hx hb dX0_copy_0 rfl (lv_at hl 0 rfl) ?_
  refine lv_iload_n hx hb dX0_copy_1 rfl (lv_at hl 1 rfl) ?_
  refine rc_call (W.runV (As := [.int p0]) (rest := []) C (mt0_isF l dC dI h0 h1 dA k f hk p0) (cwX0_isFormula hts (Nat.le_of_ble_eq_true rfl) (Nat.le_of_ble_eq_true rfl)) (rc_preV rfl hP hK) rfl rfl hl.1 rfl (lv_room (Nat.le_of_ble_eq_true rfl)) dX0_copy_2 ⟨Nat.zero_le _, Nat.zero_le _⟩) ?_
  refine lv_if_eq (tgt := 17) hx hb dX0_copy_5 (by decide) (fun c5 => ?_) (fun c5 => ?_)
  · refine lv_iconst (v := (-1)) hx hb dX0_copy_17 (by decide) ?_
    exact rp_mret hx hb hr hlk hK hP hD hS (by rw [rp_copy, if_pos c5]) dX0_copy_18
  · refine lv_aload_n hx hb dX0_copy_8 rfl (lv_at hl 0 rfl) ?_
    refine va_get (D := (dC, dI)) (ci := 0) (v := .int (nI k)) (C := RX0) (T := TX0) (N := 2) hx hb hts in_X0 hown hK hP 0 rfl rfl 0 (by decide) (hts _ q16) (fun _ h9 => h9) rfl dX0_copy_9 ?_
    refine lv_bipush (v := 12) hx hb dX0_copy_12 (by decide) ?_
    refine lv_icmp_lt (tgt := 19) hx hb dX0_copy_14 (by decide) (fun c14 => ?_) (fun c14 => ?_)
    · have hk9 : k < 12 := rq_k12 hk c14
      refine lv_aload_n hx hb dX0_copy_19 rfl (lv_at hl 0 rfl) ?_
      refine lv_aload_n hx hb dX0_copy_20 rfl (lv_at hl 0 rfl) ?_
      refine va_get (D := (dC, dI)) (ci := 0) (v := .ref h1) (C := RX0) (T := TX0) (N := 2) hx hb hts in_X0 hown hK hP 0 rfl rfl 1 (by decide) (hts _ q17) (fun _ h9 => h9) rfl dX0_copy_21 ?_
      refine lv_aload_n hx hb dX0_copy_24 rfl (lv_at hl 0 rfl) ?_
      refine va_get (D := (dC, dI)) (ci := 0) (v := .int (nI k)) (C := RX0) (T := TX0) (N := 2) hx hb hts in_X0 hown hK hP 0 rfl rfl 0 (by decide) (hts _ q16) (fun _ h9 => h9) rfl dX0_copy_25 ?_
      refine lv_iconst (v := 1) hx hb dX0_copy_28 (by decide) ?_
      refine lv_isub hx hb dX0_copy_29 ?_
      refine lv_iload_n hx hb dX0_copy_30 rfl (lv_at hl 1 rfl) ?_
      refine lv_isub hx hb dX0_copy_31 ?_
      refine va_lald hx hb hK hP 1 0 rfl rfl (rq_in hk c5) dX0_copy_32 ?_
      refine rc_topl (y := rp_at p0 k f) rfl ?_
      refine rp_mut (wr := []) (tysr := []) (As := [.long (rp_at p0 k f)]) (rest := []) C (mt0_push l dC dI h0 h1 dA s.heap.size k f hk9 (rp_at p0 k f)) (cwX0_push hts (Nat.le_of_ble_eq_true rfl) (Nat.le_of_ble_eq_true rfl)) rfl hP hD hK hS hA [] rfl rfl (by decide) rfl hl.1 rfl (lv_room (Nat.le_of_ble_eq_true rfl)) dX0_copy_33 ⟨Nat.zero_le _, Nat.zero_le _⟩ (fun H locs hP hD hS => ?_)
      have hP : va_P (dC, dI) rp_cl (rp_ws 0 h0 h1 dA (nI (rp_push (rp_at p0 k f) k f).2.1) ((rp_push (rp_at p0 k f) k f).2.2)) H := hP
      have hD : va_D _ (rp_ws 0 h0 h1 dA (nI (rp_push (rp_at p0 k f) k f).2.1) ((rp_push (rp_at p0 k f) k f).2.2)) := hD
      exact rp_mret hx hb hr hlk hK hP hD hS (by rw [rp_copy, if_neg c5, if_pos c14]) dX0_copy_36
    · refine lv_iconst (v := (-1)) hx hb dX0_copy_17 (by decide) ?_
      exact rp_mret hx hb hr hlk hK hP hD hS (by rw [rp_copy, if_neg c5, if_neg c14]) dX0_copy_18
theorem cwX0_copy {R : Room} {s : State} {args : Array Value} (ht : ∀ w ∈ lw_all, w.before args s = true) (h1 : 2 ≤ R.frames) (h2 : 52 ≤ R.locals) : CallW R s args "RingProverLaw" RX0 31 yX0_copy cX0_copy 2 (some .int) (ws_ yX0_copy cX0_copy 2 (some .int)) ({ frames := 1, cells := 0, slots := 0, locals := 31 }) 0 0 1 := cwV 1 ht (lw_V q63 q64 q65 q6 q66) rfl rfl rfl (by decide +kernel) ⟨h1, h2⟩
set_option maxHeartbeats 4000000 in
set_option maxRecDepth 100000 in
/-- drop -/
theorem mt0_drop (l : Launch) (dC : Nat → ClassId) (dI : Nat → Nat → Nat) (h0 h1 : Nat) (dA : ClassId) (sz k : Nat) (f : Nat → Int64) (hk : k ≤ 12)  : Met l yX0_drop (ws_ yX0_drop cX0_drop 1 (some .int)) ({ frames := 0, cells := 0, slots := 0, locals := 0 }) (va_Pc [.ref h0] (rp_BM sz 0 dC dI h0 h1 dA k f)) (rp_QM 0 dC dI h0 h1 dA (rp_drop k f) (va_A (rp_ws 0 h0 h1 dA (nI k) f) sz)) 0 0 (va_A (rp_ws 0 h0 h1 dA (nI k) f) sz) := by
  refine rc_start RX0 [.ref h0] (by decide) rfl (Nat.le_of_ble_eq_true rfl) ?_
  intro p e s m below meth c ls C hr hlk hin hB hl
  obtain ⟨hx, hb, hml, hown, hts⟩ := id C
  obtain ⟨hsz, ⟨hP, hK⟩, hD0⟩ := hB
  subst hsz
  have hD := hD0.self (sz := s.heap.size)
  have hA : ∀ q : Nat, s.heap.size ≤ q → va_A (rp_ws 0 h0 h1 dA (nI k) f) s.heap.size q := fun q h => Or.inr h
  have hS : va_S (va_A (rp_ws 0 h0 h1 dA (nI k) f) s.heap.size) s.heap s.heap [] := va_S.rf
  generalize va_A (rp_ws 0 h0 h1 dA (nI k) f) s.heap.size = A at hD hA hS ⊢
  have hl : lv_has ls 1 [(0, .ref h0)] := hl
  refine lv_aload_n hx hb dX0_drop_0 rfl (lv_at hl 0 rfl) ?_
  refine va_get (D := (dC, dI)) (ci := 0) (v := .int (nI k)) (C := RX0) (T := TX0) (N := 2) hx hb hts in_X0 hown hK hP 0 rfl rfl 0 (by decide) (hts _ q16) (fun _ h9 => h9) rfl dX0_drop_1 ?_
  refine lv_iconst (v := 1) hx hb dX0_drop_4 (by decide) ?_
  refine lv_icmp_ge (tgt := 10) hx hb dX0_drop_5 (by decide) (fun c5 => ?_) (fun c5 => ?_)
  · have hk1 : 1 ≤ k := rq_k1 hk c5
    refine lv_aload_n hx hb dX0_drop_10 rfl (lv_at hl 0 rfl) ?_
    refine lv_dup hx hb dX0_drop_11 rfl ?_
    refine va_get (D := (dC, dI)) (ci := 0) (v := .int (nI k)) (C := RX0) (T := TX0) (N := 2) hx hb hts in_X0 hown hK hP 0 rfl rfl 0 (by decide) (hts _ q16) (fun _ h9 => h9) rfl dX0_drop_12 ?_
    refine lv_iconst (v := 1) hx hb dX0_drop_15 (by decide) ?_
    refine lv_isub hx hb dX0_drop_16 ?_
    refine rc_topi (y := nI (k - 1)) (rq_sub (n := 1) hk1) ?_
    refine va_put (D := (dC, dI)) (ci := 0) (v := .int (nI (k - 1))) (ty := .int) (C := RX0) (T := TX0) (N := 2) hx hb hts in_X0 tyX0 tyX0_ok nmX0 hown hK hP hD hS 0 rfl rfl 0 (by decide) (hts _ q16) (fun _ h9 => h9) rfl (by decide +kernel) rfl rfl (Nat.le_of_ble_eq_true rfl) dX0_drop_17 (fun H locs hP hD hS => ?_)
    have hP : va_P (dC, dI) rp_cl (rp_ws 0 h0 h1 dA (nI (k - 1)) f) H := hP
    have hD : va_D _ (rp_ws 0 h0 h1 dA (nI (k - 1)) f) := hD
    refine lv_aload_n hx hb dX0_drop_20 rfl (lv_at hl 0 rfl) ?_
    refine va_get (D := (dC, dI)) (ci := 0) (v := .int (nI (k - 1))) (C := RX0) (T := TX0) (N := 2) hx hb hts in_X0 hown hK hP 0 rfl rfl 0 (by decide) (hts _ q16) (fun _ h9 => h9) rfl dX0_drop_21 ?_
    exact rp_mret hx hb hr hlk hK hP hD hS (by rw [rp_drop, if_pos c5]) dX0_drop_24
  · refine lv_iconst (v := (-1)) hx hb dX0_drop_8 (by decide) ?_
    exact rp_mret hx hb hr hlk hK hP hD hS (by rw [rp_drop, if_neg c5]) dX0_drop_9
theorem cwX0_drop {R : Room} {s : State} {args : Array Value} (ht : ∀ w ∈ lw_all, w.before args s = true) (h1 : 1 ≤ R.frames) (h2 : 20 ≤ R.locals) : CallW R s args "RingProverLaw" RX0 35 yX0_drop cX0_drop 1 (some .int) (ws_ yX0_drop cX0_drop 1 (some .int)) ({ frames := 0, cells := 0, slots := 0, locals := 0 }) 0 0 0 := cwV 0 ht (lw_V q71 q72 q73 q6 q74) rfl rfl rfl (by decide +kernel) ⟨h1, h2⟩
set_option maxHeartbeats 4000000 in
set_option maxRecDepth 100000 in
/-- replace -/
theorem mt0_replace (l : Launch) (dC : Nat → ClassId) (dI : Nat → Nat → Nat) (h0 h1 : Nat) (dA : ClassId) (sz k : Nat) (f : Nat → Int64) (hk : k ≤ 12) (v : Int32) : Met l yX0_replace (ws_ yX0_replace cX0_replace 12 (some .int)) ({ frames := 3, cells := 0, slots := 0, locals := 93 }) (va_Pc [.ref h0, .int v] (rp_BM sz 0 dC dI h0 h1 dA k f)) (rp_QM 0 dC dI h0 h1 dA (rp_replace v k f) (va_A (rp_ws 0 h0 h1 dA (nI k) f) sz)) 0 0 (va_A (rp_ws 0 h0 h1 dA (nI k) f) sz) := by
  refine rc_start RX0 [.ref h0, .int v] (by decide) rfl (Nat.le_of_ble_eq_true rfl) ?_
  intro p e s m below meth c ls C hr hlk hin hB hl
  obtain ⟨hx, hb, hml, hown, hts⟩ := id C
  obtain ⟨hsz, ⟨hP, hK⟩, hD0⟩ := hB
  subst hsz
  have hD := hD0.self (sz := s.heap.size)
  have hA : ∀ q : Nat, s.heap.size ≤ q → va_A (rp_ws 0 h0 h1 dA (nI k) f) s.heap.size q := fun q h => Or.inr h
  have hS : va_S (va_A (rp_ws 0 h0 h1 dA (nI k) f) s.heap.size) s.heap s.heap [] := va_S.rf
  generalize va_A (rp_ws 0 h0 h1 dA (nI k) f) s.heap.size = A at hD hA hS ⊢
  have hl : lv_has ls 12 [(0, .ref h0), (1, .int v)] := hl
  refine lv_iload_n hx hb dX0_replace_0 rfl (lv_at hl 1 rfl) ?_
  refine lv_if_lt (tgt := 17) hx hb dX0_replace_1 (by decide) (fun c1 => ?_) (fun c1 => ?_)
  · refine lv_iconst (v := (-1)) hx hb dX0_replace_17 (by decide) ?_
    exact rp_mret hx hb hr hlk hK hP hD hS (by rw [rp_replace, if_pos c1]) dX0_replace_18
  · refine lv_iload_n hx hb dX0_replace_4 rfl (lv_at hl 1 rfl) ?_
    refine lv_iconst (v := 5) hx hb dX0_replace_5 (by decide) ?_
    refine lv_icmp_gt (tgt := 17) hx hb dX0_replace_6 (by decide) (fun c6 => ?_) (fun c6 => ?_)
    · refine lv_iconst (v := (-1)) hx hb dX0_replace_17 (by decide) ?_
      exact rp_mret hx hb hr hlk hK hP hD hS (by rw [rp_replace, if_neg c1, if_pos c6]) dX0_replace_18
    · refine lv_aload_n hx hb dX0_replace_9 rfl (lv_at hl 0 rfl) ?_
      refine va_get (D := (dC, dI)) (ci := 0) (v := .int (nI k)) (C := RX0) (T := TX0) (N := 2) hx hb hts in_X0 hown hK hP 0 rfl rfl 0 (by decide) (hts _ q16) (fun _ h9 => h9) rfl dX0_replace_10 ?_
      refine lv_iconst (v := 2) hx hb dX0_replace_13 (by decide) ?_
      refine lv_icmp_ge (tgt := 19) hx hb dX0_replace_14 (by decide) (fun c14 => ?_) (fun c14 => ?_)
      · have hk2 : 2 ≤ k := rq_k2 hk c14
        have hk1 : 1 ≤ k := by omega
        refine lv_aload_n hx hb dX0_replace_19 rfl (lv_at hl 0 rfl) ?_
        refine va_get (D := (dC, dI)) (ci := 0) (v := .ref h1) (C := RX0) (T := TX0) (N := 2) hx hb hts in_X0 hown hK hP 0 rfl rfl 1 (by decide) (hts _ q17) (fun _ h9 => h9) rfl dX0_replace_20 ?_
        refine lv_aload_n hx hb dX0_replace_23 rfl (lv_at hl 0 rfl) ?_
        refine va_get (D := (dC, dI)) (ci := 0) (v := .int (nI k)) (C := RX0) (T := TX0) (N := 2) hx hb hts in_X0 hown hK hP 0 rfl rfl 0 (by decide) (hts _ q16) (fun _ h9 => h9) rfl dX0_replace_24 ?_
        refine lv_iconst (v := 1) hx hb dX0_replace_27 (by decide) ?_
        refine lv_isub hx hb dX0_replace_28 ?_
        refine rc_topi (y := nI (k - 1)) (rq_sub (n := 1) hk1) ?_
        refine va_lald hx hb hK hP 1 0 rfl rfl (vp_in_nI (by omega) (by decide)) dX0_replace_29 ?_
        refine rc_topl (y := f (k - 1)) (congrArg f (nI_clamp (by omega))) ?_
        refine lv_lstore_n (lv' := [(2, .long (f (k - 1))), (0, .ref h0), (1, .int v)]) hx hb dX0_replace_30 rfl hl (by decide) rfl (fun ls hl => ?_)
        refine lv_aload_n hx hb dX0_replace_31 rfl (lv_at hl 1 rfl) ?_
        refine va_get (D := (dC, dI)) (ci := 0) (v := .ref h1) (C := RX0) (T := TX0) (N := 2) hx hb hts in_X0 hown hK hP 0 rfl rfl 1 (by decide) (hts _ q17) (fun _ h9 => h9) rfl dX0_replace_32 ?_
        refine lv_aload_n hx hb dX0_replace_35 rfl (lv_at hl 1 rfl) ?_
        refine va_get (D := (dC, dI)) (ci := 0) (v := .int (nI k)) (C := RX0) (T := TX0) (N := 2) hx hb hts in_X0 hown hK hP 0 rfl rfl 0 (by decide) (hts _ q16) (fun _ h9 => h9) rfl dX0_replace_36 ?_
        refine lv_iconst (v := 2) hx hb dX0_replace_39 (by decide) ?_
        refine lv_isub hx hb dX0_replace_40 ?_
        refine rc_topi (y := nI (k - 2)) (rq_sub (n := 2) hk2) ?_
        refine va_lald hx hb hK hP 1 0 rfl rfl (vp_in_nI (by omega) (by decide)) dX0_replace_41 ?_
        refine rc_topl (y := f (k - 2)) (congrArg f (nI_clamp (by omega))) ?_
        refine lv_lstore (lv' := [(4, .long (f (k - 2))), (2, .long (f (k - 1))), (0, .ref h0), (1, .int v)]) hx hb dX0_replace_42 hl (by decide) rfl (fun ls hl => ?_)
        refine lv_lload_n hx hb dX0_replace_44 rfl (lv_at hl 1 rfl) ?_
        refine lv_iload_n hx hb dX0_replace_45 rfl (lv_at hl 3 rfl) ?_
        refine rc_call (W.runS (As := [.int v]) (rest := [.long (f (k - 1))]) C (mt0_pw l v) (cwX0_productsWithout hts (Nat.le_of_ble_eq_true rfl) (Nat.le_of_ble_eq_true rfl)) rc_preS rfl rfl hl.1 rfl (lv_room (Nat.le_of_ble_eq_true rfl)) dX0_replace_46 ⟨Nat.zero_le _, Nat.zero_le _⟩) ?_
        refine lv_land hx hb dX0_replace_49 ?_
        refine lv_lstore (lv' := [(6, .long ((f (k - 1)) &&& (rp_pw v))), (4, .long (f (k - 2))), (2, .long (f (k - 1))), (0, .ref h0), (1, .int v)]) hx hb dX0_replace_50 hl (by decide) rfl (fun ls hl => ?_)
        refine lv_lload_n hx hb dX0_replace_52 rfl (lv_at hl 2 rfl) ?_
        refine lv_iload_n hx hb dX0_replace_53 rfl (lv_at hl 4 rfl) ?_
        refine rc_call (W.runS (As := [.int v]) (rest := [.long (f (k - 1))]) C (mt0_pw l v) (cwX0_productsWithout hts (Nat.le_of_ble_eq_true rfl) (Nat.le_of_ble_eq_true rfl)) rc_preS rfl rfl hl.1 rfl (lv_room (Nat.le_of_ble_eq_true rfl)) dX0_replace_54 ⟨Nat.zero_le _, Nat.zero_le _⟩) ?_
        refine lv_ldc2 (v := (-1)) hx hb hown (hts _ q58) dX0_replace_57 ?_
        refine lv_lxor hx hb dX0_replace_60 ?_
        refine lv_land hx hb dX0_replace_61 ?_
        refine lv_iconst (v := 1) hx hb dX0_replace_62 (by decide) ?_
        refine lv_iload_n hx hb dX0_replace_63 rfl (lv_at hl 4 rfl) ?_
        refine lv_ishl hx hb dX0_replace_64 ?_
        refine lv_lushr (v := rp_ush ((f (k - 1)) &&& ((rp_pw v) ^^^ (-1))) ((1 : Int32) <<< (v &&& 31))) hx hb dX0_replace_65 rfl ?_
        refine lv_lstore (lv' := [(8, .long (rp_ush ((f (k - 1)) &&& ((rp_pw v) ^^^ (-1))) ((1 : Int32) <<< (v &&& 31)))), (6, .long ((f (k - 1)) &&& (rp_pw v))), (4, .long (f (k - 2))), (2, .long (f (k - 1))), (0, .ref h0), (1, .int v)]) hx hb dX0_replace_66 hl (by decide) rfl (fun ls hl => ?_)
        refine lv_aload_n hx hb dX0_replace_68 rfl (lv_at hl 4 rfl) ?_
        refine lv_dup hx hb dX0_replace_69 rfl ?_
        refine va_get (D := (dC, dI)) (ci := 0) (v := .int (nI k)) (C := RX0) (T := TX0) (N := 2) hx hb hts in_X0 hown hK hP 0 rfl rfl 0 (by decide) (hts _ q16) (fun _ h9 => h9) rfl dX0_replace_70 ?_
        refine lv_iconst (v := 2) hx hb dX0_replace_73 (by decide) ?_
        refine lv_isub hx hb dX0_replace_74 ?_
        refine rc_topi (y := nI (k - 2)) (rq_sub (n := 2) hk2) ?_
        refine va_put (D := (dC, dI)) (ci := 0) (v := .int (nI (k - 2))) (ty := .int) (C := RX0) (T := TX0) (N := 2) hx hb hts in_X0 tyX0 tyX0_ok nmX0 hown hK hP hD hS 0 rfl rfl 0 (by decide) (hts _ q16) (fun _ h9 => h9) rfl (by decide +kernel) rfl rfl (Nat.le_of_ble_eq_true rfl) dX0_replace_75 (fun H locs hP hD hS => ?_)
        have hP : va_P (dC, dI) rp_cl (rp_ws 0 h0 h1 dA (nI (k - 2)) f) H := hP
        have hD : va_D _ (rp_ws 0 h0 h1 dA (nI (k - 2)) f) := hD
        refine lv_lload hx hb dX0_replace_78 (lv_at hl 1 rfl) ?_
        refine lv_lload hx hb dX0_replace_80 (lv_at hl 2 rfl) ?_
        refine lv_lload hx hb dX0_replace_82 (lv_at hl 0 rfl) ?_
        refine rc_call (W.runS (As := [.long (f (k - 2)), .long (rp_ush ((f (k - 1)) &&& ((rp_pw v) ^^^ (-1))) ((1 : Int32) <<< (v &&& 31)))]) (rest := [.long ((f (k - 1)) &&& (rp_pw v))]) C (mt0_mul l (f (k - 2)) (rp_ush ((f (k - 1)) &&& ((rp_pw v) ^^^ (-1))) ((1 : Int32) <<< (v &&& 31)))) (cwX0_multiply hts (Nat.le_of_ble_eq_true rfl) (Nat.le_of_ble_eq_true rfl)) rc_preS rfl rfl hl.1 rfl (lv_room (Nat.le_of_ble_eq_true rfl)) dX0_replace_84 ⟨Nat.zero_le _, Nat.zero_le _⟩) ?_
        refine lv_lxor hx hb dX0_replace_87 ?_
        refine rc_topl (y := rp_repl v (f (k - 1)) (f (k - 2))) rfl ?_
        refine lv_lstore (lv' := [(10, .long (rp_repl v (f (k - 1)) (f (k - 2)))), (8, .long (rp_ush ((f (k - 1)) &&& ((rp_pw v) ^^^ (-1))) ((1 : Int32) <<< (v &&& 31)))), (6, .long ((f (k - 1)) &&& (rp_pw v))), (4, .long (f (k - 2))), (2, .long (f (k - 1))), (0, .ref h0), (1, .int v)]) hx hb dX0_replace_88 hl (by decide) rfl (fun ls hl => ?_)
        refine lv_aload_n hx hb dX0_replace_90 rfl (lv_at hl 5 rfl) ?_
        refine lv_lload hx hb dX0_replace_91 (lv_at hl 0 rfl) ?_
        refine rp_mut (wr := []) (tysr := []) (As := [.long (rp_repl v (f (k - 1)) (f (k - 2)))]) (rest := []) C (mt0_push l dC dI h0 h1 dA H.size (k - 2) f (by omega) (rp_repl v (f (k - 1)) (f (k - 2)))) (cwX0_push hts (Nat.le_of_ble_eq_true rfl) (Nat.le_of_ble_eq_true rfl)) rfl hP hD hK hS hA [] rfl rfl (by decide) rfl hl.1 rfl (lv_room (Nat.le_of_ble_eq_true rfl)) dX0_replace_93 ⟨Nat.zero_le _, Nat.zero_le _⟩ (fun H locs hP hD hS => ?_)
        have hP : va_P (dC, dI) rp_cl (rp_ws 0 h0 h1 dA (nI (rp_push (rp_repl v (f (k - 1)) (f (k - 2))) (k - 2) f).2.1) ((rp_push (rp_repl v (f (k - 1)) (f (k - 2))) (k - 2) f).2.2)) H := hP
        have hD : va_D _ (rp_ws 0 h0 h1 dA (nI (rp_push (rp_repl v (f (k - 1)) (f (k - 2))) (k - 2) f).2.1) ((rp_push (rp_repl v (f (k - 1)) (f (k - 2))) (k - 2) f).2.2)) := hD
        exact rp_mret hx hb hr hlk hK hP hD hS (by rw [rp_replace, if_neg c1, if_neg c6, if_pos c14]) dX0_replace_96
      · refine lv_iconst (v := (-1)) hx hb dX0_replace_17 (by decide) ?_
        exact rp_mret hx hb hr hlk hK hP hD hS (by rw [rp_replace, if_neg c1, if_neg c6, if_neg c14]) dX0_replace_18
theorem cwX0_replace {R : Room} {s : State} {args : Array Value} (ht : ∀ w ∈ lw_all, w.before args s = true) (h1 : 4 ≤ R.frames) (h2 : 124 ≤ R.locals) : CallW R s args "RingProverLaw" RX0 39 yX0_replace cX0_replace 12 (some .int) (ws_ yX0_replace cX0_replace 12 (some .int)) ({ frames := 3, cells := 0, slots := 0, locals := 93 }) 0 0 1 := cwV 1 ht (lw_V q75 q76 q77 q6 q78) rfl rfl rfl (by decide +kernel) ⟨h1, h2⟩
set_option maxHeartbeats 4000000 in
set_option maxRecDepth 100000 in
/-- products -/
theorem mt0_products (l : Launch) (dC : Nat → ClassId) (dI : Nat → Nat → Nat) (h0 h1 : Nat) (dA : ClassId) (k : Nat) (f : Nat → Int64) (hk : k ≤ 12) (p0 : Int32) : Met l yX0_products (ws_ yX0_products cX0_products 2 (some .int)) ({ frames := 1, cells := 0, slots := 0, locals := 31 }) (va_Pc [.ref h0, .int p0] (rp_B 0 dC dI h0 h1 dA k f)) (rc_Q (.int (rp_products p0 k f))) 0 0 (fun _ => False) := by
  refine rc_start RX0 [.ref h0, .int p0] (by decide) rfl (Nat.le_of_ble_eq_true rfl) ?_
  intro p e s m below meth c ls C hr hlk hin hB hl
  obtain ⟨hx, hb, hml, hown, hts⟩ := id C
  obtain ⟨hP, hK⟩ := hB
  have hl : lv_has ls 2 [(0, .ref h0), (1, .int p0)] := hl
  refine lv_aload_n hx hb dX0_products_0 rfl (lv_at hl 0 rfl) ?_
  refine lv_iload_n hx hb dX0_products_1 rfl (lv_at hl 1 rfl) ?_
  refine rc_call (W.runV (As := [.int p0]) (rest := []) C (mt0_isF l dC dI h0 h1 dA k f hk p0) (cwX0_isFormula hts (Nat.le_of_ble_eq_true rfl) (Nat.le_of_ble_eq_true rfl)) (rc_preV rfl hP hK) rfl rfl hl.1 rfl (lv_room (Nat.le_of_ble_eq_true rfl)) dX0_products_2 ⟨Nat.zero_le _, Nat.zero_le _⟩) ?_
  refine lv_if_eq (tgt := 27) hx hb dX0_products_5 (by decide) (fun c5 => ?_) (fun c5 => ?_)
  · refine lv_iconst (v := (-1)) hx hb dX0_products_27 (by decide) ?_
    exact rc_iret hx hb hr hlk (by rw [rp_products, if_pos c5]) dX0_products_28
  · refine lv_aload_n hx hb dX0_products_8 rfl (lv_at hl 0 rfl) ?_
    refine va_get (D := (dC, dI)) (ci := 0) (v := .ref h1) (C := RX0) (T := TX0) (N := 2) hx hb hts in_X0 hown hK hP 0 rfl rfl 1 (by decide) (hts _ q17) (fun _ h9 => h9) rfl dX0_products_9 ?_
    refine lv_aload_n hx hb dX0_products_12 rfl (lv_at hl 0 rfl) ?_
    refine va_get (D := (dC, dI)) (ci := 0) (v := .int (nI k)) (C := RX0) (T := TX0) (N := 2) hx hb hts in_X0 hown hK hP 0 rfl rfl 0 (by decide) (hts _ q16) (fun _ h9 => h9) rfl dX0_products_13 ?_
    refine lv_iconst (v := 1) hx hb dX0_products_16 (by decide) ?_
    refine lv_isub hx hb dX0_products_17 ?_
    refine lv_iload_n hx hb dX0_products_18 rfl (lv_at hl 1 rfl) ?_
    refine lv_isub hx hb dX0_products_19 ?_
    refine va_lald hx hb hK hP 1 0 rfl rfl (rq_in hk c5) dX0_products_20 ?_
    refine rc_topl (y := rp_at p0 k f) rfl ?_
    refine rc_call (W.runS (As := [.long (rp_at p0 k f)]) (rest := []) C (mt0_ones l (rp_at p0 k f)) (cwX0_ones hts (Nat.le_of_ble_eq_true rfl) (Nat.le_of_ble_eq_true rfl)) rc_preS rfl rfl hl.1 rfl (lv_room (Nat.le_of_ble_eq_true rfl)) dX0_products_21 ⟨Nat.zero_le _, Nat.zero_le _⟩) ?_
    refine lv_goto (tgt := 28) hx hb dX0_products_24 (by decide) ?_
    exact rc_iret hx hb hr hlk (by rw [rp_products, if_neg c5]) dX0_products_28
theorem cwX0_products {R : Room} {s : State} {args : Array Value} (ht : ∀ w ∈ lw_all, w.before args s = true) (h1 : 2 ≤ R.frames) (h2 : 52 ≤ R.locals) : CallW R s args "RingProverLaw" RX0 43 yX0_products cX0_products 2 (some .int) (ws_ yX0_products cX0_products 2 (some .int)) ({ frames := 1, cells := 0, slots := 0, locals := 31 }) 0 0 1 := cwV 1 ht (lw_V q79 q80 q81 q6 q82) rfl rfl rfl (by decide +kernel) ⟨h1, h2⟩
set_option maxHeartbeats 4000000 in
set_option maxRecDepth 100000 in
/-- has -/
theorem mt0_has (l : Launch) (dC : Nat → ClassId) (dI : Nat → Nat → Nat) (h0 h1 : Nat) (dA : ClassId) (k : Nat) (f : Nat → Int64) (hk : k ≤ 12) (p0 : Int32) (q : Int32) : Met l yX0_has (ws_ yX0_has cX0_has 3 (some .int)) ({ frames := 1, cells := 0, slots := 0, locals := 31 }) (va_Pc [.ref h0, .int p0, .int q] (rp_B 0 dC dI h0 h1 dA k f)) (rc_Q (.int (rp_has p0 q k f))) 0 0 (fun _ => False) := by
  refine rc_start RX0 [.ref h0, .int p0, .int q] (by decide) rfl (Nat.le_of_ble_eq_true rfl) ?_
  intro p e s m below meth c ls C hr hlk hin hB hl
  obtain ⟨hx, hb, hml, hown, hts⟩ := id C
  obtain ⟨hP, hK⟩ := hB
  have hl : lv_has ls 3 [(0, .ref h0), (1, .int p0), (2, .int q)] := hl
  refine lv_aload_n hx hb dX0_has_0 rfl (lv_at hl 0 rfl) ?_
  refine lv_iload_n hx hb dX0_has_1 rfl (lv_at hl 1 rfl) ?_
  refine rc_call (W.runV (As := [.int p0]) (rest := []) C (mt0_isF l dC dI h0 h1 dA k f hk p0) (cwX0_isFormula hts (Nat.le_of_ble_eq_true rfl) (Nat.le_of_ble_eq_true rfl)) (rc_preV rfl hP hK) rfl rfl hl.1 rfl (lv_room (Nat.le_of_ble_eq_true rfl)) dX0_has_2 ⟨Nat.zero_le _, Nat.zero_le _⟩) ?_
  refine lv_if_eq (tgt := 18) hx hb dX0_has_5 (by decide) (fun c5 => ?_) (fun c5 => ?_)
  · refine lv_iconst (v := (-1)) hx hb dX0_has_18 (by decide) ?_
    exact rc_iret hx hb hr hlk (by rw [rp_has, if_pos c5]) dX0_has_19
  · refine lv_iload_n hx hb dX0_has_8 rfl (lv_at hl 2 rfl) ?_
    refine lv_if_lt (tgt := 18) hx hb dX0_has_9 (by decide) (fun c9 => ?_) (fun c9 => ?_)
    · refine lv_iconst (v := (-1)) hx hb dX0_has_18 (by decide) ?_
      exact rc_iret hx hb hr hlk (by rw [rp_has, if_neg c5, if_pos c9]) dX0_has_19
    · refine lv_iload_n hx hb dX0_has_12 rfl (lv_at hl 2 rfl) ?_
      refine lv_bipush (v := 63) hx hb dX0_has_13 (by decide) ?_
      refine lv_icmp_le (tgt := 20) hx hb dX0_has_15 (by decide) (fun c15 => ?_) (fun c15 => ?_)
      · refine lv_aload_n hx hb dX0_has_20 rfl (lv_at hl 0 rfl) ?_
        refine va_get (D := (dC, dI)) (ci := 0) (v := .ref h1) (C := RX0) (T := TX0) (N := 2) hx hb hts in_X0 hown hK hP 0 rfl rfl 1 (by decide) (hts _ q17) (fun _ h9 => h9) rfl dX0_has_21 ?_
        refine lv_aload_n hx hb dX0_has_24 rfl (lv_at hl 0 rfl) ?_
        refine va_get (D := (dC, dI)) (ci := 0) (v := .int (nI k)) (C := RX0) (T := TX0) (N := 2) hx hb hts in_X0 hown hK hP 0 rfl rfl 0 (by decide) (hts _ q16) (fun _ h9 => h9) rfl dX0_has_25 ?_
        refine lv_iconst (v := 1) hx hb dX0_has_28 (by decide) ?_
        refine lv_isub hx hb dX0_has_29 ?_
        refine lv_iload_n hx hb dX0_has_30 rfl (lv_at hl 1 rfl) ?_
        refine lv_isub hx hb dX0_has_31 ?_
        refine va_lald hx hb hK hP 1 0 rfl rfl (rq_in hk c5) dX0_has_32 ?_
        refine rc_topl (y := rp_at p0 k f) rfl ?_
        refine lv_iload_n hx hb dX0_has_33 rfl (lv_at hl 2 rfl) ?_
        refine lv_lushr (v := rp_ush (rp_at p0 k f) q) hx hb dX0_has_34 rfl ?_
        refine lv_l2i (v := (rp_ush (rp_at p0 k f) q).toInt32) hx hb dX0_has_35 rfl ?_
        refine lv_iconst (v := 1) hx hb dX0_has_36 (by decide) ?_
        refine lv_iand hx hb dX0_has_37 ?_
        exact rc_iret hx hb hr hlk (by rw [rp_has, if_neg c5, if_neg c9, if_pos c15]) dX0_has_38
      · refine lv_iconst (v := (-1)) hx hb dX0_has_18 (by decide) ?_
        exact rc_iret hx hb hr hlk (by rw [rp_has, if_neg c5, if_neg c9, if_neg c15]) dX0_has_19
theorem cwX0_has {R : Room} {s : State} {args : Array Value} (ht : ∀ w ∈ lw_all, w.before args s = true) (h1 : 2 ≤ R.frames) (h2 : 53 ≤ R.locals) : CallW R s args "RingProverLaw" RX0 47 yX0_has cX0_has 3 (some .int) (ws_ yX0_has cX0_has 3 (some .int)) ({ frames := 1, cells := 0, slots := 0, locals := 31 }) 0 0 2 := cwV 2 ht (lw_V q87 q88 q89 q6 q90) rfl rfl rfl (by decide +kernel) ⟨h1, h2⟩
section
variable {p : Program} {l : Launch} {e : Env} {R : Room} {s : State} {m : MethodId} {args : Array Value} {below : List Frame} {meth : Method} {c : Code} {H : Heap} {locs : List Loc} {cells slots : Nat} {Q : State → Prop}
set_option maxHeartbeats 4000000 in
set_option maxRecDepth 100000 in
/-- degree's loop -/
theorem lp0_deg (C : CallFix p m c cX0_degree 7 s args lw_all RX0) (hR : 1 ≤ R.frames ∧ 31 ≤ R.locals) (hf : cells ≤ R.cells ∧ slots ≤ R.slots) (s0 : Int64)
    (kx : ∀ ls : Array Slot, lv_has ls 7 [(5, .int (nI 64)), (4, .int (rp_deg s0 64)), (2, .long s0)] → W p l e R s m args below meth c H locs cells slots Q (F0 m 73 ls [])) :
    ∀ (n i : Nat), i ≤ 64 → 65 ≤ i + n → ∀ ls : Array Slot, lv_has ls 7 [(5, .int (nI i)), (4, .int (rp_deg s0 i)), (2, .long s0)] → W p l e R s m args below meth c H locs cells slots Q (F0 m 30 ls []) := by
  obtain ⟨hx, hb, hml, hown, hts⟩ := id C
  intro n
  induction n with
  | zero =>
    intro i a1 a2
    exact absurd a2 (by omega)
  | succ n ih =>
    intro i a1 a2 ls hl
    refine lv_iload hx hb dX0_degree_30 (lv_at hl 0 rfl) ?_
    refine lv_bipush (v := nI 64) hx hb dX0_degree_32 (by decide) ?_
    refine lv_icmp_ge (tgt := 73) hx hb dX0_degree_34 (by decide) (fun c34 => ?_) (fun c34 => ?_)
    · have hi : i = 64 := rc_eq a1 (by decide) c34
      subst hi
      exact kx ls (lv_sub hl [0, 1, 2] rfl)
    · have hi : i < 64 := rc_lt (by omega) c34
      refine lv_iload hx hb dX0_degree_37 (lv_at hl 0 rfl) ?_
      refine lv_i2l (v := (nI i).toInt64) hx hb dX0_degree_39 rfl ?_
      refine rc_call (W.runS (As := [.long ((nI i).toInt64)]) (rest := []) C (mt0_ones l ((nI i).toInt64)) (cwX0_ones hts (Nat.le_trans (Nat.le_of_ble_eq_true rfl) hR.1) (Nat.le_trans (Nat.le_of_ble_eq_true rfl) hR.2)) rc_preS rfl rfl hl.1 rfl (lv_room (Nat.le_of_ble_eq_true rfl)) dX0_degree_40 hf) ?_
      refine lv_istore (lv' := [(6, .int (rp_ones ((nI i).toInt64))), (5, .int (nI i)), (4, .int (rp_deg s0 i)), (2, .long s0)]) hx hb dX0_degree_43 hl (by decide) rfl (fun ls hl => ?_)
      refine lv_lload_n hx hb dX0_degree_45 rfl (lv_at hl 3 rfl) ?_
      refine lv_iload hx hb dX0_degree_46 (lv_at hl 1 rfl) ?_
      refine lv_lushr (v := rp_ush s0 (nI i)) hx hb dX0_degree_48 rfl ?_
      refine lv_lconst (v := 1) hx hb dX0_degree_49 (by decide) ?_
      refine lv_land hx hb dX0_degree_50 ?_
      refine lv_lconst (v := 0) hx hb dX0_degree_51 (by decide) ?_
      refine W.lcmp hx hb dX0_degree_52 ?_
      refine lv_if_eq (tgt := 67) hx hb dX0_degree_53 (by decide) (fun c53 => ?_) (fun c53 => ?_)
      · refine lv_iinc (v := nI (i + 1)) (lv' := [(5, .int (nI (i + 1))), (6, .int (rp_ones ((nI i).toInt64))), (4, .int (rp_deg s0 i)), (2, .long s0)]) hx hb dX0_degree_67 hl (k := 1) rfl (nI_1 i) (by decide) rfl (fun ls hl => ?_)
        refine lv_goto (tgt := 30) hx hb dX0_degree_70 (by decide) ?_
        exact ih (i + 1) (by omega) (by omega) ls (by rw [show rp_deg s0 (i + 1) = rp_deg s0 i from by rw [rp_deg, if_pos c53]]; exact (lv_sub hl [0, 2, 3] rfl))
      · refine lv_iload hx hb dX0_degree_56 (lv_at hl 0 rfl) ?_
        refine lv_iload hx hb dX0_degree_58 (lv_at hl 2 rfl) ?_
        refine lv_icmp_le (tgt := 67) hx hb dX0_degree_60 (by decide) (fun c60 => ?_) (fun c60 => ?_)
        · refine lv_iinc (v := nI (i + 1)) (lv' := [(5, .int (nI (i + 1))), (6, .int (rp_ones ((nI i).toInt64))), (4, .int (rp_deg s0 i)), (2, .long s0)]) hx hb dX0_degree_67 hl (k := 1) rfl (nI_1 i) (by decide) rfl (fun ls hl => ?_)
          refine lv_goto (tgt := 30) hx hb dX0_degree_70 (by decide) ?_
          exact ih (i + 1) (by omega) (by omega) ls (by rw [show rp_deg s0 (i + 1) = rp_deg s0 i from by rw [rp_deg, if_neg c53, if_pos c60]]; exact (lv_sub hl [0, 2, 3] rfl))
        · refine lv_iload hx hb dX0_degree_63 (lv_at hl 0 rfl) ?_
          refine lv_istore (lv' := [(4, .int (rp_ones ((nI i).toInt64))), (6, .int (rp_ones ((nI i).toInt64))), (5, .int (nI i)), (2, .long s0)]) hx hb dX0_degree_65 hl (by decide) rfl (fun ls hl => ?_)
          refine lv_iinc (v := nI (i + 1)) (lv' := [(5, .int (nI (i + 1))), (4, .int (rp_ones ((nI i).toInt64))), (6, .int (rp_ones ((nI i).toInt64))), (2, .long s0)]) hx hb dX0_degree_67 hl (k := 2) rfl (nI_1 i) (by decide) rfl (fun ls hl => ?_)
          refine lv_goto (tgt := 30) hx hb dX0_degree_70 (by decide) ?_
          exact ih (i + 1) (by omega) (by omega) ls (by rw [show rp_deg s0 (i + 1) = rp_ones ((nI i).toInt64) from by rw [rp_deg, if_neg c53, if_neg c60]]; exact (lv_sub hl [0, 1, 3] rfl))
end
set_option maxHeartbeats 4000000 in
set_option maxRecDepth 100000 in
/-- degree -/
theorem mt0_degree (l : Launch) (dC : Nat → ClassId) (dI : Nat → Nat → Nat) (h0 h1 : Nat) (dA : ClassId) (k : Nat) (f : Nat → Int64) (hk : k ≤ 12) (p0 : Int32) : Met l yX0_degree (ws_ yX0_degree cX0_degree 7 (some .int)) ({ frames := 1, cells := 0, slots := 0, locals := 31 }) (va_Pc [.ref h0, .int p0] (rp_B 0 dC dI h0 h1 dA k f)) (rc_Q (.int (rp_degree p0 k f))) 0 0 (fun _ => False) := by
  refine rc_start RX0 [.ref h0, .int p0] (by decide) rfl (Nat.le_of_ble_eq_true rfl) ?_
  intro p e s m below meth c ls C hr hlk hin hB hl
  obtain ⟨hx, hb, hml, hown, hts⟩ := id C
  obtain ⟨hP, hK⟩ := hB
  have hl : lv_has ls 7 [(0, .ref h0), (1, .int p0)] := hl
  refine lv_aload_n hx hb dX0_degree_0 rfl (lv_at hl 0 rfl) ?_
  refine lv_iload_n hx hb dX0_degree_1 rfl (lv_at hl 1 rfl) ?_
  refine rc_call (W.runV (As := [.int p0]) (rest := []) C (mt0_isF l dC dI h0 h1 dA k f hk p0) (cwX0_isFormula hts (Nat.le_of_ble_eq_true rfl) (Nat.le_of_ble_eq_true rfl)) (rc_preV rfl hP hK) rfl rfl hl.1 rfl (lv_room (Nat.le_of_ble_eq_true rfl)) dX0_degree_2 ⟨Nat.zero_le _, Nat.zero_le _⟩) ?_
  refine lv_if_ne (tgt := 10) hx hb dX0_degree_5 (by decide) (fun c5 => ?_) (fun c5 => ?_)
  · refine lv_aload_n hx hb dX0_degree_10 rfl (lv_at hl 0 rfl) ?_
    refine va_get (D := (dC, dI)) (ci := 0) (v := .ref h1) (C := RX0) (T := TX0) (N := 2) hx hb hts in_X0 hown hK hP 0 rfl rfl 1 (by decide) (hts _ q17) (fun _ h9 => h9) rfl dX0_degree_11 ?_
    refine lv_aload_n hx hb dX0_degree_14 rfl (lv_at hl 0 rfl) ?_
    refine va_get (D := (dC, dI)) (ci := 0) (v := .int (nI k)) (C := RX0) (T := TX0) (N := 2) hx hb hts in_X0 hown hK hP 0 rfl rfl 0 (by decide) (hts _ q16) (fun _ h9 => h9) rfl dX0_degree_15 ?_
    refine lv_iconst (v := 1) hx hb dX0_degree_18 (by decide) ?_
    refine lv_isub hx hb dX0_degree_19 ?_
    refine lv_iload_n hx hb dX0_degree_20 rfl (lv_at hl 1 rfl) ?_
    refine lv_isub hx hb dX0_degree_21 ?_
    refine va_lald hx hb hK hP 1 0 rfl rfl (rq_in hk c5) dX0_degree_22 ?_
    refine rc_topl (y := rp_at p0 k f) rfl ?_
    refine lv_lstore_n (lv' := [(2, .long (rp_at p0 k f)), (0, .ref h0), (1, .int p0)]) hx hb dX0_degree_23 rfl hl (by decide) rfl (fun ls hl => ?_)
    refine lv_iconst (v := 0) hx hb dX0_degree_24 (by decide) ?_
    refine lv_istore (lv' := [(4, .int 0), (2, .long (rp_at p0 k f)), (0, .ref h0), (1, .int p0)]) hx hb dX0_degree_25 hl (by decide) rfl (fun ls hl => ?_)
    refine lv_iconst (v := 0) hx hb dX0_degree_27 (by decide) ?_
    refine lv_istore (lv' := [(5, .int 0), (4, .int 0), (2, .long (rp_at p0 k f)), (0, .ref h0), (1, .int p0)]) hx hb dX0_degree_28 hl (by decide) rfl (fun ls hl => ?_)
    refine lp0_deg C ⟨(Nat.le_of_ble_eq_true rfl), (Nat.le_of_ble_eq_true rfl)⟩ ⟨Nat.zero_le _, Nat.zero_le _⟩ (rp_at p0 k f) (fun ls hl => ?_) 65 0 (Nat.zero_le _) (Nat.le_of_ble_eq_true rfl) ls (lv_sub hl [0, 1, 2] rfl)
    refine lv_iload hx hb dX0_degree_73 (lv_at hl 1 rfl) ?_
    exact rc_iret hx hb hr hlk (by rw [rp_degree, if_neg c5]) dX0_degree_75
  · refine lv_iconst (v := (-1)) hx hb dX0_degree_8 (by decide) ?_
    exact rc_iret hx hb hr hlk (by rw [rp_degree, if_pos c5]) dX0_degree_9
theorem cwX0_degree {R : Room} {s : State} {args : Array Value} (ht : ∀ w ∈ lw_all, w.before args s = true) (h1 : 2 ≤ R.frames) (h2 : 57 ≤ R.locals) : CallW R s args "RingProverLaw" RX0 52 yX0_degree cX0_degree 7 (some .int) (ws_ yX0_degree cX0_degree 7 (some .int)) ({ frames := 1, cells := 0, slots := 0, locals := 31 }) 0 0 1 := cwV 1 ht (lw_V q91 q92 q93 q6 q94) rfl rfl rfl (by decide +kernel) ⟨h1, h2⟩
set_option maxHeartbeats 4000000 in
set_option maxRecDepth 100000 in
/-- models -/
theorem mt0_models (l : Launch) (dC : Nat → ClassId) (dI : Nat → Nat → Nat) (h0 h1 : Nat) (dA : ClassId) (k : Nat) (f : Nat → Int64) (hk : k ≤ 12) (p0 : Int32) : Met l yX0_models (ws_ yX0_models cX0_models 4 (some .int)) ({ frames := 2, cells := 0, slots := 0, locals := 62 }) (va_Pc [.ref h0, .int p0] (rp_B 0 dC dI h0 h1 dA k f)) (rc_Q (.int (rp_models p0 k f))) 0 0 (fun _ => False) := by
  refine rc_start RX0 [.ref h0, .int p0] (by decide) rfl (Nat.le_of_ble_eq_true rfl) ?_
  intro p e s m below meth c ls C hr hlk hin hB hl
  obtain ⟨hx, hb, hml, hown, hts⟩ := id C
  obtain ⟨hP, hK⟩ := hB
  have hl : lv_has ls 4 [(0, .ref h0), (1, .int p0)] := hl
  refine lv_aload_n hx hb dX0_models_0 rfl (lv_at hl 0 rfl) ?_
  refine lv_iload_n hx hb dX0_models_1 rfl (lv_at hl 1 rfl) ?_
  refine rc_call (W.runV (As := [.int p0]) (rest := []) C (mt0_isF l dC dI h0 h1 dA k f hk p0) (cwX0_isFormula hts (Nat.le_of_ble_eq_true rfl) (Nat.le_of_ble_eq_true rfl)) (rc_preV rfl hP hK) rfl rfl hl.1 rfl (lv_room (Nat.le_of_ble_eq_true rfl)) dX0_models_2 ⟨Nat.zero_le _, Nat.zero_le _⟩) ?_
  refine lv_if_ne (tgt := 10) hx hb dX0_models_5 (by decide) (fun c5 => ?_) (fun c5 => ?_)
  · refine lv_aload_n hx hb dX0_models_10 rfl (lv_at hl 0 rfl) ?_
    refine va_get (D := (dC, dI)) (ci := 0) (v := .ref h1) (C := RX0) (T := TX0) (N := 2) hx hb hts in_X0 hown hK hP 0 rfl rfl 1 (by decide) (hts _ q17) (fun _ h9 => h9) rfl dX0_models_11 ?_
    refine lv_aload_n hx hb dX0_models_14 rfl (lv_at hl 0 rfl) ?_
    refine va_get (D := (dC, dI)) (ci := 0) (v := .int (nI k)) (C := RX0) (T := TX0) (N := 2) hx hb hts in_X0 hown hK hP 0 rfl rfl 0 (by decide) (hts _ q16) (fun _ h9 => h9) rfl dX0_models_15 ?_
    refine lv_iconst (v := 1) hx hb dX0_models_18 (by decide) ?_
    refine lv_isub hx hb dX0_models_19 ?_
    refine lv_iload_n hx hb dX0_models_20 rfl (lv_at hl 1 rfl) ?_
    refine lv_isub hx hb dX0_models_21 ?_
    refine va_lald hx hb hK hP 1 0 rfl rfl (rq_in hk c5) dX0_models_22 ?_
    refine rc_topl (y := rp_at p0 k f) rfl ?_
    refine rc_call (W.runS (As := [.long (rp_at p0 k f)]) (rest := []) C (mt0_val l (rp_at p0 k f)) (cwX0_valuesOf hts (Nat.le_of_ble_eq_true rfl) (Nat.le_of_ble_eq_true rfl)) rc_preS rfl rfl hl.1 rfl (lv_room (Nat.le_of_ble_eq_true rfl)) dX0_models_23 ⟨Nat.zero_le _, Nat.zero_le _⟩) ?_
    refine lv_lstore_n (lv' := [(2, .long (rp_val (rp_at p0 k f) 6)), (0, .ref h0), (1, .int p0)]) hx hb dX0_models_26 rfl hl (by decide) rfl (fun ls hl => ?_)
    refine lv_lload_n hx hb dX0_models_27 rfl (lv_at hl 0 rfl) ?_
    refine rc_call (W.runS (As := [.long (rp_val (rp_at p0 k f) 6)]) (rest := []) C (mt0_ones l (rp_val (rp_at p0 k f) 6)) (cwX0_ones hts (Nat.le_of_ble_eq_true rfl) (Nat.le_of_ble_eq_true rfl)) rc_preS rfl rfl hl.1 rfl (lv_room (Nat.le_of_ble_eq_true rfl)) dX0_models_28 ⟨Nat.zero_le _, Nat.zero_le _⟩) ?_
    exact rc_iret hx hb hr hlk (by rw [rp_models, if_neg c5]) dX0_models_31
  · refine lv_iconst (v := (-1)) hx hb dX0_models_8 (by decide) ?_
    exact rc_iret hx hb hr hlk (by rw [rp_models, if_pos c5]) dX0_models_9
theorem cwX0_models {R : Room} {s : State} {args : Array Value} (ht : ∀ w ∈ lw_all, w.before args s = true) (h1 : 3 ≤ R.frames) (h2 : 85 ≤ R.locals) : CallW R s args "RingProverLaw" RX0 56 yX0_models cX0_models 4 (some .int) (ws_ yX0_models cX0_models 4 (some .int)) ({ frames := 2, cells := 0, slots := 0, locals := 62 }) 0 0 1 := cwV 1 ht (lw_V q95 q96 q97 q6 q98) rfl rfl rfl (by decide +kernel) ⟨h1, h2⟩
set_option maxHeartbeats 4000000 in
set_option maxRecDepth 100000 in
/-- differ -/
theorem mt0_differ (l : Launch) (dC : Nat → ClassId) (dI : Nat → Nat → Nat) (h0 h1 : Nat) (dA : ClassId) (k : Nat) (f : Nat → Int64) (hk : k ≤ 12) (p0 : Int32) (q0 : Int32) : Met l yX0_differ (ws_ yX0_differ cX0_differ 7 (some .int)) ({ frames := 2, cells := 0, slots := 0, locals := 62 }) (va_Pc [.ref h0, .int p0, .int q0] (rp_B 0 dC dI h0 h1 dA k f)) (rc_Q (.int (rp_differ p0 q0 k f))) 0 0 (fun _ => False) := by
  refine rc_start RX0 [.ref h0, .int p0, .int q0] (by decide) rfl (Nat.le_of_ble_eq_true rfl) ?_
  intro p e s m below meth c ls C hr hlk hin hB hl
  obtain ⟨hx, hb, hml, hown, hts⟩ := id C
  obtain ⟨hP, hK⟩ := hB
  have hl : lv_has ls 7 [(0, .ref h0), (1, .int p0), (2, .int q0)] := hl
  refine lv_aload_n hx hb dX0_differ_0 rfl (lv_at hl 0 rfl) ?_
  refine lv_iload_n hx hb dX0_differ_1 rfl (lv_at hl 1 rfl) ?_
  refine rc_call (W.runV (As := [.int p0]) (rest := []) C (mt0_isF l dC dI h0 h1 dA k f hk p0) (cwX0_isFormula hts (Nat.le_of_ble_eq_true rfl) (Nat.le_of_ble_eq_true rfl)) (rc_preV rfl hP hK) rfl rfl hl.1 rfl (lv_room (Nat.le_of_ble_eq_true rfl)) dX0_differ_2 ⟨Nat.zero_le _, Nat.zero_le _⟩) ?_
  refine lv_if_eq (tgt := 16) hx hb dX0_differ_5 (by decide) (fun c5 => ?_) (fun c5 => ?_)
  · refine lv_iconst (v := (-1)) hx hb dX0_differ_16 (by decide) ?_
    exact rc_iret hx hb hr hlk (by rw [rp_differ, if_pos c5]) dX0_differ_17
  · refine lv_aload_n hx hb dX0_differ_8 rfl (lv_at hl 0 rfl) ?_
    refine lv_iload_n hx hb dX0_differ_9 rfl (lv_at hl 2 rfl) ?_
    refine rc_call (W.runV (As := [.int q0]) (rest := []) C (mt0_isF l dC dI h0 h1 dA k f hk q0) (cwX0_isFormula hts (Nat.le_of_ble_eq_true rfl) (Nat.le_of_ble_eq_true rfl)) (rc_preV rfl hP hK) rfl rfl hl.1 rfl (lv_room (Nat.le_of_ble_eq_true rfl)) dX0_differ_10 ⟨Nat.zero_le _, Nat.zero_le _⟩) ?_
    refine lv_if_ne (tgt := 18) hx hb dX0_differ_13 (by decide) (fun c13 => ?_) (fun c13 => ?_)
    · refine lv_aload_n hx hb dX0_differ_18 rfl (lv_at hl 0 rfl) ?_
      refine va_get (D := (dC, dI)) (ci := 0) (v := .ref h1) (C := RX0) (T := TX0) (N := 2) hx hb hts in_X0 hown hK hP 0 rfl rfl 1 (by decide) (hts _ q17) (fun _ h9 => h9) rfl dX0_differ_19 ?_
      refine lv_aload_n hx hb dX0_differ_22 rfl (lv_at hl 0 rfl) ?_
      refine va_get (D := (dC, dI)) (ci := 0) (v := .int (nI k)) (C := RX0) (T := TX0) (N := 2) hx hb hts in_X0 hown hK hP 0 rfl rfl 0 (by decide) (hts _ q16) (fun _ h9 => h9) rfl dX0_differ_23 ?_
      refine lv_iconst (v := 1) hx hb dX0_differ_26 (by decide) ?_
      refine lv_isub hx hb dX0_differ_27 ?_
      refine lv_iload_n hx hb dX0_differ_28 rfl (lv_at hl 1 rfl) ?_
      refine lv_isub hx hb dX0_differ_29 ?_
      refine va_lald hx hb hK hP 1 0 rfl rfl (rq_in hk c5) dX0_differ_30 ?_
      refine rc_topl (y := rp_at p0 k f) rfl ?_
      refine lv_aload_n hx hb dX0_differ_31 rfl (lv_at hl 0 rfl) ?_
      refine va_get (D := (dC, dI)) (ci := 0) (v := .ref h1) (C := RX0) (T := TX0) (N := 2) hx hb hts in_X0 hown hK hP 0 rfl rfl 1 (by decide) (hts _ q17) (fun _ h9 => h9) rfl dX0_differ_32 ?_
      refine lv_aload_n hx hb dX0_differ_35 rfl (lv_at hl 0 rfl) ?_
      refine va_get (D := (dC, dI)) (ci := 0) (v := .int (nI k)) (C := RX0) (T := TX0) (N := 2) hx hb hts in_X0 hown hK hP 0 rfl rfl 0 (by decide) (hts _ q16) (fun _ h9 => h9) rfl dX0_differ_36 ?_
      refine lv_iconst (v := 1) hx hb dX0_differ_39 (by decide) ?_
      refine lv_isub hx hb dX0_differ_40 ?_
      refine lv_iload_n hx hb dX0_differ_41 rfl (lv_at hl 2 rfl) ?_
      refine lv_isub hx hb dX0_differ_42 ?_
      refine va_lald hx hb hK hP 1 0 rfl rfl (rq_in hk c13) dX0_differ_43 ?_
      refine rc_topl (y := rp_at q0 k f) rfl ?_
      refine lv_lxor hx hb dX0_differ_44 ?_
      refine lv_lstore_n (lv' := [(3, .long ((rp_at p0 k f) ^^^ (rp_at q0 k f))), (0, .ref h0), (1, .int p0), (2, .int q0)]) hx hb dX0_differ_45 rfl hl (by decide) rfl (fun ls hl => ?_)
      refine lv_lload_n hx hb dX0_differ_46 rfl (lv_at hl 0 rfl) ?_
      refine lv_lconst (v := 0) hx hb dX0_differ_47 (by decide) ?_
      refine W.lcmp hx hb dX0_differ_48 ?_
      refine lv_if_ne (tgt := 55) hx hb dX0_differ_49 (by decide) (fun c49 => ?_) (fun c49 => ?_)
      · refine lv_lload_n hx hb dX0_differ_55 rfl (lv_at hl 0 rfl) ?_
        refine rc_call (W.runS (As := [.long ((rp_at p0 k f) ^^^ (rp_at q0 k f))]) (rest := []) C (mt0_val l ((rp_at p0 k f) ^^^ (rp_at q0 k f))) (cwX0_valuesOf hts (Nat.le_of_ble_eq_true rfl) (Nat.le_of_ble_eq_true rfl)) rc_preS rfl rfl hl.1 rfl (lv_room (Nat.le_of_ble_eq_true rfl)) dX0_differ_56 ⟨Nat.zero_le _, Nat.zero_le _⟩) ?_
        refine lv_lstore (lv' := [(5, .long (rp_val ((rp_at p0 k f) ^^^ (rp_at q0 k f)) 6)), (3, .long ((rp_at p0 k f) ^^^ (rp_at q0 k f))), (0, .ref h0), (1, .int p0), (2, .int q0)]) hx hb dX0_differ_59 hl (by decide) rfl (fun ls hl => ?_)
        refine lv_lload hx hb dX0_differ_61 (lv_at hl 0 rfl) ?_
        refine lv_lload hx hb dX0_differ_63 (lv_at hl 0 rfl) ?_
        refine lv_lneg hx hb dX0_differ_65 ?_
        refine lv_land hx hb dX0_differ_66 ?_
        refine lv_lconst (v := 1) hx hb dX0_differ_67 (by decide) ?_
        refine lv_lsub hx hb dX0_differ_68 ?_
        refine rc_call (W.runS (As := [.long (((rp_val ((rp_at p0 k f) ^^^ (rp_at q0 k f)) 6) &&& (-(rp_val ((rp_at p0 k f) ^^^ (rp_at q0 k f)) 6))) - 1)]) (rest := []) C (mt0_ones l (((rp_val ((rp_at p0 k f) ^^^ (rp_at q0 k f)) 6) &&& (-(rp_val ((rp_at p0 k f) ^^^ (rp_at q0 k f)) 6))) - 1)) (cwX0_ones hts (Nat.le_of_ble_eq_true rfl) (Nat.le_of_ble_eq_true rfl)) rc_preS rfl rfl hl.1 rfl (lv_room (Nat.le_of_ble_eq_true rfl)) dX0_differ_69 ⟨Nat.zero_le _, Nat.zero_le _⟩) ?_
        exact rc_iret hx hb hr hlk (by rw [rp_differ, if_neg c5, if_neg c13, rp_dif, if_neg c49]) dX0_differ_72
      · refine lv_bipush (v := 64) hx hb dX0_differ_52 (by decide) ?_
        exact rc_iret hx hb hr hlk (by rw [rp_differ, if_neg c5, if_neg c13, rp_dif, if_pos c49]) dX0_differ_54
    · refine lv_iconst (v := (-1)) hx hb dX0_differ_16 (by decide) ?_
      exact rc_iret hx hb hr hlk (by rw [rp_differ, if_neg c5, if_pos c13]) dX0_differ_17
theorem cwX0_differ {R : Room} {s : State} {args : Array Value} (ht : ∀ w ∈ lw_all, w.before args s = true) (h1 : 3 ≤ R.frames) (h2 : 88 ≤ R.locals) : CallW R s args "RingProverLaw" RX0 60 yX0_differ cX0_differ 7 (some .int) (ws_ yX0_differ cX0_differ 7 (some .int)) ({ frames := 2, cells := 0, slots := 0, locals := 62 }) 0 0 2 := cwV 2 ht (lw_V q102 q103 q104 q6 q105) rfl rfl rfl (by decide +kernel) ⟨h1, h2⟩
end
section
/-! WALK, RingProverModel: its static methods (written by gen.py) -/
set_option maxHeartbeats 4000000 in
set_option maxRecDepth 100000 in
/-- bit -/
theorem mt1_bit (l : Launch) (x : Int64) (a : Int32) : Met l yX1_bit (ws_ yX1_bit cX1_bit 3 (some .int)) ({ frames := 0, cells := 0, slots := 0, locals := 0 }) (va_Pc [.long x, .int a] (fun _ => True)) (rc_Q (.int (rr_bit x a))) 0 0 (fun _ => False) := by
  refine rc_start RX1 [.long x, .int a] (by decide) rfl (Nat.le_of_ble_eq_true rfl) ?_
  intro p e s m below meth c ls C hr hlk hin hB hl
  obtain ⟨hx, hb, hml, hown, hts⟩ := id C
  have hl : lv_has ls 3 [(0, .long x), (2, .int a)] := hl
  refine lv_lload_n hx hb dX1_bit_0 rfl (lv_at hl 0 rfl) ?_
  refine lv_iload_n hx hb dX1_bit_1 rfl (lv_at hl 1 rfl) ?_
  refine lv_lshr (v := rp_shr x a) hx hb dX1_bit_2 rfl ?_
  refine lv_l2i (v := (rp_shr x a).toInt32) hx hb dX1_bit_3 rfl ?_
  refine lv_iconst (v := 1) hx hb dX1_bit_4 (by decide) ?_
  refine lv_iand hx hb dX1_bit_5 ?_
  exact rc_iret hx hb hr hlk rfl dX1_bit_6
theorem cwX1_bit {R : Room} {s : State} {args : Array Value} (ht : ∀ w ∈ lw_all, w.before args s = true) (h1 : 1 ≤ R.frames) (h2 : 22 ≤ R.locals) : CallB R s args RX1 23 yX1_bit cX1_bit 3 (some .int) (ws_ yX1_bit cX1_bit 3 (some .int)) ({ frames := 0, cells := 0, slots := 0, locals := 0 }) 0 0 2 ∧ (Cond.static yX1_bit).before args s = true := va_cwS 2 ht (lw_S q136 q137 q7 q138) rfl rfl rfl (by decide +kernel) ⟨h1, h2⟩
set_option maxHeartbeats 4000000 in
set_option maxRecDepth 100000 in
/-- joined -/
theorem mt1_joined (l : Launch) (q : Int32) (x : Int32) (y : Int32) : Met l yX1_joined (ws_ yX1_joined cX1_joined 3 (some .boolean)) ({ frames := 0, cells := 0, slots := 0, locals := 0 }) (va_Pc [.int q, .int x, .int y] (fun _ => True)) (rc_Q (.int (rr_joined q x y))) 0 0 (fun _ => False) := by
  refine rc_start RX1 [.int q, .int x, .int y] (by decide) rfl (Nat.le_of_ble_eq_true rfl) ?_
  intro p e s m below meth c ls C hr hlk hin hB hl
  obtain ⟨hx, hb, hml, hown, hts⟩ := id C
  have hl : lv_has ls 3 [(0, .int q), (1, .int x), (2, .int y)] := hl
  refine lv_iload_n hx hb dX1_joined_0 rfl (lv_at hl 0 rfl) ?_
  refine lv_if_ne (tgt := 18) hx hb dX1_joined_1 (by decide) (fun c1 => ?_) (fun c1 => ?_)
  · refine lv_iload_n hx hb dX1_joined_18 rfl (lv_at hl 0 rfl) ?_
    refine lv_iconst (v := 1) hx hb dX1_joined_19 (by decide) ?_
    refine lv_icmp_ne (tgt := 37) hx hb dX1_joined_20 (by decide) (fun c20 => ?_) (fun c20 => ?_)
    · refine lv_iload_n hx hb dX1_joined_37 rfl (lv_at hl 0 rfl) ?_
      refine lv_iconst (v := 2) hx hb dX1_joined_38 (by decide) ?_
      refine lv_icmp_ne (tgt := 53) hx hb dX1_joined_39 (by decide) (fun c39 => ?_) (fun c39 => ?_)
      · refine lv_iload_n hx hb dX1_joined_53 rfl (lv_at hl 0 rfl) ?_
        refine lv_iconst (v := 3) hx hb dX1_joined_54 (by decide) ?_
        refine lv_icmp_ne (tgt := 69) hx hb dX1_joined_55 (by decide) (fun c55 => ?_) (fun c55 => ?_)
        · refine lv_iload_n hx hb dX1_joined_69 rfl (lv_at hl 0 rfl) ?_
          refine lv_iconst (v := 4) hx hb dX1_joined_70 (by decide) ?_
          refine lv_icmp_ne (tgt := 88) hx hb dX1_joined_71 (by decide) (fun c71 => ?_) (fun c71 => ?_)
          · refine lv_iload_n hx hb dX1_joined_88 rfl (lv_at hl 1 rfl) ?_
            refine lv_if_eq (tgt := 96) hx hb dX1_joined_89 (by decide) (fun c89 => ?_) (fun c89 => ?_)
            · refine lv_iconst (v := 1) hx hb dX1_joined_96 (by decide) ?_
              refine lv_goto (tgt := 101) hx hb dX1_joined_97 (by decide) ?_
              exact rc_zret hx hb hr hlk (by decide) (by rw [rr_joined, if_neg c1, if_neg c20, if_neg c39, if_neg c55, if_neg c71, if_pos c89]) dX1_joined_101
            · refine lv_iload_n hx hb dX1_joined_92 rfl (lv_at hl 2 rfl) ?_
              refine lv_if_ne (tgt := 100) hx hb dX1_joined_93 (by decide) (fun c93 => ?_) (fun c93 => ?_)
              · refine lv_iconst (v := 0) hx hb dX1_joined_100 (by decide) ?_
                exact rc_zret hx hb hr hlk (by decide) (by rw [rr_joined, if_neg c1, if_neg c20, if_neg c39, if_neg c55, if_neg c71, if_neg c89, if_neg c93]) dX1_joined_101
              · refine lv_iconst (v := 1) hx hb dX1_joined_96 (by decide) ?_
                refine lv_goto (tgt := 101) hx hb dX1_joined_97 (by decide) ?_
                exact rc_zret hx hb hr hlk (by decide) (by rw [rr_joined, if_neg c1, if_neg c20, if_neg c39, if_neg c55, if_neg c71, if_neg c89, if_pos c93]) dX1_joined_101
          · refine lv_iload_n hx hb dX1_joined_74 rfl (lv_at hl 1 rfl) ?_
            refine lv_if_eq (tgt := 82) hx hb dX1_joined_75 (by decide) (fun c75 => ?_) (fun c75 => ?_)
            · refine lv_iconst (v := 1) hx hb dX1_joined_82 (by decide) ?_
              refine lv_goto (tgt := 87) hx hb dX1_joined_83 (by decide) ?_
              exact rc_zret hx hb hr hlk (by decide) (by rw [rr_joined, if_neg c1, if_neg c20, if_neg c39, if_neg c55, if_pos c71, if_pos c75]) dX1_joined_87
            · refine lv_iload_n hx hb dX1_joined_78 rfl (lv_at hl 2 rfl) ?_
              refine lv_if_eq (tgt := 86) hx hb dX1_joined_79 (by decide) (fun c79 => ?_) (fun c79 => ?_)
              · refine lv_iconst (v := 0) hx hb dX1_joined_86 (by decide) ?_
                exact rc_zret hx hb hr hlk (by decide) (by rw [rr_joined, if_neg c1, if_neg c20, if_neg c39, if_neg c55, if_pos c71, if_neg c75, if_pos c79]) dX1_joined_87
              · refine lv_iconst (v := 1) hx hb dX1_joined_82 (by decide) ?_
                refine lv_goto (tgt := 87) hx hb dX1_joined_83 (by decide) ?_
                exact rc_zret hx hb hr hlk (by decide) (by rw [rr_joined, if_neg c1, if_neg c20, if_neg c39, if_neg c55, if_pos c71, if_neg c75, if_neg c79]) dX1_joined_87
        · refine lv_iload_n hx hb dX1_joined_58 rfl (lv_at hl 1 rfl) ?_
          refine lv_iload_n hx hb dX1_joined_59 rfl (lv_at hl 2 rfl) ?_
          refine lv_icmp_ne (tgt := 67) hx hb dX1_joined_60 (by decide) (fun c60 => ?_) (fun c60 => ?_)
          · refine lv_iconst (v := 0) hx hb dX1_joined_67 (by decide) ?_
            exact rc_zret hx hb hr hlk (by decide) (by rw [rr_joined, if_neg c1, if_neg c20, if_neg c39, if_pos c55, if_neg c60]) dX1_joined_68
          · refine lv_iconst (v := 1) hx hb dX1_joined_63 (by decide) ?_
            refine lv_goto (tgt := 68) hx hb dX1_joined_64 (by decide) ?_
            exact rc_zret hx hb hr hlk (by decide) (by rw [rr_joined, if_neg c1, if_neg c20, if_neg c39, if_pos c55, if_pos c60]) dX1_joined_68
      · refine lv_iload_n hx hb dX1_joined_42 rfl (lv_at hl 1 rfl) ?_
        refine lv_iload_n hx hb dX1_joined_43 rfl (lv_at hl 2 rfl) ?_
        refine lv_icmp_eq (tgt := 51) hx hb dX1_joined_44 (by decide) (fun c44 => ?_) (fun c44 => ?_)
        · refine lv_iconst (v := 0) hx hb dX1_joined_51 (by decide) ?_
          exact rc_zret hx hb hr hlk (by decide) (by rw [rr_joined, if_neg c1, if_neg c20, if_pos c39, if_pos c44]) dX1_joined_52
        · refine lv_iconst (v := 1) hx hb dX1_joined_47 (by decide) ?_
          refine lv_goto (tgt := 52) hx hb dX1_joined_48 (by decide) ?_
          exact rc_zret hx hb hr hlk (by decide) (by rw [rr_joined, if_neg c1, if_neg c20, if_pos c39, if_neg c44]) dX1_joined_52
    · refine lv_iload_n hx hb dX1_joined_23 rfl (lv_at hl 1 rfl) ?_
      refine lv_if_ne (tgt := 31) hx hb dX1_joined_24 (by decide) (fun c24 => ?_) (fun c24 => ?_)
      · refine lv_iconst (v := 1) hx hb dX1_joined_31 (by decide) ?_
        refine lv_goto (tgt := 36) hx hb dX1_joined_32 (by decide) ?_
        exact rc_zret hx hb hr hlk (by decide) (by rw [rr_joined, if_neg c1, if_pos c20, if_neg c24]) dX1_joined_36
      · refine lv_iload_n hx hb dX1_joined_27 rfl (lv_at hl 2 rfl) ?_
        refine lv_if_eq (tgt := 35) hx hb dX1_joined_28 (by decide) (fun c28 => ?_) (fun c28 => ?_)
        · refine lv_iconst (v := 0) hx hb dX1_joined_35 (by decide) ?_
          exact rc_zret hx hb hr hlk (by decide) (by rw [rr_joined, if_neg c1, if_pos c20, if_pos c24, if_pos c28]) dX1_joined_36
        · refine lv_iconst (v := 1) hx hb dX1_joined_31 (by decide) ?_
          refine lv_goto (tgt := 36) hx hb dX1_joined_32 (by decide) ?_
          exact rc_zret hx hb hr hlk (by decide) (by rw [rr_joined, if_neg c1, if_pos c20, if_pos c24, if_neg c28]) dX1_joined_36
  · refine lv_iload_n hx hb dX1_joined_4 rfl (lv_at hl 1 rfl) ?_
    refine lv_if_eq (tgt := 16) hx hb dX1_joined_5 (by decide) (fun c5 => ?_) (fun c5 => ?_)
    · refine lv_iconst (v := 0) hx hb dX1_joined_16 (by decide) ?_
      exact rc_zret hx hb hr hlk (by decide) (by rw [rr_joined, if_pos c1, if_pos c5]) dX1_joined_17
    · refine lv_iload_n hx hb dX1_joined_8 rfl (lv_at hl 2 rfl) ?_
      refine lv_if_eq (tgt := 16) hx hb dX1_joined_9 (by decide) (fun c9 => ?_) (fun c9 => ?_)
      · refine lv_iconst (v := 0) hx hb dX1_joined_16 (by decide) ?_
        exact rc_zret hx hb hr hlk (by decide) (by rw [rr_joined, if_pos c1, if_neg c5, if_pos c9]) dX1_joined_17
      · refine lv_iconst (v := 1) hx hb dX1_joined_12 (by decide) ?_
        refine lv_goto (tgt := 17) hx hb dX1_joined_13 (by decide) ?_
        exact rc_zret hx hb hr hlk (by decide) (by rw [rr_joined, if_pos c1, if_neg c5, if_neg c9]) dX1_joined_17
theorem cwX1_joined {R : Room} {s : State} {args : Array Value} (ht : ∀ w ∈ lw_all, w.before args s = true) (h1 : 1 ≤ R.frames) (h2 : 22 ≤ R.locals) : CallB R s args RX1 27 yX1_joined cX1_joined 3 (some .boolean) (ws_ yX1_joined cX1_joined 3 (some .boolean)) ({ frames := 0, cells := 0, slots := 0, locals := 0 }) 0 0 3 ∧ (Cond.static yX1_joined).before args s = true := va_cwS 3 ht (lw_S q139 q140 q7 q141) rfl rfl rfl (by decide +kernel) ⟨h1, h2⟩
set_option maxHeartbeats 4000000 in
set_option maxRecDepth 100000 in
/-- holds -/
theorem mt1_holds (l : Launch) (q : Int32) (a : Int32) : Met l yX1_holds (ws_ yX1_holds cX1_holds 2 (some .boolean)) ({ frames := 0, cells := 0, slots := 0, locals := 0 }) (va_Pc [.int q, .int a] (fun _ => True)) (rc_Q (.int (rr_holds q a))) 0 0 (fun _ => False) := by
  refine rc_start RX1 [.int q, .int a] (by decide) rfl (Nat.le_of_ble_eq_true rfl) ?_
  intro p e s m below meth c ls C hr hlk hin hB hl
  obtain ⟨hx, hb, hml, hown, hts⟩ := id C
  have hl : lv_has ls 2 [(0, .int q), (1, .int a)] := hl
  refine lv_iload_n hx hb dX1_holds_0 rfl (lv_at hl 1 rfl) ?_
  refine lv_iload_n hx hb dX1_holds_1 rfl (lv_at hl 0 rfl) ?_
  refine lv_iand hx hb dX1_holds_2 ?_
  refine lv_iload_n hx hb dX1_holds_3 rfl (lv_at hl 0 rfl) ?_
  refine lv_icmp_ne (tgt := 11) hx hb dX1_holds_4 (by decide) (fun c4 => ?_) (fun c4 => ?_)
  · refine lv_iconst (v := 0) hx hb dX1_holds_11 (by decide) ?_
    exact rc_zret hx hb hr hlk (by decide) (by rw [rr_holds, if_neg c4]) dX1_holds_12
  · refine lv_iconst (v := 1) hx hb dX1_holds_7 (by decide) ?_
    refine lv_goto (tgt := 12) hx hb dX1_holds_8 (by decide) ?_
    exact rc_zret hx hb hr hlk (by decide) (by rw [rr_holds, if_pos c4]) dX1_holds_12
theorem cwX1_holds {R : Room} {s : State} {args : Array Value} (ht : ∀ w ∈ lw_all, w.before args s = true) (h1 : 1 ≤ R.frames) (h2 : 21 ≤ R.locals) : CallB R s args RX1 35 yX1_holds cX1_holds 2 (some .boolean) (ws_ yX1_holds cX1_holds 2 (some .boolean)) ({ frames := 0, cells := 0, slots := 0, locals := 0 }) 0 0 2 ∧ (Cond.static yX1_holds).before args s = true := va_cwS 2 ht (lw_S q173 q174 q7 q175) rfl rfl rfl (by decide +kernel) ⟨h1, h2⟩
section
variable {p : Program} {l : Launch} {e : Env} {R : Room} {s : State} {m : MethodId} {args : Array Value} {below : List Frame} {meth : Method} {c : Code} {H : Heap} {locs : List Loc} {cells slots : Nat} {Q : State → Prop}
set_option maxHeartbeats 4000000 in
set_option maxRecDepth 100000 in
/-- ones' loop -/
theorem lp1_one (C : CallFix p m c cX1_ones 4 s args lw_all RX1) (hR : 1 ≤ R.frames ∧ 31 ≤ R.locals) (hf : cells ≤ R.cells ∧ slots ≤ R.slots) (x : Int64)
    (kx : ∀ ls : Array Slot, lv_has ls 4 [(3, .int (nI 64)), (2, .int (rr_one x 64)), (0, .long x)] → W p l e R s m args below meth c H locs cells slots Q (F0 m 24 ls [])) :
    ∀ (n i : Nat), i ≤ 64 → 65 ≤ i + n → ∀ ls : Array Slot, lv_has ls 4 [(3, .int (nI i)), (2, .int (rr_one x i)), (0, .long x)] → W p l e R s m args below meth c H locs cells slots Q (F0 m 4 ls []) := by
  obtain ⟨hx, hb, hml, hown, hts⟩ := id C
  intro n
  induction n with
  | zero =>
    intro i a1 a2
    exact absurd a2 (by omega)
  | succ n ih =>
    intro i a1 a2 ls hl
    refine lv_iload_n hx hb dX1_ones_4 rfl (lv_at hl 0 rfl) ?_
    refine lv_bipush (v := nI 64) hx hb dX1_ones_5 (by decide) ?_
    refine lv_icmp_ge (tgt := 24) hx hb dX1_ones_7 (by decide) (fun c7 => ?_) (fun c7 => ?_)
    · have hi : i = 64 := rc_eq a1 (by decide) c7
      subst hi
      exact kx ls (lv_sub hl [0, 1, 2] rfl)
    · have hi : i < 64 := rc_lt (by omega) c7
      refine lv_iload_n hx hb dX1_ones_10 rfl (lv_at hl 1 rfl) ?_
      refine lv_lload_n hx hb dX1_ones_11 rfl (lv_at hl 2 rfl) ?_
      refine lv_iload_n hx hb dX1_ones_12 rfl (lv_at hl 0 rfl) ?_
      refine rc_call (W.runS (As := [.long x, .int (nI i)]) (rest := [.int (rr_one x i)]) C (mt1_bit l x (nI i)) (cwX1_bit hts (Nat.le_trans (Nat.le_of_ble_eq_true rfl) hR.1) (Nat.le_trans (Nat.le_of_ble_eq_true rfl) hR.2)) rc_preS rfl rfl hl.1 rfl (lv_room (Nat.le_of_ble_eq_true rfl)) dX1_ones_13 hf) ?_
      refine lv_iadd hx hb dX1_ones_16 ?_
      refine rc_topi (y := rr_one x (i + 1)) rfl ?_
      refine lv_istore_n (lv' := [(2, .int (rr_one x (i + 1))), (3, .int (nI i)), (0, .long x)]) hx hb dX1_ones_17 rfl hl (by decide) rfl (fun ls hl => ?_)
      refine lv_iinc (v := nI (i + 1)) (lv' := [(3, .int (nI (i + 1))), (2, .int (rr_one x (i + 1))), (0, .long x)]) hx hb dX1_ones_18 hl (k := 1) rfl (nI_1 i) (by decide) rfl (fun ls hl => ?_)
      refine lv_goto (tgt := 4) hx hb dX1_ones_21 (by decide) ?_
      exact ih (i + 1) (by omega) (by omega) ls (lv_sub hl [0, 1, 2] rfl)
end
set_option maxHeartbeats 4000000 in
set_option maxRecDepth 100000 in
/-- ones -/
theorem mt1_one (l : Launch) (x : Int64) : Met l yX1_ones (ws_ yX1_ones cX1_ones 4 (some .int)) ({ frames := 1, cells := 0, slots := 0, locals := 31 }) (va_Pc [.long x] (fun _ => True)) (rc_Q (.int (rr_one x 64))) 0 0 (fun _ => False) := by
  refine rc_start RX1 [.long x] (by decide) rfl (Nat.le_of_ble_eq_true rfl) ?_
  intro p e s m below meth c ls C hr hlk hin hB hl
  obtain ⟨hx, hb, hml, hown, hts⟩ := id C
  have hl : lv_has ls 4 [(0, .long x)] := hl
  refine lv_iconst (v := 0) hx hb dX1_ones_0 (by decide) ?_
  refine lv_istore_n (lv' := [(2, .int 0), (0, .long x)]) hx hb dX1_ones_1 rfl hl (by decide) rfl (fun ls hl => ?_)
  refine lv_iconst (v := 0) hx hb dX1_ones_2 (by decide) ?_
  refine lv_istore_n (lv' := [(3, .int 0), (2, .int 0), (0, .long x)]) hx hb dX1_ones_3 rfl hl (by decide) rfl (fun ls hl => ?_)
  refine lp1_one C ⟨(Nat.le_of_ble_eq_true rfl), (Nat.le_of_ble_eq_true rfl)⟩ ⟨Nat.zero_le _, Nat.zero_le _⟩ x (fun ls hl => ?_) 65 0 (Nat.zero_le _) (Nat.le_of_ble_eq_true rfl) ls (lv_sub hl [0, 1, 2] rfl)
  refine lv_iload_n hx hb dX1_ones_24 rfl (lv_at hl 1 rfl) ?_
  exact rc_iret hx hb hr hlk rfl dX1_ones_25
theorem cwX1_ones {R : Room} {s : State} {args : Array Value} (ht : ∀ w ∈ lw_all, w.before args s = true) (h1 : 2 ≤ R.frames) (h2 : 54 ≤ R.locals) : CallB R s args RX1 47 yX1_ones cX1_ones 4 (some .int) (ws_ yX1_ones cX1_ones 4 (some .int)) ({ frames := 1, cells := 0, slots := 0, locals := 31 }) 0 0 1 ∧ (Cond.static yX1_ones).before args s = true := va_cwS 1 ht (lw_S q176 q177 q7 q178) rfl rfl rfl (by decide +kernel) ⟨h1, h2⟩
section
variable {p : Program} {l : Launch} {e : Env} {R : Room} {s : State} {m : MethodId} {args : Array Value} {below : List Frame} {meth : Method} {c : Code} {H : Heap} {locs : List Loc} {cells slots : Nat} {Q : State → Prop}
set_option maxHeartbeats 4000000 in
set_option maxRecDepth 100000 in
/-- productsOf's inner loop -/
theorem lp1_inn (C : CallFix p m c cX1_productsOf 8 s args lw_all RX1) (hR : 1 ≤ R.frames ∧ 31 ≤ R.locals) (hf : cells ≤ R.cells ∧ slots ≤ R.slots) (q : Int32) (r fo : Int64)
    (kx : ∀ ls : Array Slot, lv_has ls 8 [(7, .int (nI 64)), (2, .long (rr_inn q r 64)), (4, .long fo), (6, .int q)] → W p l e R s m args below meth c H locs cells slots Q (F0 m 67 ls [])) :
    ∀ (n i : Nat), i ≤ 64 → 65 ≤ i + n → ∀ ls : Array Slot, lv_has ls 8 [(7, .int (nI i)), (2, .long (rr_inn q r i)), (4, .long fo), (6, .int q)] → W p l e R s m args below meth c H locs cells slots Q (F0 m 37 ls []) := by
  obtain ⟨hx, hb, hml, hown, hts⟩ := id C
  intro n
  induction n with
  | zero =>
    intro i a1 a2
    exact absurd a2 (by omega)
  | succ n ih =>
    intro i a1 a2 ls hl
    refine lv_iload hx hb dX1_productsOf_37 (lv_at hl 0 rfl) ?_
    refine lv_bipush (v := nI 64) hx hb dX1_productsOf_39 (by decide) ?_
    refine lv_icmp_ge (tgt := 67) hx hb dX1_productsOf_41 (by decide) (fun c41 => ?_) (fun c41 => ?_)
    · have hi : i = 64 := rc_eq a1 (by decide) c41
      subst hi
      exact kx ls (lv_sub hl [0, 1, 2, 3] rfl)
    · have hi : i < 64 := rc_lt (by omega) c41
      refine lv_iload hx hb dX1_productsOf_44 (lv_at hl 3 rfl) ?_
      refine lv_iload hx hb dX1_productsOf_46 (lv_at hl 0 rfl) ?_
      refine rc_call (W.runS (As := [.int q, .int (nI i)]) (rest := []) C (mt1_holds l q (nI i)) (cwX1_holds hts (Nat.le_trans (Nat.le_of_ble_eq_true rfl) hR.1) (Nat.le_trans (Nat.le_of_ble_eq_true rfl) hR.2)) rc_preS rfl rfl hl.1 rfl (lv_room (Nat.le_of_ble_eq_true rfl)) dX1_productsOf_48 hf) ?_
      refine lv_if_eq (tgt := 61) hx hb dX1_productsOf_51 (by decide) (fun c51 => ?_) (fun c51 => ?_)
      · refine lv_iinc (v := nI (i + 1)) (lv' := [(7, .int (nI (i + 1))), (2, .long (rr_inn q r i)), (4, .long fo), (6, .int q)]) hx hb dX1_productsOf_61 hl (k := 0) rfl (nI_1 i) (by decide) rfl (fun ls hl => ?_)
        refine lv_goto (tgt := 37) hx hb dX1_productsOf_64 (by decide) ?_
        exact ih (i + 1) (by omega) (by omega) ls (by rw [show rr_inn q r (i + 1) = rr_inn q r i from by rw [rr_inn, if_pos c51]]; exact (lv_sub hl [0, 1, 2, 3] rfl))
      · refine lv_lload_n hx hb dX1_productsOf_54 rfl (lv_at hl 1 rfl) ?_
        refine lv_lconst (v := 1) hx hb dX1_productsOf_55 (by decide) ?_
        refine lv_iload hx hb dX1_productsOf_56 (lv_at hl 0 rfl) ?_
        refine lv_lshl (v := rp_shl 1 (nI i)) hx hb dX1_productsOf_58 rfl ?_
        refine lv_lxor hx hb dX1_productsOf_59 ?_
        refine rc_topl (y := rr_inn q r (i + 1)) (by rw [rr_inn, if_neg c51]) ?_
        refine lv_lstore_n (lv' := [(2, .long (rr_inn q r (i + 1))), (7, .int (nI i)), (4, .long fo), (6, .int q)]) hx hb dX1_productsOf_60 rfl hl (by decide) rfl (fun ls hl => ?_)
        refine lv_iinc (v := nI (i + 1)) (lv' := [(7, .int (nI (i + 1))), (2, .long (rr_inn q r (i + 1))), (4, .long fo), (6, .int q)]) hx hb dX1_productsOf_61 hl (k := 1) rfl (nI_1 i) (by decide) rfl (fun ls hl => ?_)
        refine lv_goto (tgt := 37) hx hb dX1_productsOf_64 (by decide) ?_
        exact ih (i + 1) (by omega) (by omega) ls (lv_sub hl [0, 1, 2, 3] rfl)
end
section
variable {p : Program} {l : Launch} {e : Env} {R : Room} {s : State} {m : MethodId} {args : Array Value} {below : List Frame} {meth : Method} {c : Code} {H : Heap} {locs : List Loc} {cells slots : Nat} {Q : State → Prop}
set_option maxHeartbeats 4000000 in
set_option maxRecDepth 100000 in
/-- productsOf's outer loop -/
theorem lp1_pro (C : CallFix p m c cX1_productsOf 8 s args lw_all RX1) (hR : 1 ≤ R.frames ∧ 31 ≤ R.locals) (hf : cells ≤ R.cells ∧ slots ≤ R.slots) (x : Int64)
    (kx : ∀ ls : Array Slot, lv_has ls 8 [(6, .int (nI 64)), (2, .long ((rr_pro x 64).1)), (4, .long ((rr_pro x 64).2))] → W p l e R s m args below meth c H locs cells slots Q (F0 m 73 ls [])) :
    ∀ (n i : Nat), i ≤ 64 → 65 ≤ i + n → ∀ ls : Array Slot, lv_has ls 8 [(6, .int (nI i)), (2, .long ((rr_pro x i).1)), (4, .long ((rr_pro x i).2))] → W p l e R s m args below meth c H locs cells slots Q (F0 m 8 ls []) := by
  obtain ⟨hx, hb, hml, hown, hts⟩ := id C
  intro n
  induction n with
  | zero =>
    intro i a1 a2
    exact absurd a2 (by omega)
  | succ n ih =>
    intro i a1 a2 ls hl
    refine lv_iload hx hb dX1_productsOf_8 (lv_at hl 0 rfl) ?_
    refine lv_bipush (v := nI 64) hx hb dX1_productsOf_10 (by decide) ?_
    refine lv_icmp_ge (tgt := 73) hx hb dX1_productsOf_12 (by decide) (fun c12 => ?_) (fun c12 => ?_)
    · have hi : i = 64 := rc_eq a1 (by decide) c12
      subst hi
      exact kx ls (lv_sub hl [0, 1, 2] rfl)
    · have hi : i < 64 := rc_lt (by omega) c12
      refine lv_lload_n hx hb dX1_productsOf_15 rfl (lv_at hl 1 rfl) ?_
      refine lv_iload hx hb dX1_productsOf_16 (lv_at hl 0 rfl) ?_
      refine rc_call (W.runS (As := [.long ((rr_pro x i).1), .int (nI i)]) (rest := []) C (mt1_bit l ((rr_pro x i).1) (nI i)) (cwX1_bit hts (Nat.le_trans (Nat.le_of_ble_eq_true rfl) hR.1) (Nat.le_trans (Nat.le_of_ble_eq_true rfl) hR.2)) rc_preS rfl rfl hl.1 rfl (lv_room (Nat.le_of_ble_eq_true rfl)) dX1_productsOf_18 hf) ?_
      refine lv_iconst (v := 1) hx hb dX1_productsOf_21 (by decide) ?_
      refine lv_icmp_ne (tgt := 67) hx hb dX1_productsOf_22 (by decide) (fun c22 => ?_) (fun c22 => ?_)
      · refine lv_iinc (v := nI (i + 1)) (lv' := [(6, .int (nI (i + 1))), (2, .long ((rr_pro x i).1)), (4, .long ((rr_pro x i).2))]) hx hb dX1_productsOf_67 hl (k := 0) rfl (nI_1 i) (by decide) rfl (fun ls hl => ?_)
        refine lv_goto (tgt := 8) hx hb dX1_productsOf_70 (by decide) ?_
        exact ih (i + 1) (by omega) (by omega) ls (by rw [show rr_pro x (i + 1) = rr_pro x i from by rw [rr_pro, if_neg c22]]; exact (lv_sub hl [0, 1, 2] rfl))
      · refine lv_lload hx hb dX1_productsOf_25 (lv_at hl 2 rfl) ?_
        refine lv_lconst (v := 1) hx hb dX1_productsOf_27 (by decide) ?_
        refine lv_iload hx hb dX1_productsOf_28 (lv_at hl 0 rfl) ?_
        refine lv_lshl (v := rp_shl 1 (nI i)) hx hb dX1_productsOf_30 rfl ?_
        refine lv_lor hx hb dX1_productsOf_31 ?_
        refine lv_lstore (lv' := [(4, .long (((rr_pro x i).2) ||| (rp_shl 1 (nI i)))), (6, .int (nI i)), (2, .long ((rr_pro x i).1))]) hx hb dX1_productsOf_32 hl (by decide) rfl (fun ls hl => ?_)
        refine lv_iconst (v := 0) hx hb dX1_productsOf_34 (by decide) ?_
        refine lv_istore (lv' := [(7, .int 0), (4, .long (((rr_pro x i).2) ||| (rp_shl 1 (nI i)))), (6, .int (nI i)), (2, .long ((rr_pro x i).1))]) hx hb dX1_productsOf_35 hl (by decide) rfl (fun ls hl => ?_)
        refine lp1_inn C ⟨(Nat.le_trans (Nat.le_of_ble_eq_true rfl) hR.1), (Nat.le_trans (Nat.le_of_ble_eq_true rfl) hR.2)⟩ hf (nI i) (rr_pro x i).1 (((rr_pro x i).2) ||| (rp_shl 1 (nI i))) (fun ls hl => ?_) 65 0 (Nat.zero_le _) (Nat.le_of_ble_eq_true rfl) ls (lv_sub hl [0, 3, 1, 2] rfl)
        refine lv_iinc (v := nI (i + 1)) (lv' := [(6, .int (nI (i + 1))), (7, .int (nI 64)), (2, .long (rr_inn (nI i) (rr_pro x i).1 64)), (4, .long (((rr_pro x i).2) ||| (rp_shl 1 (nI i))))]) hx hb dX1_productsOf_67 hl (k := 3) rfl (nI_1 i) (by decide) rfl (fun ls hl => ?_)
        refine lv_goto (tgt := 8) hx hb dX1_productsOf_70 (by decide) ?_
        exact ih (i + 1) (by omega) (by omega) ls (by rw [show rr_pro x (i + 1) = (rr_inn (nI i) (rr_pro x i).1 64, ((rr_pro x i).2) ||| (rp_shl 1 (nI i))) from by rw [rr_pro, if_pos c22]]; exact (lv_sub hl [0, 2, 3] rfl))
end
set_option maxHeartbeats 4000000 in
set_option maxRecDepth 100000 in
/-- productsOf -/
theorem mt1_pro (l : Launch) (x : Int64) : Met l yX1_productsOf (ws_ yX1_productsOf cX1_productsOf 8 (some .long)) ({ frames := 1, cells := 0, slots := 0, locals := 31 }) (va_Pc [.long x] (fun _ => True)) (rc_Q (.long ((rr_pro x 64).2))) 0 0 (fun _ => False) := by
  refine rc_start RX1 [.long x] (by decide) rfl (Nat.le_of_ble_eq_true rfl) ?_
  intro p e s m below meth c ls C hr hlk hin hB hl
  obtain ⟨hx, hb, hml, hown, hts⟩ := id C
  have hl : lv_has ls 8 [(0, .long x)] := hl
  refine lv_lload_n hx hb dX1_productsOf_0 rfl (lv_at hl 0 rfl) ?_
  refine lv_lstore_n (lv' := [(2, .long x), (0, .long x)]) hx hb dX1_productsOf_1 rfl hl (by decide) rfl (fun ls hl => ?_)
  refine lv_lconst (v := 0) hx hb dX1_productsOf_2 (by decide) ?_
  refine lv_lstore (lv' := [(4, .long 0), (2, .long x), (0, .long x)]) hx hb dX1_productsOf_3 hl (by decide) rfl (fun ls hl => ?_)
  refine lv_iconst (v := 0) hx hb dX1_productsOf_5 (by decide) ?_
  refine lv_istore (lv' := [(6, .int 0), (4, .long 0), (2, .long x), (0, .long x)]) hx hb dX1_productsOf_6 hl (by decide) rfl (fun ls hl => ?_)
  refine lp1_pro C ⟨(Nat.le_of_ble_eq_true rfl), (Nat.le_of_ble_eq_true rfl)⟩ ⟨Nat.zero_le _, Nat.zero_le _⟩ x (fun ls hl => ?_) 65 0 (Nat.zero_le _) (Nat.le_of_ble_eq_true rfl) ls (lv_sub hl [0, 2, 1] rfl)
  refine lv_lload hx hb dX1_productsOf_73 (lv_at hl 2 rfl) ?_
  exact rc_lret hx hb hr hlk rfl dX1_productsOf_75
theorem cwX1_productsOf {R : Room} {s : State} {args : Array Value} (ht : ∀ w ∈ lw_all, w.before args s = true) (h1 : 2 ≤ R.frames) (h2 : 58 ≤ R.locals) : CallB R s args RX1 39 yX1_productsOf cX1_productsOf 8 (some .long) (ws_ yX1_productsOf cX1_productsOf 8 (some .long)) ({ frames := 1, cells := 0, slots := 0, locals := 31 }) 0 0 1 ∧ (Cond.static yX1_productsOf).before args s = true := va_cwS 1 ht (lw_S q170 q171 q7 q172) rfl rfl rfl (by decide +kernel) ⟨h1, h2⟩
end
section
/-! WALK, RingProverModel: the methods of its objects (written by gen.py) -/
theorem rq_sub2 {k : Nat} (h : 2 ≤ k) : nI (k - 1) - 1 = nI (k - 2) := by
  rw [show (1 : Int32) = nI 1 from rfl, pk_sub (by omega), show k - 1 - 1 = k - 2 by omega]
set_option maxHeartbeats 4000000 in
set_option maxRecDepth 100000 in
/-- missing -/
theorem mt1_mis (l : Launch) (dC : Nat → ClassId) (dI : Nat → Nat → Nat) (h0 h1 : Nat) (dA : ClassId) (k : Nat) (f : Nat → Int64) (hk : k ≤ 12) (p0 : Int32) : Met l yX1_missing (ws_ yX1_missing cX1_missing 2 (some .boolean)) ({ frames := 0, cells := 0, slots := 0, locals := 0 }) (va_Pc [.ref h0, .int p0] (rp_B 1 dC dI h0 h1 dA k f)) (rc_Q (.int (rr_mis p0 k))) 0 0 (fun _ => False) := by
  refine rc_start RX1 [.ref h0, .int p0] (by decide) rfl (Nat.le_of_ble_eq_true rfl) ?_
  intro p e s m below meth c ls C hr hlk hin hB hl
  obtain ⟨hx, hb, hml, hown, hts⟩ := id C
  obtain ⟨hP, hK⟩ := hB
  have hl : lv_has ls 2 [(0, .ref h0), (1, .int p0)] := hl
  refine lv_iload_n hx hb dX1_missing_0 rfl (lv_at hl 1 rfl) ?_
  refine lv_if_lt (tgt := 12) hx hb dX1_missing_1 (by decide) (fun c1 => ?_) (fun c1 => ?_)
  · refine lv_iconst (v := 1) hx hb dX1_missing_12 (by decide) ?_
    refine lv_goto (tgt := 17) hx hb dX1_missing_13 (by decide) ?_
    exact rc_zret hx hb hr hlk (by decide) (by rw [rr_mis, if_pos c1]) dX1_missing_17
  · refine lv_iload_n hx hb dX1_missing_4 rfl (lv_at hl 1 rfl) ?_
    refine lv_aload_n hx hb dX1_missing_5 rfl (lv_at hl 0 rfl) ?_
    refine va_get (D := (dC, dI)) (ci := 1) (v := .int (nI k)) (C := RX1) (T := TX1) (N := 2) hx hb hts in_X1 hown hK hP 0 rfl rfl 0 (by decide) (hts _ q112) (fun _ h9 => h9) rfl dX1_missing_6 ?_
    refine lv_icmp_lt (tgt := 16) hx hb dX1_missing_9 (by decide) (fun c9 => ?_) (fun c9 => ?_)
    · refine lv_iconst (v := 0) hx hb dX1_missing_16 (by decide) ?_
      exact rc_zret hx hb hr hlk (by decide) (by rw [rr_mis, if_neg c1, if_pos c9]) dX1_missing_17
    · refine lv_iconst (v := 1) hx hb dX1_missing_12 (by decide) ?_
      refine lv_goto (tgt := 17) hx hb dX1_missing_13 (by decide) ?_
      exact rc_zret hx hb hr hlk (by decide) (by rw [rr_mis, if_neg c1, if_neg c9]) dX1_missing_17
theorem cwX1_missing {R : Room} {s : State} {args : Array Value} (ht : ∀ w ∈ lw_all, w.before args s = true) (h1 : 1 ≤ R.frames) (h2 : 21 ≤ R.locals) : CallW R s args RX1 RX1 31 yX1_missing cX1_missing 2 (some .boolean) (ws_ yX1_missing cX1_missing 2 (some .boolean)) ({ frames := 0, cells := 0, slots := 0, locals := 0 }) 0 0 1 := cwV 1 ht (lw_V q150 q152 qs3 q7 q153) rfl rfl rfl (by decide +kernel) ⟨h1, h2⟩
set_option maxHeartbeats 4000000 in
set_option maxRecDepth 100000 in
/-- push -/
theorem mt1_push (l : Launch) (dC : Nat → ClassId) (dI : Nat → Nat → Nat) (h0 h1 : Nat) (dA : ClassId) (sz k : Nat) (f : Nat → Int64) (hk : k ≤ 12) (x : Int64) : Met l yX1_push (ws_ yX1_push cX1_push 3 (some .int)) ({ frames := 0, cells := 0, slots := 0, locals := 0 }) (va_Pc [.ref h0, .long x] (rp_BM sz 1 dC dI h0 h1 dA k f)) (rp_QM 1 dC dI h0 h1 dA (rr_push x k f) (va_A (rp_ws 1 h0 h1 dA (nI k) f) sz)) 0 0 (va_A (rp_ws 1 h0 h1 dA (nI k) f) sz) := by
  refine rc_start RX1 [.ref h0, .long x] (by decide) rfl (Nat.le_of_ble_eq_true rfl) ?_
  intro p e s m below meth c ls C hr hlk hin hB hl
  obtain ⟨hx, hb, hml, hown, hts⟩ := id C
  obtain ⟨hsz, ⟨hP, hK⟩, hD0⟩ := hB
  subst hsz
  have hD := hD0.self (sz := s.heap.size)
  have hA : ∀ q : Nat, s.heap.size ≤ q → va_A (rp_ws 1 h0 h1 dA (nI k) f) s.heap.size q := fun q h => Or.inr h
  have hS : va_S (va_A (rp_ws 1 h0 h1 dA (nI k) f) s.heap.size) s.heap s.heap [] := va_S.rf
  generalize va_A (rp_ws 1 h0 h1 dA (nI k) f) s.heap.size = A at hD hA hS ⊢
  have hl : lv_has ls 3 [(0, .ref h0), (1, .long x)] := hl
  refine lv_aload_n hx hb dX1_push_0 rfl (lv_at hl 0 rfl) ?_
  refine va_get (D := (dC, dI)) (ci := 1) (v := .int (nI k)) (C := RX1) (T := TX1) (N := 2) hx hb hts in_X1 hown hK hP 0 rfl rfl 0 (by decide) (hts _ q112) (fun _ h9 => h9) rfl dX1_push_1 ?_
  refine lv_bipush (v := 12) hx hb dX1_push_4 (by decide) ?_
  refine lv_icmp_ne (tgt := 11) hx hb dX1_push_6 (by decide) (fun c6 => ?_) (fun c6 => ?_)
  · have hk9 : k < 12 := rq_n12 hk c6
    refine lv_aload_n hx hb dX1_push_11 rfl (lv_at hl 0 rfl) ?_
    refine va_get (D := (dC, dI)) (ci := 1) (v := .ref h1) (C := RX1) (T := TX1) (N := 2) hx hb hts in_X1 hown hK hP 0 rfl rfl 1 (by decide) (hts _ q113) (fun _ h9 => h9) rfl dX1_push_12 ?_
    refine lv_aload_n hx hb dX1_push_15 rfl (lv_at hl 0 rfl) ?_
    refine va_get (D := (dC, dI)) (ci := 1) (v := .int (nI k)) (C := RX1) (T := TX1) (N := 2) hx hb hts in_X1 hown hK hP 0 rfl rfl 0 (by decide) (hts _ q112) (fun _ h9 => h9) rfl dX1_push_16 ?_
    refine lv_lload_n hx hb dX1_push_19 rfl (lv_at hl 1 rfl) ?_
    refine va_last hx hb hK hP hD hS 1 0 rfl rfl (vp_in_nI (by omega) (by decide)) dX1_push_20 (fun H locs hP hD hS => ?_)
    rw [show (nI k).toNatClampNeg = k from nI_clamp (by omega)] at hP hD
    have hP : va_P (dC, dI) rp_cl (rp_ws 1 h0 h1 dA (nI k) (vp_updL f k x)) H := hP
    have hD : va_D _ (rp_ws 1 h0 h1 dA (nI k) (vp_updL f k x)) := hD
    refine lv_aload_n hx hb dX1_push_21 rfl (lv_at hl 0 rfl) ?_
    refine lv_dup hx hb dX1_push_22 rfl ?_
    refine va_get (D := (dC, dI)) (ci := 1) (v := .int (nI k)) (C := RX1) (T := TX1) (N := 2) hx hb hts in_X1 hown hK hP 0 rfl rfl 0 (by decide) (hts _ q112) (fun _ h9 => h9) rfl dX1_push_23 ?_
    refine lv_iconst (v := 1) hx hb dX1_push_26 (by decide) ?_
    refine lv_iadd hx hb dX1_push_27 ?_
    refine rc_topi (y := nI (k + 1)) (nI_1 k) ?_
    refine va_put (D := (dC, dI)) (ci := 1) (v := .int (nI (k + 1))) (ty := .int) (C := RX1) (T := TX1) (N := 2) hx hb hts in_X1 tyX1 tyX1_ok nmX1 hown hK hP hD hS 0 rfl rfl 0 (by decide) (hts _ q112) (fun _ h9 => h9) rfl (by decide +kernel) rfl rfl (Nat.le_of_ble_eq_true rfl) dX1_push_28 (fun H locs hP hD hS => ?_)
    have hP : va_P (dC, dI) rp_cl (rp_ws 1 h0 h1 dA (nI (k + 1)) (vp_updL f k x)) H := hP
    have hD : va_D _ (rp_ws 1 h0 h1 dA (nI (k + 1)) (vp_updL f k x)) := hD
    refine lv_aload_n hx hb dX1_push_31 rfl (lv_at hl 0 rfl) ?_
    refine va_get (D := (dC, dI)) (ci := 1) (v := .int (nI (k + 1))) (C := RX1) (T := TX1) (N := 2) hx hb hts in_X1 hown hK hP 0 rfl rfl 0 (by decide) (hts _ q112) (fun _ h9 => h9) rfl dX1_push_32 ?_
    exact rp_mret hx hb hr hlk hK hP hD hS (by rw [rr_push, if_neg c6]) dX1_push_35
  · refine lv_iconst (v := (-1)) hx hb dX1_push_9 (by decide) ?_
    exact rp_mret hx hb hr hlk hK hP hD hS (by rw [rr_push, if_pos c6]) dX1_push_10
theorem cwX1_push {R : Room} {s : State} {args : Array Value} (ht : ∀ w ∈ lw_all, w.before args s = true) (h1 : 1 ≤ R.frames) (h2 : 22 ≤ R.locals) : CallW R s args RX1 RX1 17 yX1_push cX1_push 3 (some .int) (ws_ yX1_push cX1_push 3 (some .int)) ({ frames := 0, cells := 0, slots := 0, locals := 0 }) 0 0 1 := cwV 1 ht (lw_V q123 q125 qs2 q7 q126) rfl rfl rfl (by decide +kernel) ⟨h1, h2⟩
section
variable {p : Program} {l : Launch} {e : Env} {R : Room} {s : State} {m : MethodId} {args : Array Value} {below : List Frame} {meth : Method} {c : Code} {H : Heap} {locs : List Loc} {cells slots : Nat} {Q : State → Prop}
set_option maxHeartbeats 4000000 in
set_option maxRecDepth 100000 in
/-- variable's loop -/
theorem lp1_var (C : CallFix p m c cX1_variable 5 s args lw_all RX1) (hR : 0 ≤ R.frames ∧ 0 ≤ R.locals) (hf : cells ≤ R.cells ∧ slots ≤ R.slots) (v : Int32) (h0 : Nat)
    (kx : ∀ ls : Array Slot, lv_has ls 5 [(4, .int (nI 64)), (2, .long (rr_var v 64)), (1, .int v), (0, .ref h0)] → W p l e R s m args below meth c H locs cells slots Q (F0 m 46 ls [])) :
    ∀ (n i : Nat), i ≤ 64 → 65 ≤ i + n → ∀ ls : Array Slot, lv_has ls 5 [(4, .int (nI i)), (2, .long (rr_var v i)), (1, .int v), (0, .ref h0)] → W p l e R s m args below meth c H locs cells slots Q (F0 m 16 ls []) := by
  obtain ⟨hx, hb, hml, hown, hts⟩ := id C
  intro n
  induction n with
  | zero =>
    intro i a1 a2
    exact absurd a2 (by omega)
  | succ n ih =>
    intro i a1 a2 ls hl
    refine lv_iload hx hb dX1_variable_16 (lv_at hl 0 rfl) ?_
    refine lv_bipush (v := nI 64) hx hb dX1_variable_18 (by decide) ?_
    refine lv_icmp_ge (tgt := 46) hx hb dX1_variable_20 (by decide) (fun c20 => ?_) (fun c20 => ?_)
    · have hi : i = 64 := rc_eq a1 (by decide) c20
      subst hi
      exact kx ls (lv_sub hl [0, 1, 2, 3] rfl)
    · have hi : i < 64 := rc_lt (by omega) c20
      refine lv_iload hx hb dX1_variable_23 (lv_at hl 0 rfl) ?_
      refine lv_iload_n hx hb dX1_variable_25 rfl (lv_at hl 2 rfl) ?_
      refine lv_ishr hx hb dX1_variable_26 ?_
      refine lv_iconst (v := 1) hx hb dX1_variable_27 (by decide) ?_
      refine lv_iand hx hb dX1_variable_28 ?_
      refine lv_iconst (v := 1) hx hb dX1_variable_29 (by decide) ?_
      refine lv_icmp_ne (tgt := 40) hx hb dX1_variable_30 (by decide) (fun c30 => ?_) (fun c30 => ?_)
      · refine lv_iinc (v := nI (i + 1)) (lv' := [(4, .int (nI (i + 1))), (2, .long (rr_var v i)), (1, .int v), (0, .ref h0)]) hx hb dX1_variable_40 hl (k := 0) rfl (nI_1 i) (by decide) rfl (fun ls hl => ?_)
        refine lv_goto (tgt := 16) hx hb dX1_variable_43 (by decide) ?_
        exact ih (i + 1) (by omega) (by omega) ls (by rw [show rr_var v (i + 1) = rr_var v i from by rw [rr_var, if_neg c30]]; exact (lv_sub hl [0, 1, 2, 3] rfl))
      · refine lv_lload_n hx hb dX1_variable_33 rfl (lv_at hl 1 rfl) ?_
        refine lv_lconst (v := 1) hx hb dX1_variable_34 (by decide) ?_
        refine lv_iload hx hb dX1_variable_35 (lv_at hl 0 rfl) ?_
        refine lv_lshl (v := rp_shl 1 (nI i)) hx hb dX1_variable_37 rfl ?_
        refine lv_lor hx hb dX1_variable_38 ?_
        refine rc_topl (y := rr_var v (i + 1)) (by rw [rr_var, if_pos c30]) ?_
        refine lv_lstore_n (lv' := [(2, .long (rr_var v (i + 1))), (4, .int (nI i)), (1, .int v), (0, .ref h0)]) hx hb dX1_variable_39 rfl hl (by decide) rfl (fun ls hl => ?_)
        refine lv_iinc (v := nI (i + 1)) (lv' := [(4, .int (nI (i + 1))), (2, .long (rr_var v (i + 1))), (1, .int v), (0, .ref h0)]) hx hb dX1_variable_40 hl (k := 1) rfl (nI_1 i) (by decide) rfl (fun ls hl => ?_)
        refine lv_goto (tgt := 16) hx hb dX1_variable_43 (by decide) ?_
        exact ih (i + 1) (by omega) (by omega) ls (lv_sub hl [0, 1, 2, 3] rfl)
end
set_option maxHeartbeats 4000000 in
set_option maxRecDepth 100000 in
/-- variable -/
theorem mt1_variable (l : Launch) (dC : Nat → ClassId) (dI : Nat → Nat → Nat) (h0 h1 : Nat) (dA : ClassId) (sz k : Nat) (f : Nat → Int64) (hk : k ≤ 12) (v : Int32) : Met l yX1_variable (ws_ yX1_variable cX1_variable 5 (some .int)) ({ frames := 1, cells := 0, slots := 0, locals := 31 }) (va_Pc [.ref h0, .int v] (rp_BM sz 1 dC dI h0 h1 dA k f)) (rp_QM 1 dC dI h0 h1 dA (rr_variable v k f) (va_A (rp_ws 1 h0 h1 dA (nI k) f) sz)) 0 0 (va_A (rp_ws 1 h0 h1 dA (nI k) f) sz) := by
  refine rc_start RX1 [.ref h0, .int v] (by decide) rfl (Nat.le_of_ble_eq_true rfl) ?_
  intro p e s m below meth c ls C hr hlk hin hB hl
  obtain ⟨hx, hb, hml, hown, hts⟩ := id C
  obtain ⟨hsz, ⟨hP, hK⟩, hD0⟩ := hB
  subst hsz
  have hD := hD0.self (sz := s.heap.size)
  have hA : ∀ q : Nat, s.heap.size ≤ q → va_A (rp_ws 1 h0 h1 dA (nI k) f) s.heap.size q := fun q h => Or.inr h
  have hS : va_S (va_A (rp_ws 1 h0 h1 dA (nI k) f) s.heap.size) s.heap s.heap [] := va_S.rf
  generalize va_A (rp_ws 1 h0 h1 dA (nI k) f) s.heap.size = A at hD hA hS ⊢
  have hl : lv_has ls 5 [(0, .ref h0), (1, .int v)] := hl
  refine lv_iload_n hx hb dX1_variable_0 rfl (lv_at hl 1 rfl) ?_
  refine lv_if_lt (tgt := 9) hx hb dX1_variable_1 (by decide) (fun c1 => ?_) (fun c1 => ?_)
  · refine lv_iconst (v := (-1)) hx hb dX1_variable_9 (by decide) ?_
    exact rp_mret hx hb hr hlk hK hP hD hS (by rw [rr_variable, if_pos c1]) dX1_variable_10
  · refine lv_iload_n hx hb dX1_variable_4 rfl (lv_at hl 1 rfl) ?_
    refine lv_iconst (v := 5) hx hb dX1_variable_5 (by decide) ?_
    refine lv_icmp_le (tgt := 11) hx hb dX1_variable_6 (by decide) (fun c6 => ?_) (fun c6 => ?_)
    · refine lv_lconst (v := 0) hx hb dX1_variable_11 (by decide) ?_
      refine lv_lstore_n (lv' := [(2, .long 0), (0, .ref h0), (1, .int v)]) hx hb dX1_variable_12 rfl hl (by decide) rfl (fun ls hl => ?_)
      refine lv_iconst (v := 0) hx hb dX1_variable_13 (by decide) ?_
      refine lv_istore (lv' := [(4, .int 0), (2, .long 0), (0, .ref h0), (1, .int v)]) hx hb dX1_variable_14 hl (by decide) rfl (fun ls hl => ?_)
      refine lp1_var C ⟨(Nat.le_of_ble_eq_true rfl), (Nat.le_of_ble_eq_true rfl)⟩ ⟨Nat.zero_le _, Nat.zero_le _⟩ v h0 (fun ls hl => ?_) 65 0 (Nat.zero_le _) (Nat.le_of_ble_eq_true rfl) ls (lv_sub hl [0, 1, 3, 2] rfl)
      refine lv_aload_n hx hb dX1_variable_46 rfl (lv_at hl 3 rfl) ?_
      refine lv_lload_n hx hb dX1_variable_47 rfl (lv_at hl 1 rfl) ?_
      refine rp_mut (wr := []) (tysr := []) (As := [.long (rr_var v 64)]) (rest := []) C (mt1_push l dC dI h0 h1 dA s.heap.size k f hk (rr_var v 64)) (cwX1_push hts (Nat.le_of_ble_eq_true rfl) (Nat.le_of_ble_eq_true rfl)) rfl hP hD hK hS hA [] rfl rfl (by decide) rfl hl.1 rfl (lv_room (Nat.le_of_ble_eq_true rfl)) dX1_variable_48 ⟨Nat.zero_le _, Nat.zero_le _⟩ (fun H locs hP hD hS => ?_)
      have hP : va_P (dC, dI) rp_cl (rp_ws 1 h0 h1 dA (nI (rr_push (rr_var v 64) k f).2.1) ((rr_push (rr_var v 64) k f).2.2)) H := hP
      have hD : va_D _ (rp_ws 1 h0 h1 dA (nI (rr_push (rr_var v 64) k f).2.1) ((rr_push (rr_var v 64) k f).2.2)) := hD
      exact rp_mret hx hb hr hlk hK hP hD hS (by rw [rr_variable, if_neg c1, if_pos c6]) dX1_variable_51
    · refine lv_iconst (v := (-1)) hx hb dX1_variable_9 (by decide) ?_
      exact rp_mret hx hb hr hlk hK hP hD hS (by rw [rr_variable, if_neg c1, if_neg c6]) dX1_variable_10
theorem cwX1_variable {R : Room} {s : State} {args : Array Value} (ht : ∀ w ∈ lw_all, w.before args s = true) (h1 : 2 ≤ R.frames) (h2 : 55 ≤ R.locals) : CallW R s args "RingProverLaw" RX1 17 yX1_variable cX1_variable 5 (some .int) (ws_ yX1_variable cX1_variable 5 (some .int)) ({ frames := 1, cells := 0, slots := 0, locals := 31 }) 0 0 1 := cwV 1 ht (lw_V q119 q120 q121 q7 q122) rfl rfl rfl (by decide +kernel) ⟨h1, h2⟩
set_option maxHeartbeats 4000000 in
set_option maxRecDepth 100000 in
/-- constant -/
theorem mt1_constant (l : Launch) (dC : Nat → ClassId) (dI : Nat → Nat → Nat) (h0 h1 : Nat) (dA : ClassId) (sz k : Nat) (f : Nat → Int64) (hk : k ≤ 12) (b : Int32) : Met l yX1_constant (ws_ yX1_constant cX1_constant 2 (some .int)) ({ frames := 1, cells := 0, slots := 0, locals := 31 }) (va_Pc [.ref h0, .int b] (rp_BM sz 1 dC dI h0 h1 dA k f)) (rp_QM 1 dC dI h0 h1 dA (rr_constant b k f) (va_A (rp_ws 1 h0 h1 dA (nI k) f) sz)) 0 0 (va_A (rp_ws 1 h0 h1 dA (nI k) f) sz) := by
  refine rc_start RX1 [.ref h0, .int b] (by decide) rfl (Nat.le_of_ble_eq_true rfl) ?_
  intro p e s m below meth c ls C hr hlk hin hB hl
  obtain ⟨hx, hb, hml, hown, hts⟩ := id C
  obtain ⟨hsz, ⟨hP, hK⟩, hD0⟩ := hB
  subst hsz
  have hD := hD0.self (sz := s.heap.size)
  have hA : ∀ q : Nat, s.heap.size ≤ q → va_A (rp_ws 1 h0 h1 dA (nI k) f) s.heap.size q := fun q h => Or.inr h
  have hS : va_S (va_A (rp_ws 1 h0 h1 dA (nI k) f) s.heap.size) s.heap s.heap [] := va_S.rf
  generalize va_A (rp_ws 1 h0 h1 dA (nI k) f) s.heap.size = A at hD hA hS ⊢
  have hl : lv_has ls 2 [(0, .ref h0), (1, .int b)] := hl
  refine lv_aload_n hx hb dX1_constant_0 rfl (lv_at hl 0 rfl) ?_
  refine lv_iload_n hx hb dX1_constant_1 rfl (lv_at hl 1 rfl) ?_
  refine lv_iconst (v := 1) hx hb dX1_constant_2 (by decide) ?_
  refine lv_iand hx hb dX1_constant_3 ?_
  refine lv_iconst (v := 1) hx hb dX1_constant_4 (by decide) ?_
  refine lv_icmp_ne (tgt := 14) hx hb dX1_constant_5 (by decide) (fun c5 => ?_) (fun c5 => ?_)
  · refine lv_lconst (v := 0) hx hb dX1_constant_14 (by decide) ?_
    refine rp_mut (wr := []) (tysr := []) (As := [.long 0]) (rest := []) C (mt1_push l dC dI h0 h1 dA s.heap.size k f hk 0) (cwX1_push hts (Nat.le_of_ble_eq_true rfl) (Nat.le_of_ble_eq_true rfl)) rfl hP hD hK hS hA [] rfl rfl (by decide) rfl hl.1 rfl (lv_room (Nat.le_of_ble_eq_true rfl)) dX1_constant_15 ⟨Nat.zero_le _, Nat.zero_le _⟩ (fun H locs hP hD hS => ?_)
    have hP : va_P (dC, dI) rp_cl (rp_ws 1 h0 h1 dA (nI (rr_push 0 k f).2.1) ((rr_push 0 k f).2.2)) H := hP
    have hD : va_D _ (rp_ws 1 h0 h1 dA (nI (rr_push 0 k f).2.1) ((rr_push 0 k f).2.2)) := hD
    exact rp_mret hx hb hr hlk hK hP hD hS (by rw [rr_constant, if_neg c5]) dX1_constant_18
  · refine lv_ldc2 (v := (-1)) hx hb hown (hts _ q131) dX1_constant_8 ?_
    refine lv_goto (tgt := 15) hx hb dX1_constant_11 (by decide) ?_
    refine rp_mut (wr := []) (tysr := []) (As := [.long (-1)]) (rest := []) C (mt1_push l dC dI h0 h1 dA s.heap.size k f hk (-1)) (cwX1_push hts (Nat.le_of_ble_eq_true rfl) (Nat.le_of_ble_eq_true rfl)) rfl hP hD hK hS hA [] rfl rfl (by decide) rfl hl.1 rfl (lv_room (Nat.le_of_ble_eq_true rfl)) dX1_constant_15 ⟨Nat.zero_le _, Nat.zero_le _⟩ (fun H locs hP hD hS => ?_)
    have hP : va_P (dC, dI) rp_cl (rp_ws 1 h0 h1 dA (nI (rr_push (-1) k f).2.1) ((rr_push (-1) k f).2.2)) H := hP
    have hD : va_D _ (rp_ws 1 h0 h1 dA (nI (rr_push (-1) k f).2.1) ((rr_push (-1) k f).2.2)) := hD
    exact rp_mret hx hb hr hlk hK hP hD hS (by rw [rr_constant, if_pos c5]) dX1_constant_18
theorem cwX1_constant {R : Room} {s : State} {args : Array Value} (ht : ∀ w ∈ lw_all, w.before args s = true) (h1 : 2 ≤ R.frames) (h2 : 52 ≤ R.locals) : CallW R s args "RingProverLaw" RX1 21 yX1_constant cX1_constant 2 (some .int) (ws_ yX1_constant cX1_constant 2 (some .int)) ({ frames := 1, cells := 0, slots := 0, locals := 31 }) 0 0 1 := cwV 1 ht (lw_V q127 q128 q129 q7 q130) rfl rfl rfl (by decide +kernel) ⟨h1, h2⟩
section
variable {p : Program} {l : Launch} {e : Env} {R : Room} {s : State} {m : MethodId} {args : Array Value} {below : List Frame} {meth : Method} {c : Code} {H : Heap} {locs : List Loc} {cells slots : Nat} {Q : State → Prop}
/-- a test as an int: 1 if the two are one, 0 else -/
theorem rc_is1 {cc : ByteArray} {pc : Nat} {ls : Array Slot} {rest : List Value} {x : Int32} (hx : p.tables.exec = Jvm.exec) (hb : c.code = cc) (d1 : decode cc pc = .ok (.if_icmp .ne 7, 3)) (d2 : decode cc (pc + 3) = .ok (.iconst 1, 1)) (d3 : decode cc (pc + 4) = .ok (.goto 4, 3)) (d4 : decode cc (pc + 7) = .ok (.iconst 0, 1)) (k : W p l e R s m args below meth c H locs cells slots Q (F0 m (pc + 8) ls (.int (rr_is1 x) :: rest))) : W p l e R s m args below meth c H locs cells slots Q (F0 m pc ls (.int 1 :: .int x :: rest)) := by
  refine lv_icmp_ne (tgt := pc + 7) hx hb d1 (by omega) (fun h => ?_) (fun h => ?_)
  · refine lv_iconst (v := 0) hx hb d4 (by decide) ?_
    rw [show rr_is1 x = 0 from by rw [rr_is1, if_neg h]] at k
    exact k
  · refine lv_iconst (v := 1) hx hb d2 (by decide) ?_
    refine lv_goto (tgt := pc + 8) hx hb d3 (by omega) ?_
    rw [show rr_is1 x = 1 from by rw [rr_is1, if_pos h]] at k
    exact k
set_option maxHeartbeats 4000000 in
set_option maxRecDepth 100000 in
/-- join's loop -/
theorem lp1_joi (C : CallFix p m c cX1_join 7 s args lw_all RX1) (hR : 1 ≤ R.frames ∧ 31 ≤ R.locals) (hf : cells ≤ R.cells ∧ slots ≤ R.slots) (dC : Nat → ClassId) (dI : Nat → Nat → Nat) (h0 h1 : Nat) (dA : ClassId) (k : Nat) (f : Nat → Int64) (hk : k ≤ 12) (hK : va_K (dC, dI) rp_cl [(dA, .long)] s) (hP : va_P (dC, dI) rp_cl (rp_ws 1 h0 h1 dA (nI k) f) H) (hk2 : 2 ≤ k) (q : Int32)
    (kx : ∀ ls : Array Slot, lv_has ls 7 [(4, .int (nI 64)), (2, .long (rr_joi q (f (k - 2)) (f (k - 1)) 64)), (1, .int q), (0, .ref h0)] → W p l e R s m args below meth c H locs cells slots Q (F0 m 109 ls [])) :
    ∀ (n i : Nat), i ≤ 64 → 65 ≤ i + n → ∀ ls : Array Slot, lv_has ls 7 [(4, .int (nI i)), (2, .long (rr_joi q (f (k - 2)) (f (k - 1)) i)), (1, .int q), (0, .ref h0)] → W p l e R s m args below meth c H locs cells slots Q (F0 m 24 ls []) := by
  obtain ⟨hx, hb, hml, hown, hts⟩ := id C
  intro n
  induction n with
  | zero =>
    intro i a1 a2
    exact absurd a2 (by omega)
  | succ n ih =>
    intro i a1 a2 ls hl
    refine lv_iload hx hb dX1_join_24 (lv_at hl 0 rfl) ?_
    refine lv_bipush (v := nI 64) hx hb dX1_join_26 (by decide) ?_
    refine lv_icmp_ge (tgt := 109) hx hb dX1_join_28 (by decide) (fun c28 => ?_) (fun c28 => ?_)
    · have hi : i = 64 := rc_eq a1 (by decide) c28
      subst hi
      exact kx ls (lv_sub hl [0, 1, 2, 3] rfl)
    · have hi : i < 64 := rc_lt (by omega) c28
      refine lv_aload_n hx hb dX1_join_31 rfl (lv_at hl 3 rfl) ?_
      refine va_get (D := (dC, dI)) (ci := 1) (v := .ref h1) (C := RX1) (T := TX1) (N := 2) hx hb hts in_X1 hown hK hP 0 rfl rfl 1 (by decide) (hts _ q113) (fun _ h9 => h9) rfl dX1_join_32 ?_
      refine lv_aload_n hx hb dX1_join_35 rfl (lv_at hl 3 rfl) ?_
      refine va_get (D := (dC, dI)) (ci := 1) (v := .int (nI k)) (C := RX1) (T := TX1) (N := 2) hx hb hts in_X1 hown hK hP 0 rfl rfl 0 (by decide) (hts _ q112) (fun _ h9 => h9) rfl dX1_join_36 ?_
      refine lv_iconst (v := 2) hx hb dX1_join_39 (by decide) ?_
      refine lv_isub hx hb dX1_join_40 ?_
      refine rc_topi (y := nI (k - 2)) (rq_sub (n := 2) hk2) ?_
      refine va_lald hx hb hK hP 1 0 rfl rfl (vp_in_nI (by omega) (by decide)) dX1_join_41 ?_
      refine rc_topl (y := f (k - 2)) (congrArg f (nI_clamp (by omega))) ?_
      refine lv_iload hx hb dX1_join_42 (lv_at hl 0 rfl) ?_
      refine rc_call (W.runS (As := [.long (f (k - 2)), .int (nI i)]) (rest := []) C (mt1_bit l (f (k - 2)) (nI i)) (cwX1_bit hts (Nat.le_trans (Nat.le_of_ble_eq_true rfl) hR.1) (Nat.le_trans (Nat.le_of_ble_eq_true rfl) hR.2)) rc_preS rfl rfl hl.1 rfl (lv_room (Nat.le_of_ble_eq_true rfl)) dX1_join_44 hf) ?_
      refine lv_iconst (v := 1) hx hb dX1_join_47 (by decide) ?_
      refine rc_is1 hx hb dX1_join_48 dX1_join_51 dX1_join_52 dX1_join_55 ?_
      refine lv_istore (lv' := [(5, .int (rr_is1 (rr_bit (f (k - 2)) (nI i)))), (4, .int (nI i)), (2, .long (rr_joi q (f (k - 2)) (f (k - 1)) i)), (1, .int q), (0, .ref h0)]) hx hb dX1_join_56 hl (by decide) rfl (fun ls hl => ?_)
      refine lv_aload_n hx hb dX1_join_58 rfl (lv_at hl 4 rfl) ?_
      refine va_get (D := (dC, dI)) (ci := 1) (v := .ref h1) (C := RX1) (T := TX1) (N := 2) hx hb hts in_X1 hown hK hP 0 rfl rfl 1 (by decide) (hts _ q113) (fun _ h9 => h9) rfl dX1_join_59 ?_
      refine lv_aload_n hx hb dX1_join_62 rfl (lv_at hl 4 rfl) ?_
      refine va_get (D := (dC, dI)) (ci := 1) (v := .int (nI k)) (C := RX1) (T := TX1) (N := 2) hx hb hts in_X1 hown hK hP 0 rfl rfl 0 (by decide) (hts _ q112) (fun _ h9 => h9) rfl dX1_join_63 ?_
      refine lv_iconst (v := 1) hx hb dX1_join_66 (by decide) ?_
      refine lv_isub hx hb dX1_join_67 ?_
      refine rc_topi (y := nI (k - 1)) (rq_sub (n := 1) (by omega)) ?_
      refine va_lald hx hb hK hP 1 0 rfl rfl (vp_in_nI (by omega) (by decide)) dX1_join_68 ?_
      refine rc_topl (y := f (k - 1)) (congrArg f (nI_clamp (by omega))) ?_
      refine lv_iload hx hb dX1_join_69 (lv_at hl 1 rfl) ?_
      refine rc_call (W.runS (As := [.long (f (k - 1)), .int (nI i)]) (rest := []) C (mt1_bit l (f (k - 1)) (nI i)) (cwX1_bit hts (Nat.le_trans (Nat.le_of_ble_eq_true rfl) hR.1) (Nat.le_trans (Nat.le_of_ble_eq_true rfl) hR.2)) rc_preS rfl rfl hl.1 rfl (lv_room (Nat.le_of_ble_eq_true rfl)) dX1_join_71 hf) ?_
      refine lv_iconst (v := 1) hx hb dX1_join_74 (by decide) ?_
      refine rc_is1 hx hb dX1_join_75 dX1_join_78 dX1_join_79 dX1_join_82 ?_
      refine lv_istore (lv' := [(6, .int (rr_is1 (rr_bit (f (k - 1)) (nI i)))), (5, .int (rr_is1 (rr_bit (f (k - 2)) (nI i)))), (4, .int (nI i)), (2, .long (rr_joi q (f (k - 2)) (f (k - 1)) i)), (1, .int q), (0, .ref h0)]) hx hb dX1_join_83 hl (by decide) rfl (fun ls hl => ?_)
      refine lv_iload_n hx hb dX1_join_85 rfl (lv_at hl 4 rfl) ?_
      refine lv_iload hx hb dX1_join_86 (lv_at hl 1 rfl) ?_
      refine lv_iload hx hb dX1_join_88 (lv_at hl 0 rfl) ?_
      refine rc_call (W.runS (As := [.int q, .int (rr_is1 (rr_bit (f (k - 2)) (nI i))), .int (rr_is1 (rr_bit (f (k - 1)) (nI i)))]) (rest := []) C (mt1_joined l q (rr_is1 (rr_bit (f (k - 2)) (nI i))) (rr_is1 (rr_bit (f (k - 1)) (nI i)))) (cwX1_joined hts (Nat.le_trans (Nat.le_of_ble_eq_true rfl) hR.1) (Nat.le_trans (Nat.le_of_ble_eq_true rfl) hR.2)) rc_preS rfl rfl hl.1 rfl (lv_room (Nat.le_of_ble_eq_true rfl)) dX1_join_90 hf) ?_
      refine lv_if_eq (tgt := 103) hx hb dX1_join_93 (by decide) (fun c93 => ?_) (fun c93 => ?_)
      · refine lv_iinc (v := nI (i + 1)) (lv' := [(4, .int (nI (i + 1))), (6, .int (rr_is1 (rr_bit (f (k - 1)) (nI i)))), (5, .int (rr_is1 (rr_bit (f (k - 2)) (nI i)))), (2, .long (rr_joi q (f (k - 2)) (f (k - 1)) i)), (1, .int q), (0, .ref h0)]) hx hb dX1_join_103 hl (k := 2) rfl (nI_1 i) (by decide) rfl (fun ls hl => ?_)
        refine lv_goto (tgt := 24) hx hb dX1_join_106 (by decide) ?_
        exact ih (i + 1) (by omega) (by omega) ls (by rw [show rr_joi q (f (k - 2)) (f (k - 1)) (i + 1) = rr_joi q (f (k - 2)) (f (k - 1)) i from by rw [rr_joi, if_pos c93]]; exact (lv_sub hl [0, 3, 4, 5] rfl))
      · refine lv_lload_n hx hb dX1_join_96 rfl (lv_at hl 3 rfl) ?_
        refine lv_lconst (v := 1) hx hb dX1_join_97 (by decide) ?_
        refine lv_iload hx hb dX1_join_98 (lv_at hl 2 rfl) ?_
        refine lv_lshl (v := rp_shl 1 (nI i)) hx hb dX1_join_100 rfl ?_
        refine lv_lor hx hb dX1_join_101 ?_
        refine rc_topl (y := rr_joi q (f (k - 2)) (f (k - 1)) (i + 1)) (by rw [rr_joi, if_neg c93]) ?_
        refine lv_lstore_n (lv' := [(2, .long (rr_joi q (f (k - 2)) (f (k - 1)) (i + 1))), (6, .int (rr_is1 (rr_bit (f (k - 1)) (nI i)))), (5, .int (rr_is1 (rr_bit (f (k - 2)) (nI i)))), (4, .int (nI i)), (1, .int q), (0, .ref h0)]) hx hb dX1_join_102 rfl hl (by decide) rfl (fun ls hl => ?_)
        refine lv_iinc (v := nI (i + 1)) (lv' := [(4, .int (nI (i + 1))), (2, .long (rr_joi q (f (k - 2)) (f (k - 1)) (i + 1))), (6, .int (rr_is1 (rr_bit (f (k - 1)) (nI i)))), (5, .int (rr_is1 (rr_bit (f (k - 2)) (nI i)))), (1, .int q), (0, .ref h0)]) hx hb dX1_join_103 hl (k := 3) rfl (nI_1 i) (by decide) rfl (fun ls hl => ?_)
        refine lv_goto (tgt := 24) hx hb dX1_join_106 (by decide) ?_
        exact ih (i + 1) (by omega) (by omega) ls (lv_sub hl [0, 1, 4, 5] rfl)
end
set_option maxHeartbeats 4000000 in
set_option maxRecDepth 100000 in
/-- join -/
theorem mt1_join (l : Launch) (dC : Nat → ClassId) (dI : Nat → Nat → Nat) (h0 h1 : Nat) (dA : ClassId) (sz k : Nat) (f : Nat → Int64) (hk : k ≤ 12) (q : Int32) : Met l yX1_join (ws_ yX1_join cX1_join 7 (some .int)) ({ frames := 1, cells := 0, slots := 0, locals := 31 }) (va_Pc [.ref h0, .int q] (rp_BM sz 1 dC dI h0 h1 dA k f)) (rp_QM 1 dC dI h0 h1 dA (rr_join q k f) (va_A (rp_ws 1 h0 h1 dA (nI k) f) sz)) 0 0 (va_A (rp_ws 1 h0 h1 dA (nI k) f) sz) := by
  refine rc_start RX1 [.ref h0, .int q] (by decide) rfl (Nat.le_of_ble_eq_true rfl) ?_
  intro p e s m below meth c ls C hr hlk hin hB hl
  obtain ⟨hx, hb, hml, hown, hts⟩ := id C
  obtain ⟨hsz, ⟨hP, hK⟩, hD0⟩ := hB
  subst hsz
  have hD := hD0.self (sz := s.heap.size)
  have hA : ∀ q : Nat, s.heap.size ≤ q → va_A (rp_ws 1 h0 h1 dA (nI k) f) s.heap.size q := fun q h => Or.inr h
  have hS : va_S (va_A (rp_ws 1 h0 h1 dA (nI k) f) s.heap.size) s.heap s.heap [] := va_S.rf
  generalize va_A (rp_ws 1 h0 h1 dA (nI k) f) s.heap.size = A at hD hA hS ⊢
  have hl : lv_has ls 7 [(0, .ref h0), (1, .int q)] := hl
  refine lv_aload_n hx hb dX1_join_0 rfl (lv_at hl 0 rfl) ?_
  refine va_get (D := (dC, dI)) (ci := 1) (v := .int (nI k)) (C := RX1) (T := TX1) (N := 2) hx hb hts in_X1 hown hK hP 0 rfl rfl 0 (by decide) (hts _ q112) (fun _ h9 => h9) rfl dX1_join_1 ?_
  refine lv_iconst (v := 2) hx hb dX1_join_4 (by decide) ?_
  refine lv_icmp_lt (tgt := 17) hx hb dX1_join_5 (by decide) (fun c5 => ?_) (fun c5 => ?_)
  · refine lv_iconst (v := (-1)) hx hb dX1_join_17 (by decide) ?_
    exact rp_mret hx hb hr hlk hK hP hD hS (by rw [rr_join, if_pos c5]) dX1_join_18
  · have hk2 : 2 ≤ k := rq_k2n hk c5
    have hk1 : 1 ≤ k := by omega
    refine lv_iload_n hx hb dX1_join_8 rfl (lv_at hl 1 rfl) ?_
    refine lv_if_lt (tgt := 17) hx hb dX1_join_9 (by decide) (fun c9 => ?_) (fun c9 => ?_)
    · refine lv_iconst (v := (-1)) hx hb dX1_join_17 (by decide) ?_
      exact rp_mret hx hb hr hlk hK hP hD hS (by rw [rr_join, if_neg c5, if_pos c9]) dX1_join_18
    · refine lv_iload_n hx hb dX1_join_12 rfl (lv_at hl 1 rfl) ?_
      refine lv_iconst (v := 5) hx hb dX1_join_13 (by decide) ?_
      refine lv_icmp_le (tgt := 19) hx hb dX1_join_14 (by decide) (fun c14 => ?_) (fun c14 => ?_)
      · refine lv_lconst (v := 0) hx hb dX1_join_19 (by decide) ?_
        refine lv_lstore_n (lv' := [(2, .long 0), (0, .ref h0), (1, .int q)]) hx hb dX1_join_20 rfl hl (by decide) rfl (fun ls hl => ?_)
        refine lv_iconst (v := 0) hx hb dX1_join_21 (by decide) ?_
        refine lv_istore (lv' := [(4, .int 0), (2, .long 0), (0, .ref h0), (1, .int q)]) hx hb dX1_join_22 hl (by decide) rfl (fun ls hl => ?_)
        refine lp1_joi C ⟨(Nat.le_of_ble_eq_true rfl), (Nat.le_of_ble_eq_true rfl)⟩ ⟨Nat.zero_le _, Nat.zero_le _⟩ dC dI h0 h1 dA k f hk hK hP hk2 q (fun ls hl => ?_) 65 0 (Nat.zero_le _) (Nat.le_of_ble_eq_true rfl) ls (lv_sub hl [0, 1, 3, 2] rfl)
        refine lv_aload_n hx hb dX1_join_109 rfl (lv_at hl 3 rfl) ?_
        refine lv_dup hx hb dX1_join_110 rfl ?_
        refine va_get (D := (dC, dI)) (ci := 1) (v := .int (nI k)) (C := RX1) (T := TX1) (N := 2) hx hb hts in_X1 hown hK hP 0 rfl rfl 0 (by decide) (hts _ q112) (fun _ h9 => h9) rfl dX1_join_111 ?_
        refine lv_iconst (v := 1) hx hb dX1_join_114 (by decide) ?_
        refine lv_isub hx hb dX1_join_115 ?_
        refine rc_topi (y := nI (k - 1)) (rq_sub (n := 1) hk1) ?_
        refine va_put (D := (dC, dI)) (ci := 1) (v := .int (nI (k - 1))) (ty := .int) (C := RX1) (T := TX1) (N := 2) hx hb hts in_X1 tyX1 tyX1_ok nmX1 hown hK hP hD hS 0 rfl rfl 0 (by decide) (hts _ q112) (fun _ h9 => h9) rfl (by decide +kernel) rfl rfl (Nat.le_of_ble_eq_true rfl) dX1_join_116 (fun H locs hP hD hS => ?_)
        have hP : va_P (dC, dI) rp_cl (rp_ws 1 h0 h1 dA (nI (k - 1)) f) H := hP
        have hD : va_D _ (rp_ws 1 h0 h1 dA (nI (k - 1)) f) := hD
        refine lv_aload_n hx hb dX1_join_119 rfl (lv_at hl 3 rfl) ?_
        refine va_get (D := (dC, dI)) (ci := 1) (v := .ref h1) (C := RX1) (T := TX1) (N := 2) hx hb hts in_X1 hown hK hP 0 rfl rfl 1 (by decide) (hts _ q113) (fun _ h9 => h9) rfl dX1_join_120 ?_
        refine lv_aload_n hx hb dX1_join_123 rfl (lv_at hl 3 rfl) ?_
        refine va_get (D := (dC, dI)) (ci := 1) (v := .int (nI (k - 1))) (C := RX1) (T := TX1) (N := 2) hx hb hts in_X1 hown hK hP 0 rfl rfl 0 (by decide) (hts _ q112) (fun _ h9 => h9) rfl dX1_join_124 ?_
        refine lv_iconst (v := 1) hx hb dX1_join_127 (by decide) ?_
        refine lv_isub hx hb dX1_join_128 ?_
        refine rc_topi (y := nI (k - 2)) (rq_sub2 hk2) ?_
        refine lv_lload_n hx hb dX1_join_129 rfl (lv_at hl 1 rfl) ?_
        refine va_last hx hb hK hP hD hS 1 0 rfl rfl (vp_in_nI (by omega) (by decide)) dX1_join_130 (fun H locs hP hD hS => ?_)
        rw [show (nI (k - 2)).toNatClampNeg = (k - 2) from nI_clamp (by omega)] at hP hD
        have hP : va_P (dC, dI) rp_cl (rp_ws 1 h0 h1 dA (nI (k - 1)) (vp_updL f (k - 2) (rr_joi q (f (k - 2)) (f (k - 1)) 64))) H := hP
        have hD : va_D _ (rp_ws 1 h0 h1 dA (nI (k - 1)) (vp_updL f (k - 2) (rr_joi q (f (k - 2)) (f (k - 1)) 64))) := hD
        refine lv_aload_n hx hb dX1_join_131 rfl (lv_at hl 3 rfl) ?_
        refine va_get (D := (dC, dI)) (ci := 1) (v := .int (nI (k - 1))) (C := RX1) (T := TX1) (N := 2) hx hb hts in_X1 hown hK hP 0 rfl rfl 0 (by decide) (hts _ q112) (fun _ h9 => h9) rfl dX1_join_132 ?_
        exact rp_mret hx hb hr hlk hK hP hD hS (by rw [rr_join, if_neg c5, if_neg c9, if_pos c14]) dX1_join_135
      · refine lv_iconst (v := (-1)) hx hb dX1_join_17 (by decide) ?_
        exact rp_mret hx hb hr hlk hK hP hD hS (by rw [rr_join, if_neg c5, if_neg c9, if_neg c14]) dX1_join_18
theorem cwX1_join {R : Room} {s : State} {args : Array Value} (ht : ∀ w ∈ lw_all, w.before args s = true) (h1 : 2 ≤ R.frames) (h2 : 57 ≤ R.locals) : CallW R s args "RingProverLaw" RX1 25 yX1_join cX1_join 7 (some .int) (ws_ yX1_join cX1_join 7 (some .int)) ({ frames := 1, cells := 0, slots := 0, locals := 31 }) 0 0 1 := cwV 1 ht (lw_V q132 q133 q134 q7 q135) rfl rfl rfl (by decide +kernel) ⟨h1, h2⟩
set_option maxHeartbeats 4000000 in
set_option maxRecDepth 100000 in
/-- not -/
theorem mt1_not (l : Launch) (dC : Nat → ClassId) (dI : Nat → Nat → Nat) (h0 h1 : Nat) (dA : ClassId) (sz k : Nat) (f : Nat → Int64) (hk : k ≤ 12)  : Met l yX1_not (ws_ yX1_not cX1_not 1 (some .int)) ({ frames := 0, cells := 0, slots := 0, locals := 0 }) (va_Pc [.ref h0] (rp_BM sz 1 dC dI h0 h1 dA k f)) (rp_QM 1 dC dI h0 h1 dA (rr_not k f) (va_A (rp_ws 1 h0 h1 dA (nI k) f) sz)) 0 0 (va_A (rp_ws 1 h0 h1 dA (nI k) f) sz) := by
  refine rc_start RX1 [.ref h0] (by decide) rfl (Nat.le_of_ble_eq_true rfl) ?_
  intro p e s m below meth c ls C hr hlk hin hB hl
  obtain ⟨hx, hb, hml, hown, hts⟩ := id C
  obtain ⟨hsz, ⟨hP, hK⟩, hD0⟩ := hB
  subst hsz
  have hD := hD0.self (sz := s.heap.size)
  have hA : ∀ q : Nat, s.heap.size ≤ q → va_A (rp_ws 1 h0 h1 dA (nI k) f) s.heap.size q := fun q h => Or.inr h
  have hS : va_S (va_A (rp_ws 1 h0 h1 dA (nI k) f) s.heap.size) s.heap s.heap [] := va_S.rf
  generalize va_A (rp_ws 1 h0 h1 dA (nI k) f) s.heap.size = A at hD hA hS ⊢
  have hl : lv_has ls 1 [(0, .ref h0)] := hl
  refine lv_aload_n hx hb dX1_not_0 rfl (lv_at hl 0 rfl) ?_
  refine va_get (D := (dC, dI)) (ci := 1) (v := .int (nI k)) (C := RX1) (T := TX1) (N := 2) hx hb hts in_X1 hown hK hP 0 rfl rfl 0 (by decide) (hts _ q112) (fun _ h9 => h9) rfl dX1_not_1 ?_
  refine lv_if_ne (tgt := 9) hx hb dX1_not_4 (by decide) (fun c4 => ?_) (fun c4 => ?_)
  · have hk1 : 1 ≤ k := rq_k0 hk c4
    refine lv_aload_n hx hb dX1_not_9 rfl (lv_at hl 0 rfl) ?_
    refine va_get (D := (dC, dI)) (ci := 1) (v := .ref h1) (C := RX1) (T := TX1) (N := 2) hx hb hts in_X1 hown hK hP 0 rfl rfl 1 (by decide) (hts _ q113) (fun _ h9 => h9) rfl dX1_not_10 ?_
    refine lv_aload_n hx hb dX1_not_13 rfl (lv_at hl 0 rfl) ?_
    refine va_get (D := (dC, dI)) (ci := 1) (v := .int (nI k)) (C := RX1) (T := TX1) (N := 2) hx hb hts in_X1 hown hK hP 0 rfl rfl 0 (by decide) (hts _ q112) (fun _ h9 => h9) rfl dX1_not_14 ?_
    refine lv_iconst (v := 1) hx hb dX1_not_17 (by decide) ?_
    refine lv_isub hx hb dX1_not_18 ?_
    refine rc_topi (y := nI (k - 1)) (rq_sub (n := 1) hk1) ?_
    refine lv_aload_n hx hb dX1_not_19 rfl (lv_at hl 0 rfl) ?_
    refine va_get (D := (dC, dI)) (ci := 1) (v := .ref h1) (C := RX1) (T := TX1) (N := 2) hx hb hts in_X1 hown hK hP 0 rfl rfl 1 (by decide) (hts _ q113) (fun _ h9 => h9) rfl dX1_not_20 ?_
    refine lv_aload_n hx hb dX1_not_23 rfl (lv_at hl 0 rfl) ?_
    refine va_get (D := (dC, dI)) (ci := 1) (v := .int (nI k)) (C := RX1) (T := TX1) (N := 2) hx hb hts in_X1 hown hK hP 0 rfl rfl 0 (by decide) (hts _ q112) (fun _ h9 => h9) rfl dX1_not_24 ?_
    refine lv_iconst (v := 1) hx hb dX1_not_27 (by decide) ?_
    refine lv_isub hx hb dX1_not_28 ?_
    refine rc_topi (y := nI (k - 1)) (rq_sub (n := 1) hk1) ?_
    refine va_lald hx hb hK hP 1 0 rfl rfl (vp_in_nI (by omega) (by decide)) dX1_not_29 ?_
    refine rc_topl (y := f (k - 1)) (congrArg f (nI_clamp (by omega))) ?_
    refine lv_ldc2 (v := (-1)) hx hb hown (hts _ q131) dX1_not_30 ?_
    refine lv_lxor hx hb dX1_not_33 ?_
    refine va_last hx hb hK hP hD hS 1 0 rfl rfl (vp_in_nI (by omega) (by decide)) dX1_not_34 (fun H locs hP hD hS => ?_)
    rw [show (nI (k - 1)).toNatClampNeg = (k - 1) from nI_clamp (by omega)] at hP hD
    have hP : va_P (dC, dI) rp_cl (rp_ws 1 h0 h1 dA (nI k) (vp_updL f (k - 1) ((f (k - 1)) ^^^ (-1)))) H := hP
    have hD : va_D _ (rp_ws 1 h0 h1 dA (nI k) (vp_updL f (k - 1) ((f (k - 1)) ^^^ (-1)))) := hD
    refine lv_iconst (v := 0) hx hb dX1_not_35 (by decide) ?_
    exact rp_mret hx hb hr hlk hK hP hD hS (by rw [rr_not, if_neg c4]) dX1_not_36
  · refine lv_iconst (v := (-1)) hx hb dX1_not_7 (by decide) ?_
    exact rp_mret hx hb hr hlk hK hP hD hS (by rw [rr_not, if_pos c4]) dX1_not_8
theorem cwX1_not {R : Room} {s : State} {args : Array Value} (ht : ∀ w ∈ lw_all, w.before args s = true) (h1 : 1 ≤ R.frames) (h2 : 20 ≤ R.locals) : CallW R s args "RingProverLaw" RX1 30 yX1_not cX1_not 1 (some .int) (ws_ yX1_not cX1_not 1 (some .int)) ({ frames := 0, cells := 0, slots := 0, locals := 0 }) 0 0 0 := cwV 0 ht (lw_V q142 q143 q144 q7 q145) rfl rfl rfl (by decide +kernel) ⟨h1, h2⟩
set_option maxHeartbeats 4000000 in
set_option maxRecDepth 100000 in
/-- copy -/
theorem mt1_copy (l : Launch) (dC : Nat → ClassId) (dI : Nat → Nat → Nat) (h0 h1 : Nat) (dA : ClassId) (sz k : Nat) (f : Nat → Int64) (hk : k ≤ 12) (p0 : Int32) : Met l yX1_copy (ws_ yX1_copy cX1_copy 2 (some .int)) ({ frames := 1, cells := 0, slots := 0, locals := 31 }) (va_Pc [.ref h0, .int p0] (rp_BM sz 1 dC dI h0 h1 dA k f)) (rp_QM 1 dC dI h0 h1 dA (rr_copy p0 k f) (va_A (rp_ws 1 h0 h1 dA (nI k) f) sz)) 0 0 (va_A (rp_ws 1 h0 h1 dA (nI k) f) sz) := by
  refine rc_start RX1 [.ref h0, .int p0] (by decide) rfl (Nat.le_of_ble_eq_true rfl) ?_
  intro p e s m below meth c ls C hr hlk hin hB hl
  obtain ⟨hx, hb, hml, hown, hts⟩ := id C
  obtain ⟨hsz, ⟨hP, hK⟩, hD0⟩ := hB
  subst hsz
  have hD := hD0.self (sz := s.heap.size)
  have hA : ∀ q : Nat, s.heap.size ≤ q → va_A (rp_ws 1 h0 h1 dA (nI k) f) s.heap.size q := fun q h => Or.inr h
  have hS : va_S (va_A (rp_ws 1 h0 h1 dA (nI k) f) s.heap.size) s.heap s.heap [] := va_S.rf
  generalize va_A (rp_ws 1 h0 h1 dA (nI k) f) s.heap.size = A at hD hA hS ⊢
  have hl : lv_has ls 2 [(0, .ref h0), (1, .int p0)] := hl
  refine lv_aload_n hx hb dX1_copy_0 rfl (lv_at hl 0 rfl) ?_
  refine lv_iload_n hx hb dX1_copy_1 rfl (lv_at hl 1 rfl) ?_
  refine rc_call (W.runV (As := [.int p0]) (rest := []) C (mt1_mis l dC dI h0 h1 dA k f hk p0) (cwX1_missing hts (Nat.le_of_ble_eq_true rfl) (Nat.le_of_ble_eq_true rfl)) (rc_preV rfl hP hK) rfl rfl hl.1 rfl (lv_room (Nat.le_of_ble_eq_true rfl)) dX1_copy_2 ⟨Nat.zero_le _, Nat.zero_le _⟩) ?_
  refine lv_if_eq (tgt := 12) hx hb dX1_copy_5 (by decide) (fun c5 => ?_) (fun c5 => ?_)
  · refine lv_aload_n hx hb dX1_copy_12 rfl (lv_at hl 0 rfl) ?_
    refine lv_aload_n hx hb dX1_copy_13 rfl (lv_at hl 0 rfl) ?_
    refine va_get (D := (dC, dI)) (ci := 1) (v := .ref h1) (C := RX1) (T := TX1) (N := 2) hx hb hts in_X1 hown hK hP 0 rfl rfl 1 (by decide) (hts _ q113) (fun _ h9 => h9) rfl dX1_copy_14 ?_
    refine lv_aload_n hx hb dX1_copy_17 rfl (lv_at hl 0 rfl) ?_
    refine va_get (D := (dC, dI)) (ci := 1) (v := .int (nI k)) (C := RX1) (T := TX1) (N := 2) hx hb hts in_X1 hown hK hP 0 rfl rfl 0 (by decide) (hts _ q112) (fun _ h9 => h9) rfl dX1_copy_18 ?_
    refine lv_iconst (v := 1) hx hb dX1_copy_21 (by decide) ?_
    refine lv_isub hx hb dX1_copy_22 ?_
    refine lv_iload_n hx hb dX1_copy_23 rfl (lv_at hl 1 rfl) ?_
    refine lv_isub hx hb dX1_copy_24 ?_
    refine va_lald hx hb hK hP 1 0 rfl rfl (rq_inM hk c5) dX1_copy_25 ?_
    refine rc_topl (y := rp_at p0 k f) rfl ?_
    refine rp_mut (wr := []) (tysr := []) (As := [.long (rp_at p0 k f)]) (rest := []) C (mt1_push l dC dI h0 h1 dA s.heap.size k f hk (rp_at p0 k f)) (cwX1_push hts (Nat.le_of_ble_eq_true rfl) (Nat.le_of_ble_eq_true rfl)) rfl hP hD hK hS hA [] rfl rfl (by decide) rfl hl.1 rfl (lv_room (Nat.le_of_ble_eq_true rfl)) dX1_copy_26 ⟨Nat.zero_le _, Nat.zero_le _⟩ (fun H locs hP hD hS => ?_)
    have hP : va_P (dC, dI) rp_cl (rp_ws 1 h0 h1 dA (nI (rr_push (rp_at p0 k f) k f).2.1) ((rr_push (rp_at p0 k f) k f).2.2)) H := hP
    have hD : va_D _ (rp_ws 1 h0 h1 dA (nI (rr_push (rp_at p0 k f) k f).2.1) ((rr_push (rp_at p0 k f) k f).2.2)) := hD
    exact rp_mret hx hb hr hlk hK hP hD hS (by rw [rr_copy, if_pos c5]) dX1_copy_29
  · refine lv_iconst (v := (-1)) hx hb dX1_copy_8 (by decide) ?_
    refine lv_goto (tgt := 29) hx hb dX1_copy_9 (by decide) ?_
    exact rp_mret hx hb hr hlk hK hP hD hS (by rw [rr_copy, if_neg c5]) dX1_copy_29
theorem cwX1_copy {R : Room} {s : State} {args : Array Value} (ht : ∀ w ∈ lw_all, w.before args s = true) (h1 : 2 ≤ R.frames) (h2 : 52 ≤ R.locals) : CallW R s args "RingProverLaw" RX1 34 yX1_copy cX1_copy 2 (some .int) (ws_ yX1_copy cX1_copy 2 (some .int)) ({ frames := 1, cells := 0, slots := 0, locals := 31 }) 0 0 1 := cwV 1 ht (lw_V q146 q147 q148 q7 q149) rfl rfl rfl (by decide +kernel) ⟨h1, h2⟩
set_option maxHeartbeats 4000000 in
set_option maxRecDepth 100000 in
/-- drop -/
theorem mt1_drop (l : Launch) (dC : Nat → ClassId) (dI : Nat → Nat → Nat) (h0 h1 : Nat) (dA : ClassId) (sz k : Nat) (f : Nat → Int64) (hk : k ≤ 12)  : Met l yX1_drop (ws_ yX1_drop cX1_drop 1 (some .int)) ({ frames := 0, cells := 0, slots := 0, locals := 0 }) (va_Pc [.ref h0] (rp_BM sz 1 dC dI h0 h1 dA k f)) (rp_QM 1 dC dI h0 h1 dA (rr_drop k f) (va_A (rp_ws 1 h0 h1 dA (nI k) f) sz)) 0 0 (va_A (rp_ws 1 h0 h1 dA (nI k) f) sz) := by
  refine rc_start RX1 [.ref h0] (by decide) rfl (Nat.le_of_ble_eq_true rfl) ?_
  intro p e s m below meth c ls C hr hlk hin hB hl
  obtain ⟨hx, hb, hml, hown, hts⟩ := id C
  obtain ⟨hsz, ⟨hP, hK⟩, hD0⟩ := hB
  subst hsz
  have hD := hD0.self (sz := s.heap.size)
  have hA : ∀ q : Nat, s.heap.size ≤ q → va_A (rp_ws 1 h0 h1 dA (nI k) f) s.heap.size q := fun q h => Or.inr h
  have hS : va_S (va_A (rp_ws 1 h0 h1 dA (nI k) f) s.heap.size) s.heap s.heap [] := va_S.rf
  generalize va_A (rp_ws 1 h0 h1 dA (nI k) f) s.heap.size = A at hD hA hS ⊢
  have hl : lv_has ls 1 [(0, .ref h0)] := hl
  refine lv_aload_n hx hb dX1_drop_0 rfl (lv_at hl 0 rfl) ?_
  refine va_get (D := (dC, dI)) (ci := 1) (v := .int (nI k)) (C := RX1) (T := TX1) (N := 2) hx hb hts in_X1 hown hK hP 0 rfl rfl 0 (by decide) (hts _ q112) (fun _ h9 => h9) rfl dX1_drop_1 ?_
  refine lv_if_ne (tgt := 9) hx hb dX1_drop_4 (by decide) (fun c4 => ?_) (fun c4 => ?_)
  · have hk1 : 1 ≤ k := rq_k0 hk c4
    refine lv_aload_n hx hb dX1_drop_9 rfl (lv_at hl 0 rfl) ?_
    refine lv_dup hx hb dX1_drop_10 rfl ?_
    refine va_get (D := (dC, dI)) (ci := 1) (v := .int (nI k)) (C := RX1) (T := TX1) (N := 2) hx hb hts in_X1 hown hK hP 0 rfl rfl 0 (by decide) (hts _ q112) (fun _ h9 => h9) rfl dX1_drop_11 ?_
    refine lv_iconst (v := 1) hx hb dX1_drop_14 (by decide) ?_
    refine lv_isub hx hb dX1_drop_15 ?_
    refine rc_topi (y := nI (k - 1)) (rq_sub (n := 1) hk1) ?_
    refine va_put (D := (dC, dI)) (ci := 1) (v := .int (nI (k - 1))) (ty := .int) (C := RX1) (T := TX1) (N := 2) hx hb hts in_X1 tyX1 tyX1_ok nmX1 hown hK hP hD hS 0 rfl rfl 0 (by decide) (hts _ q112) (fun _ h9 => h9) rfl (by decide +kernel) rfl rfl (Nat.le_of_ble_eq_true rfl) dX1_drop_16 (fun H locs hP hD hS => ?_)
    have hP : va_P (dC, dI) rp_cl (rp_ws 1 h0 h1 dA (nI (k - 1)) f) H := hP
    have hD : va_D _ (rp_ws 1 h0 h1 dA (nI (k - 1)) f) := hD
    refine lv_aload_n hx hb dX1_drop_19 rfl (lv_at hl 0 rfl) ?_
    refine va_get (D := (dC, dI)) (ci := 1) (v := .int (nI (k - 1))) (C := RX1) (T := TX1) (N := 2) hx hb hts in_X1 hown hK hP 0 rfl rfl 0 (by decide) (hts _ q112) (fun _ h9 => h9) rfl dX1_drop_20 ?_
    exact rp_mret hx hb hr hlk hK hP hD hS (by rw [rr_drop, if_neg c4]) dX1_drop_23
  · refine lv_iconst (v := (-1)) hx hb dX1_drop_7 (by decide) ?_
    exact rp_mret hx hb hr hlk hK hP hD hS (by rw [rr_drop, if_pos c4]) dX1_drop_8
theorem cwX1_drop {R : Room} {s : State} {args : Array Value} (ht : ∀ w ∈ lw_all, w.before args s = true) (h1 : 1 ≤ R.frames) (h2 : 20 ≤ R.locals) : CallW R s args "RingProverLaw" RX1 38 yX1_drop cX1_drop 1 (some .int) (ws_ yX1_drop cX1_drop 1 (some .int)) ({ frames := 0, cells := 0, slots := 0, locals := 0 }) 0 0 0 := cwV 0 ht (lw_V q154 q155 q156 q7 q157) rfl rfl rfl (by decide +kernel) ⟨h1, h2⟩
section
variable {p : Program} {l : Launch} {e : Env} {R : Room} {s : State} {m : MethodId} {args : Array Value} {below : List Frame} {meth : Method} {c : Code} {H : Heap} {locs : List Loc} {cells slots : Nat} {Q : State → Prop}
set_option maxHeartbeats 4000000 in
set_option maxRecDepth 100000 in
/-- replace's loop -/
theorem lp1_rep (C : CallFix p m c cX1_replace 10 s args lw_all RX1) (hR : 1 ≤ R.frames ∧ 31 ≤ R.locals) (hf : cells ≤ R.cells ∧ slots ≤ R.slots) (v : Int32) (t b : Int64) (h0 : Nat)
    (kx : ∀ ls : Array Slot, lv_has ls 10 [(8, .int (nI 64)), (6, .long (rr_rep v t b 64)), (4, .long b), (2, .long t), (1, .int v), (0, .ref h0)] → W p l e R s m args below meth c H locs cells slots Q (F0 m 102 ls [])) :
    ∀ (n i : Nat), i ≤ 64 → 65 ≤ i + n → ∀ ls : Array Slot, lv_has ls 10 [(8, .int (nI i)), (6, .long (rr_rep v t b i)), (4, .long b), (2, .long t), (1, .int v), (0, .ref h0)] → W p l e R s m args below meth c H locs cells slots Q (F0 m 50 ls []) := by
  obtain ⟨hx, hb, hml, hown, hts⟩ := id C
  intro n
  induction n with
  | zero =>
    intro i a1 a2
    exact absurd a2 (by omega)
  | succ n ih =>
    intro i a1 a2 ls hl
    refine lv_iload hx hb dX1_replace_50 (lv_at hl 0 rfl) ?_
    refine lv_bipush (v := nI 64) hx hb dX1_replace_52 (by decide) ?_
    refine lv_icmp_ge (tgt := 102) hx hb dX1_replace_54 (by decide) (fun c54 => ?_) (fun c54 => ?_)
    · have hi : i = 64 := rc_eq a1 (by decide) c54
      subst hi
      exact kx ls (lv_sub hl [0, 1, 2, 3, 4, 5] rfl)
    · have hi : i < 64 := rc_lt (by omega) c54
      refine lv_iload hx hb dX1_replace_57 (lv_at hl 0 rfl) ?_
      refine lv_iconst (v := 1) hx hb dX1_replace_59 (by decide) ?_
      refine lv_iload_n hx hb dX1_replace_60 rfl (lv_at hl 4 rfl) ?_
      refine lv_ishl hx hb dX1_replace_61 ?_
      refine lv_iconst (v := (-1)) hx hb dX1_replace_62 (by decide) ?_
      refine lv_ixor hx hb dX1_replace_63 ?_
      refine lv_iand hx hb dX1_replace_64 ?_
      refine lv_lload hx hb dX1_replace_65 (lv_at hl 2 rfl) ?_
      refine lv_iload hx hb dX1_replace_67 (lv_at hl 0 rfl) ?_
      refine rc_call (W.runS (As := [.long b, .int (nI i)]) (rest := [.int ((nI i) &&& (((1 : Int32) <<< (v &&& 31)) ^^^ (-1)))]) C (mt1_bit l b (nI i)) (cwX1_bit hts (Nat.le_trans (Nat.le_of_ble_eq_true rfl) hR.1) (Nat.le_trans (Nat.le_of_ble_eq_true rfl) hR.2)) rc_preS rfl rfl hl.1 rfl (lv_room (Nat.le_of_ble_eq_true rfl)) dX1_replace_69 hf) ?_
      refine lv_iload_n hx hb dX1_replace_72 rfl (lv_at hl 4 rfl) ?_
      refine lv_ishl hx hb dX1_replace_73 ?_
      refine lv_ior hx hb dX1_replace_74 ?_
      refine lv_istore (lv' := [(9, .int (((nI i) &&& (((1 : Int32) <<< (v &&& 31)) ^^^ (-1))) ||| ((rr_bit b (nI i)) <<< (v &&& 31)))), (8, .int (nI i)), (6, .long (rr_rep v t b i)), (4, .long b), (2, .long t), (1, .int v), (0, .ref h0)]) hx hb dX1_replace_75 hl (by decide) rfl (fun ls hl => ?_)
      refine lv_lload_n hx hb dX1_replace_77 rfl (lv_at hl 4 rfl) ?_
      refine lv_iload hx hb dX1_replace_78 (lv_at hl 0 rfl) ?_
      refine rc_call (W.runS (As := [.long t, .int (((nI i) &&& (((1 : Int32) <<< (v &&& 31)) ^^^ (-1))) ||| ((rr_bit b (nI i)) <<< (v &&& 31)))]) (rest := []) C (mt1_bit l t (((nI i) &&& (((1 : Int32) <<< (v &&& 31)) ^^^ (-1))) ||| ((rr_bit b (nI i)) <<< (v &&& 31)))) (cwX1_bit hts (Nat.le_trans (Nat.le_of_ble_eq_true rfl) hR.1) (Nat.le_trans (Nat.le_of_ble_eq_true rfl) hR.2)) rc_preS rfl rfl hl.1 rfl (lv_room (Nat.le_of_ble_eq_true rfl)) dX1_replace_80 hf) ?_
      refine lv_iconst (v := 1) hx hb dX1_replace_83 (by decide) ?_
      refine lv_icmp_ne (tgt := 96) hx hb dX1_replace_84 (by decide) (fun c84 => ?_) (fun c84 => ?_)
      · refine lv_iinc (v := nI (i + 1)) (lv' := [(8, .int (nI (i + 1))), (9, .int (((nI i) &&& (((1 : Int32) <<< (v &&& 31)) ^^^ (-1))) ||| ((rr_bit b (nI i)) <<< (v &&& 31)))), (6, .long (rr_rep v t b i)), (4, .long b), (2, .long t), (1, .int v), (0, .ref h0)]) hx hb dX1_replace_96 hl (k := 1) rfl (nI_1 i) (by decide) rfl (fun ls hl => ?_)
        refine lv_goto (tgt := 50) hx hb dX1_replace_99 (by decide) ?_
        exact ih (i + 1) (by omega) (by omega) ls (by rw [show rr_rep v t b (i + 1) = rr_rep v t b i from by rw [rr_rep, if_neg c84]]; exact (lv_sub hl [0, 2, 3, 4, 5, 6] rfl))
      · refine lv_lload hx hb dX1_replace_87 (lv_at hl 2 rfl) ?_
        refine lv_lconst (v := 1) hx hb dX1_replace_89 (by decide) ?_
        refine lv_iload hx hb dX1_replace_90 (lv_at hl 1 rfl) ?_
        refine lv_lshl (v := rp_shl 1 (nI i)) hx hb dX1_replace_92 rfl ?_
        refine lv_lor hx hb dX1_replace_93 ?_
        refine rc_topl (y := rr_rep v t b (i + 1)) (by rw [rr_rep, if_pos c84]) ?_
        refine lv_lstore (lv' := [(6, .long (rr_rep v t b (i + 1))), (9, .int (((nI i) &&& (((1 : Int32) <<< (v &&& 31)) ^^^ (-1))) ||| ((rr_bit b (nI i)) <<< (v &&& 31)))), (8, .int (nI i)), (4, .long b), (2, .long t), (1, .int v), (0, .ref h0)]) hx hb dX1_replace_94 hl (by decide) rfl (fun ls hl => ?_)
        refine lv_iinc (v := nI (i + 1)) (lv' := [(8, .int (nI (i + 1))), (6, .long (rr_rep v t b (i + 1))), (9, .int (((nI i) &&& (((1 : Int32) <<< (v &&& 31)) ^^^ (-1))) ||| ((rr_bit b (nI i)) <<< (v &&& 31)))), (4, .long b), (2, .long t), (1, .int v), (0, .ref h0)]) hx hb dX1_replace_96 hl (k := 2) rfl (nI_1 i) (by decide) rfl (fun ls hl => ?_)
        refine lv_goto (tgt := 50) hx hb dX1_replace_99 (by decide) ?_
        exact ih (i + 1) (by omega) (by omega) ls (lv_sub hl [0, 1, 3, 4, 5, 6] rfl)
end
set_option maxHeartbeats 4000000 in
set_option maxRecDepth 100000 in
/-- replace -/
theorem mt1_replace (l : Launch) (dC : Nat → ClassId) (dI : Nat → Nat → Nat) (h0 h1 : Nat) (dA : ClassId) (sz k : Nat) (f : Nat → Int64) (hk : k ≤ 12) (v : Int32) : Met l yX1_replace (ws_ yX1_replace cX1_replace 10 (some .int)) ({ frames := 1, cells := 0, slots := 0, locals := 31 }) (va_Pc [.ref h0, .int v] (rp_BM sz 1 dC dI h0 h1 dA k f)) (rp_QM 1 dC dI h0 h1 dA (rr_replace v k f) (va_A (rp_ws 1 h0 h1 dA (nI k) f) sz)) 0 0 (va_A (rp_ws 1 h0 h1 dA (nI k) f) sz) := by
  refine rc_start RX1 [.ref h0, .int v] (by decide) rfl (Nat.le_of_ble_eq_true rfl) ?_
  intro p e s m below meth c ls C hr hlk hin hB hl
  obtain ⟨hx, hb, hml, hown, hts⟩ := id C
  obtain ⟨hsz, ⟨hP, hK⟩, hD0⟩ := hB
  subst hsz
  have hD := hD0.self (sz := s.heap.size)
  have hA : ∀ q : Nat, s.heap.size ≤ q → va_A (rp_ws 1 h0 h1 dA (nI k) f) s.heap.size q := fun q h => Or.inr h
  have hS : va_S (va_A (rp_ws 1 h0 h1 dA (nI k) f) s.heap.size) s.heap s.heap [] := va_S.rf
  generalize va_A (rp_ws 1 h0 h1 dA (nI k) f) s.heap.size = A at hD hA hS ⊢
  have hl : lv_has ls 10 [(0, .ref h0), (1, .int v)] := hl
  refine lv_aload_n hx hb dX1_replace_0 rfl (lv_at hl 0 rfl) ?_
  refine va_get (D := (dC, dI)) (ci := 1) (v := .int (nI k)) (C := RX1) (T := TX1) (N := 2) hx hb hts in_X1 hown hK hP 0 rfl rfl 0 (by decide) (hts _ q112) (fun _ h9 => h9) rfl dX1_replace_1 ?_
  refine lv_iconst (v := 2) hx hb dX1_replace_4 (by decide) ?_
  refine lv_icmp_lt (tgt := 17) hx hb dX1_replace_5 (by decide) (fun c5 => ?_) (fun c5 => ?_)
  · refine lv_iconst (v := (-1)) hx hb dX1_replace_17 (by decide) ?_
    exact rp_mret hx hb hr hlk hK hP hD hS (by rw [rr_replace, if_pos c5]) dX1_replace_18
  · have hk2 : 2 ≤ k := rq_k2n hk c5
    have hk1 : 1 ≤ k := by omega
    refine lv_iload_n hx hb dX1_replace_8 rfl (lv_at hl 1 rfl) ?_
    refine lv_if_lt (tgt := 17) hx hb dX1_replace_9 (by decide) (fun c9 => ?_) (fun c9 => ?_)
    · refine lv_iconst (v := (-1)) hx hb dX1_replace_17 (by decide) ?_
      exact rp_mret hx hb hr hlk hK hP hD hS (by rw [rr_replace, if_neg c5, if_pos c9]) dX1_replace_18
    · refine lv_iload_n hx hb dX1_replace_12 rfl (lv_at hl 1 rfl) ?_
      refine lv_iconst (v := 5) hx hb dX1_replace_13 (by decide) ?_
      refine lv_icmp_le (tgt := 19) hx hb dX1_replace_14 (by decide) (fun c14 => ?_) (fun c14 => ?_)
      · refine lv_aload_n hx hb dX1_replace_19 rfl (lv_at hl 0 rfl) ?_
        refine va_get (D := (dC, dI)) (ci := 1) (v := .ref h1) (C := RX1) (T := TX1) (N := 2) hx hb hts in_X1 hown hK hP 0 rfl rfl 1 (by decide) (hts _ q113) (fun _ h9 => h9) rfl dX1_replace_20 ?_
        refine lv_aload_n hx hb dX1_replace_23 rfl (lv_at hl 0 rfl) ?_
        refine va_get (D := (dC, dI)) (ci := 1) (v := .int (nI k)) (C := RX1) (T := TX1) (N := 2) hx hb hts in_X1 hown hK hP 0 rfl rfl 0 (by decide) (hts _ q112) (fun _ h9 => h9) rfl dX1_replace_24 ?_
        refine lv_iconst (v := 1) hx hb dX1_replace_27 (by decide) ?_
        refine lv_isub hx hb dX1_replace_28 ?_
        refine rc_topi (y := nI (k - 1)) (rq_sub (n := 1) hk1) ?_
        refine va_lald hx hb hK hP 1 0 rfl rfl (vp_in_nI (by omega) (by decide)) dX1_replace_29 ?_
        refine rc_topl (y := f (k - 1)) (congrArg f (nI_clamp (by omega))) ?_
        refine lv_lstore_n (lv' := [(2, .long (f (k - 1))), (0, .ref h0), (1, .int v)]) hx hb dX1_replace_30 rfl hl (by decide) rfl (fun ls hl => ?_)
        refine lv_aload_n hx hb dX1_replace_31 rfl (lv_at hl 1 rfl) ?_
        refine va_get (D := (dC, dI)) (ci := 1) (v := .ref h1) (C := RX1) (T := TX1) (N := 2) hx hb hts in_X1 hown hK hP 0 rfl rfl 1 (by decide) (hts _ q113) (fun _ h9 => h9) rfl dX1_replace_32 ?_
        refine lv_aload_n hx hb dX1_replace_35 rfl (lv_at hl 1 rfl) ?_
        refine va_get (D := (dC, dI)) (ci := 1) (v := .int (nI k)) (C := RX1) (T := TX1) (N := 2) hx hb hts in_X1 hown hK hP 0 rfl rfl 0 (by decide) (hts _ q112) (fun _ h9 => h9) rfl dX1_replace_36 ?_
        refine lv_iconst (v := 2) hx hb dX1_replace_39 (by decide) ?_
        refine lv_isub hx hb dX1_replace_40 ?_
        refine rc_topi (y := nI (k - 2)) (rq_sub (n := 2) hk2) ?_
        refine va_lald hx hb hK hP 1 0 rfl rfl (vp_in_nI (by omega) (by decide)) dX1_replace_41 ?_
        refine rc_topl (y := f (k - 2)) (congrArg f (nI_clamp (by omega))) ?_
        refine lv_lstore (lv' := [(4, .long (f (k - 2))), (2, .long (f (k - 1))), (0, .ref h0), (1, .int v)]) hx hb dX1_replace_42 hl (by decide) rfl (fun ls hl => ?_)
        refine lv_lconst (v := 0) hx hb dX1_replace_44 (by decide) ?_
        refine lv_lstore (lv' := [(6, .long 0), (4, .long (f (k - 2))), (2, .long (f (k - 1))), (0, .ref h0), (1, .int v)]) hx hb dX1_replace_45 hl (by decide) rfl (fun ls hl => ?_)
        refine lv_iconst (v := 0) hx hb dX1_replace_47 (by decide) ?_
        refine lv_istore (lv' := [(8, .int 0), (6, .long 0), (4, .long (f (k - 2))), (2, .long (f (k - 1))), (0, .ref h0), (1, .int v)]) hx hb dX1_replace_48 hl (by decide) rfl (fun ls hl => ?_)
        refine lp1_rep C ⟨(Nat.le_of_ble_eq_true rfl), (Nat.le_of_ble_eq_true rfl)⟩ ⟨Nat.zero_le _, Nat.zero_le _⟩ v (f (k - 1)) (f (k - 2)) h0 (fun ls hl => ?_) 65 0 (Nat.zero_le _) (Nat.le_of_ble_eq_true rfl) ls (lv_sub hl [0, 1, 2, 3, 5, 4] rfl)
        refine lv_aload_n hx hb dX1_replace_102 rfl (lv_at hl 5 rfl) ?_
        refine lv_dup hx hb dX1_replace_103 rfl ?_
        refine va_get (D := (dC, dI)) (ci := 1) (v := .int (nI k)) (C := RX1) (T := TX1) (N := 2) hx hb hts in_X1 hown hK hP 0 rfl rfl 0 (by decide) (hts _ q112) (fun _ h9 => h9) rfl dX1_replace_104 ?_
        refine lv_iconst (v := 1) hx hb dX1_replace_107 (by decide) ?_
        refine lv_isub hx hb dX1_replace_108 ?_
        refine rc_topi (y := nI (k - 1)) (rq_sub (n := 1) hk1) ?_
        refine va_put (D := (dC, dI)) (ci := 1) (v := .int (nI (k - 1))) (ty := .int) (C := RX1) (T := TX1) (N := 2) hx hb hts in_X1 tyX1 tyX1_ok nmX1 hown hK hP hD hS 0 rfl rfl 0 (by decide) (hts _ q112) (fun _ h9 => h9) rfl (by decide +kernel) rfl rfl (Nat.le_of_ble_eq_true rfl) dX1_replace_109 (fun H locs hP hD hS => ?_)
        have hP : va_P (dC, dI) rp_cl (rp_ws 1 h0 h1 dA (nI (k - 1)) f) H := hP
        have hD : va_D _ (rp_ws 1 h0 h1 dA (nI (k - 1)) f) := hD
        refine lv_aload_n hx hb dX1_replace_112 rfl (lv_at hl 5 rfl) ?_
        refine va_get (D := (dC, dI)) (ci := 1) (v := .ref h1) (C := RX1) (T := TX1) (N := 2) hx hb hts in_X1 hown hK hP 0 rfl rfl 1 (by decide) (hts _ q113) (fun _ h9 => h9) rfl dX1_replace_113 ?_
        refine lv_aload_n hx hb dX1_replace_116 rfl (lv_at hl 5 rfl) ?_
        refine va_get (D := (dC, dI)) (ci := 1) (v := .int (nI (k - 1))) (C := RX1) (T := TX1) (N := 2) hx hb hts in_X1 hown hK hP 0 rfl rfl 0 (by decide) (hts _ q112) (fun _ h9 => h9) rfl dX1_replace_117 ?_
        refine lv_iconst (v := 1) hx hb dX1_replace_120 (by decide) ?_
        refine lv_isub hx hb dX1_replace_121 ?_
        refine rc_topi (y := nI (k - 2)) (rq_sub2 hk2) ?_
        refine lv_lload hx hb dX1_replace_122 (lv_at hl 1 rfl) ?_
        refine va_last hx hb hK hP hD hS 1 0 rfl rfl (vp_in_nI (by omega) (by decide)) dX1_replace_124 (fun H locs hP hD hS => ?_)
        rw [show (nI (k - 2)).toNatClampNeg = (k - 2) from nI_clamp (by omega)] at hP hD
        have hP : va_P (dC, dI) rp_cl (rp_ws 1 h0 h1 dA (nI (k - 1)) (vp_updL f (k - 2) (rr_rep v (f (k - 1)) (f (k - 2)) 64))) H := hP
        have hD : va_D _ (rp_ws 1 h0 h1 dA (nI (k - 1)) (vp_updL f (k - 2) (rr_rep v (f (k - 1)) (f (k - 2)) 64))) := hD
        refine lv_aload_n hx hb dX1_replace_125 rfl (lv_at hl 5 rfl) ?_
        refine va_get (D := (dC, dI)) (ci := 1) (v := .int (nI (k - 1))) (C := RX1) (T := TX1) (N := 2) hx hb hts in_X1 hown hK hP 0 rfl rfl 0 (by decide) (hts _ q112) (fun _ h9 => h9) rfl dX1_replace_126 ?_
        exact rp_mret hx hb hr hlk hK hP hD hS (by rw [rr_replace, if_neg c5, if_neg c9, if_pos c14]) dX1_replace_129
      · refine lv_iconst (v := (-1)) hx hb dX1_replace_17 (by decide) ?_
        exact rp_mret hx hb hr hlk hK hP hD hS (by rw [rr_replace, if_neg c5, if_neg c9, if_neg c14]) dX1_replace_18
theorem cwX1_replace {R : Room} {s : State} {args : Array Value} (ht : ∀ w ∈ lw_all, w.before args s = true) (h1 : 2 ≤ R.frames) (h2 : 60 ≤ R.locals) : CallW R s args "RingProverLaw" RX1 42 yX1_replace cX1_replace 10 (some .int) (ws_ yX1_replace cX1_replace 10 (some .int)) ({ frames := 1, cells := 0, slots := 0, locals := 31 }) 0 0 1 := cwV 1 ht (lw_V q158 q159 q160 q7 q161) rfl rfl rfl (by decide +kernel) ⟨h1, h2⟩
set_option maxHeartbeats 4000000 in
set_option maxRecDepth 100000 in
/-- found -/
theorem mt1_found (l : Launch) (dC : Nat → ClassId) (dI : Nat → Nat → Nat) (h0 h1 : Nat) (dA : ClassId) (k : Nat) (f : Nat → Int64) (hk : k ≤ 12) (p0 : Int32) (hm : rr_mis p0 k = 0) : Met l yX1_found (ws_ yX1_found cX1_found 2 (some .long)) ({ frames := 2, cells := 0, slots := 0, locals := 62 }) (va_Pc [.ref h0, .int p0] (rp_B 1 dC dI h0 h1 dA k f)) (rc_Q (.long (rr_found p0 k f))) 0 0 (fun _ => False) := by
  refine rc_start RX1 [.ref h0, .int p0] (by decide) rfl (Nat.le_of_ble_eq_true rfl) ?_
  intro p e s m below meth c ls C hr hlk hin hB hl
  obtain ⟨hx, hb, hml, hown, hts⟩ := id C
  obtain ⟨hP, hK⟩ := hB
  have hl : lv_has ls 2 [(0, .ref h0), (1, .int p0)] := hl
  refine lv_aload_n hx hb dX1_found_0 rfl (lv_at hl 0 rfl) ?_
  refine va_get (D := (dC, dI)) (ci := 1) (v := .ref h1) (C := RX1) (T := TX1) (N := 2) hx hb hts in_X1 hown hK hP 0 rfl rfl 1 (by decide) (hts _ q113) (fun _ h9 => h9) rfl dX1_found_1 ?_
  refine lv_aload_n hx hb dX1_found_4 rfl (lv_at hl 0 rfl) ?_
  refine va_get (D := (dC, dI)) (ci := 1) (v := .int (nI k)) (C := RX1) (T := TX1) (N := 2) hx hb hts in_X1 hown hK hP 0 rfl rfl 0 (by decide) (hts _ q112) (fun _ h9 => h9) rfl dX1_found_5 ?_
  refine lv_iconst (v := 1) hx hb dX1_found_8 (by decide) ?_
  refine lv_isub hx hb dX1_found_9 ?_
  refine lv_iload_n hx hb dX1_found_10 rfl (lv_at hl 1 rfl) ?_
  refine lv_isub hx hb dX1_found_11 ?_
  refine va_lald hx hb hK hP 1 0 rfl rfl (rq_inM hk hm) dX1_found_12 ?_
  refine rc_topl (y := rp_at p0 k f) rfl ?_
  refine rc_call (W.runS (As := [.long (rp_at p0 k f)]) (rest := []) C (mt1_pro l (rp_at p0 k f)) (cwX1_productsOf hts (Nat.le_of_ble_eq_true rfl) (Nat.le_of_ble_eq_true rfl)) rc_preS rfl rfl hl.1 rfl (lv_room (Nat.le_of_ble_eq_true rfl)) dX1_found_13 ⟨Nat.zero_le _, Nat.zero_le _⟩) ?_
  exact rc_lret hx hb hr hlk rfl dX1_found_16
theorem cwX1_found {R : Room} {s : State} {args : Array Value} (ht : ∀ w ∈ lw_all, w.before args s = true) (h1 : 3 ≤ R.frames) (h2 : 83 ≤ R.locals) : CallW R s args RX1 RX1 43 yX1_found cX1_found 2 (some .long) (ws_ yX1_found cX1_found 2 (some .long)) ({ frames := 2, cells := 0, slots := 0, locals := 62 }) 0 0 1 := cwV 1 ht (lw_V q166 q168 qs4 q7 q169) rfl rfl rfl (by decide +kernel) ⟨h1, h2⟩
set_option maxHeartbeats 4000000 in
set_option maxRecDepth 100000 in
/-- products -/
theorem mt1_products (l : Launch) (dC : Nat → ClassId) (dI : Nat → Nat → Nat) (h0 h1 : Nat) (dA : ClassId) (k : Nat) (f : Nat → Int64) (hk : k ≤ 12) (p0 : Int32) : Met l yX1_products (ws_ yX1_products cX1_products 4 (some .int)) ({ frames := 3, cells := 0, slots := 0, locals := 93 }) (va_Pc [.ref h0, .int p0] (rp_B 1 dC dI h0 h1 dA k f)) (rc_Q (.int (rr_products p0 k f))) 0 0 (fun _ => False) := by
  refine rc_start RX1 [.ref h0, .int p0] (by decide) rfl (Nat.le_of_ble_eq_true rfl) ?_
  intro p e s m below meth c ls C hr hlk hin hB hl
  obtain ⟨hx, hb, hml, hown, hts⟩ := id C
  obtain ⟨hP, hK⟩ := hB
  have hl : lv_has ls 4 [(0, .ref h0), (1, .int p0)] := hl
  refine lv_aload_n hx hb dX1_products_0 rfl (lv_at hl 0 rfl) ?_
  refine lv_iload_n hx hb dX1_products_1 rfl (lv_at hl 1 rfl) ?_
  refine rc_call (W.runV (As := [.int p0]) (rest := []) C (mt1_mis l dC dI h0 h1 dA k f hk p0) (cwX1_missing hts (Nat.le_of_ble_eq_true rfl) (Nat.le_of_ble_eq_true rfl)) (rc_preV rfl hP hK) rfl rfl hl.1 rfl (lv_room (Nat.le_of_ble_eq_true rfl)) dX1_products_2 ⟨Nat.zero_le _, Nat.zero_le _⟩) ?_
  refine lv_if_eq (tgt := 10) hx hb dX1_products_5 (by decide) (fun c5 => ?_) (fun c5 => ?_)
  · refine lv_aload_n hx hb dX1_products_10 rfl (lv_at hl 0 rfl) ?_
    refine lv_iload_n hx hb dX1_products_11 rfl (lv_at hl 1 rfl) ?_
    refine rc_call (W.runV (As := [.int p0]) (rest := []) C (mt1_found l dC dI h0 h1 dA k f hk p0 c5) (cwX1_found hts (Nat.le_of_ble_eq_true rfl) (Nat.le_of_ble_eq_true rfl)) (rc_preV rfl hP hK) rfl rfl hl.1 rfl (lv_room (Nat.le_of_ble_eq_true rfl)) dX1_products_12 ⟨Nat.zero_le _, Nat.zero_le _⟩) ?_
    refine lv_lstore_n (lv' := [(2, .long (rr_found p0 k f)), (0, .ref h0), (1, .int p0)]) hx hb dX1_products_15 rfl hl (by decide) rfl (fun ls hl => ?_)
    refine lv_lload_n hx hb dX1_products_16 rfl (lv_at hl 0 rfl) ?_
    refine rc_call (W.runS (As := [.long (rr_found p0 k f)]) (rest := []) C (mt1_one l (rr_found p0 k f)) (cwX1_ones hts (Nat.le_of_ble_eq_true rfl) (Nat.le_of_ble_eq_true rfl)) rc_preS rfl rfl hl.1 rfl (lv_room (Nat.le_of_ble_eq_true rfl)) dX1_products_17 ⟨Nat.zero_le _, Nat.zero_le _⟩) ?_
    exact rc_iret hx hb hr hlk (by rw [rr_products, if_pos c5]) dX1_products_20
  · refine lv_iconst (v := (-1)) hx hb dX1_products_8 (by decide) ?_
    exact rc_iret hx hb hr hlk (by rw [rr_products, if_neg c5]) dX1_products_9
theorem cwX1_products {R : Room} {s : State} {args : Array Value} (ht : ∀ w ∈ lw_all, w.before args s = true) (h1 : 4 ≤ R.frames) (h2 : 116 ≤ R.locals) : CallW R s args "RingProverLaw" RX1 46 yX1_products cX1_products 4 (some .int) (ws_ yX1_products cX1_products 4 (some .int)) ({ frames := 3, cells := 0, slots := 0, locals := 93 }) 0 0 1 := cwV 1 ht (lw_V q162 q163 q164 q7 q165) rfl rfl rfl (by decide +kernel) ⟨h1, h2⟩
set_option maxHeartbeats 4000000 in
set_option maxRecDepth 100000 in
/-- has -/
theorem mt1_has (l : Launch) (dC : Nat → ClassId) (dI : Nat → Nat → Nat) (h0 h1 : Nat) (dA : ClassId) (k : Nat) (f : Nat → Int64) (hk : k ≤ 12) (p0 : Int32) (q : Int32) : Met l yX1_has (ws_ yX1_has cX1_has 5 (some .int)) ({ frames := 3, cells := 0, slots := 0, locals := 93 }) (va_Pc [.ref h0, .int p0, .int q] (rp_B 1 dC dI h0 h1 dA k f)) (rc_Q (.int (rr_has p0 q k f))) 0 0 (fun _ => False) := by
  refine rc_start RX1 [.ref h0, .int p0, .int q] (by decide) rfl (Nat.le_of_ble_eq_true rfl) ?_
  intro p e s m below meth c ls C hr hlk hin hB hl
  obtain ⟨hx, hb, hml, hown, hts⟩ := id C
  obtain ⟨hP, hK⟩ := hB
  have hl : lv_has ls 5 [(0, .ref h0), (1, .int p0), (2, .int q)] := hl
  refine lv_aload_n hx hb dX1_has_0 rfl (lv_at hl 0 rfl) ?_
  refine lv_iload_n hx hb dX1_has_1 rfl (lv_at hl 1 rfl) ?_
  refine rc_call (W.runV (As := [.int p0]) (rest := []) C (mt1_mis l dC dI h0 h1 dA k f hk p0) (cwX1_missing hts (Nat.le_of_ble_eq_true rfl) (Nat.le_of_ble_eq_true rfl)) (rc_preV rfl hP hK) rfl rfl hl.1 rfl (lv_room (Nat.le_of_ble_eq_true rfl)) dX1_has_2 ⟨Nat.zero_le _, Nat.zero_le _⟩) ?_
  refine lv_if_ne (tgt := 18) hx hb dX1_has_5 (by decide) (fun c5 => ?_) (fun c5 => ?_)
  · refine lv_iconst (v := (-1)) hx hb dX1_has_18 (by decide) ?_
    exact rc_iret hx hb hr hlk (by rw [rr_has, if_neg c5]) dX1_has_19
  · refine lv_iload_n hx hb dX1_has_8 rfl (lv_at hl 2 rfl) ?_
    refine lv_if_lt (tgt := 18) hx hb dX1_has_9 (by decide) (fun c9 => ?_) (fun c9 => ?_)
    · refine lv_iconst (v := (-1)) hx hb dX1_has_18 (by decide) ?_
      exact rc_iret hx hb hr hlk (by rw [rr_has, if_pos c5, if_pos c9]) dX1_has_19
    · refine lv_iload_n hx hb dX1_has_12 rfl (lv_at hl 2 rfl) ?_
      refine lv_bipush (v := 63) hx hb dX1_has_13 (by decide) ?_
      refine lv_icmp_le (tgt := 20) hx hb dX1_has_15 (by decide) (fun c15 => ?_) (fun c15 => ?_)
      · refine lv_aload_n hx hb dX1_has_20 rfl (lv_at hl 0 rfl) ?_
        refine lv_iload_n hx hb dX1_has_21 rfl (lv_at hl 1 rfl) ?_
        refine rc_call (W.runV (As := [.int p0]) (rest := []) C (mt1_found l dC dI h0 h1 dA k f hk p0 c5) (cwX1_found hts (Nat.le_of_ble_eq_true rfl) (Nat.le_of_ble_eq_true rfl)) (rc_preV rfl hP hK) rfl rfl hl.1 rfl (lv_room (Nat.le_of_ble_eq_true rfl)) dX1_has_22 ⟨Nat.zero_le _, Nat.zero_le _⟩) ?_
        refine lv_lstore_n (lv' := [(3, .long (rr_found p0 k f)), (0, .ref h0), (1, .int p0), (2, .int q)]) hx hb dX1_has_25 rfl hl (by decide) rfl (fun ls hl => ?_)
        refine lv_lload_n hx hb dX1_has_26 rfl (lv_at hl 0 rfl) ?_
        refine lv_iload_n hx hb dX1_has_27 rfl (lv_at hl 3 rfl) ?_
        refine rc_call (W.runS (As := [.long (rr_found p0 k f), .int q]) (rest := []) C (mt1_bit l (rr_found p0 k f) q) (cwX1_bit hts (Nat.le_of_ble_eq_true rfl) (Nat.le_of_ble_eq_true rfl)) rc_preS rfl rfl hl.1 rfl (lv_room (Nat.le_of_ble_eq_true rfl)) dX1_has_28 ⟨Nat.zero_le _, Nat.zero_le _⟩) ?_
        exact rc_iret hx hb hr hlk (by rw [rr_has, if_pos c5, if_neg c9, if_pos c15]) dX1_has_31
      · refine lv_iconst (v := (-1)) hx hb dX1_has_18 (by decide) ?_
        exact rc_iret hx hb hr hlk (by rw [rr_has, if_pos c5, if_neg c9, if_neg c15]) dX1_has_19
theorem cwX1_has {R : Room} {s : State} {args : Array Value} (ht : ∀ w ∈ lw_all, w.before args s = true) (h1 : 4 ≤ R.frames) (h2 : 117 ≤ R.locals) : CallW R s args "RingProverLaw" RX1 51 yX1_has cX1_has 5 (some .int) (ws_ yX1_has cX1_has 5 (some .int)) ({ frames := 3, cells := 0, slots := 0, locals := 93 }) 0 0 2 := cwV 2 ht (lw_V q179 q180 q181 q7 q182) rfl rfl rfl (by decide +kernel) ⟨h1, h2⟩
section
variable {p : Program} {l : Launch} {e : Env} {R : Room} {s : State} {m : MethodId} {args : Array Value} {below : List Frame} {meth : Method} {c : Code} {H : Heap} {locs : List Loc} {cells slots : Nat} {Q : State → Prop}
set_option maxHeartbeats 4000000 in
set_option maxRecDepth 100000 in
/-- degree's loop -/
theorem lp1_deg (C : CallFix p m c cX1_degree 6 s args lw_all RX1) (hR : 2 ≤ R.frames ∧ 62 ≤ R.locals) (hf : cells ≤ R.cells ∧ slots ≤ R.slots) (s0 : Int64)
    (kx : ∀ ls : Array Slot, lv_has ls 6 [(5, .int (nI 64)), (4, .int (rr_deg s0 64)), (2, .long s0)] → W p l e R s m args below meth c H locs cells slots Q (F0 m 64 ls [])) :
    ∀ (n i : Nat), i ≤ 64 → 65 ≤ i + n → ∀ ls : Array Slot, lv_has ls 6 [(5, .int (nI i)), (4, .int (rr_deg s0 i)), (2, .long s0)] → W p l e R s m args below meth c H locs cells slots Q (F0 m 22 ls []) := by
  obtain ⟨hx, hb, hml, hown, hts⟩ := id C
  intro n
  induction n with
  | zero =>
    intro i a1 a2
    exact absurd a2 (by omega)
  | succ n ih =>
    intro i a1 a2 ls hl
    refine lv_iload hx hb dX1_degree_22 (lv_at hl 0 rfl) ?_
    refine lv_bipush (v := nI 64) hx hb dX1_degree_24 (by decide) ?_
    refine lv_icmp_ge (tgt := 64) hx hb dX1_degree_26 (by decide) (fun c26 => ?_) (fun c26 => ?_)
    · have hi : i = 64 := rc_eq a1 (by decide) c26
      subst hi
      exact kx ls (lv_sub hl [0, 1, 2] rfl)
    · have hi : i < 64 := rc_lt (by omega) c26
      refine lv_lload_n hx hb dX1_degree_29 rfl (lv_at hl 2 rfl) ?_
      refine lv_iload hx hb dX1_degree_30 (lv_at hl 0 rfl) ?_
      refine rc_call (W.runS (As := [.long s0, .int (nI i)]) (rest := []) C (mt1_bit l s0 (nI i)) (cwX1_bit hts (Nat.le_trans (Nat.le_of_ble_eq_true rfl) hR.1) (Nat.le_trans (Nat.le_of_ble_eq_true rfl) hR.2)) rc_preS rfl rfl hl.1 rfl (lv_room (Nat.le_of_ble_eq_true rfl)) dX1_degree_32 hf) ?_
      refine lv_iconst (v := 1) hx hb dX1_degree_35 (by decide) ?_
      refine lv_icmp_ne (tgt := 58) hx hb dX1_degree_36 (by decide) (fun c36 => ?_) (fun c36 => ?_)
      · refine lv_iinc (v := nI (i + 1)) (lv' := [(5, .int (nI (i + 1))), (4, .int (rr_deg s0 i)), (2, .long s0)]) hx hb dX1_degree_58 hl (k := 0) rfl (nI_1 i) (by decide) rfl (fun ls hl => ?_)
        refine lv_goto (tgt := 22) hx hb dX1_degree_61 (by decide) ?_
        exact ih (i + 1) (by omega) (by omega) ls (by rw [show rr_deg s0 (i + 1) = rr_deg s0 i from by rw [rr_deg, if_neg c36]]; exact (lv_sub hl [0, 1, 2] rfl))
      · refine lv_iload hx hb dX1_degree_39 (lv_at hl 0 rfl) ?_
        refine lv_i2l (v := (nI i).toInt64) hx hb dX1_degree_41 rfl ?_
        refine rc_call (W.runS (As := [.long ((nI i).toInt64)]) (rest := []) C (mt1_one l ((nI i).toInt64)) (cwX1_ones hts (Nat.le_trans (Nat.le_of_ble_eq_true rfl) hR.1) (Nat.le_trans (Nat.le_of_ble_eq_true rfl) hR.2)) rc_preS rfl rfl hl.1 rfl (lv_room (Nat.le_of_ble_eq_true rfl)) dX1_degree_42 hf) ?_
        refine lv_iload hx hb dX1_degree_45 (lv_at hl 1 rfl) ?_
        refine lv_icmp_le (tgt := 58) hx hb dX1_degree_47 (by decide) (fun c47 => ?_) (fun c47 => ?_)
        · refine lv_iinc (v := nI (i + 1)) (lv' := [(5, .int (nI (i + 1))), (4, .int (rr_deg s0 i)), (2, .long s0)]) hx hb dX1_degree_58 hl (k := 0) rfl (nI_1 i) (by decide) rfl (fun ls hl => ?_)
          refine lv_goto (tgt := 22) hx hb dX1_degree_61 (by decide) ?_
          exact ih (i + 1) (by omega) (by omega) ls (by rw [show rr_deg s0 (i + 1) = rr_deg s0 i from by rw [rr_deg, if_pos c36, if_pos c47]]; exact (lv_sub hl [0, 1, 2] rfl))
        · refine lv_iload hx hb dX1_degree_50 (lv_at hl 0 rfl) ?_
          refine lv_i2l (v := (nI i).toInt64) hx hb dX1_degree_52 rfl ?_
          refine rc_call (W.runS (As := [.long ((nI i).toInt64)]) (rest := []) C (mt1_one l ((nI i).toInt64)) (cwX1_ones hts (Nat.le_trans (Nat.le_of_ble_eq_true rfl) hR.1) (Nat.le_trans (Nat.le_of_ble_eq_true rfl) hR.2)) rc_preS rfl rfl hl.1 rfl (lv_room (Nat.le_of_ble_eq_true rfl)) dX1_degree_53 hf) ?_
          refine lv_istore (lv' := [(4, .int (rr_one ((nI i).toInt64) 64)), (5, .int (nI i)), (2, .long s0)]) hx hb dX1_degree_56 hl (by decide) rfl (fun ls hl => ?_)
          refine lv_iinc (v := nI (i + 1)) (lv' := [(5, .int (nI (i + 1))), (4, .int (rr_one ((nI i).toInt64) 64)), (2, .long s0)]) hx hb dX1_degree_58 hl (k := 1) rfl (nI_1 i) (by decide) rfl (fun ls hl => ?_)
          refine lv_goto (tgt := 22) hx hb dX1_degree_61 (by decide) ?_
          exact ih (i + 1) (by omega) (by omega) ls (by rw [show rr_deg s0 (i + 1) = rr_one ((nI i).toInt64) 64 from by rw [rr_deg, if_pos c36, if_neg c47]]; exact (lv_sub hl [0, 1, 2] rfl))
end
set_option maxHeartbeats 4000000 in
set_option maxRecDepth 100000 in
/-- degree -/
theorem mt1_degree (l : Launch) (dC : Nat → ClassId) (dI : Nat → Nat → Nat) (h0 h1 : Nat) (dA : ClassId) (k : Nat) (f : Nat → Int64) (hk : k ≤ 12) (p0 : Int32) : Met l yX1_degree (ws_ yX1_degree cX1_degree 6 (some .int)) ({ frames := 3, cells := 0, slots := 0, locals := 93 }) (va_Pc [.ref h0, .int p0] (rp_B 1 dC dI h0 h1 dA k f)) (rc_Q (.int (rr_degree p0 k f))) 0 0 (fun _ => False) := by
  refine rc_start RX1 [.ref h0, .int p0] (by decide) rfl (Nat.le_of_ble_eq_true rfl) ?_
  intro p e s m below meth c ls C hr hlk hin hB hl
  obtain ⟨hx, hb, hml, hown, hts⟩ := id C
  obtain ⟨hP, hK⟩ := hB
  have hl : lv_has ls 6 [(0, .ref h0), (1, .int p0)] := hl
  refine lv_aload_n hx hb dX1_degree_0 rfl (lv_at hl 0 rfl) ?_
  refine lv_iload_n hx hb dX1_degree_1 rfl (lv_at hl 1 rfl) ?_
  refine rc_call (W.runV (As := [.int p0]) (rest := []) C (mt1_mis l dC dI h0 h1 dA k f hk p0) (cwX1_missing hts (Nat.le_of_ble_eq_true rfl) (Nat.le_of_ble_eq_true rfl)) (rc_preV rfl hP hK) rfl rfl hl.1 rfl (lv_room (Nat.le_of_ble_eq_true rfl)) dX1_degree_2 ⟨Nat.zero_le _, Nat.zero_le _⟩) ?_
  refine lv_if_eq (tgt := 10) hx hb dX1_degree_5 (by decide) (fun c5 => ?_) (fun c5 => ?_)
  · refine lv_aload_n hx hb dX1_degree_10 rfl (lv_at hl 0 rfl) ?_
    refine lv_iload_n hx hb dX1_degree_11 rfl (lv_at hl 1 rfl) ?_
    refine rc_call (W.runV (As := [.int p0]) (rest := []) C (mt1_found l dC dI h0 h1 dA k f hk p0 c5) (cwX1_found hts (Nat.le_of_ble_eq_true rfl) (Nat.le_of_ble_eq_true rfl)) (rc_preV rfl hP hK) rfl rfl hl.1 rfl (lv_room (Nat.le_of_ble_eq_true rfl)) dX1_degree_12 ⟨Nat.zero_le _, Nat.zero_le _⟩) ?_
    refine lv_lstore_n (lv' := [(2, .long (rr_found p0 k f)), (0, .ref h0), (1, .int p0)]) hx hb dX1_degree_15 rfl hl (by decide) rfl (fun ls hl => ?_)
    refine lv_iconst (v := 0) hx hb dX1_degree_16 (by decide) ?_
    refine lv_istore (lv' := [(4, .int 0), (2, .long (rr_found p0 k f)), (0, .ref h0), (1, .int p0)]) hx hb dX1_degree_17 hl (by decide) rfl (fun ls hl => ?_)
    refine lv_iconst (v := 0) hx hb dX1_degree_19 (by decide) ?_
    refine lv_istore (lv' := [(5, .int 0), (4, .int 0), (2, .long (rr_found p0 k f)), (0, .ref h0), (1, .int p0)]) hx hb dX1_degree_20 hl (by decide) rfl (fun ls hl => ?_)
    refine lp1_deg C ⟨(Nat.le_of_ble_eq_true rfl), (Nat.le_of_ble_eq_true rfl)⟩ ⟨Nat.zero_le _, Nat.zero_le _⟩ (rr_found p0 k f) (fun ls hl => ?_) 65 0 (Nat.zero_le _) (Nat.le_of_ble_eq_true rfl) ls (lv_sub hl [0, 1, 2] rfl)
    refine lv_iload hx hb dX1_degree_64 (lv_at hl 1 rfl) ?_
    exact rc_iret hx hb hr hlk (by rw [rr_degree, if_pos c5]) dX1_degree_66
  · refine lv_iconst (v := (-1)) hx hb dX1_degree_8 (by decide) ?_
    exact rc_iret hx hb hr hlk (by rw [rr_degree, if_neg c5]) dX1_degree_9
theorem cwX1_degree {R : Room} {s : State} {args : Array Value} (ht : ∀ w ∈ lw_all, w.before args s = true) (h1 : 4 ≤ R.frames) (h2 : 118 ≤ R.locals) : CallW R s args "RingProverLaw" RX1 55 yX1_degree cX1_degree 6 (some .int) (ws_ yX1_degree cX1_degree 6 (some .int)) ({ frames := 3, cells := 0, slots := 0, locals := 93 }) 0 0 1 := cwV 1 ht (lw_V q183 q184 q185 q7 q186) rfl rfl rfl (by decide +kernel) ⟨h1, h2⟩
set_option maxHeartbeats 4000000 in
set_option maxRecDepth 100000 in
/-- models -/
theorem mt1_models (l : Launch) (dC : Nat → ClassId) (dI : Nat → Nat → Nat) (h0 h1 : Nat) (dA : ClassId) (k : Nat) (f : Nat → Int64) (hk : k ≤ 12) (p0 : Int32) : Met l yX1_models (ws_ yX1_models cX1_models 2 (some .int)) ({ frames := 2, cells := 0, slots := 0, locals := 62 }) (va_Pc [.ref h0, .int p0] (rp_B 1 dC dI h0 h1 dA k f)) (rc_Q (.int (rr_models p0 k f))) 0 0 (fun _ => False) := by
  refine rc_start RX1 [.ref h0, .int p0] (by decide) rfl (Nat.le_of_ble_eq_true rfl) ?_
  intro p e s m below meth c ls C hr hlk hin hB hl
  obtain ⟨hx, hb, hml, hown, hts⟩ := id C
  obtain ⟨hP, hK⟩ := hB
  have hl : lv_has ls 2 [(0, .ref h0), (1, .int p0)] := hl
  refine lv_aload_n hx hb dX1_models_0 rfl (lv_at hl 0 rfl) ?_
  refine lv_iload_n hx hb dX1_models_1 rfl (lv_at hl 1 rfl) ?_
  refine rc_call (W.runV (As := [.int p0]) (rest := []) C (mt1_mis l dC dI h0 h1 dA k f hk p0) (cwX1_missing hts (Nat.le_of_ble_eq_true rfl) (Nat.le_of_ble_eq_true rfl)) (rc_preV rfl hP hK) rfl rfl hl.1 rfl (lv_room (Nat.le_of_ble_eq_true rfl)) dX1_models_2 ⟨Nat.zero_le _, Nat.zero_le _⟩) ?_
  refine lv_if_eq (tgt := 12) hx hb dX1_models_5 (by decide) (fun c5 => ?_) (fun c5 => ?_)
  · refine lv_aload_n hx hb dX1_models_12 rfl (lv_at hl 0 rfl) ?_
    refine va_get (D := (dC, dI)) (ci := 1) (v := .ref h1) (C := RX1) (T := TX1) (N := 2) hx hb hts in_X1 hown hK hP 0 rfl rfl 1 (by decide) (hts _ q113) (fun _ h9 => h9) rfl dX1_models_13 ?_
    refine lv_aload_n hx hb dX1_models_16 rfl (lv_at hl 0 rfl) ?_
    refine va_get (D := (dC, dI)) (ci := 1) (v := .int (nI k)) (C := RX1) (T := TX1) (N := 2) hx hb hts in_X1 hown hK hP 0 rfl rfl 0 (by decide) (hts _ q112) (fun _ h9 => h9) rfl dX1_models_17 ?_
    refine lv_iconst (v := 1) hx hb dX1_models_20 (by decide) ?_
    refine lv_isub hx hb dX1_models_21 ?_
    refine lv_iload_n hx hb dX1_models_22 rfl (lv_at hl 1 rfl) ?_
    refine lv_isub hx hb dX1_models_23 ?_
    refine va_lald hx hb hK hP 1 0 rfl rfl (rq_inM hk c5) dX1_models_24 ?_
    refine rc_topl (y := rp_at p0 k f) rfl ?_
    refine rc_call (W.runS (As := [.long (rp_at p0 k f)]) (rest := []) C (mt1_one l (rp_at p0 k f)) (cwX1_ones hts (Nat.le_of_ble_eq_true rfl) (Nat.le_of_ble_eq_true rfl)) rc_preS rfl rfl hl.1 rfl (lv_room (Nat.le_of_ble_eq_true rfl)) dX1_models_25 ⟨Nat.zero_le _, Nat.zero_le _⟩) ?_
    exact rc_iret hx hb hr hlk (by rw [rr_models, if_pos c5]) dX1_models_28
  · refine lv_iconst (v := (-1)) hx hb dX1_models_8 (by decide) ?_
    refine lv_goto (tgt := 28) hx hb dX1_models_9 (by decide) ?_
    exact rc_iret hx hb hr hlk (by rw [rr_models, if_neg c5]) dX1_models_28
theorem cwX1_models {R : Room} {s : State} {args : Array Value} (ht : ∀ w ∈ lw_all, w.before args s = true) (h1 : 3 ≤ R.frames) (h2 : 83 ≤ R.locals) : CallW R s args "RingProverLaw" RX1 59 yX1_models cX1_models 2 (some .int) (ws_ yX1_models cX1_models 2 (some .int)) ({ frames := 2, cells := 0, slots := 0, locals := 62 }) 0 0 1 := cwV 1 ht (lw_V q187 q188 q189 q7 q190) rfl rfl rfl (by decide +kernel) ⟨h1, h2⟩
section
variable {p : Program} {l : Launch} {e : Env} {R : Room} {s : State} {m : MethodId} {args : Array Value} {below : List Frame} {meth : Method} {c : Code} {H : Heap} {locs : List Loc} {cells slots : Nat} {Q : State → Prop}
set_option maxHeartbeats 4000000 in
set_option maxRecDepth 100000 in
/-- differ's loop -/
theorem lp1_dif (C : CallFix p m c cX1_differ 4 s args lw_all RX1) (hr : meth.sig.returnType = some .int) (hlk : meth.locks = false) (hR : 1 ≤ R.frames ∧ 31 ≤ R.locals) (hf : cells ≤ R.cells ∧ slots ≤ R.slots) (dC : Nat → ClassId) (dI : Nat → Nat → Nat) (h0 h1 : Nat) (dA : ClassId) (k : Nat) (f : Nat → Int64) (hk : k ≤ 12) (hK : va_K (dC, dI) rp_cl [(dA, .long)] s) (hP : va_P (dC, dI) rp_cl (rp_ws 1 h0 h1 dA (nI k) f) s.heap) (p0 q0 : Int32) (hm : rr_mis p0 k = 0) (hm2 : rr_mis q0 k = 0) (r : Int32) :
    ∀ (n i : Nat), i + n = 64 → rr_dif (rp_at p0 k f) (rp_at q0 k f) n i = r → ∀ ls : Array Slot, lv_has ls 4 [(3, .int (nI i)), (2, .int q0), (1, .int p0), (0, .ref h0)] → W p l e R s m args below meth c s.heap [] cells slots (MQ below (rc_Q (.int r)) args s cells slots (fun _ => False)) (F0 m 20 ls []) := by
  obtain ⟨hx, hb, hml, hown, hts⟩ := id C
  intro n
  induction n with
  | zero =>
    intro i a1 a2 ls hl
    have hi : i = 64 := by omega
    subst hi
    refine lv_iload_n hx hb dX1_differ_20 rfl (lv_at hl 0 rfl) ?_
    refine lv_bipush (v := nI 64) hx hb dX1_differ_21 (by decide) ?_
    refine lv_icmp_ge (tgt := 71) hx hb dX1_differ_23 (by decide) (fun c23 => ?_) (fun c23 => ?_)
    · refine lv_bipush (v := 64) hx hb dX1_differ_71 (by decide) ?_
      exact rc_iret hx hb hr hlk a2 dX1_differ_73
    · exact absurd (nI_le (Nat.le_refl 64) (by decide)) c23
  | succ n ih =>
    intro i a1 a2 ls hl
    refine lv_iload_n hx hb dX1_differ_20 rfl (lv_at hl 0 rfl) ?_
    refine lv_bipush (v := nI 64) hx hb dX1_differ_21 (by decide) ?_
    refine lv_icmp_ge (tgt := 71) hx hb dX1_differ_23 (by decide) (fun c23 => ?_) (fun c23 => ?_)
    · exact absurd c23 (nI_ge (by omega) (by decide))
    · refine lv_aload_n hx hb dX1_differ_26 rfl (lv_at hl 3 rfl) ?_
      refine va_get (D := (dC, dI)) (ci := 1) (v := .ref h1) (C := RX1) (T := TX1) (N := 2) hx hb hts in_X1 hown hK hP 0 rfl rfl 1 (by decide) (hts _ q113) (fun _ h9 => h9) rfl dX1_differ_27 ?_
      refine lv_aload_n hx hb dX1_differ_30 rfl (lv_at hl 3 rfl) ?_
      refine va_get (D := (dC, dI)) (ci := 1) (v := .int (nI k)) (C := RX1) (T := TX1) (N := 2) hx hb hts in_X1 hown hK hP 0 rfl rfl 0 (by decide) (hts _ q112) (fun _ h9 => h9) rfl dX1_differ_31 ?_
      refine lv_iconst (v := 1) hx hb dX1_differ_34 (by decide) ?_
      refine lv_isub hx hb dX1_differ_35 ?_
      refine lv_iload_n hx hb dX1_differ_36 rfl (lv_at hl 2 rfl) ?_
      refine lv_isub hx hb dX1_differ_37 ?_
      refine va_lald hx hb hK hP 1 0 rfl rfl (rq_inM hk hm) dX1_differ_38 ?_
      refine rc_topl (y := rp_at p0 k f) rfl ?_
      refine lv_iload_n hx hb dX1_differ_39 rfl (lv_at hl 0 rfl) ?_
      refine rc_call (W.runS (As := [.long (rp_at p0 k f), .int (nI i)]) (rest := []) C (mt1_bit l (rp_at p0 k f) (nI i)) (cwX1_bit hts (Nat.le_trans (Nat.le_of_ble_eq_true rfl) hR.1) (Nat.le_trans (Nat.le_of_ble_eq_true rfl) hR.2)) rc_preS rfl rfl hl.1 rfl (lv_room (Nat.le_of_ble_eq_true rfl)) dX1_differ_40 hf) ?_
      refine lv_aload_n hx hb dX1_differ_43 rfl (lv_at hl 3 rfl) ?_
      refine va_get (D := (dC, dI)) (ci := 1) (v := .ref h1) (C := RX1) (T := TX1) (N := 2) hx hb hts in_X1 hown hK hP 0 rfl rfl 1 (by decide) (hts _ q113) (fun _ h9 => h9) rfl dX1_differ_44 ?_
      refine lv_aload_n hx hb dX1_differ_47 rfl (lv_at hl 3 rfl) ?_
      refine va_get (D := (dC, dI)) (ci := 1) (v := .int (nI k)) (C := RX1) (T := TX1) (N := 2) hx hb hts in_X1 hown hK hP 0 rfl rfl 0 (by decide) (hts _ q112) (fun _ h9 => h9) rfl dX1_differ_48 ?_
      refine lv_iconst (v := 1) hx hb dX1_differ_51 (by decide) ?_
      refine lv_isub hx hb dX1_differ_52 ?_
      refine lv_iload_n hx hb dX1_differ_53 rfl (lv_at hl 1 rfl) ?_
      refine lv_isub hx hb dX1_differ_54 ?_
      refine va_lald hx hb hK hP 1 0 rfl rfl (rq_inM hk hm2) dX1_differ_55 ?_
      refine rc_topl (y := rp_at q0 k f) rfl ?_
      refine lv_iload_n hx hb dX1_differ_56 rfl (lv_at hl 0 rfl) ?_
      refine rc_call (W.runS (As := [.long (rp_at q0 k f), .int (nI i)]) (rest := [.int (rr_bit (rp_at p0 k f) (nI i))]) C (mt1_bit l (rp_at q0 k f) (nI i)) (cwX1_bit hts (Nat.le_trans (Nat.le_of_ble_eq_true rfl) hR.1) (Nat.le_trans (Nat.le_of_ble_eq_true rfl) hR.2)) rc_preS rfl rfl hl.1 rfl (lv_room (Nat.le_of_ble_eq_true rfl)) dX1_differ_57 hf) ?_
      refine lv_icmp_eq (tgt := 65) hx hb dX1_differ_60 (by decide) (fun c60 => ?_) (fun c60 => ?_)
      · refine lv_iinc (v := nI (i + 1)) (lv' := [(3, .int (nI (i + 1))), (2, .int q0), (1, .int p0), (0, .ref h0)]) hx hb dX1_differ_65 hl (k := 0) rfl (nI_1 i) (by decide) rfl (fun ls hl => ?_)
        refine lv_goto (tgt := 20) hx hb dX1_differ_68 (by decide) ?_
        exact ih (i + 1) (by omega) (by rw [← a2, rr_dif, if_pos c60]) ls (lv_sub hl [0, 1, 2, 3] rfl)
      · refine lv_iload_n hx hb dX1_differ_63 rfl (lv_at hl 0 rfl) ?_
        exact rc_iret hx hb hr hlk (by rw [← a2, rr_dif, if_neg c60]) dX1_differ_64
end
set_option maxHeartbeats 4000000 in
set_option maxRecDepth 100000 in
/-- differ -/
theorem mt1_differ (l : Launch) (dC : Nat → ClassId) (dI : Nat → Nat → Nat) (h0 h1 : Nat) (dA : ClassId) (k : Nat) (f : Nat → Int64) (hk : k ≤ 12) (p0 : Int32) (q0 : Int32) : Met l yX1_differ (ws_ yX1_differ cX1_differ 4 (some .int)) ({ frames := 1, cells := 0, slots := 0, locals := 31 }) (va_Pc [.ref h0, .int p0, .int q0] (rp_B 1 dC dI h0 h1 dA k f)) (rc_Q (.int (rr_differ p0 q0 k f))) 0 0 (fun _ => False) := by
  refine rc_start RX1 [.ref h0, .int p0, .int q0] (by decide) rfl (Nat.le_of_ble_eq_true rfl) ?_
  intro p e s m below meth c ls C hr hlk hin hB hl
  obtain ⟨hx, hb, hml, hown, hts⟩ := id C
  obtain ⟨hP, hK⟩ := hB
  have hl : lv_has ls 4 [(0, .ref h0), (1, .int p0), (2, .int q0)] := hl
  refine lv_aload_n hx hb dX1_differ_0 rfl (lv_at hl 0 rfl) ?_
  refine lv_iload_n hx hb dX1_differ_1 rfl (lv_at hl 1 rfl) ?_
  refine rc_call (W.runV (As := [.int p0]) (rest := []) C (mt1_mis l dC dI h0 h1 dA k f hk p0) (cwX1_missing hts (Nat.le_of_ble_eq_true rfl) (Nat.le_of_ble_eq_true rfl)) (rc_preV rfl hP hK) rfl rfl hl.1 rfl (lv_room (Nat.le_of_ble_eq_true rfl)) dX1_differ_2 ⟨Nat.zero_le _, Nat.zero_le _⟩) ?_
  refine lv_if_ne (tgt := 16) hx hb dX1_differ_5 (by decide) (fun c5 => ?_) (fun c5 => ?_)
  · refine lv_iconst (v := (-1)) hx hb dX1_differ_16 (by decide) ?_
    exact rc_iret hx hb hr hlk (by rw [rr_differ, if_neg c5]) dX1_differ_17
  · refine lv_aload_n hx hb dX1_differ_8 rfl (lv_at hl 0 rfl) ?_
    refine lv_iload_n hx hb dX1_differ_9 rfl (lv_at hl 2 rfl) ?_
    refine rc_call (W.runV (As := [.int q0]) (rest := []) C (mt1_mis l dC dI h0 h1 dA k f hk q0) (cwX1_missing hts (Nat.le_of_ble_eq_true rfl) (Nat.le_of_ble_eq_true rfl)) (rc_preV rfl hP hK) rfl rfl hl.1 rfl (lv_room (Nat.le_of_ble_eq_true rfl)) dX1_differ_10 ⟨Nat.zero_le _, Nat.zero_le _⟩) ?_
    refine lv_if_eq (tgt := 18) hx hb dX1_differ_13 (by decide) (fun c13 => ?_) (fun c13 => ?_)
    · refine lv_iconst (v := 0) hx hb dX1_differ_18 (by decide) ?_
      refine lv_istore_n (lv' := [(3, .int 0), (0, .ref h0), (1, .int p0), (2, .int q0)]) hx hb dX1_differ_19 rfl hl (by decide) rfl (fun ls hl => ?_)
      exact lp1_dif C hr hlk ⟨(Nat.le_of_ble_eq_true rfl), (Nat.le_of_ble_eq_true rfl)⟩ ⟨Nat.zero_le _, Nat.zero_le _⟩ dC dI h0 h1 dA k f hk hK hP p0 q0 c5 c13 _ 64 0 rfl (by rw [rr_differ, if_pos c5, if_pos c13]) ls (lv_sub hl [0, 3, 2, 1] rfl)
    · refine lv_iconst (v := (-1)) hx hb dX1_differ_16 (by decide) ?_
      exact rc_iret hx hb hr hlk (by rw [rr_differ, if_pos c5, if_neg c13]) dX1_differ_17
theorem cwX1_differ {R : Room} {s : State} {args : Array Value} (ht : ∀ w ∈ lw_all, w.before args s = true) (h1 : 2 ≤ R.frames) (h2 : 54 ≤ R.locals) : CallW R s args "RingProverLaw" RX1 63 yX1_differ cX1_differ 4 (some .int) (ws_ yX1_differ cX1_differ 4 (some .int)) ({ frames := 1, cells := 0, slots := 0, locals := 31 }) 0 0 2 := cwV 2 ht (lw_V q191 q192 q193 q7 q194) rfl rfl rfl (by decide +kernel) ⟨h1, h2⟩
end
section
/-! WALK: the two constructors (written by gen.py) -/
set_option maxHeartbeats 4000000 in
set_option maxRecDepth 100000 in
/-- the constructor: an array of 12 longs comes -/
theorem mt0_init (l : Launch) (dC : Nat → ClassId) (dI : Nat → Nat → Nat) (h0 sz : Nat) : Met l yX0_init (ws_ yX0_init cX0_init 1 none) ({ frames := 1, cells := 1, slots := 12, locals := 31 }) (va_Pc [.ref h0] (fun U => U.heap.size = sz ∧ va_P (dC, dI) rp_cl [(h0, .inr (0, [.int 0, .null]))] U.heap ∧ va_K (dC, dI) rp_cl [] U ∧ va_D (fun _ => True) [(h0, .inr (0, [.int 0, .null]))])) (va_Qv (fun _ : Unit => True) (fun _ t => ∃ (h1 : Nat) (dA : ClassId), va_P (dC, dI) rp_cl (rp_ws 0 h0 h1 dA (nI 0) (fun _ => 0)) t.heap ∧ va_K (dC, dI) rp_cl [(dA, .long)] t ∧ va_D (va_A [(h0, .inr (0, [.int 0, .null]))] sz) (rp_ws 0 h0 h1 dA (nI 0) (fun _ => 0))) (va_A [(h0, .inr (0, [.int 0, .null]))] sz)) 1 12 (va_A [(h0, .inr (0, [.int 0, .null]))] sz) := by
  refine rc_start RX0 [.ref h0] (by decide) rfl (Nat.le_of_ble_eq_true rfl) ?_
  intro p e s m below meth c ls C hr hlk hin hB hl
  obtain ⟨hx, hb, hml, hown, hts⟩ := id C
  obtain ⟨hsz, hP, hK, hD0⟩ := hB
  subst hsz
  have hD := hD0.self (sz := s.heap.size)
  have hA : ∀ q : Nat, s.heap.size ≤ q → va_A [(h0, .inr (0, [.int 0, .null]))] s.heap.size q := fun q h => Or.inr h
  have hS : va_S (va_A [(h0, .inr (0, [.int 0, .null]))] s.heap.size) s.heap s.heap [] := va_S.rf
  generalize va_A [(h0, .inr (0, [.int 0, .null]))] s.heap.size = A at hD hA hS ⊢
  have hl : lv_has ls 1 [(0, .ref h0)] := hl
  have hin : meth.name = "<init>" := hin
  refine lv_aload_n hx hb dX0_init_0 rfl (lv_at hl 0 rfl) ?_
  refine W.objInit hx hb hown (hts _ q13) (hts _ q14) (hts _ q15) rfl (by rw [hml]; exact hl.1) rfl dX0_init_1 (Nat.le_of_ble_eq_true rfl) (Nat.le_of_ble_eq_true rfl) ?_
  refine W.eq (g2 := F0 m 4 ls []) rfl ?_
  refine lv_aload_n hx hb dX0_init_4 rfl (lv_at hl 0 rfl) ?_
  refine lv_bipush (v := 12) hx hb dX0_init_5 (by decide) ?_
  refine va_newa (atype := .long) (N' := 12) (n := 12) (a0 := (12, .inr (.inl (fun _ => 0)))) (ty := .long) hx hb (hts _ q23) rfl hK hP hD hS hA (fun _ => rfl) (by decide) (by decide) (by decide) (Nat.le_of_ble_eq_true rfl) (Nat.le_of_ble_eq_true rfl) dX0_init_7 (fun h1 dA H hK hP hD hS => ?_)
  have hP : va_P (dC, dI) rp_cl [(h0, .inr (0, [.int 0, .null])), (h1, .inl (dA, 12, .inr (.inl (fun _ => 0))))] H := hP
  have hD : va_D A [(h0, .inr (0, [.int 0, .null])), (h1, .inl (dA, 12, .inr (.inl (fun _ => 0))))] := hD
  have hK : va_K (dC, dI) rp_cl [(dA, .long)] s := hK
  refine va_putF (D := (dC, dI)) (ci := 0) (v := .ref h1) (ty := .array .long) (C := RX0) (T := TX0) (N := 2) hx hb hts in_X0 tyX0 tyX0_ok nmX0 hown hK hP hD hS 0 rfl rfl 1 (by decide) (hts _ q17) (fun _ h9 => h9) rfl hin rfl (by decide +kernel) rfl rfl (Nat.le_of_ble_eq_true rfl) dX0_init_9 (fun H locs hP hD hS => ?_)
  have hP : va_P (dC, dI) rp_cl (rp_ws 0 h0 h1 dA (nI 0) (fun _ => 0)) H := hP
  have hD : va_D A (rp_ws 0 h0 h1 dA (nI 0) (fun _ => 0)) := hD
  refine W.widen (k := 1) (n := 12) (Nat.le_refl _) (Nat.le_refl _) ?_
  exact W.vret hx hb hr (fun t ht hW => ⟨⟨(), rfl, trivial, h1, dA, by rw [ht]; exact hP, va_K.moved hW.alike hK, hD⟩, hS.F ht⟩) hS.2.2 dX0_init_12 hlk
set_option maxHeartbeats 4000000 in
set_option maxRecDepth 100000 in
/-- the constructor: an array of 12 longs comes -/
theorem mt1_init (l : Launch) (dC : Nat → ClassId) (dI : Nat → Nat → Nat) (h0 sz : Nat) : Met l yX1_init (ws_ yX1_init cX1_init 1 none) ({ frames := 1, cells := 1, slots := 12, locals := 31 }) (va_Pc [.ref h0] (fun U => U.heap.size = sz ∧ va_P (dC, dI) rp_cl [(h0, .inr (1, [.int 0, .null]))] U.heap ∧ va_K (dC, dI) rp_cl [] U ∧ va_D (fun _ => True) [(h0, .inr (1, [.int 0, .null]))])) (va_Qv (fun _ : Unit => True) (fun _ t => ∃ (h1 : Nat) (dA : ClassId), va_P (dC, dI) rp_cl (rp_ws 1 h0 h1 dA (nI 0) (fun _ => 0)) t.heap ∧ va_K (dC, dI) rp_cl [(dA, .long)] t ∧ va_D (va_A [(h0, .inr (1, [.int 0, .null]))] sz) (rp_ws 1 h0 h1 dA (nI 0) (fun _ => 0))) (va_A [(h0, .inr (1, [.int 0, .null]))] sz)) 1 12 (va_A [(h0, .inr (1, [.int 0, .null]))] sz) := by
  refine rc_start RX1 [.ref h0] (by decide) rfl (Nat.le_of_ble_eq_true rfl) ?_
  intro p e s m below meth c ls C hr hlk hin hB hl
  obtain ⟨hx, hb, hml, hown, hts⟩ := id C
  obtain ⟨hsz, hP, hK, hD0⟩ := hB
  subst hsz
  have hD := hD0.self (sz := s.heap.size)
  have hA : ∀ q : Nat, s.heap.size ≤ q → va_A [(h0, .inr (1, [.int 0, .null]))] s.heap.size q := fun q h => Or.inr h
  have hS : va_S (va_A [(h0, .inr (1, [.int 0, .null]))] s.heap.size) s.heap s.heap [] := va_S.rf
  generalize va_A [(h0, .inr (1, [.int 0, .null]))] s.heap.size = A at hD hA hS ⊢
  have hl : lv_has ls 1 [(0, .ref h0)] := hl
  have hin : meth.name = "<init>" := hin
  refine lv_aload_n hx hb dX1_init_0 rfl (lv_at hl 0 rfl) ?_
  refine W.objInit hx hb hown (hts _ q111) (hts _ q14) (hts _ q15) rfl (by rw [hml]; exact hl.1) rfl dX1_init_1 (Nat.le_of_ble_eq_true rfl) (Nat.le_of_ble_eq_true rfl) ?_
  refine W.eq (g2 := F0 m 4 ls []) rfl ?_
  refine lv_aload_n hx hb dX1_init_4 rfl (lv_at hl 0 rfl) ?_
  refine lv_bipush (v := 12) hx hb dX1_init_5 (by decide) ?_
  refine va_newa (atype := .long) (N' := 12) (n := 12) (a0 := (12, .inr (.inl (fun _ => 0)))) (ty := .long) hx hb (hts _ q23) rfl hK hP hD hS hA (fun _ => rfl) (by decide) (by decide) (by decide) (Nat.le_of_ble_eq_true rfl) (Nat.le_of_ble_eq_true rfl) dX1_init_7 (fun h1 dA H hK hP hD hS => ?_)
  have hP : va_P (dC, dI) rp_cl [(h0, .inr (1, [.int 0, .null])), (h1, .inl (dA, 12, .inr (.inl (fun _ => 0))))] H := hP
  have hD : va_D A [(h0, .inr (1, [.int 0, .null])), (h1, .inl (dA, 12, .inr (.inl (fun _ => 0))))] := hD
  have hK : va_K (dC, dI) rp_cl [(dA, .long)] s := hK
  refine va_putF (D := (dC, dI)) (ci := 1) (v := .ref h1) (ty := .array .long) (C := RX1) (T := TX1) (N := 2) hx hb hts in_X1 tyX1 tyX1_ok nmX1 hown hK hP hD hS 0 rfl rfl 1 (by decide) (hts _ q113) (fun _ h9 => h9) rfl hin rfl (by decide +kernel) rfl rfl (Nat.le_of_ble_eq_true rfl) dX1_init_9 (fun H locs hP hD hS => ?_)
  have hP : va_P (dC, dI) rp_cl (rp_ws 1 h0 h1 dA (nI 0) (fun _ => 0)) H := hP
  have hD : va_D A (rp_ws 1 h0 h1 dA (nI 0) (fun _ => 0)) := hD
  refine W.widen (k := 1) (n := 12) (Nat.le_refl _) (Nat.le_refl _) ?_
  exact W.vret hx hb hr (fun t ht hW => ⟨⟨(), rfl, trivial, h1, dA, by rw [ht]; exact hP, va_K.moved hW.alike hK, hD⟩, hS.F ht⟩) hS.2.2 dX1_init_12 hlk
end
section
/-! THE CLAIM OUT OF ONE WALK OF THE LAW'S BODY. Your part is whole_start (and what it stands on); all else here is the same for every law, but numbers. -/
def R_law : String := "RingProverLaw"
def lw_P (b : Addr) (xs : List Int32) (args : Array Value) (s : State) : Prop := args = #[.ref b] ∧ s.IntsAt b xs ∧ xs.length ≤ 192 ∧ (Jvm.Cond.and given_1 narrow_1).before args s = true
def lw_Q (_ : Array Value) (s : State) (o : Outcome) (t : State) : Prop := o = .returned (some (.int 1)) ∧ Framed s o t [] 600000 7290000
def lw_Z (below : List Frame) (a : Array Value) (s : State) : State → Prop := fun t => ∃ o, t.status = .running ∧ Ended t below o ∧ lw_Q a s o t
/-- the law's own end, with 1 on the stack, nothing written that was there before, its room as the claim has it -/
theorem lw_ret {p : Program} {l : Launch} {e : Env} {s : State} {m : MethodId} {below : List Frame} {meth : Method} {c : Code} {b : Nat} (hx : p.tables.exec = Jvm.exec) (hb : c.code = code) (hr : meth.sig.returnType = ret) (hlocks : meth.locks = false) {pc : Nat} {H : Heap} {ls : Array Slot} (hdg : decode code pc = .ok (.ireturn, 1)) : W p l e room_1 s m #[Value.ref b] below meth c H [] 600000 7290000 (lw_Z below #[Value.ref b] s) (F0 m pc ls [.int 1]) := by
  intro T hT X
  obtain ⟨fs, hret, hrun, hended, hW, hframe⟩ := X.leave (v := some (.int 1)) (hlocks := hlocks) (fun h => by rw [hr] at h; cases h)
  have hmeth' : T.vm.method? m = some meth := X.method'
  refine ⟨T.setFrames fs, ?_, .returned (some (.int 1)), hrun, hended, rfl, ⟨_, rfl⟩, hW, hframe⟩
  jvm_step X.here [X.here.top, hx, hb, hdg, hmeth', hr, ret, narrow_b1]
  (try refine ⟨rfl, ?_⟩); (try refine ⟨rfl, ?_⟩)
  first | (intro acts; rw [hret _ acts rfl rfl rfl]) | rw [hret _ _ rfl rfl rfl]
  exact Steps.refl _
/-- what holds at the law's entry: the machine, the code, the tables' words (any of lw_tbl by 'hts w (by decide +kernel)'), the script of L ints xs at the cell b, what the Statement gives of the start (any of its parts by flat_of_before) -/
def lw_At (p : Program) (s : State) (m : MethodId) (meth : Method) (c : Code) (b L : Nat) (xs : Nat → Int32) : Prop :=
  p.tables.exec = Jvm.exec ∧ c.code = code ∧ meth.sig.returnType = ret ∧ c.maxLocals = 4 ∧ s.vm.findClass R_law = some m.cls ∧ (∀ w ∈ lw_tbl, w.before #[Value.ref b] s = true) ∧ va_X b L xs s s.heap ∧ b < s.heap.size ∧ meth.locks = false ∧ (Jvm.Cond.and given_1 narrow_1).before #[Value.ref b] s = true
end
section
/-! THE LAW (written by gen.py): its loop, by the number of rounds that are left; what stands on both sides is tied by rq_I -/
theorem rl_in {i L : Nat} (hi : i ≤ L + 2) (hL : L ≤ 192) (h : ¬ (nI L - 3) < nI i) : i + 3 ≤ L := by
  have e : (nI L - 3).toInt = (L : Int) - (3 : Nat) := pk_sub_toInt (a := L) (b := 3) (by omega) (by decide)
  rw [Int32.lt_iff_toInt_lt, e, nI_toInt (by omega)] at h
  omega
set_option maxHeartbeats 4000000 in
set_option maxRecDepth 100000 in
theorem law_loop {p : Program} {e : Env} {s : State} {m : MethodId} {below : List Frame} {meth : Method} {c : Code} (l : Launch) {dC : Nat → ClassId} {dI : Nat → Nat → Nat} {b L : Nat} {xs : Nat → Int32} (hL : L ≤ 192) (C0 : lw_At p s m meth c b L xs) :
    ∀ (n i k : Nat) (f g : Nat → Int64), i ≤ L + 2 → L + 3 ≤ i + n → rq_I k f g → ∀ (q0 q1 q2 q3 : Nat) (d0 d1 : ClassId) (H : Heap) (locs : List Loc), va_K (dC, dI) rp_cl [(d0, .long), (d1, .long)] s → va_P (dC, dI) rp_cl (rp_ws 0 q0 q1 d0 (nI k) f ++ rp_ws 1 q2 q3 d1 (nI k) g) H → va_D (fun q : Nat => s.heap.size ≤ q) (rp_ws 0 q0 q1 d0 (nI k) f ++ rp_ws 1 q2 q3 d1 (nI k) g) → va_S (fun q : Nat => s.heap.size ≤ q) s.heap H locs → ∀ ls : Array Slot, lv_has ls 4 [(0, .ref b), (1, .ref q0), (2, .ref q2), (3, .int (nI i))] → W p l e room_1 s m #[Value.ref b] below meth c H locs 4 28 (lw_Z below #[Value.ref b] s) (F0 m 18 ls []) := by
  obtain ⟨hx, hb, hr, hml, hown, hts0, hX, hbl, hlocks, hgv⟩ := C0
  have hts : ∀ w ∈ lw_all, w.before #[Value.ref b] s = true := fun w h => hts0 w (lw_all_tbl h)
  have C : CallFix p m c code 4 s #[Value.ref b] lw_all R_law := ⟨hx, hb, hml, hown, hts⟩
  have hA : ∀ q : Nat, s.heap.size ≤ q → (fun q : Nat => s.heap.size ≤ q) q := fun _ h => h
  have hbA : ¬ (fun q : Nat => s.heap.size ≤ q) b := Nat.not_le.mpr hbl
  intro n
  induction n with
  | zero =>
    intro i k f g a1 a2
    exact absurd a2 (by omega)
  | succ n ih =>
    intro i k f g a1 a2 I q0 q1 q2 q3 d0 d1 H locs hK hP hD hS ls hl
    refine lv_iload_n hx hb dL_law_18 rfl (lv_at hl 3 rfl) ?_
    refine lv_aload_n hx hb dL_law_19 rfl (lv_at hl 0 rfl) ?_
    refine va_slen hx hb hX hbl hbA hS dL_law_20 ?_
    refine lv_iconst (v := 3) hx hb dL_law_21 (by decide) ?_
    refine lv_isub hx hb dL_law_22 ?_
    refine lv_icmp_gt (tgt := 378) hx hb dL_law_23 (by decide) (fun c23 => ?_) (fun c23 => ?_)
    · refine lv_iconst (v := 1) hx hb dL_law_378 (by decide) ?_
      refine va_forget (fun q hq => hS.2.2 q hq) ?_
      refine W.widen (k := 600000) (n := 7290000) (by decide) (by decide) ?_
      exact lw_ret hx hb hr hlocks dL_law_379
    · have hi : i + 3 ≤ L := rl_in a1 hL c23
      have next : ∀ (tr0 tr1 : rp_T), rq_ok tr0 tr1 → ∀ (H : Heap) (locs : List Loc), va_P (dC, dI) rp_cl (rp_ws 0 q0 q1 d0 (nI tr0.2.1) tr0.2.2 ++ rp_ws 1 q2 q3 d1 (nI tr1.2.1) tr1.2.2) H → va_D (fun q : Nat => s.heap.size ≤ q) (rp_ws 0 q0 q1 d0 (nI tr0.2.1) tr0.2.2 ++ rp_ws 1 q2 q3 d1 (nI tr1.2.1) tr1.2.2) → va_S (fun q : Nat => s.heap.size ≤ q) s.heap H locs → W p l e room_1 s m #[Value.ref b] below meth c H locs 4 28 (lw_Z below #[Value.ref b] s) (F0 m 372 ls []) := by
        intro tr0 tr1 hO H locs hP hD hS
        rw [← hO.2.1] at hP hD
        refine lv_iinc (v := nI (i + 3)) (lv' := [(3, .int (nI (i + 3))), (0, .ref b), (1, .ref q0), (2, .ref q2)]) hx hb dL_law_372 hl (k := 3) rfl (nI_add i 3) (by decide) rfl (fun ls hl => ?_)
        refine lv_goto (tgt := 18) hx hb dL_law_375 (by decide) ?_
        exact ih (i + 3) tr0.2.1 tr0.2.2 tr1.2.2 (by omega) (by omega) hO.2.2 q0 q1 q2 q3 d0 d1 H locs hK hP hD hS ls (lv_sub hl [1, 2, 3, 0] rfl)
      have hPa := hP.sub (ws' := rp_ws 0 q0 q1 d0 (nI k) f) [0, 1] rfl
      have hPb := hP.sub (ws' := rp_ws 1 q2 q3 d1 (nI k) g) [2, 3] rfl
      have hKa := hK.sub (tys' := [(d0, .long)]) [0] rfl
      have hKb := hK.sub (tys' := [(d1, .long)]) [1] rfl
      have hKr := hK.sub (tys' := [(d1, .long), (d0, .long)]) [1, 0] rfl
      refine lv_aload_n hx hb dL_law_26 rfl (lv_at hl 0 rfl) ?_
      refine lv_iload_n hx hb dL_law_27 rfl (lv_at hl 3 rfl) ?_
      refine va_sld hx hb hX hbl hbA hS (vp_in_nI (by omega) (by omega)) dL_law_28 ?_
      refine lv_bipush (v := 15) hx hb dL_law_29 (by decide) ?_
      refine lv_iand hx hb dL_law_31 ?_
      obtain ⟨j, hj, ej⟩ := pk_andE (xs (nI i).toNatClampNeg) (m := 15) 4 (by decide)
      refine rc_topi ej ?_
      rcases (show j = 0 ∨ j = 1 ∨ j = 2 ∨ j = 3 ∨ j = 4 ∨ j = 5 ∨ j = 6 ∨ j = 7 ∨ j = 8 ∨ j = 9 ∨ j = 10 ∨ j = 11 ∨ 12 ≤ j by omega) with h | h | h | h | h | h | h | h | h | h | h | h | h
      · subst h
        refine lv_tableIn (off := 64) (tgt := 96) hx hb dL_law_32 (by decide) (by decide) rfl (by decide) ?_
        refine lv_aload_n hx hb dL_law_96 rfl (lv_at hl 1 rfl) ?_
        refine lv_aload_n hx hb dL_law_97 rfl (lv_at hl 0 rfl) ?_
        refine lv_iload_n hx hb dL_law_98 rfl (lv_at hl 3 rfl) ?_
        refine lv_iconst (v := nI 1) hx hb dL_law_99 (by decide) ?_
        refine lv_iadd hx hb dL_law_100 ?_
        refine rc_topi (nI_add i 1) ?_
        refine va_sld hx hb hX hbl hbA hS (vp_in_nI (by omega) (by omega)) dL_law_101 ?_
        refine rp_mut (wr := rp_ws 1 q2 q3 d1 (nI k) g) (tysr := [(d1, .long)]) (As := [.int (xs (nI (i + 1)).toNatClampNeg)]) (rest := []) (tr := (rp_variable (xs (nI (i + 1)).toNatClampNeg) k f)) C (mt0_variable l dC dI q0 q1 d0 H.size k f I.1 (xs (nI (i + 1)).toNatClampNeg)) (cwX0_variable hts (Nat.le_of_ble_eq_true rfl) (Nat.le_of_ble_eq_true rfl)) rfl hP hD hK hS hA [2, 3] rfl rfl (by decide) rfl hl.1 rfl (lv_room (Nat.le_of_ble_eq_true rfl)) dL_law_102 ⟨(Nat.le_of_ble_eq_true rfl), (Nat.le_of_ble_eq_true rfl)⟩ (fun H locs hP hD hS => ?_)
        refine lv_aload_n hx hb dL_law_105 rfl (lv_at hl 2 rfl) ?_
        refine lv_aload_n hx hb dL_law_106 rfl (lv_at hl 0 rfl) ?_
        refine lv_iload_n hx hb dL_law_107 rfl (lv_at hl 3 rfl) ?_
        refine lv_iconst (v := nI 1) hx hb dL_law_108 (by decide) ?_
        refine lv_iadd hx hb dL_law_109 ?_
        refine rc_topi (nI_add i 1) ?_
        refine va_sld hx hb hX hbl hbA hS (vp_in_nI (by omega) (by omega)) dL_law_110 ?_
        refine rp_mut (wr := rp_ws 0 q0 q1 d0 (nI (rp_variable (xs (nI (i + 1)).toNatClampNeg) k f).2.1) (rp_variable (xs (nI (i + 1)).toNatClampNeg) k f).2.2) (tysr := [(d0, .long)]) (As := [.int (xs (nI (i + 1)).toNatClampNeg)]) (rest := [.int (rp_variable (xs (nI (i + 1)).toNatClampNeg) k f).1]) (tr := (rr_variable (xs (nI (i + 1)).toNatClampNeg) k g)) C (mt1_variable l dC dI q2 q3 d1 H.size k g I.1 (xs (nI (i + 1)).toNatClampNeg)) (cwX1_variable hts (Nat.le_of_ble_eq_true rfl) (Nat.le_of_ble_eq_true rfl)) rfl hP hD hKr hS hA [2, 3] rfl rfl (by decide) rfl hl.1 rfl (lv_room (Nat.le_of_ble_eq_true rfl)) dL_law_111 ⟨(Nat.le_of_ble_eq_true rfl), (Nat.le_of_ble_eq_true rfl)⟩ (fun H locs hP hD hS => ?_)
        refine lv_icmp_eq (tgt := 372) hx hb dL_law_114 (by decide) (fun cc => ?_) (fun cc => ?_)
        · exact next (rp_variable (xs (nI (i + 1)).toNatClampNeg) k f) (rr_variable (xs (nI (i + 1)).toNatClampNeg) k g) (rq_variable I (xs (nI (i + 1)).toNatClampNeg)) H locs hP hD hS
        · exact absurd (rq_variable I (xs (nI (i + 1)).toNatClampNeg)).1 cc
      · subst h
        refine lv_tableIn (off := 87) (tgt := 119) hx hb dL_law_32 (by decide) (by decide) rfl (by decide) ?_
        refine lv_aload_n hx hb dL_law_119 rfl (lv_at hl 1 rfl) ?_
        refine lv_aload_n hx hb dL_law_120 rfl (lv_at hl 0 rfl) ?_
        refine lv_iload_n hx hb dL_law_121 rfl (lv_at hl 3 rfl) ?_
        refine lv_iconst (v := nI 1) hx hb dL_law_122 (by decide) ?_
        refine lv_iadd hx hb dL_law_123 ?_
        refine rc_topi (nI_add i 1) ?_
        refine va_sld hx hb hX hbl hbA hS (vp_in_nI (by omega) (by omega)) dL_law_124 ?_
        refine rp_mut (wr := rp_ws 1 q2 q3 d1 (nI k) g) (tysr := [(d1, .long)]) (As := [.int (xs (nI (i + 1)).toNatClampNeg)]) (rest := []) (tr := (rp_constant (xs (nI (i + 1)).toNatClampNeg) k f)) C (mt0_constant l dC dI q0 q1 d0 H.size k f I.1 (xs (nI (i + 1)).toNatClampNeg)) (cwX0_constant hts (Nat.le_of_ble_eq_true rfl) (Nat.le_of_ble_eq_true rfl)) rfl hP hD hK hS hA [2, 3] rfl rfl (by decide) rfl hl.1 rfl (lv_room (Nat.le_of_ble_eq_true rfl)) dL_law_125 ⟨(Nat.le_of_ble_eq_true rfl), (Nat.le_of_ble_eq_true rfl)⟩ (fun H locs hP hD hS => ?_)
        refine lv_aload_n hx hb dL_law_128 rfl (lv_at hl 2 rfl) ?_
        refine lv_aload_n hx hb dL_law_129 rfl (lv_at hl 0 rfl) ?_
        refine lv_iload_n hx hb dL_law_130 rfl (lv_at hl 3 rfl) ?_
        refine lv_iconst (v := nI 1) hx hb dL_law_131 (by decide) ?_
        refine lv_iadd hx hb dL_law_132 ?_
        refine rc_topi (nI_add i 1) ?_
        refine va_sld hx hb hX hbl hbA hS (vp_in_nI (by omega) (by omega)) dL_law_133 ?_
        refine rp_mut (wr := rp_ws 0 q0 q1 d0 (nI (rp_constant (xs (nI (i + 1)).toNatClampNeg) k f).2.1) (rp_constant (xs (nI (i + 1)).toNatClampNeg) k f).2.2) (tysr := [(d0, .long)]) (As := [.int (xs (nI (i + 1)).toNatClampNeg)]) (rest := [.int (rp_constant (xs (nI (i + 1)).toNatClampNeg) k f).1]) (tr := (rr_constant (xs (nI (i + 1)).toNatClampNeg) k g)) C (mt1_constant l dC dI q2 q3 d1 H.size k g I.1 (xs (nI (i + 1)).toNatClampNeg)) (cwX1_constant hts (Nat.le_of_ble_eq_true rfl) (Nat.le_of_ble_eq_true rfl)) rfl hP hD hKr hS hA [2, 3] rfl rfl (by decide) rfl hl.1 rfl (lv_room (Nat.le_of_ble_eq_true rfl)) dL_law_134 ⟨(Nat.le_of_ble_eq_true rfl), (Nat.le_of_ble_eq_true rfl)⟩ (fun H locs hP hD hS => ?_)
        refine lv_icmp_eq (tgt := 372) hx hb dL_law_137 (by decide) (fun cc => ?_) (fun cc => ?_)
        · exact next (rp_constant (xs (nI (i + 1)).toNatClampNeg) k f) (rr_constant (xs (nI (i + 1)).toNatClampNeg) k g) (rq_constant I (xs (nI (i + 1)).toNatClampNeg)) H locs hP hD hS
        · exact absurd (rq_constant I (xs (nI (i + 1)).toNatClampNeg)).1 cc
      · subst h
        refine lv_tableIn (off := 110) (tgt := 142) hx hb dL_law_32 (by decide) (by decide) rfl (by decide) ?_
        refine lv_aload_n hx hb dL_law_142 rfl (lv_at hl 1 rfl) ?_
        refine lv_aload_n hx hb dL_law_143 rfl (lv_at hl 0 rfl) ?_
        refine lv_iload_n hx hb dL_law_144 rfl (lv_at hl 3 rfl) ?_
        refine lv_iconst (v := nI 1) hx hb dL_law_145 (by decide) ?_
        refine lv_iadd hx hb dL_law_146 ?_
        refine rc_topi (nI_add i 1) ?_
        refine va_sld hx hb hX hbl hbA hS (vp_in_nI (by omega) (by omega)) dL_law_147 ?_
        refine rp_mut (wr := rp_ws 1 q2 q3 d1 (nI k) g) (tysr := [(d1, .long)]) (As := [.int (xs (nI (i + 1)).toNatClampNeg)]) (rest := []) (tr := (rp_join (xs (nI (i + 1)).toNatClampNeg) k f)) C (mt0_join l dC dI q0 q1 d0 H.size k f I.1 (xs (nI (i + 1)).toNatClampNeg)) (cwX0_join hts (Nat.le_of_ble_eq_true rfl) (Nat.le_of_ble_eq_true rfl)) rfl hP hD hK hS hA [2, 3] rfl rfl (by decide) rfl hl.1 rfl (lv_room (Nat.le_of_ble_eq_true rfl)) dL_law_148 ⟨(Nat.le_of_ble_eq_true rfl), (Nat.le_of_ble_eq_true rfl)⟩ (fun H locs hP hD hS => ?_)
        refine lv_aload_n hx hb dL_law_151 rfl (lv_at hl 2 rfl) ?_
        refine lv_aload_n hx hb dL_law_152 rfl (lv_at hl 0 rfl) ?_
        refine lv_iload_n hx hb dL_law_153 rfl (lv_at hl 3 rfl) ?_
        refine lv_iconst (v := nI 1) hx hb dL_law_154 (by decide) ?_
        refine lv_iadd hx hb dL_law_155 ?_
        refine rc_topi (nI_add i 1) ?_
        refine va_sld hx hb hX hbl hbA hS (vp_in_nI (by omega) (by omega)) dL_law_156 ?_
        refine rp_mut (wr := rp_ws 0 q0 q1 d0 (nI (rp_join (xs (nI (i + 1)).toNatClampNeg) k f).2.1) (rp_join (xs (nI (i + 1)).toNatClampNeg) k f).2.2) (tysr := [(d0, .long)]) (As := [.int (xs (nI (i + 1)).toNatClampNeg)]) (rest := [.int (rp_join (xs (nI (i + 1)).toNatClampNeg) k f).1]) (tr := (rr_join (xs (nI (i + 1)).toNatClampNeg) k g)) C (mt1_join l dC dI q2 q3 d1 H.size k g I.1 (xs (nI (i + 1)).toNatClampNeg)) (cwX1_join hts (Nat.le_of_ble_eq_true rfl) (Nat.le_of_ble_eq_true rfl)) rfl hP hD hKr hS hA [2, 3] rfl rfl (by decide) rfl hl.1 rfl (lv_room (Nat.le_of_ble_eq_true rfl)) dL_law_157 ⟨(Nat.le_of_ble_eq_true rfl), (Nat.le_of_ble_eq_true rfl)⟩ (fun H locs hP hD hS => ?_)
        refine lv_icmp_eq (tgt := 372) hx hb dL_law_160 (by decide) (fun cc => ?_) (fun cc => ?_)
        · exact next (rp_join (xs (nI (i + 1)).toNatClampNeg) k f) (rr_join (xs (nI (i + 1)).toNatClampNeg) k g) (rq_join I (xs (nI (i + 1)).toNatClampNeg)) H locs hP hD hS
        · exact absurd (rq_join I (xs (nI (i + 1)).toNatClampNeg)).1 cc
      · subst h
        refine lv_tableIn (off := 133) (tgt := 165) hx hb dL_law_32 (by decide) (by decide) rfl (by decide) ?_
        refine lv_aload_n hx hb dL_law_165 rfl (lv_at hl 1 rfl) ?_
        refine rp_mut (wr := rp_ws 1 q2 q3 d1 (nI k) g) (tysr := [(d1, .long)]) (As := []) (rest := []) (tr := (rp_not k f)) C (mt0_not l dC dI q0 q1 d0 H.size k f I.1 ) (cwX0_not hts (Nat.le_of_ble_eq_true rfl) (Nat.le_of_ble_eq_true rfl)) rfl hP hD hK hS hA [2, 3] rfl rfl (by decide) rfl hl.1 rfl (lv_room (Nat.le_of_ble_eq_true rfl)) dL_law_166 ⟨(Nat.le_of_ble_eq_true rfl), (Nat.le_of_ble_eq_true rfl)⟩ (fun H locs hP hD hS => ?_)
        refine lv_aload_n hx hb dL_law_169 rfl (lv_at hl 2 rfl) ?_
        refine rp_mut (wr := rp_ws 0 q0 q1 d0 (nI (rp_not k f).2.1) (rp_not k f).2.2) (tysr := [(d0, .long)]) (As := []) (rest := [.int (rp_not k f).1]) (tr := (rr_not k g)) C (mt1_not l dC dI q2 q3 d1 H.size k g I.1 ) (cwX1_not hts (Nat.le_of_ble_eq_true rfl) (Nat.le_of_ble_eq_true rfl)) rfl hP hD hKr hS hA [2, 3] rfl rfl (by decide) rfl hl.1 rfl (lv_room (Nat.le_of_ble_eq_true rfl)) dL_law_170 ⟨(Nat.le_of_ble_eq_true rfl), (Nat.le_of_ble_eq_true rfl)⟩ (fun H locs hP hD hS => ?_)
        refine lv_icmp_eq (tgt := 372) hx hb dL_law_173 (by decide) (fun cc => ?_) (fun cc => ?_)
        · exact next (rp_not k f) (rr_not k g) (rq_not I ) H locs hP hD hS
        · exact absurd (rq_not I ).1 cc
      · subst h
        refine lv_tableIn (off := 146) (tgt := 178) hx hb dL_law_32 (by decide) (by decide) rfl (by decide) ?_
        refine lv_aload_n hx hb dL_law_178 rfl (lv_at hl 1 rfl) ?_
        refine lv_aload_n hx hb dL_law_179 rfl (lv_at hl 0 rfl) ?_
        refine lv_iload_n hx hb dL_law_180 rfl (lv_at hl 3 rfl) ?_
        refine lv_iconst (v := nI 1) hx hb dL_law_181 (by decide) ?_
        refine lv_iadd hx hb dL_law_182 ?_
        refine rc_topi (nI_add i 1) ?_
        refine va_sld hx hb hX hbl hbA hS (vp_in_nI (by omega) (by omega)) dL_law_183 ?_
        refine rp_mut (wr := rp_ws 1 q2 q3 d1 (nI k) g) (tysr := [(d1, .long)]) (As := [.int (xs (nI (i + 1)).toNatClampNeg)]) (rest := []) (tr := (rp_copy (xs (nI (i + 1)).toNatClampNeg) k f)) C (mt0_copy l dC dI q0 q1 d0 H.size k f I.1 (xs (nI (i + 1)).toNatClampNeg)) (cwX0_copy hts (Nat.le_of_ble_eq_true rfl) (Nat.le_of_ble_eq_true rfl)) rfl hP hD hK hS hA [2, 3] rfl rfl (by decide) rfl hl.1 rfl (lv_room (Nat.le_of_ble_eq_true rfl)) dL_law_184 ⟨(Nat.le_of_ble_eq_true rfl), (Nat.le_of_ble_eq_true rfl)⟩ (fun H locs hP hD hS => ?_)
        refine lv_aload_n hx hb dL_law_187 rfl (lv_at hl 2 rfl) ?_
        refine lv_aload_n hx hb dL_law_188 rfl (lv_at hl 0 rfl) ?_
        refine lv_iload_n hx hb dL_law_189 rfl (lv_at hl 3 rfl) ?_
        refine lv_iconst (v := nI 1) hx hb dL_law_190 (by decide) ?_
        refine lv_iadd hx hb dL_law_191 ?_
        refine rc_topi (nI_add i 1) ?_
        refine va_sld hx hb hX hbl hbA hS (vp_in_nI (by omega) (by omega)) dL_law_192 ?_
        refine rp_mut (wr := rp_ws 0 q0 q1 d0 (nI (rp_copy (xs (nI (i + 1)).toNatClampNeg) k f).2.1) (rp_copy (xs (nI (i + 1)).toNatClampNeg) k f).2.2) (tysr := [(d0, .long)]) (As := [.int (xs (nI (i + 1)).toNatClampNeg)]) (rest := [.int (rp_copy (xs (nI (i + 1)).toNatClampNeg) k f).1]) (tr := (rr_copy (xs (nI (i + 1)).toNatClampNeg) k g)) C (mt1_copy l dC dI q2 q3 d1 H.size k g I.1 (xs (nI (i + 1)).toNatClampNeg)) (cwX1_copy hts (Nat.le_of_ble_eq_true rfl) (Nat.le_of_ble_eq_true rfl)) rfl hP hD hKr hS hA [2, 3] rfl rfl (by decide) rfl hl.1 rfl (lv_room (Nat.le_of_ble_eq_true rfl)) dL_law_193 ⟨(Nat.le_of_ble_eq_true rfl), (Nat.le_of_ble_eq_true rfl)⟩ (fun H locs hP hD hS => ?_)
        refine lv_icmp_eq (tgt := 372) hx hb dL_law_196 (by decide) (fun cc => ?_) (fun cc => ?_)
        · exact next (rp_copy (xs (nI (i + 1)).toNatClampNeg) k f) (rr_copy (xs (nI (i + 1)).toNatClampNeg) k g) (rq_copy I (xs (nI (i + 1)).toNatClampNeg)) H locs hP hD hS
        · exact absurd (rq_copy I (xs (nI (i + 1)).toNatClampNeg)).1 cc
      · subst h
        refine lv_tableIn (off := 169) (tgt := 201) hx hb dL_law_32 (by decide) (by decide) rfl (by decide) ?_
        refine lv_aload_n hx hb dL_law_201 rfl (lv_at hl 1 rfl) ?_
        refine rp_mut (wr := rp_ws 1 q2 q3 d1 (nI k) g) (tysr := [(d1, .long)]) (As := []) (rest := []) (tr := (rp_drop k f)) C (mt0_drop l dC dI q0 q1 d0 H.size k f I.1 ) (cwX0_drop hts (Nat.le_of_ble_eq_true rfl) (Nat.le_of_ble_eq_true rfl)) rfl hP hD hK hS hA [2, 3] rfl rfl (by decide) rfl hl.1 rfl (lv_room (Nat.le_of_ble_eq_true rfl)) dL_law_202 ⟨(Nat.le_of_ble_eq_true rfl), (Nat.le_of_ble_eq_true rfl)⟩ (fun H locs hP hD hS => ?_)
        refine lv_aload_n hx hb dL_law_205 rfl (lv_at hl 2 rfl) ?_
        refine rp_mut (wr := rp_ws 0 q0 q1 d0 (nI (rp_drop k f).2.1) (rp_drop k f).2.2) (tysr := [(d0, .long)]) (As := []) (rest := [.int (rp_drop k f).1]) (tr := (rr_drop k g)) C (mt1_drop l dC dI q2 q3 d1 H.size k g I.1 ) (cwX1_drop hts (Nat.le_of_ble_eq_true rfl) (Nat.le_of_ble_eq_true rfl)) rfl hP hD hKr hS hA [2, 3] rfl rfl (by decide) rfl hl.1 rfl (lv_room (Nat.le_of_ble_eq_true rfl)) dL_law_206 ⟨(Nat.le_of_ble_eq_true rfl), (Nat.le_of_ble_eq_true rfl)⟩ (fun H locs hP hD hS => ?_)
        refine lv_icmp_eq (tgt := 372) hx hb dL_law_209 (by decide) (fun cc => ?_) (fun cc => ?_)
        · exact next (rp_drop k f) (rr_drop k g) (rq_drop I ) H locs hP hD hS
        · exact absurd (rq_drop I ).1 cc
      · subst h
        refine lv_tableIn (off := 182) (tgt := 214) hx hb dL_law_32 (by decide) (by decide) rfl (by decide) ?_
        refine lv_aload_n hx hb dL_law_214 rfl (lv_at hl 1 rfl) ?_
        refine lv_aload_n hx hb dL_law_215 rfl (lv_at hl 0 rfl) ?_
        refine lv_iload_n hx hb dL_law_216 rfl (lv_at hl 3 rfl) ?_
        refine lv_iconst (v := nI 1) hx hb dL_law_217 (by decide) ?_
        refine lv_iadd hx hb dL_law_218 ?_
        refine rc_topi (nI_add i 1) ?_
        refine va_sld hx hb hX hbl hbA hS (vp_in_nI (by omega) (by omega)) dL_law_219 ?_
        refine rp_mut (wr := rp_ws 1 q2 q3 d1 (nI k) g) (tysr := [(d1, .long)]) (As := [.int (xs (nI (i + 1)).toNatClampNeg)]) (rest := []) (tr := (rp_replace (xs (nI (i + 1)).toNatClampNeg) k f)) C (mt0_replace l dC dI q0 q1 d0 H.size k f I.1 (xs (nI (i + 1)).toNatClampNeg)) (cwX0_replace hts (Nat.le_of_ble_eq_true rfl) (Nat.le_of_ble_eq_true rfl)) rfl hP hD hK hS hA [2, 3] rfl rfl (by decide) rfl hl.1 rfl (lv_room (Nat.le_of_ble_eq_true rfl)) dL_law_220 ⟨(Nat.le_of_ble_eq_true rfl), (Nat.le_of_ble_eq_true rfl)⟩ (fun H locs hP hD hS => ?_)
        refine lv_aload_n hx hb dL_law_223 rfl (lv_at hl 2 rfl) ?_
        refine lv_aload_n hx hb dL_law_224 rfl (lv_at hl 0 rfl) ?_
        refine lv_iload_n hx hb dL_law_225 rfl (lv_at hl 3 rfl) ?_
        refine lv_iconst (v := nI 1) hx hb dL_law_226 (by decide) ?_
        refine lv_iadd hx hb dL_law_227 ?_
        refine rc_topi (nI_add i 1) ?_
        refine va_sld hx hb hX hbl hbA hS (vp_in_nI (by omega) (by omega)) dL_law_228 ?_
        refine rp_mut (wr := rp_ws 0 q0 q1 d0 (nI (rp_replace (xs (nI (i + 1)).toNatClampNeg) k f).2.1) (rp_replace (xs (nI (i + 1)).toNatClampNeg) k f).2.2) (tysr := [(d0, .long)]) (As := [.int (xs (nI (i + 1)).toNatClampNeg)]) (rest := [.int (rp_replace (xs (nI (i + 1)).toNatClampNeg) k f).1]) (tr := (rr_replace (xs (nI (i + 1)).toNatClampNeg) k g)) C (mt1_replace l dC dI q2 q3 d1 H.size k g I.1 (xs (nI (i + 1)).toNatClampNeg)) (cwX1_replace hts (Nat.le_of_ble_eq_true rfl) (Nat.le_of_ble_eq_true rfl)) rfl hP hD hKr hS hA [2, 3] rfl rfl (by decide) rfl hl.1 rfl (lv_room (Nat.le_of_ble_eq_true rfl)) dL_law_229 ⟨(Nat.le_of_ble_eq_true rfl), (Nat.le_of_ble_eq_true rfl)⟩ (fun H locs hP hD hS => ?_)
        refine lv_icmp_eq (tgt := 372) hx hb dL_law_232 (by decide) (fun cc => ?_) (fun cc => ?_)
        · exact next (rp_replace (xs (nI (i + 1)).toNatClampNeg) k f) (rr_replace (xs (nI (i + 1)).toNatClampNeg) k g) (rq_replace I (xs (nI (i + 1)).toNatClampNeg)) H locs hP hD hS
        · exact absurd (rq_replace I (xs (nI (i + 1)).toNatClampNeg)).1 cc
      · subst h
        refine lv_tableIn (off := 205) (tgt := 237) hx hb dL_law_32 (by decide) (by decide) rfl (by decide) ?_
        refine lv_aload_n hx hb dL_law_237 rfl (lv_at hl 1 rfl) ?_
        refine lv_aload_n hx hb dL_law_238 rfl (lv_at hl 0 rfl) ?_
        refine lv_iload_n hx hb dL_law_239 rfl (lv_at hl 3 rfl) ?_
        refine lv_iconst (v := nI 1) hx hb dL_law_240 (by decide) ?_
        refine lv_iadd hx hb dL_law_241 ?_
        refine rc_topi (nI_add i 1) ?_
        refine va_sld hx hb hX hbl hbA hS (vp_in_nI (by omega) (by omega)) dL_law_242 ?_
        refine rc_call (W.runV (As := [.int (xs (nI (i + 1)).toNatClampNeg)]) (rest := []) C (mt0_products l dC dI q0 q1 d0 k f I.1 (xs (nI (i + 1)).toNatClampNeg)) (cwX0_products hts (Nat.le_of_ble_eq_true rfl) (Nat.le_of_ble_eq_true rfl)) (rc_preV rfl hPa hKa) rfl rfl hl.1 rfl (lv_room (Nat.le_of_ble_eq_true rfl)) dL_law_243 ⟨(Nat.le_of_ble_eq_true rfl), (Nat.le_of_ble_eq_true rfl)⟩) ?_
        refine lv_aload_n hx hb dL_law_246 rfl (lv_at hl 2 rfl) ?_
        refine lv_aload_n hx hb dL_law_247 rfl (lv_at hl 0 rfl) ?_
        refine lv_iload_n hx hb dL_law_248 rfl (lv_at hl 3 rfl) ?_
        refine lv_iconst (v := nI 1) hx hb dL_law_249 (by decide) ?_
        refine lv_iadd hx hb dL_law_250 ?_
        refine rc_topi (nI_add i 1) ?_
        refine va_sld hx hb hX hbl hbA hS (vp_in_nI (by omega) (by omega)) dL_law_251 ?_
        refine rc_call (W.runV (As := [.int (xs (nI (i + 1)).toNatClampNeg)]) (rest := [.int (rp_products (xs (nI (i + 1)).toNatClampNeg) k f)]) C (mt1_products l dC dI q2 q3 d1 k g I.1 (xs (nI (i + 1)).toNatClampNeg)) (cwX1_products hts (Nat.le_of_ble_eq_true rfl) (Nat.le_of_ble_eq_true rfl)) (rc_preV rfl hPb hKb) rfl rfl hl.1 rfl (lv_room (Nat.le_of_ble_eq_true rfl)) dL_law_252 ⟨(Nat.le_of_ble_eq_true rfl), (Nat.le_of_ble_eq_true rfl)⟩) ?_
        refine lv_icmp_eq (tgt := 372) hx hb dL_law_255 (by decide) (fun cc => ?_) (fun cc => ?_)
        · exact next (0, k, f) (0, k, g) (rq_same I 0) H locs hP hD hS
        · exact absurd (rq_products I (xs (nI (i + 1)).toNatClampNeg)) cc
      · subst h
        refine lv_tableIn (off := 228) (tgt := 260) hx hb dL_law_32 (by decide) (by decide) rfl (by decide) ?_
        refine lv_aload_n hx hb dL_law_260 rfl (lv_at hl 1 rfl) ?_
        refine lv_aload_n hx hb dL_law_261 rfl (lv_at hl 0 rfl) ?_
        refine lv_iload_n hx hb dL_law_262 rfl (lv_at hl 3 rfl) ?_
        refine lv_iconst (v := nI 1) hx hb dL_law_263 (by decide) ?_
        refine lv_iadd hx hb dL_law_264 ?_
        refine rc_topi (nI_add i 1) ?_
        refine va_sld hx hb hX hbl hbA hS (vp_in_nI (by omega) (by omega)) dL_law_265 ?_
        refine lv_aload_n hx hb dL_law_266 rfl (lv_at hl 0 rfl) ?_
        refine lv_iload_n hx hb dL_law_267 rfl (lv_at hl 3 rfl) ?_
        refine lv_iconst (v := nI 2) hx hb dL_law_268 (by decide) ?_
        refine lv_iadd hx hb dL_law_269 ?_
        refine rc_topi (nI_add i 2) ?_
        refine va_sld hx hb hX hbl hbA hS (vp_in_nI (by omega) (by omega)) dL_law_270 ?_
        refine rc_call (W.runV (As := [.int (xs (nI (i + 1)).toNatClampNeg), .int (xs (nI (i + 2)).toNatClampNeg)]) (rest := []) C (mt0_has l dC dI q0 q1 d0 k f I.1 (xs (nI (i + 1)).toNatClampNeg) (xs (nI (i + 2)).toNatClampNeg)) (cwX0_has hts (Nat.le_of_ble_eq_true rfl) (Nat.le_of_ble_eq_true rfl)) (rc_preV rfl hPa hKa) rfl rfl hl.1 rfl (lv_room (Nat.le_of_ble_eq_true rfl)) dL_law_271 ⟨(Nat.le_of_ble_eq_true rfl), (Nat.le_of_ble_eq_true rfl)⟩) ?_
        refine lv_aload_n hx hb dL_law_274 rfl (lv_at hl 2 rfl) ?_
        refine lv_aload_n hx hb dL_law_275 rfl (lv_at hl 0 rfl) ?_
        refine lv_iload_n hx hb dL_law_276 rfl (lv_at hl 3 rfl) ?_
        refine lv_iconst (v := nI 1) hx hb dL_law_277 (by decide) ?_
        refine lv_iadd hx hb dL_law_278 ?_
        refine rc_topi (nI_add i 1) ?_
        refine va_sld hx hb hX hbl hbA hS (vp_in_nI (by omega) (by omega)) dL_law_279 ?_
        refine lv_aload_n hx hb dL_law_280 rfl (lv_at hl 0 rfl) ?_
        refine lv_iload_n hx hb dL_law_281 rfl (lv_at hl 3 rfl) ?_
        refine lv_iconst (v := nI 2) hx hb dL_law_282 (by decide) ?_
        refine lv_iadd hx hb dL_law_283 ?_
        refine rc_topi (nI_add i 2) ?_
        refine va_sld hx hb hX hbl hbA hS (vp_in_nI (by omega) (by omega)) dL_law_284 ?_
        refine rc_call (W.runV (As := [.int (xs (nI (i + 1)).toNatClampNeg), .int (xs (nI (i + 2)).toNatClampNeg)]) (rest := [.int (rp_has (xs (nI (i + 1)).toNatClampNeg) (xs (nI (i + 2)).toNatClampNeg) k f)]) C (mt1_has l dC dI q2 q3 d1 k g I.1 (xs (nI (i + 1)).toNatClampNeg) (xs (nI (i + 2)).toNatClampNeg)) (cwX1_has hts (Nat.le_of_ble_eq_true rfl) (Nat.le_of_ble_eq_true rfl)) (rc_preV rfl hPb hKb) rfl rfl hl.1 rfl (lv_room (Nat.le_of_ble_eq_true rfl)) dL_law_285 ⟨(Nat.le_of_ble_eq_true rfl), (Nat.le_of_ble_eq_true rfl)⟩) ?_
        refine lv_icmp_eq (tgt := 372) hx hb dL_law_288 (by decide) (fun cc => ?_) (fun cc => ?_)
        · exact next (0, k, f) (0, k, g) (rq_same I 0) H locs hP hD hS
        · exact absurd (rq_has I (xs (nI (i + 1)).toNatClampNeg) (xs (nI (i + 2)).toNatClampNeg)) cc
      · subst h
        refine lv_tableIn (off := 261) (tgt := 293) hx hb dL_law_32 (by decide) (by decide) rfl (by decide) ?_
        refine lv_aload_n hx hb dL_law_293 rfl (lv_at hl 1 rfl) ?_
        refine lv_aload_n hx hb dL_law_294 rfl (lv_at hl 0 rfl) ?_
        refine lv_iload_n hx hb dL_law_295 rfl (lv_at hl 3 rfl) ?_
        refine lv_iconst (v := nI 1) hx hb dL_law_296 (by decide) ?_
        refine lv_iadd hx hb dL_law_297 ?_
        refine rc_topi (nI_add i 1) ?_
        refine va_sld hx hb hX hbl hbA hS (vp_in_nI (by omega) (by omega)) dL_law_298 ?_
        refine rc_call (W.runV (As := [.int (xs (nI (i + 1)).toNatClampNeg)]) (rest := []) C (mt0_degree l dC dI q0 q1 d0 k f I.1 (xs (nI (i + 1)).toNatClampNeg)) (cwX0_degree hts (Nat.le_of_ble_eq_true rfl) (Nat.le_of_ble_eq_true rfl)) (rc_preV rfl hPa hKa) rfl rfl hl.1 rfl (lv_room (Nat.le_of_ble_eq_true rfl)) dL_law_299 ⟨(Nat.le_of_ble_eq_true rfl), (Nat.le_of_ble_eq_true rfl)⟩) ?_
        refine lv_aload_n hx hb dL_law_302 rfl (lv_at hl 2 rfl) ?_
        refine lv_aload_n hx hb dL_law_303 rfl (lv_at hl 0 rfl) ?_
        refine lv_iload_n hx hb dL_law_304 rfl (lv_at hl 3 rfl) ?_
        refine lv_iconst (v := nI 1) hx hb dL_law_305 (by decide) ?_
        refine lv_iadd hx hb dL_law_306 ?_
        refine rc_topi (nI_add i 1) ?_
        refine va_sld hx hb hX hbl hbA hS (vp_in_nI (by omega) (by omega)) dL_law_307 ?_
        refine rc_call (W.runV (As := [.int (xs (nI (i + 1)).toNatClampNeg)]) (rest := [.int (rp_degree (xs (nI (i + 1)).toNatClampNeg) k f)]) C (mt1_degree l dC dI q2 q3 d1 k g I.1 (xs (nI (i + 1)).toNatClampNeg)) (cwX1_degree hts (Nat.le_of_ble_eq_true rfl) (Nat.le_of_ble_eq_true rfl)) (rc_preV rfl hPb hKb) rfl rfl hl.1 rfl (lv_room (Nat.le_of_ble_eq_true rfl)) dL_law_308 ⟨(Nat.le_of_ble_eq_true rfl), (Nat.le_of_ble_eq_true rfl)⟩) ?_
        refine lv_icmp_eq (tgt := 372) hx hb dL_law_311 (by decide) (fun cc => ?_) (fun cc => ?_)
        · exact next (0, k, f) (0, k, g) (rq_same I 0) H locs hP hD hS
        · exact absurd (rq_degree I (xs (nI (i + 1)).toNatClampNeg)) cc
      · subst h
        refine lv_tableIn (off := 284) (tgt := 316) hx hb dL_law_32 (by decide) (by decide) rfl (by decide) ?_
        refine lv_aload_n hx hb dL_law_316 rfl (lv_at hl 1 rfl) ?_
        refine lv_aload_n hx hb dL_law_317 rfl (lv_at hl 0 rfl) ?_
        refine lv_iload_n hx hb dL_law_318 rfl (lv_at hl 3 rfl) ?_
        refine lv_iconst (v := nI 1) hx hb dL_law_319 (by decide) ?_
        refine lv_iadd hx hb dL_law_320 ?_
        refine rc_topi (nI_add i 1) ?_
        refine va_sld hx hb hX hbl hbA hS (vp_in_nI (by omega) (by omega)) dL_law_321 ?_
        refine rc_call (W.runV (As := [.int (xs (nI (i + 1)).toNatClampNeg)]) (rest := []) C (mt0_models l dC dI q0 q1 d0 k f I.1 (xs (nI (i + 1)).toNatClampNeg)) (cwX0_models hts (Nat.le_of_ble_eq_true rfl) (Nat.le_of_ble_eq_true rfl)) (rc_preV rfl hPa hKa) rfl rfl hl.1 rfl (lv_room (Nat.le_of_ble_eq_true rfl)) dL_law_322 ⟨(Nat.le_of_ble_eq_true rfl), (Nat.le_of_ble_eq_true rfl)⟩) ?_
        refine lv_aload_n hx hb dL_law_325 rfl (lv_at hl 2 rfl) ?_
        refine lv_aload_n hx hb dL_law_326 rfl (lv_at hl 0 rfl) ?_
        refine lv_iload_n hx hb dL_law_327 rfl (lv_at hl 3 rfl) ?_
        refine lv_iconst (v := nI 1) hx hb dL_law_328 (by decide) ?_
        refine lv_iadd hx hb dL_law_329 ?_
        refine rc_topi (nI_add i 1) ?_
        refine va_sld hx hb hX hbl hbA hS (vp_in_nI (by omega) (by omega)) dL_law_330 ?_
        refine rc_call (W.runV (As := [.int (xs (nI (i + 1)).toNatClampNeg)]) (rest := [.int (rp_models (xs (nI (i + 1)).toNatClampNeg) k f)]) C (mt1_models l dC dI q2 q3 d1 k g I.1 (xs (nI (i + 1)).toNatClampNeg)) (cwX1_models hts (Nat.le_of_ble_eq_true rfl) (Nat.le_of_ble_eq_true rfl)) (rc_preV rfl hPb hKb) rfl rfl hl.1 rfl (lv_room (Nat.le_of_ble_eq_true rfl)) dL_law_331 ⟨(Nat.le_of_ble_eq_true rfl), (Nat.le_of_ble_eq_true rfl)⟩) ?_
        refine lv_icmp_eq (tgt := 372) hx hb dL_law_334 (by decide) (fun cc => ?_) (fun cc => ?_)
        · exact next (0, k, f) (0, k, g) (rq_same I 0) H locs hP hD hS
        · exact absurd (rq_models I (xs (nI (i + 1)).toNatClampNeg)) cc
      · subst h
        refine lv_tableIn (off := 307) (tgt := 339) hx hb dL_law_32 (by decide) (by decide) rfl (by decide) ?_
        refine lv_aload_n hx hb dL_law_339 rfl (lv_at hl 1 rfl) ?_
        refine lv_aload_n hx hb dL_law_340 rfl (lv_at hl 0 rfl) ?_
        refine lv_iload_n hx hb dL_law_341 rfl (lv_at hl 3 rfl) ?_
        refine lv_iconst (v := nI 1) hx hb dL_law_342 (by decide) ?_
        refine lv_iadd hx hb dL_law_343 ?_
        refine rc_topi (nI_add i 1) ?_
        refine va_sld hx hb hX hbl hbA hS (vp_in_nI (by omega) (by omega)) dL_law_344 ?_
        refine lv_aload_n hx hb dL_law_345 rfl (lv_at hl 0 rfl) ?_
        refine lv_iload_n hx hb dL_law_346 rfl (lv_at hl 3 rfl) ?_
        refine lv_iconst (v := nI 2) hx hb dL_law_347 (by decide) ?_
        refine lv_iadd hx hb dL_law_348 ?_
        refine rc_topi (nI_add i 2) ?_
        refine va_sld hx hb hX hbl hbA hS (vp_in_nI (by omega) (by omega)) dL_law_349 ?_
        refine rc_call (W.runV (As := [.int (xs (nI (i + 1)).toNatClampNeg), .int (xs (nI (i + 2)).toNatClampNeg)]) (rest := []) C (mt0_differ l dC dI q0 q1 d0 k f I.1 (xs (nI (i + 1)).toNatClampNeg) (xs (nI (i + 2)).toNatClampNeg)) (cwX0_differ hts (Nat.le_of_ble_eq_true rfl) (Nat.le_of_ble_eq_true rfl)) (rc_preV rfl hPa hKa) rfl rfl hl.1 rfl (lv_room (Nat.le_of_ble_eq_true rfl)) dL_law_350 ⟨(Nat.le_of_ble_eq_true rfl), (Nat.le_of_ble_eq_true rfl)⟩) ?_
        refine lv_aload_n hx hb dL_law_353 rfl (lv_at hl 2 rfl) ?_
        refine lv_aload_n hx hb dL_law_354 rfl (lv_at hl 0 rfl) ?_
        refine lv_iload_n hx hb dL_law_355 rfl (lv_at hl 3 rfl) ?_
        refine lv_iconst (v := nI 1) hx hb dL_law_356 (by decide) ?_
        refine lv_iadd hx hb dL_law_357 ?_
        refine rc_topi (nI_add i 1) ?_
        refine va_sld hx hb hX hbl hbA hS (vp_in_nI (by omega) (by omega)) dL_law_358 ?_
        refine lv_aload_n hx hb dL_law_359 rfl (lv_at hl 0 rfl) ?_
        refine lv_iload_n hx hb dL_law_360 rfl (lv_at hl 3 rfl) ?_
        refine lv_iconst (v := nI 2) hx hb dL_law_361 (by decide) ?_
        refine lv_iadd hx hb dL_law_362 ?_
        refine rc_topi (nI_add i 2) ?_
        refine va_sld hx hb hX hbl hbA hS (vp_in_nI (by omega) (by omega)) dL_law_363 ?_
        refine rc_call (W.runV (As := [.int (xs (nI (i + 1)).toNatClampNeg), .int (xs (nI (i + 2)).toNatClampNeg)]) (rest := [.int (rp_differ (xs (nI (i + 1)).toNatClampNeg) (xs (nI (i + 2)).toNatClampNeg) k f)]) C (mt1_differ l dC dI q2 q3 d1 k g I.1 (xs (nI (i + 1)).toNatClampNeg) (xs (nI (i + 2)).toNatClampNeg)) (cwX1_differ hts (Nat.le_of_ble_eq_true rfl) (Nat.le_of_ble_eq_true rfl)) (rc_preV rfl hPb hKb) rfl rfl hl.1 rfl (lv_room (Nat.le_of_ble_eq_true rfl)) dL_law_364 ⟨(Nat.le_of_ble_eq_true rfl), (Nat.le_of_ble_eq_true rfl)⟩) ?_
        refine lv_icmp_eq (tgt := 372) hx hb dL_law_367 (by decide) (fun cc => ?_) (fun cc => ?_)
        · exact next (0, k, f) (0, k, g) (rq_same I 0) H locs hP hD hS
        · exact absurd (rq_differ I (xs (nI (i + 1)).toNatClampNeg) (xs (nI (i + 2)).toNatClampNeg)) cc
      · refine lv_tableOut (tgt := 372) hx hb dL_law_32 (Or.inr (by rw [nI_toInt (by omega)]; omega)) (by decide) ?_
        exact next (0, k, f) (0, k, g) (rq_same I 0) H locs hP hD hS
end
section
/-! THE LAW, from its entry (written by gen.py) -/
set_option maxHeartbeats 4000000 in
set_option maxRecDepth 100000 in
theorem whole_start {p : Program} {e : Env} {s : State} {m : MethodId} {below : List Frame} {meth : Method} {c : Code} (l : Launch) {b L : Nat} {xs : Nat → Int32} (hL : L ≤ 192) (C0 : lw_At p s m meth c b L xs) : W p l e room_1 s m #[Value.ref b] below meth c s.heap [] 0 0 (lw_Z below #[Value.ref b] s) (entryFrame m ([Value.ref b] : List Value).toArray 4) := by
  obtain ⟨hx, hb, hr, hml, hown, hts0, hX, hbl, hlocks, hgv⟩ := id C0
  have hts : ∀ w ∈ lw_all, w.before #[Value.ref b] s = true := fun w h => hts0 w (lw_all_tbl h)
  have C : CallFix p m c code 4 s #[Value.ref b] lw_all R_law := ⟨hx, hb, hml, hown, hts⟩
  have hA : ∀ q : Nat, s.heap.size ≤ q → (fun q : Nat => s.heap.size ≤ q) q := fun _ h => h
  obtain ⟨c0_, iS0, hKn0⟩ := u_known (C := RX0) (T := TX0) (N := 2) (n := 2) hts in_X0 (hts _ q9)
  obtain ⟨c1_, iS1, hKn1⟩ := u_known (C := RX1) (T := TX1) (N := 2) (n := 2) hts in_X1 (hts _ q107)
  obtain ⟨dC, dI, hKc⟩ : ∃ (dC : Nat → ClassId) (dI : Nat → Nat → Nat), ∀ (k : Nat) (q : vw_C), rp_cl[k]? = some q → u_Kn s q.1 q.2.1 q.2.2 (dC k) (dI k) := by
    refine ⟨fun k => if k = 0 then c0_ else c1_, fun k => if k = 0 then iS0 else iS1, ?_⟩
    intro k q hq
    match k, hq with
    | 0, hq => cases hq; exact hKn0
    | 1, hq => cases hq; exact hKn1
    | k + 2, hq => simp [rp_cl] at hq
  have hS : va_S (fun q : Nat => s.heap.size ≤ q) s.heap s.heap [] := va_S.rf
  have hK : va_K (dC, dI) rp_cl [] s := ⟨hKc, fun k q h => by simp at h⟩
  have hP : va_P (dC, dI) rp_cl [] s.heap := fun k q h => by simp at h
  have hD : va_D (fun q : Nat => s.heap.size ≤ q) [] := ⟨fun i j p q h => by simp at h, fun k q h => by simp at h⟩
  have hl := lv_entry ([.ref b]) (n := 4) (Nat.le_of_ble_eq_true rfl)
  rw [lg_entry_eq]
  generalize (lg_sl ([.ref b]) ++ List.replicate (4 - (lg_sl ([.ref b])).length) Slot.unset).toArray = ls at hl ⊢
  have hl : lv_has ls 4 [(0, .ref b)] := hl
  refine va_new (ci := 0) (fs := [.int 0, .null]) (C := RX0) (T := TX0) (N := 2) hx hb hts in_X0 tyX0 tyX0_ok hown (hts _ q8) (hts _ q9) (hts _ q6) hK hP hD hS hA rfl (fun j hj => by rcases (show j = 0 ∨ j = 1 by omega) with rfl | rfl <;> rfl) (Nat.le_of_ble_eq_true rfl) (Nat.le_of_ble_eq_true rfl) dL_law_0 (fun q0 H hP hD hS => ?_)
  have hP : va_P (dC, dI) rp_cl [(q0, .inr (0, [.int 0, .null]))] H := hP
  have hD : va_D (fun q : Nat => s.heap.size ≤ q) [(q0, .inr (0, [.int 0, .null]))] := hD
  refine lv_dup hx hb dL_law_3 rfl ?_
  have hPc := hP
  have hDc := hD
  have hKc2 := hK
  have hFc := va_free (wc := [(q0, .inr (0, [.int 0, .null]))]) hD hS hA [0] rfl
  refine va_callv (va_runI (As := []) (rest := [.ref q0]) C (mt0_init l dC dI q0 H.size) (cwI 0 hts (lw_meth q12) rfl rfl rfl (hts _ q6) (hts _ q10) (hts _ q11) rfl (by decide +kernel) ⟨(Nat.le_of_ble_eq_true rfl), (Nat.le_of_ble_eq_true rfl)⟩) ⟨fun a U g mk q => by obtain ⟨z0, z1, zP, zK, zD⟩ := q; exact ⟨z0, z1, zP, va_K.moved (u := U) (U := U.calling g mk a) (Vm.Alike.refl U.vm) zK, zD⟩, fun U hU hW => ⟨rfl, by rw [hU], by rw [hU]; exact hPc, va_K.moved hW.alike hKc2, hDc.weaken (fun _ _ _ _ => trivial)⟩⟩ rfl rfl hl.1 rfl (lv_room (Nat.le_of_ble_eq_true rfl)) dL_law_4 ⟨(Nat.le_of_ble_eq_true rfl), (Nat.le_of_ble_eq_true rfl)⟩) hS (fun q _ h => hFc q h) hFc (fun u t H1 locs ht hvm hw hB hz1 hk1 hS => ?_)
  obtain ⟨q1, d0, hP1, hK1, hD1⟩ := hB
  rw [ht] at hP1
  have hK1 := va_K.moved hvm.symm hK1
  obtain ⟨hP, hD⟩ := va_join (wr := []) (w1 := rp_ws 0 q0 q1 d0 (nI 0) (fun _ => 0)) hP hD [0] [] rfl rfl (by decide) (by decide) hk1 hFc hP1 hD1
  generalize H1 = H at hP hS ⊢
  have hP : va_P (dC, dI) rp_cl (rp_ws 0 q0 q1 d0 (nI 0) (fun _ => 0)) H := hP
  have hD : va_D (fun q : Nat => s.heap.size ≤ q) (rp_ws 0 q0 q1 d0 (nI 0) (fun _ => 0)) := hD
  refine lv_astore_n (lv' := [(1, .ref q0), (0, .ref b)]) hx hb dL_law_7 rfl hl (by decide) rfl (fun ls hl => ?_)
  refine va_new (ci := 1) (fs := [.int 0, .null]) (C := RX1) (T := TX1) (N := 2) hx hb hts in_X1 tyX1 tyX1_ok hown (hts _ q106) (hts _ q107) (hts _ q7) hK1 hP hD hS hA rfl (fun j hj => by rcases (show j = 0 ∨ j = 1 by omega) with rfl | rfl <;> rfl) (Nat.le_of_ble_eq_true rfl) (Nat.le_of_ble_eq_true rfl) dL_law_8 (fun q2 H hP hD hS => ?_)
  have hP : va_P (dC, dI) rp_cl [(q0, .inr (0, [.int (nI 0), .ref q1])), (q1, .inl (d0, 12, .inr (.inl (fun _ => 0)))), (q2, .inr (1, [.int 0, .null]))] H := hP
  have hD : va_D (fun q : Nat => s.heap.size ≤ q) [(q0, .inr (0, [.int (nI 0), .ref q1])), (q1, .inl (d0, 12, .inr (.inl (fun _ => 0)))), (q2, .inr (1, [.int 0, .null]))] := hD
  refine lv_dup hx hb dL_law_11 rfl ?_
  have hPc := hP.sub (ws' := [(q2, .inr (1, [.int 0, .null]))]) [2] rfl
  have hDc := hD.sub (ws' := [(q2, .inr (1, [.int 0, .null]))]) [2] (by decide) rfl
  have hKc2 := hK
  have hFc := va_free (wc := [(q2, .inr (1, [.int 0, .null]))]) hD hS hA [2] rfl
  refine va_callv (va_runI (As := []) (rest := [.ref q2]) C (mt1_init l dC dI q2 H.size) (cwI 0 hts (lw_meth q110) rfl rfl rfl (hts _ q7) (hts _ q108) (hts _ q109) rfl (by decide +kernel) ⟨(Nat.le_of_ble_eq_true rfl), (Nat.le_of_ble_eq_true rfl)⟩) ⟨fun a U g mk q => by obtain ⟨z0, z1, zP, zK, zD⟩ := q; exact ⟨z0, z1, zP, va_K.moved (u := U) (U := U.calling g mk a) (Vm.Alike.refl U.vm) zK, zD⟩, fun U hU hW => ⟨rfl, by rw [hU], by rw [hU]; exact hPc, va_K.moved hW.alike hKc2, hDc.weaken (fun _ _ _ _ => trivial)⟩⟩ rfl rfl hl.1 rfl (lv_room (Nat.le_of_ble_eq_true rfl)) dL_law_12 ⟨(Nat.le_of_ble_eq_true rfl), (Nat.le_of_ble_eq_true rfl)⟩) hS (fun q _ h => hFc q h) hFc (fun u t H1 locs ht hvm hw hB hz1 hk1 hS => ?_)
  obtain ⟨q3, d1, hP1, hK2, hD1⟩ := hB
  rw [ht] at hP1
  have hK2 := va_K.moved hvm.symm hK2
  obtain ⟨hP, hD⟩ := va_join (wr := rp_ws 0 q0 q1 d0 (nI 0) (fun _ => 0)) (w1 := rp_ws 1 q2 q3 d1 (nI 0) (fun _ => 0)) hP hD [2] [0, 1] rfl rfl (by decide) (by decide) hk1 hFc hP1 hD1
  generalize H1 = H at hP hS ⊢
  have hK : va_K (dC, dI) rp_cl [(d0, .long), (d1, .long)] s := hK1.app hK2
  refine lv_astore_n (lv' := [(2, .ref q2), (1, .ref q0), (0, .ref b)]) hx hb dL_law_15 rfl hl (by decide) rfl (fun ls hl => ?_)
  refine lv_iconst (v := nI 0) hx hb dL_law_16 (by decide) ?_
  refine lv_istore_n (lv' := [(3, .int (nI 0)), (2, .ref q2), (1, .ref q0), (0, .ref b)]) hx hb dL_law_17 rfl hl (by decide) rfl (fun ls hl => ?_)
  refine W.widen (k := 4) (n := 28) (by decide) (by decide) ?_
  exact law_loop l hL C0 (L + 3) 0 0 _ _ (Nat.zero_le _) (by omega) ⟨Nat.zero_le _, fun j hj => absurd hj (Nat.not_lt_zero j)⟩ q0 q1 q2 q3 d0 d1 H _ hK hP hD hS ls (lv_sub hl [3, 2, 1, 0] rfl)
end
section
set_option maxHeartbeats 4000000 in
theorem lw_walk (l : Launch) (b : Addr) (xs : List Int32) : MetFree l x (headSpec (Jvm.Cond.code x code maxLocals ret :: tables_1) room_1) (lw_P b xs) (fun _ _ _ _ _ => True) lw_Q := by
  refine MetFree.of_bodyS (code := code) (maxLocals := maxLocals) (ret := ret) (by decide) ?_ ?_
  · intro args s m h hn
    obtain ⟨meth, c, h1, h2, h3, h4, h5, h6, -, -⟩ := Cond.code_spec hn (atoms_spec (ws := Jvm.Cond.code x code maxLocals ret :: tables_1) h _ List.mem_cons_self)
    exact ⟨meth, c, h1, h2, h3, h4, h5, h6⟩
  · intro p e s m args below meth c s₁ B hml0 hP _
    obtain ⟨rfl, hx, hbd, hgv⟩ := hP
    obtain ⟨scr, harrAt, hlist, hof, hsmall⟩ := hx
    obtain ⟨hcb, hkn, -, -⟩ := State.arrayAt?_spec harrAt
    have hown : s.vm.findClass R_law = some m.cls := findClass_of_methodNamed B.named
    have hts0 : ∀ c ∈ (Jvm.Cond.code x code maxLocals ret :: tables_1), c.before #[Value.ref b] s = true := atoms_spec (ws := Jvm.Cond.code x code maxLocals ret :: tables_1) B.pre
    have hts : ∀ w ∈ lw_tbl, w.before #[Value.ref b] s = true := k2_hts_sels lw_privs (fun w hw => hts0 w (List.mem_cons_of_mem _ hw)) lw_privs_ok
    have hml : c.maxLocals = 4 := B.maxLocals_eq (hts0 _ List.mem_cons_self)
    have X₀ : Stand p l e room_1 s m #[Value.ref b] below meth c s₁ [] 0 0 := Stand.of_body B
    have hh0 : s₁.heap = s.heap := by rw [B.state]; rfl
    have hsz : scr.slots.size = xs.length := by rw [← Array.length_toList, hlist, List.length_map]
    have hval : ∀ j : Nat, j < xs.length → scr.slots[j]? = some (.int (xs.getD j 0)) := fun j hj => by
      rw [← Array.getElem?_toList, hlist]
      simp [hj]
    have hbl : b < s.heap.size := (Array.getElem?_eq_some_iff.mp hcb).1
    have hX : va_X b xs.length (fun j => xs.getD j 0) s s.heap := ⟨scr, hcb, hof, hkn, hsz, hval⟩
    have K : W p l e room_1 s m #[Value.ref b] below meth c s₁.heap [] 0 0 (lw_Z below #[Value.ref b] s) (entryFrame m ([Value.ref b] : List Value).toArray 4) := by
      rw [hh0]
      exact whole_start l hbd ⟨B.exec, B.bytes, B.returns, hml, hown, hts, hX, hbl, B.notSynchronized, hgv⟩
    obtain ⟨t, a1, o, b1, b2, b3⟩ := K s₁ rfl X₀
    exact ⟨t, o, a1, b1, b2, b3⟩
theorem lw_pre_spec {args : Array Value} {s : State} (h : (Jvm.Cond.and given_1 narrow_1).before args s = true) (hr : rest_1_c.before args s = true) : ∃ (b : Addr) (xs : List Int32), lw_P b xs args s := by
  have hs := flat_of_before _ h
  have hq := flat_of_before _ hr
  have hc : (Cond.count 1).before args s = true := hs _ (by decide +kernel)
  have harr : (Cond.arrayOf (.arg 0) .int).before args s = true := hs _ (by decide +kernel)
  have hle : (Cond.le (.length (.arg 0)) (.int 192)).before args s = true := hs _ (by decide +kernel)
  have hlen : (Cond.isInt (.length (.arg 0))).before args s = true := hq _ (by decide +kernel)
  have hall : (Cond.all (.arg 0) (.isInt (.elem (.arg 0) (.index 0)))).before args s = true := hq _ (by decide +kernel)
  obtain ⟨b, xs, hb, hx⟩ := State.ints_of_pre rfl harr hlen hall
  have hsm : xs.length < 2 ^ 31 := hx.choose_spec.2.2.2
  have hev : (Term.length (.arg 0)).eval args s none [] s = some (.int xs.length.toInt32) := hx.length_eval hb
  have hv := Cond.le_ints hev (show (Term.int 192).eval args s none [] s = some (.int 192) from rfl)
  have hd : xs.length.toInt32 ≤ 192 := by
    simpa [Cond.before, Cond.holds, hv] using hle
  have hN : xs.length ≤ 192 := (Int32.ofNat_le_ofNat hsm (by decide)).mp (show Int32.ofNat xs.length ≤ Int32.ofNat 192 from hd)
  exact ⟨b, xs, Cond.one_arg hc (show args[0]? = some (.ref b) from hb), hx, hN, h⟩
theorem lw_comes (l : Launch) : Comes l x (Jvm.Cond.code x code maxLocals ret :: tables_1) room_1 (fun tb e args s => Calls_1 tb e args s ∧ rest_1 tb e args s ∧ Pre_1 tb e args s)
    (fun _ _ args s o t => lw_Q args s o t) := by
  intro p e ha hc hk s m args below hf hfit hheap happ hpre
  obtain ⟨b, xs, hP⟩ := lw_pre_spec hpre.2.2 hpre.2.1
  obtain ⟨k, o, h1, h2, h3, hQ⟩ := lw_walk l b xs p e ha hc hk s m args below hf ((Spec.applies_iff_loose hf).mp happ).1 hP trivial
  exact ⟨k, o, h1, h2, h3, hQ⟩
theorem lw_frame {s t : State} {o : Outcome} {args : Array Value} (h : Framed s o t [] 600000 7290000) :
    Framed s o t (fieldLocs frame_1_writes args s ++ arrayLocs frame_1_arrays args s ++ staticLocs frame_1_statics s) 600000 7290000 := h
theorem lw_limb (L : Cond) (hL : ∀ (args : Array Value) (s t : State), L.after args s (.returned (some (.int 1))) t = true) :
    ArmFor flags0 classFile x code maxLocals ret World_1 tables_1 room_1 Calls_1 rest_1 Pre_1
      (fun tb e a s o t => postC L tb e a s o t ∧ Framed s o t (fieldLocs frame_1_writes a s ++ arrayLocs frame_1_arrays a s ++ staticLocs frame_1_statics s) 600000 7290000) := by
  intro l _ _ _ p e ha hc hk s m args below hf hfit hheap happ hpre
  obtain ⟨k, o, h1, h2, h3, rfl, hF⟩ := lw_comes l p e ha hc hk s m args below hf hfit hheap happ hpre
  exact ⟨k, _, h1, h2, h3, hL args s _, lw_frame hF⟩
theorem i_vc : Claimed_1_1 ∧ Claimed_1_2 := ⟨lw_limb limb_1_1 (fun args s t => by simp [limb_1_1, Cond.after, Cond.holds, Cond.value]), lw_limb limb_1_2 (fun args s t => Cond.after_iff.mpr (by
  first | (rw [show limb_1_2 = Cond.eq .result (.int 1) from rfl, Cond.eq_ints (x := 1) (y := 1) rfl rfl]; simp; done) | (simp [limb_1_2, Cond.value, Term.eval]; done)))⟩
end
