section
-- ===== PART A: goes FIRST, ahead of the names: the tables' words, and 'selects' of the private methods out of them =====
/-- a private method of a class that the tables say can be made, by its rows of tables_1 -/
def lw_okq (q : MethodName × Nat) : Prop := (q.1.cls ≠ "java/lang/invoke/MethodHandle" ∧ q.1.cls ≠ "java/lang/invoke/VarHandle") ∧ Cond.instantiable q.1.cls q.2 ∈ tables_1 ∧ Cond.privateMethod q.1 ∈ tables_1 ∧ Cond.instanceMethod q.1 ∈ tables_1
set_option maxRecDepth 100000
theorem lw_p0 : lw_okq (⟨"MerkleLog", "rangeRoot", "(II)I"⟩, 6) := ⟨⟨by decide +kernel, by decide +kernel⟩, List.mem_of_getElem? (i := 4) rfl, List.mem_of_getElem? (i := 54) rfl, List.mem_of_getElem? (i := 55) rfl⟩
theorem lw_p1 : lw_okq (⟨"MerkleLog", "note", "(II)V"⟩, 6) := ⟨⟨by decide +kernel, by decide +kernel⟩, List.mem_of_getElem? (i := 4) rfl, List.mem_of_getElem? (i := 65) rfl, List.mem_of_getElem? (i := 66) rfl⟩
theorem lw_p2 : lw_okq (⟨"MerkleLog", "turnRound", "()V"⟩, 6) := ⟨⟨by decide +kernel, by decide +kernel⟩, List.mem_of_getElem? (i := 4) rfl, List.mem_of_getElem? (i := 69) rfl, List.mem_of_getElem? (i := 70) rfl⟩
theorem lw_p3 : lw_okq (⟨"MerkleLogModel", "rootOf", "(II)I"⟩, 8) := ⟨⟨by decide +kernel, by decide +kernel⟩, List.mem_of_getElem? (i := 101) rfl, List.mem_of_getElem? (i := 140) rfl, List.mem_of_getElem? (i := 141) rfl⟩
theorem lw_p4 : lw_okq (⟨"MerkleLogModel", "open", "(III)V"⟩, 8) := ⟨⟨by decide +kernel, by decide +kernel⟩, List.mem_of_getElem? (i := 101) rfl, List.mem_of_getElem? (i := 144) rfl, List.mem_of_getElem? (i := 145) rfl⟩
theorem lw_p5 : lw_okq (⟨"MerkleLogModel", "hold", "(I)V"⟩, 8) := ⟨⟨by decide +kernel, by decide +kernel⟩, List.mem_of_getElem? (i := 101) rfl, List.mem_of_getElem? (i := 166) rfl, List.mem_of_getElem? (i := 167) rfl⟩
theorem lw_p6 : lw_okq (⟨"MerkleLogModel", "turnHand", "()V"⟩, 8) := ⟨⟨by decide +kernel, by decide +kernel⟩, List.mem_of_getElem? (i := 101) rfl, List.mem_of_getElem? (i := 170) rfl, List.mem_of_getElem? (i := 171) rfl⟩
def lw_privs_1 : List (MethodName × Nat) := [(⟨"MerkleLog", "rangeRoot", "(II)I"⟩, 6), (⟨"MerkleLog", "note", "(II)V"⟩, 6), (⟨"MerkleLog", "turnRound", "()V"⟩, 6), (⟨"MerkleLogModel", "rootOf", "(II)I"⟩, 8), (⟨"MerkleLogModel", "open", "(III)V"⟩, 8), (⟨"MerkleLogModel", "hold", "(I)V"⟩, 8), (⟨"MerkleLogModel", "turnHand", "()V"⟩, 8)]
theorem lw_r1 : ∀ q ∈ lw_privs_1, lw_okq q := List.forall_mem_cons.mpr ⟨lw_p0, List.forall_mem_cons.mpr ⟨lw_p1, List.forall_mem_cons.mpr ⟨lw_p2, List.forall_mem_cons.mpr ⟨lw_p3, List.forall_mem_cons.mpr ⟨lw_p4, List.forall_mem_cons.mpr ⟨lw_p5, List.forall_mem_cons.mpr ⟨lw_p6, fun _ h => absurd h List.not_mem_nil⟩⟩⟩⟩⟩⟩⟩
def lw_privs : List (MethodName × Nat) := lw_privs_1
def lw_tbl : List Cond := k2_sels lw_privs ++ tables_1
theorem lw_privs_ok : ∀ q ∈ lw_privs, lw_okq q := lw_r1
-- ===== ONE list of words for every method: the tables' words that hold all through a run =====
def lw_all : List Cond := lw_tbl.filter goodWord
/-- a word of the tables by its place: claim/WORDS.tsv -/
theorem lw_w {w : Cond} (i : Nat) (h : lw_tbl[i]? = some w) (g : goodWord w = true) : w ∈ lw_all := List.mem_filter.mpr ⟨List.mem_of_getElem? h, g⟩
theorem lw_all_tbl {w : Cond} (h : w ∈ lw_all) : w ∈ lw_tbl := (List.mem_filter.mp h).1
theorem lw_self : GoodIn lw_all lw_all := fun w h => ⟨h, good_of_word (List.mem_filter.mp h).2⟩
/-- a class's field words, by their places -/
theorem lw_in (ws : List Cond) (ps : List Nat) (hp : ws = ps.filterMap (fun i => lw_tbl[i]?)) (hg : ws.all goodWord = true) : ∀ w ∈ ws, w ∈ lw_all := by
  intro w h
  have h1 := List.all_eq_true.mp hg w h
  rw [hp] at h
  obtain ⟨i, -, hi⟩ := List.mem_filterMap.mp h
  exact lw_w i hi h1
/-- the words of a contract for the method y with code b, L locals, answer r -/
abbrev ws_ (y : MethodName) (b : ByteArray) (L : Nat) (r : Option FieldType) : List Cond := Cond.code y b L r :: lw_all
theorem lw_meth {y : MethodName} {b : ByteArray} {L : Nat} {r : Option FieldType} (h : Cond.code y b L r ∈ lw_all) : GoodIn lw_all (ws_ y b L r) := by
  intro w hw
  rcases List.mem_cons.mp hw with e | e
  · rw [e]
    exact lw_self _ h
  · exact lw_self _ e
theorem lw_app {a c : List Cond} (ha : ∀ w ∈ a, w ∈ lw_all) (hc : GoodIn lw_all c) : GoodIn lw_all (a ++ c) := by
  intro w hw
  rcases List.mem_append.mp hw with e | e
  · exact lw_self w (ha w e)
  · exact hc w e
/-- what a call through an object asks: cwV n hts (lw_V ..) -/
theorem lw_V {own : String} {idx : Nat} {C : String} {y : MethodName} {b : ByteArray} {L : Nat} {r : Option FieldType} (h1 : Cond.methodLink own idx y ∈ lw_all) (h2 : Cond.instanceMethod y ∈ lw_all) (h3 : Cond.selects C y y ∈ lw_all) (h4 : Cond.initialized C ∈ lw_all) (h5 : Cond.code y b L r ∈ lw_all) : GoodIn lw_all (wsV own idx C y (ws_ y b L r)) := by
  refine lw_app ?_ (lw_meth h5)
  intro w hw
  simp only [List.mem_cons, List.not_mem_nil, or_false] at hw
  rcases hw with e | e | e | e
  · rw [e]; exact h1
  · rw [e]; exact h2
  · rw [e]; exact h3
  · rw [e]; exact h4
/-- what a static call asks: va_cwS n hts (lw_S ..) -/
theorem lw_S {own : String} {idx : Nat} {y : MethodName} {b : ByteArray} {L : Nat} {r : Option FieldType} (h1 : Cond.methodLink own idx y ∈ lw_all) (h2 : Cond.static y ∈ lw_all) (h3 : Cond.initialized y.cls ∈ lw_all) (h4 : Cond.code y b L r ∈ lw_all) : GoodIn lw_all (va_wsS own idx y (ws_ y b L r)) := by
  refine lw_app ?_ (lw_meth h4)
  intro w hw
  simp only [List.mem_cons, List.not_mem_nil, or_false] at hw
  rcases hw with e | e | e
  · rw [e]; exact h1
  · rw [e]; exact h2
  · rw [e]; exact h3
/-- the words of a contract for a method WITH HANDLERS (hh: its table) -/
abbrev wsW_ (y : MethodName) (b : ByteArray) (L : Nat) (r : Option FieldType) (hh : List (Nat × Nat × Nat × Nat)) : List Cond := Cond.codeWith y b L r hh :: lw_all
theorem lw_methW {y : MethodName} {b : ByteArray} {L : Nat} {r : Option FieldType} {hh : List (Nat × Nat × Nat × Nat)} (h : Cond.codeWith y b L r hh ∈ lw_all) : GoodIn lw_all (wsW_ y b L r hh) := by
  intro w hw
  rcases List.mem_cons.mp hw with e | e
  · rw [e]
    exact lw_self _ h
  · exact lw_self _ e
/-- any list of words by their places (lw_in), good -/
theorem lw_good {ws : List Cond} (h : ∀ w ∈ ws, w ∈ lw_all) : GoodIn lw_all ws := fun w hw => lw_self w (h w hw)
/-- what a call of a method with handlers asks: vx_cwVW n hts (lw_VW ..), vx_cwSW n hts (lw_SW ..) -/
theorem lw_VW {own : String} {idx : Nat} {C : String} {y : MethodName} {b : ByteArray} {L : Nat} {r : Option FieldType} {hh : List (Nat × Nat × Nat × Nat)} (h1 : Cond.methodLink own idx y ∈ lw_all) (h2 : Cond.instanceMethod y ∈ lw_all) (h3 : Cond.selects C y y ∈ lw_all) (h4 : Cond.initialized C ∈ lw_all) (h5 : Cond.codeWith y b L r hh ∈ lw_all) : GoodIn lw_all (wsV own idx C y (wsW_ y b L r hh)) := by
  refine lw_app ?_ (lw_methW h5)
  intro w hw
  simp only [List.mem_cons, List.not_mem_nil, or_false] at hw
  rcases hw with e | e | e | e
  · rw [e]; exact h1
  · rw [e]; exact h2
  · rw [e]; exact h3
  · rw [e]; exact h4
theorem lw_SW {own : String} {idx : Nat} {y : MethodName} {b : ByteArray} {L : Nat} {r : Option FieldType} {hh : List (Nat × Nat × Nat × Nat)} (h1 : Cond.methodLink own idx y ∈ lw_all) (h2 : Cond.static y ∈ lw_all) (h3 : Cond.initialized y.cls ∈ lw_all) (h4 : Cond.codeWith y b L r hh ∈ lw_all) : GoodIn lw_all (va_wsS own idx y (wsW_ y b L r hh)) := by
  refine lw_app ?_ (lw_methW h4)
  intro w hw
  simp only [List.mem_cons, List.not_mem_nil, or_false] at hw
  rcases hw with e | e | e
  · rw [e]; exact h1
  · rw [e]; exact h2
  · rw [e]; exact h3
/-- a word by its place in its run of the tables -/
theorem lw_at {r : List Cond} (hr : ∀ w ∈ r, w ∈ lw_tbl) {w : Cond} (i : Nat) (h : r[i]? = some w) : w ∈ lw_tbl := hr w (List.mem_of_getElem? h)
theorem lw_g {w : Cond} (h : w ∈ lw_tbl) (g : goodWord w = true) : w ∈ lw_all := List.mem_filter.mpr ⟨h, g⟩
theorem lw_ms : ∀ w ∈ k2_sels lw_privs, w ∈ lw_tbl := fun w h => show w ∈ k2_sels lw_privs ++ tables_1 from List.mem_append_left _ h
theorem lw_m0 : ∀ w ∈ tables_1, w ∈ lw_tbl := fun w h => show w ∈ k2_sels lw_privs ++ tables_1 from List.mem_append_right (k2_sels lw_privs) h
theorem qs0 : (Cond.selects "MerkleLog" ⟨"MerkleLog", "rangeRoot", "(II)I"⟩ ⟨"MerkleLog", "rangeRoot", "(II)I"⟩) ∈ lw_all := lw_g (lw_at lw_ms 0 rfl) rfl
theorem qs1 : (Cond.selects "MerkleLog" ⟨"MerkleLog", "note", "(II)V"⟩ ⟨"MerkleLog", "note", "(II)V"⟩) ∈ lw_all := lw_g (lw_at lw_ms 1 rfl) rfl
theorem qs2 : (Cond.selects "MerkleLog" ⟨"MerkleLog", "turnRound", "()V"⟩ ⟨"MerkleLog", "turnRound", "()V"⟩) ∈ lw_all := lw_g (lw_at lw_ms 2 rfl) rfl
theorem qs3 : (Cond.selects "MerkleLogModel" ⟨"MerkleLogModel", "rootOf", "(II)I"⟩ ⟨"MerkleLogModel", "rootOf", "(II)I"⟩) ∈ lw_all := lw_g (lw_at lw_ms 3 rfl) rfl
theorem qs4 : (Cond.selects "MerkleLogModel" ⟨"MerkleLogModel", "open", "(III)V"⟩ ⟨"MerkleLogModel", "open", "(III)V"⟩) ∈ lw_all := lw_g (lw_at lw_ms 4 rfl) rfl
theorem qs5 : (Cond.selects "MerkleLogModel" ⟨"MerkleLogModel", "hold", "(I)V"⟩ ⟨"MerkleLogModel", "hold", "(I)V"⟩) ∈ lw_all := lw_g (lw_at lw_ms 5 rfl) rfl
theorem qs6 : (Cond.selects "MerkleLogModel" ⟨"MerkleLogModel", "turnHand", "()V"⟩ ⟨"MerkleLogModel", "turnHand", "()V"⟩) ∈ lw_all := lw_g (lw_at lw_ms 6 rfl) rfl
end
section
set_option maxRecDepth 100000
/-! java/lang/Object -/
def RJ0 : String := "java/lang/Object"
abbrev cJ0_init : ByteArray := object_method_1_code
def yJ0_init : MethodName := ⟨RJ0, "<init>", "()V"⟩
theorem dJ0_init_0 : decode cJ0_init 0 = .ok (.return_, 1) := by decide +kernel
theorem q16 : (Jvm.Cond.instanceMethod ({ cls := "java/lang/Object", name := "<init>", desc := "()V" } : Jvm.MethodName)) ∈ lw_all := lw_g (lw_at lw_m0 9 rfl) rfl
theorem q17 : (Jvm.Cond.code ({ cls := "java/lang/Object", name := "<init>", desc := "()V" } : Jvm.MethodName) object_method_1_code (1 : Nat) (Option.none : Option Jvm.ClassFile.FieldType)) ∈ lw_all := lw_g (lw_at lw_m0 10 rfl) rfl
/-! MerkleLog -/
def RX0 : String := "MerkleLog"
def TX0 : u_T := fun k => match k with
  | 0 => ("MerkleLog", "entries", "I", false)
  | 1 => ("MerkleLog", "part", "[I", true)
  | 2 => ("MerkleLog", "count", "I", false)
  | 3 => ("MerkleLog", "numbers", "[I", true)
  | 4 => ("MerkleLog", "found", "I", false)
  | _ => ("MerkleLog", "downwards", "[I", true)
def tyX0 : Nat → FieldType := fun k => match k with
  | 0 => .int
  | 1 => .array .int
  | 2 => .int
  | 3 => .array .int
  | 4 => .int
  | _ => .array .int
abbrev wsX00 : List Cond := u_ws RX0 TX0 6
theorem nmX0 : ∀ a, a < 6 → ∀ b, b < 6 → a ≠ b → (TX0 a).2.1 ≠ (TX0 b).2.1 := by decide +kernel
theorem tyX0_ok : ∀ k, k < 6 → parseFieldDescriptor (TX0 k).2.2.1 = some (tyX0 k) := by decide +kernel
abbrev cX0_init : ByteArray := prog_1_method_1_code
def yX0_init : MethodName := ⟨RX0, "<init>", "()V"⟩
theorem dX0_init_0 : decode cX0_init 0 = .ok (.aload_n 0, 1) := by decide +kernel
theorem dX0_init_1 : decode cX0_init 1 = .ok (.invokespecial 1, 3) := by decide +kernel
theorem dX0_init_4 : decode cX0_init 4 = .ok (.aload_n 0, 1) := by decide +kernel
theorem dX0_init_5 : decode cX0_init 5 = .ok (.bipush 80, 2) := by decide +kernel
theorem dX0_init_7 : decode cX0_init 7 = .ok (.newarray .int, 2) := by decide +kernel
theorem dX0_init_9 : decode cX0_init 9 = .ok (.putfield 7, 3) := by decide +kernel
theorem dX0_init_12 : decode cX0_init 12 = .ok (.aload_n 0, 1) := by decide +kernel
theorem dX0_init_13 : decode cX0_init 13 = .ok (.bipush 16, 2) := by decide +kernel
theorem dX0_init_15 : decode cX0_init 15 = .ok (.newarray .int, 2) := by decide +kernel
theorem dX0_init_17 : decode cX0_init 17 = .ok (.putfield 13, 3) := by decide +kernel
theorem dX0_init_20 : decode cX0_init 20 = .ok (.aload_n 0, 1) := by decide +kernel
theorem dX0_init_21 : decode cX0_init 21 = .ok (.bipush 16, 2) := by decide +kernel
theorem dX0_init_23 : decode cX0_init 23 = .ok (.newarray .int, 2) := by decide +kernel
theorem dX0_init_25 : decode cX0_init 25 = .ok (.putfield 16, 3) := by decide +kernel
theorem dX0_init_28 : decode cX0_init 28 = .ok (.return_, 1) := by decide +kernel
abbrev cX0_append : ByteArray := prog_1_method_2_code
def yX0_append : MethodName := ⟨RX0, "append", "(I)I"⟩
theorem dX0_append_0 : decode cX0_append 0 = .ok (.aload_n 0, 1) := by decide +kernel
theorem dX0_append_1 : decode cX0_append 1 = .ok (.getfield 19, 3) := by decide +kernel
theorem dX0_append_4 : decode cX0_append 4 = .ok (.bipush 40, 2) := by decide +kernel
theorem dX0_append_6 : decode cX0_append 6 = .ok (.if_icmp .lt 5, 3) := by decide +kernel
theorem dX0_append_9 : decode cX0_append 9 = .ok (.iconst (-1), 1) := by decide +kernel
theorem dX0_append_10 : decode cX0_append 10 = .ok (.ireturn, 1) := by decide +kernel
theorem dX0_append_11 : decode cX0_append 11 = .ok (.aload_n 0, 1) := by decide +kernel
theorem dX0_append_12 : decode cX0_append 12 = .ok (.getfield 7, 3) := by decide +kernel
theorem dX0_append_15 : decode cX0_append 15 = .ok (.aload_n 0, 1) := by decide +kernel
theorem dX0_append_16 : decode cX0_append 16 = .ok (.getfield 19, 3) := by decide +kernel
theorem dX0_append_19 : decode cX0_append 19 = .ok (.iload_n 1, 1) := by decide +kernel
theorem dX0_append_20 : decode cX0_append 20 = .ok (.invokestatic 23, 3) := by decide +kernel
theorem dX0_append_23 : decode cX0_append 23 = .ok (.iastore, 1) := by decide +kernel
theorem dX0_append_24 : decode cX0_append 24 = .ok (.aload_n 0, 1) := by decide +kernel
theorem dX0_append_25 : decode cX0_append 25 = .ok (.dup, 1) := by decide +kernel
theorem dX0_append_26 : decode cX0_append 26 = .ok (.getfield 19, 3) := by decide +kernel
theorem dX0_append_29 : decode cX0_append 29 = .ok (.iconst 1, 1) := by decide +kernel
theorem dX0_append_30 : decode cX0_append 30 = .ok (.iadd, 1) := by decide +kernel
theorem dX0_append_31 : decode cX0_append 31 = .ok (.putfield 19, 3) := by decide +kernel
theorem dX0_append_34 : decode cX0_append 34 = .ok (.aload_n 0, 1) := by decide +kernel
theorem dX0_append_35 : decode cX0_append 35 = .ok (.getfield 19, 3) := by decide +kernel
theorem dX0_append_38 : decode cX0_append 38 = .ok (.istore_n 2, 1) := by decide +kernel
theorem dX0_append_39 : decode cX0_append 39 = .ok (.iconst 0, 1) := by decide +kernel
theorem dX0_append_40 : decode cX0_append 40 = .ok (.istore_n 3, 1) := by decide +kernel
theorem dX0_append_41 : decode cX0_append 41 = .ok (.iload_n 3, 1) := by decide +kernel
theorem dX0_append_42 : decode cX0_append 42 = .ok (.iconst 5, 1) := by decide +kernel
theorem dX0_append_43 : decode cX0_append 43 = .ok (.if_icmp .ge 75, 3) := by decide +kernel
theorem dX0_append_46 : decode cX0_append 46 = .ok (.iload_n 2, 1) := by decide +kernel
theorem dX0_append_47 : decode cX0_append 47 = .ok (.iconst 1, 1) := by decide +kernel
theorem dX0_append_48 : decode cX0_append 48 = .ok (.iand, 1) := by decide +kernel
theorem dX0_append_49 : decode cX0_append 49 = .ok (.ifCond .ne 69, 3) := by decide +kernel
theorem dX0_append_52 : decode cX0_append 52 = .ok (.iload_n 2, 1) := by decide +kernel
theorem dX0_append_53 : decode cX0_append 53 = .ok (.iconst 2, 1) := by decide +kernel
theorem dX0_append_54 : decode cX0_append 54 = .ok (.idiv, 1) := by decide +kernel
theorem dX0_append_55 : decode cX0_append 55 = .ok (.istore_n 2, 1) := by decide +kernel
theorem dX0_append_56 : decode cX0_append 56 = .ok (.aload_n 0, 1) := by decide +kernel
theorem dX0_append_57 : decode cX0_append 57 = .ok (.getfield 7, 3) := by decide +kernel
theorem dX0_append_60 : decode cX0_append 60 = .ok (.iload_n 3, 1) := by decide +kernel
theorem dX0_append_61 : decode cX0_append 61 = .ok (.invokestatic 27, 3) := by decide +kernel
theorem dX0_append_64 : decode cX0_append 64 = .ok (.iconst 2, 1) := by decide +kernel
theorem dX0_append_65 : decode cX0_append 65 = .ok (.iload_n 2, 1) := by decide +kernel
theorem dX0_append_66 : decode cX0_append 66 = .ok (.imul, 1) := by decide +kernel
theorem dX0_append_67 : decode cX0_append 67 = .ok (.iadd, 1) := by decide +kernel
theorem dX0_append_68 : decode cX0_append 68 = .ok (.iconst 2, 1) := by decide +kernel
theorem dX0_append_69 : decode cX0_append 69 = .ok (.isub, 1) := by decide +kernel
theorem dX0_append_70 : decode cX0_append 70 = .ok (.iaload, 1) := by decide +kernel
theorem dX0_append_71 : decode cX0_append 71 = .ok (.istore 4, 2) := by decide +kernel
theorem dX0_append_73 : decode cX0_append 73 = .ok (.aload_n 0, 1) := by decide +kernel
theorem dX0_append_74 : decode cX0_append 74 = .ok (.getfield 7, 3) := by decide +kernel
theorem dX0_append_77 : decode cX0_append 77 = .ok (.iload_n 3, 1) := by decide +kernel
theorem dX0_append_78 : decode cX0_append 78 = .ok (.invokestatic 27, 3) := by decide +kernel
theorem dX0_append_81 : decode cX0_append 81 = .ok (.iconst 2, 1) := by decide +kernel
theorem dX0_append_82 : decode cX0_append 82 = .ok (.iload_n 2, 1) := by decide +kernel
theorem dX0_append_83 : decode cX0_append 83 = .ok (.imul, 1) := by decide +kernel
theorem dX0_append_84 : decode cX0_append 84 = .ok (.iadd, 1) := by decide +kernel
theorem dX0_append_85 : decode cX0_append 85 = .ok (.iconst 1, 1) := by decide +kernel
theorem dX0_append_86 : decode cX0_append 86 = .ok (.isub, 1) := by decide +kernel
theorem dX0_append_87 : decode cX0_append 87 = .ok (.iaload, 1) := by decide +kernel
theorem dX0_append_88 : decode cX0_append 88 = .ok (.istore 5, 2) := by decide +kernel
theorem dX0_append_90 : decode cX0_append 90 = .ok (.aload_n 0, 1) := by decide +kernel
theorem dX0_append_91 : decode cX0_append 91 = .ok (.getfield 7, 3) := by decide +kernel
theorem dX0_append_94 : decode cX0_append 94 = .ok (.iload_n 3, 1) := by decide +kernel
theorem dX0_append_95 : decode cX0_append 95 = .ok (.iconst 1, 1) := by decide +kernel
theorem dX0_append_96 : decode cX0_append 96 = .ok (.iadd, 1) := by decide +kernel
theorem dX0_append_97 : decode cX0_append 97 = .ok (.invokestatic 27, 3) := by decide +kernel
theorem dX0_append_100 : decode cX0_append 100 = .ok (.iload_n 2, 1) := by decide +kernel
theorem dX0_append_101 : decode cX0_append 101 = .ok (.iadd, 1) := by decide +kernel
theorem dX0_append_102 : decode cX0_append 102 = .ok (.iconst 1, 1) := by decide +kernel
theorem dX0_append_103 : decode cX0_append 103 = .ok (.isub, 1) := by decide +kernel
theorem dX0_append_104 : decode cX0_append 104 = .ok (.iload 4, 2) := by decide +kernel
theorem dX0_append_106 : decode cX0_append 106 = .ok (.iload 5, 2) := by decide +kernel
theorem dX0_append_108 : decode cX0_append 108 = .ok (.invokestatic 30, 3) := by decide +kernel
theorem dX0_append_111 : decode cX0_append 111 = .ok (.iastore, 1) := by decide +kernel
theorem dX0_append_112 : decode cX0_append 112 = .ok (.iinc 3 1, 3) := by decide +kernel
theorem dX0_append_115 : decode cX0_append 115 = .ok (.goto (-74), 3) := by decide +kernel
theorem dX0_append_118 : decode cX0_append 118 = .ok (.aload_n 0, 1) := by decide +kernel
theorem dX0_append_119 : decode cX0_append 119 = .ok (.getfield 19, 3) := by decide +kernel
theorem dX0_append_122 : decode cX0_append 122 = .ok (.ireturn, 1) := by decide +kernel
abbrev cX0_leaf : ByteArray := prog_1_method_13_code
def yX0_leaf : MethodName := ⟨RX0, "leaf", "(I)I"⟩
theorem dX0_leaf_0 : decode cX0_leaf 0 = .ok (.iload_n 0, 1) := by decide +kernel
theorem dX0_leaf_1 : decode cX0_leaf 1 = .ok (.iconst 1, 1) := by decide +kernel
theorem dX0_leaf_2 : decode cX0_leaf 2 = .ok (.invokestatic 55, 3) := by decide +kernel
theorem dX0_leaf_5 : decode cX0_leaf 5 = .ok (.ireturn, 1) := by decide +kernel
abbrev cX0_mix : ByteArray := prog_1_method_12_code
def yX0_mix : MethodName := ⟨RX0, "mix", "(II)I"⟩
theorem dX0_mix_0 : decode cX0_mix 0 = .ok (.iload_n 0, 1) := by decide +kernel
theorem dX0_mix_1 : decode cX0_mix 1 = .ok (.iload_n 0, 1) := by decide +kernel
theorem dX0_mix_2 : decode cX0_mix 2 = .ok (.bipush 15, 2) := by decide +kernel
theorem dX0_mix_4 : decode cX0_mix 4 = .ok (.iushr, 1) := by decide +kernel
theorem dX0_mix_5 : decode cX0_mix 5 = .ok (.ixor, 1) := by decide +kernel
theorem dX0_mix_6 : decode cX0_mix 6 = .ok (.ldc 53, 2) := by decide +kernel
theorem dX0_mix_8 : decode cX0_mix 8 = .ok (.imul, 1) := by decide +kernel
theorem dX0_mix_9 : decode cX0_mix 9 = .ok (.iload_n 1, 1) := by decide +kernel
theorem dX0_mix_10 : decode cX0_mix 10 = .ok (.iadd, 1) := by decide +kernel
theorem dX0_mix_11 : decode cX0_mix 11 = .ok (.istore_n 2, 1) := by decide +kernel
theorem dX0_mix_12 : decode cX0_mix 12 = .ok (.iload_n 2, 1) := by decide +kernel
theorem dX0_mix_13 : decode cX0_mix 13 = .ok (.iload_n 2, 1) := by decide +kernel
theorem dX0_mix_14 : decode cX0_mix 14 = .ok (.bipush 12, 2) := by decide +kernel
theorem dX0_mix_16 : decode cX0_mix 16 = .ok (.iushr, 1) := by decide +kernel
theorem dX0_mix_17 : decode cX0_mix 17 = .ok (.ixor, 1) := by decide +kernel
theorem dX0_mix_18 : decode cX0_mix 18 = .ok (.ldc 54, 2) := by decide +kernel
theorem dX0_mix_20 : decode cX0_mix 20 = .ok (.imul, 1) := by decide +kernel
theorem dX0_mix_21 : decode cX0_mix 21 = .ok (.iload_n 1, 1) := by decide +kernel
theorem dX0_mix_22 : decode cX0_mix 22 = .ok (.iadd, 1) := by decide +kernel
theorem dX0_mix_23 : decode cX0_mix 23 = .ok (.istore_n 2, 1) := by decide +kernel
theorem dX0_mix_24 : decode cX0_mix 24 = .ok (.iload_n 2, 1) := by decide +kernel
theorem dX0_mix_25 : decode cX0_mix 25 = .ok (.iload_n 2, 1) := by decide +kernel
theorem dX0_mix_26 : decode cX0_mix 26 = .ok (.bipush 15, 2) := by decide +kernel
theorem dX0_mix_28 : decode cX0_mix 28 = .ok (.iushr, 1) := by decide +kernel
theorem dX0_mix_29 : decode cX0_mix 29 = .ok (.ixor, 1) := by decide +kernel
theorem dX0_mix_30 : decode cX0_mix 30 = .ok (.ireturn, 1) := by decide +kernel
abbrev cX0_first : ByteArray := prog_1_method_15_code
def yX0_first : MethodName := ⟨RX0, "first", "(I)I"⟩
theorem dX0_first_0 : decode cX0_first 0 = .ok (.iload_n 0, 1) := by decide +kernel
theorem dX0_first_1 : decode cX0_first 1 = .ok (.ifCond .ne 7, 3) := by decide +kernel
theorem dX0_first_4 : decode cX0_first 4 = .ok (.iconst 0, 1) := by decide +kernel
theorem dX0_first_5 : decode cX0_first 5 = .ok (.goto 45, 3) := by decide +kernel
theorem dX0_first_8 : decode cX0_first 8 = .ok (.iload_n 0, 1) := by decide +kernel
theorem dX0_first_9 : decode cX0_first 9 = .ok (.iconst 1, 1) := by decide +kernel
theorem dX0_first_10 : decode cX0_first 10 = .ok (.if_icmp .ne 8, 3) := by decide +kernel
theorem dX0_first_13 : decode cX0_first 13 = .ok (.bipush 40, 2) := by decide +kernel
theorem dX0_first_15 : decode cX0_first 15 = .ok (.goto 35, 3) := by decide +kernel
theorem dX0_first_18 : decode cX0_first 18 = .ok (.iload_n 0, 1) := by decide +kernel
theorem dX0_first_19 : decode cX0_first 19 = .ok (.iconst 2, 1) := by decide +kernel
theorem dX0_first_20 : decode cX0_first 20 = .ok (.if_icmp .ne 8, 3) := by decide +kernel
theorem dX0_first_23 : decode cX0_first 23 = .ok (.bipush 60, 2) := by decide +kernel
theorem dX0_first_25 : decode cX0_first 25 = .ok (.goto 25, 3) := by decide +kernel
theorem dX0_first_28 : decode cX0_first 28 = .ok (.iload_n 0, 1) := by decide +kernel
theorem dX0_first_29 : decode cX0_first 29 = .ok (.iconst 3, 1) := by decide +kernel
theorem dX0_first_30 : decode cX0_first 30 = .ok (.if_icmp .ne 8, 3) := by decide +kernel
theorem dX0_first_33 : decode cX0_first 33 = .ok (.bipush 70, 2) := by decide +kernel
theorem dX0_first_35 : decode cX0_first 35 = .ok (.goto 15, 3) := by decide +kernel
theorem dX0_first_38 : decode cX0_first 38 = .ok (.iload_n 0, 1) := by decide +kernel
theorem dX0_first_39 : decode cX0_first 39 = .ok (.iconst 4, 1) := by decide +kernel
theorem dX0_first_40 : decode cX0_first 40 = .ok (.if_icmp .ne 8, 3) := by decide +kernel
theorem dX0_first_43 : decode cX0_first 43 = .ok (.bipush 75, 2) := by decide +kernel
theorem dX0_first_45 : decode cX0_first 45 = .ok (.goto 5, 3) := by decide +kernel
theorem dX0_first_48 : decode cX0_first 48 = .ok (.bipush 77, 2) := by decide +kernel
theorem dX0_first_50 : decode cX0_first 50 = .ok (.ireturn, 1) := by decide +kernel
abbrev cX0_node : ByteArray := prog_1_method_14_code
def yX0_node : MethodName := ⟨RX0, "node", "(II)I"⟩
theorem dX0_node_0 : decode cX0_node 0 = .ok (.iload_n 0, 1) := by decide +kernel
theorem dX0_node_1 : decode cX0_node 1 = .ok (.iconst 2, 1) := by decide +kernel
theorem dX0_node_2 : decode cX0_node 2 = .ok (.invokestatic 55, 3) := by decide +kernel
theorem dX0_node_5 : decode cX0_node 5 = .ok (.istore_n 2, 1) := by decide +kernel
theorem dX0_node_6 : decode cX0_node 6 = .ok (.iload_n 2, 1) := by decide +kernel
theorem dX0_node_7 : decode cX0_node 7 = .ok (.iload_n 1, 1) := by decide +kernel
theorem dX0_node_8 : decode cX0_node 8 = .ok (.ixor, 1) := by decide +kernel
theorem dX0_node_9 : decode cX0_node 9 = .ok (.iconst 3, 1) := by decide +kernel
theorem dX0_node_10 : decode cX0_node 10 = .ok (.invokestatic 55, 3) := by decide +kernel
theorem dX0_node_13 : decode cX0_node 13 = .ok (.ireturn, 1) := by decide +kernel
abbrev cX0_root : ByteArray := prog_1_method_3_code
def yX0_root : MethodName := ⟨RX0, "root", "(I)I"⟩
theorem dX0_root_0 : decode cX0_root 0 = .ok (.iload_n 1, 1) := by decide +kernel
theorem dX0_root_1 : decode cX0_root 1 = .ok (.iconst 1, 1) := by decide +kernel
theorem dX0_root_2 : decode cX0_root 2 = .ok (.if_icmp .lt 11, 3) := by decide +kernel
theorem dX0_root_5 : decode cX0_root 5 = .ok (.iload_n 1, 1) := by decide +kernel
theorem dX0_root_6 : decode cX0_root 6 = .ok (.aload_n 0, 1) := by decide +kernel
theorem dX0_root_7 : decode cX0_root 7 = .ok (.getfield 19, 3) := by decide +kernel
theorem dX0_root_10 : decode cX0_root 10 = .ok (.if_icmp .le 7, 3) := by decide +kernel
theorem dX0_root_13 : decode cX0_root 13 = .ok (.iconst 0, 1) := by decide +kernel
theorem dX0_root_14 : decode cX0_root 14 = .ok (.goto 9, 3) := by decide +kernel
theorem dX0_root_17 : decode cX0_root 17 = .ok (.aload_n 0, 1) := by decide +kernel
theorem dX0_root_18 : decode cX0_root 18 = .ok (.iconst 0, 1) := by decide +kernel
theorem dX0_root_19 : decode cX0_root 19 = .ok (.iload_n 1, 1) := by decide +kernel
theorem dX0_root_20 : decode cX0_root 20 = .ok (.invokevirtual 34, 3) := by decide +kernel
theorem dX0_root_23 : decode cX0_root 23 = .ok (.ireturn, 1) := by decide +kernel
abbrev cX0_rangeRoot : ByteArray := prog_1_method_17_code
def yX0_rangeRoot : MethodName := ⟨RX0, "rangeRoot", "(II)I"⟩
theorem dX0_rangeRoot_0 : decode cX0_rangeRoot 0 = .ok (.iconst 0, 1) := by decide +kernel
theorem dX0_rangeRoot_1 : decode cX0_rangeRoot 1 = .ok (.istore_n 3, 1) := by decide +kernel
theorem dX0_rangeRoot_2 : decode cX0_rangeRoot 2 = .ok (.iload_n 2, 1) := by decide +kernel
theorem dX0_rangeRoot_3 : decode cX0_rangeRoot 3 = .ok (.istore 4, 2) := by decide +kernel
theorem dX0_rangeRoot_5 : decode cX0_rangeRoot 5 = .ok (.iconst 0, 1) := by decide +kernel
theorem dX0_rangeRoot_6 : decode cX0_rangeRoot 6 = .ok (.istore 5, 2) := by decide +kernel
theorem dX0_rangeRoot_8 : decode cX0_rangeRoot 8 = .ok (.iconst 0, 1) := by decide +kernel
theorem dX0_rangeRoot_9 : decode cX0_rangeRoot 9 = .ok (.istore 6, 2) := by decide +kernel
theorem dX0_rangeRoot_11 : decode cX0_rangeRoot 11 = .ok (.iload 6, 2) := by decide +kernel
theorem dX0_rangeRoot_13 : decode cX0_rangeRoot 13 = .ok (.bipush 6, 2) := by decide +kernel
theorem dX0_rangeRoot_15 : decode cX0_rangeRoot 15 = .ok (.if_icmp .ge 72, 3) := by decide +kernel
theorem dX0_rangeRoot_18 : decode cX0_rangeRoot 18 = .ok (.iconst 1, 1) := by decide +kernel
theorem dX0_rangeRoot_19 : decode cX0_rangeRoot 19 = .ok (.iload 6, 2) := by decide +kernel
theorem dX0_rangeRoot_21 : decode cX0_rangeRoot 21 = .ok (.ishl, 1) := by decide +kernel
theorem dX0_rangeRoot_22 : decode cX0_rangeRoot 22 = .ok (.istore 7, 2) := by decide +kernel
theorem dX0_rangeRoot_24 : decode cX0_rangeRoot 24 = .ok (.iload_n 2, 1) := by decide +kernel
theorem dX0_rangeRoot_25 : decode cX0_rangeRoot 25 = .ok (.iload_n 1, 1) := by decide +kernel
theorem dX0_rangeRoot_26 : decode cX0_rangeRoot 26 = .ok (.isub, 1) := by decide +kernel
theorem dX0_rangeRoot_27 : decode cX0_rangeRoot 27 = .ok (.iload 7, 2) := by decide +kernel
theorem dX0_rangeRoot_29 : decode cX0_rangeRoot 29 = .ok (.iand, 1) := by decide +kernel
theorem dX0_rangeRoot_30 : decode cX0_rangeRoot 30 = .ok (.ifCond .eq 51, 3) := by decide +kernel
theorem dX0_rangeRoot_33 : decode cX0_rangeRoot 33 = .ok (.aload_n 0, 1) := by decide +kernel
theorem dX0_rangeRoot_34 : decode cX0_rangeRoot 34 = .ok (.getfield 7, 3) := by decide +kernel
theorem dX0_rangeRoot_37 : decode cX0_rangeRoot 37 = .ok (.iload 6, 2) := by decide +kernel
theorem dX0_rangeRoot_39 : decode cX0_rangeRoot 39 = .ok (.invokestatic 27, 3) := by decide +kernel
theorem dX0_rangeRoot_42 : decode cX0_rangeRoot 42 = .ok (.iload 4, 2) := by decide +kernel
theorem dX0_rangeRoot_44 : decode cX0_rangeRoot 44 = .ok (.iload 7, 2) := by decide +kernel
theorem dX0_rangeRoot_46 : decode cX0_rangeRoot 46 = .ok (.isub, 1) := by decide +kernel
theorem dX0_rangeRoot_47 : decode cX0_rangeRoot 47 = .ok (.iload 6, 2) := by decide +kernel
theorem dX0_rangeRoot_49 : decode cX0_rangeRoot 49 = .ok (.ishr, 1) := by decide +kernel
theorem dX0_rangeRoot_50 : decode cX0_rangeRoot 50 = .ok (.iadd, 1) := by decide +kernel
theorem dX0_rangeRoot_51 : decode cX0_rangeRoot 51 = .ok (.iaload, 1) := by decide +kernel
theorem dX0_rangeRoot_52 : decode cX0_rangeRoot 52 = .ok (.istore 8, 2) := by decide +kernel
theorem dX0_rangeRoot_54 : decode cX0_rangeRoot 54 = .ok (.iload 5, 2) := by decide +kernel
theorem dX0_rangeRoot_56 : decode cX0_rangeRoot 56 = .ok (.ifCond .eq 12, 3) := by decide +kernel
theorem dX0_rangeRoot_59 : decode cX0_rangeRoot 59 = .ok (.iload 8, 2) := by decide +kernel
theorem dX0_rangeRoot_61 : decode cX0_rangeRoot 61 = .ok (.iload_n 3, 1) := by decide +kernel
theorem dX0_rangeRoot_62 : decode cX0_rangeRoot 62 = .ok (.invokestatic 30, 3) := by decide +kernel
theorem dX0_rangeRoot_65 : decode cX0_rangeRoot 65 = .ok (.goto 5, 3) := by decide +kernel
theorem dX0_rangeRoot_68 : decode cX0_rangeRoot 68 = .ok (.iload 8, 2) := by decide +kernel
theorem dX0_rangeRoot_70 : decode cX0_rangeRoot 70 = .ok (.istore_n 3, 1) := by decide +kernel
theorem dX0_rangeRoot_71 : decode cX0_rangeRoot 71 = .ok (.iconst 1, 1) := by decide +kernel
theorem dX0_rangeRoot_72 : decode cX0_rangeRoot 72 = .ok (.istore 5, 2) := by decide +kernel
theorem dX0_rangeRoot_74 : decode cX0_rangeRoot 74 = .ok (.iload 4, 2) := by decide +kernel
theorem dX0_rangeRoot_76 : decode cX0_rangeRoot 76 = .ok (.iload 7, 2) := by decide +kernel
theorem dX0_rangeRoot_78 : decode cX0_rangeRoot 78 = .ok (.isub, 1) := by decide +kernel
theorem dX0_rangeRoot_79 : decode cX0_rangeRoot 79 = .ok (.istore 4, 2) := by decide +kernel
theorem dX0_rangeRoot_81 : decode cX0_rangeRoot 81 = .ok (.iinc 6 1, 3) := by decide +kernel
theorem dX0_rangeRoot_84 : decode cX0_rangeRoot 84 = .ok (.goto (-73), 3) := by decide +kernel
theorem dX0_rangeRoot_87 : decode cX0_rangeRoot 87 = .ok (.iload_n 3, 1) := by decide +kernel
theorem dX0_rangeRoot_88 : decode cX0_rangeRoot 88 = .ok (.ireturn, 1) := by decide +kernel
abbrev cX0_path : ByteArray := prog_1_method_4_code
def yX0_path : MethodName := ⟨RX0, "path", "(II)I"⟩
theorem dX0_path_0 : decode cX0_path 0 = .ok (.iload_n 2, 1) := by decide +kernel
theorem dX0_path_1 : decode cX0_path 1 = .ok (.iconst 1, 1) := by decide +kernel
theorem dX0_path_2 : decode cX0_path 2 = .ok (.if_icmp .lt 20, 3) := by decide +kernel
theorem dX0_path_5 : decode cX0_path 5 = .ok (.iload_n 2, 1) := by decide +kernel
theorem dX0_path_6 : decode cX0_path 6 = .ok (.aload_n 0, 1) := by decide +kernel
theorem dX0_path_7 : decode cX0_path 7 = .ok (.getfield 19, 3) := by decide +kernel
theorem dX0_path_10 : decode cX0_path 10 = .ok (.if_icmp .gt 12, 3) := by decide +kernel
theorem dX0_path_13 : decode cX0_path 13 = .ok (.iload_n 1, 1) := by decide +kernel
theorem dX0_path_14 : decode cX0_path 14 = .ok (.ifCond .lt 8, 3) := by decide +kernel
theorem dX0_path_17 : decode cX0_path 17 = .ok (.iload_n 1, 1) := by decide +kernel
theorem dX0_path_18 : decode cX0_path 18 = .ok (.iload_n 2, 1) := by decide +kernel
theorem dX0_path_19 : decode cX0_path 19 = .ok (.if_icmp .lt 5, 3) := by decide +kernel
theorem dX0_path_22 : decode cX0_path 22 = .ok (.iconst (-1), 1) := by decide +kernel
theorem dX0_path_23 : decode cX0_path 23 = .ok (.ireturn, 1) := by decide +kernel
theorem dX0_path_24 : decode cX0_path 24 = .ok (.iconst 0, 1) := by decide +kernel
theorem dX0_path_25 : decode cX0_path 25 = .ok (.istore_n 3, 1) := by decide +kernel
theorem dX0_path_26 : decode cX0_path 26 = .ok (.iload_n 2, 1) := by decide +kernel
theorem dX0_path_27 : decode cX0_path 27 = .ok (.istore 4, 2) := by decide +kernel
theorem dX0_path_29 : decode cX0_path 29 = .ok (.aload_n 0, 1) := by decide +kernel
theorem dX0_path_30 : decode cX0_path 30 = .ok (.iconst 0, 1) := by decide +kernel
theorem dX0_path_31 : decode cX0_path 31 = .ok (.putfield 37, 3) := by decide +kernel
theorem dX0_path_34 : decode cX0_path 34 = .ok (.iconst 0, 1) := by decide +kernel
theorem dX0_path_35 : decode cX0_path 35 = .ok (.istore 5, 2) := by decide +kernel
theorem dX0_path_37 : decode cX0_path 37 = .ok (.iload 5, 2) := by decide +kernel
theorem dX0_path_39 : decode cX0_path 39 = .ok (.bipush 6, 2) := by decide +kernel
theorem dX0_path_41 : decode cX0_path 41 = .ok (.if_icmp .ge 59, 3) := by decide +kernel
theorem dX0_path_44 : decode cX0_path 44 = .ok (.iload 4, 2) := by decide +kernel
theorem dX0_path_46 : decode cX0_path 46 = .ok (.iload_n 3, 1) := by decide +kernel
theorem dX0_path_47 : decode cX0_path 47 = .ok (.isub, 1) := by decide +kernel
theorem dX0_path_48 : decode cX0_path 48 = .ok (.iconst 1, 1) := by decide +kernel
theorem dX0_path_49 : decode cX0_path 49 = .ok (.if_icmp .le 51, 3) := by decide +kernel
theorem dX0_path_52 : decode cX0_path 52 = .ok (.iload_n 3, 1) := by decide +kernel
theorem dX0_path_53 : decode cX0_path 53 = .ok (.iload 4, 2) := by decide +kernel
theorem dX0_path_55 : decode cX0_path 55 = .ok (.iload_n 3, 1) := by decide +kernel
theorem dX0_path_56 : decode cX0_path 56 = .ok (.isub, 1) := by decide +kernel
theorem dX0_path_57 : decode cX0_path 57 = .ok (.invokestatic 40, 3) := by decide +kernel
theorem dX0_path_60 : decode cX0_path 60 = .ok (.iadd, 1) := by decide +kernel
theorem dX0_path_61 : decode cX0_path 61 = .ok (.istore 6, 2) := by decide +kernel
theorem dX0_path_63 : decode cX0_path 63 = .ok (.iload_n 1, 1) := by decide +kernel
theorem dX0_path_64 : decode cX0_path 64 = .ok (.iload 6, 2) := by decide +kernel
theorem dX0_path_66 : decode cX0_path 66 = .ok (.if_icmp .ge 18, 3) := by decide +kernel
theorem dX0_path_69 : decode cX0_path 69 = .ok (.aload_n 0, 1) := by decide +kernel
theorem dX0_path_70 : decode cX0_path 70 = .ok (.iload 6, 2) := by decide +kernel
theorem dX0_path_72 : decode cX0_path 72 = .ok (.iload 4, 2) := by decide +kernel
theorem dX0_path_74 : decode cX0_path 74 = .ok (.invokevirtual 43, 3) := by decide +kernel
theorem dX0_path_77 : decode cX0_path 77 = .ok (.iload 6, 2) := by decide +kernel
theorem dX0_path_79 : decode cX0_path 79 = .ok (.istore 4, 2) := by decide +kernel
theorem dX0_path_81 : decode cX0_path 81 = .ok (.goto 13, 3) := by decide +kernel
theorem dX0_path_84 : decode cX0_path 84 = .ok (.aload_n 0, 1) := by decide +kernel
theorem dX0_path_85 : decode cX0_path 85 = .ok (.iload_n 3, 1) := by decide +kernel
theorem dX0_path_86 : decode cX0_path 86 = .ok (.iload 6, 2) := by decide +kernel
theorem dX0_path_88 : decode cX0_path 88 = .ok (.invokevirtual 43, 3) := by decide +kernel
theorem dX0_path_91 : decode cX0_path 91 = .ok (.iload 6, 2) := by decide +kernel
theorem dX0_path_93 : decode cX0_path 93 = .ok (.istore_n 3, 1) := by decide +kernel
theorem dX0_path_94 : decode cX0_path 94 = .ok (.iinc 5 1, 3) := by decide +kernel
theorem dX0_path_97 : decode cX0_path 97 = .ok (.goto (-60), 3) := by decide +kernel
theorem dX0_path_100 : decode cX0_path 100 = .ok (.aload_n 0, 1) := by decide +kernel
theorem dX0_path_101 : decode cX0_path 101 = .ok (.invokevirtual 47, 3) := by decide +kernel
theorem dX0_path_104 : decode cX0_path 104 = .ok (.aload_n 0, 1) := by decide +kernel
theorem dX0_path_105 : decode cX0_path 105 = .ok (.getfield 50, 3) := by decide +kernel
theorem dX0_path_108 : decode cX0_path 108 = .ok (.ireturn, 1) := by decide +kernel
abbrev cX0_cut : ByteArray := prog_1_method_16_code
def yX0_cut : MethodName := ⟨RX0, "cut", "(I)I"⟩
theorem dX0_cut_0 : decode cX0_cut 0 = .ok (.iconst 1, 1) := by decide +kernel
theorem dX0_cut_1 : decode cX0_cut 1 = .ok (.istore_n 1, 1) := by decide +kernel
theorem dX0_cut_2 : decode cX0_cut 2 = .ok (.iconst 0, 1) := by decide +kernel
theorem dX0_cut_3 : decode cX0_cut 3 = .ok (.istore_n 2, 1) := by decide +kernel
theorem dX0_cut_4 : decode cX0_cut 4 = .ok (.iload_n 2, 1) := by decide +kernel
theorem dX0_cut_5 : decode cX0_cut 5 = .ok (.bipush 6, 2) := by decide +kernel
theorem dX0_cut_7 : decode cX0_cut 7 = .ok (.if_icmp .ge 20, 3) := by decide +kernel
theorem dX0_cut_10 : decode cX0_cut 10 = .ok (.iconst 2, 1) := by decide +kernel
theorem dX0_cut_11 : decode cX0_cut 11 = .ok (.iload_n 1, 1) := by decide +kernel
theorem dX0_cut_12 : decode cX0_cut 12 = .ok (.imul, 1) := by decide +kernel
theorem dX0_cut_13 : decode cX0_cut 13 = .ok (.iload_n 0, 1) := by decide +kernel
theorem dX0_cut_14 : decode cX0_cut 14 = .ok (.if_icmp .ge 13, 3) := by decide +kernel
theorem dX0_cut_17 : decode cX0_cut 17 = .ok (.iload_n 1, 1) := by decide +kernel
theorem dX0_cut_18 : decode cX0_cut 18 = .ok (.iconst 2, 1) := by decide +kernel
theorem dX0_cut_19 : decode cX0_cut 19 = .ok (.imul, 1) := by decide +kernel
theorem dX0_cut_20 : decode cX0_cut 20 = .ok (.istore_n 1, 1) := by decide +kernel
theorem dX0_cut_21 : decode cX0_cut 21 = .ok (.iinc 2 1, 3) := by decide +kernel
theorem dX0_cut_24 : decode cX0_cut 24 = .ok (.goto (-20), 3) := by decide +kernel
theorem dX0_cut_27 : decode cX0_cut 27 = .ok (.iload_n 1, 1) := by decide +kernel
theorem dX0_cut_28 : decode cX0_cut 28 = .ok (.ireturn, 1) := by decide +kernel
end
section
set_option maxRecDepth 100000
abbrev cX0_note : ByteArray := prog_1_method_18_code
def yX0_note : MethodName := ⟨RX0, "note", "(II)V"⟩
theorem dX0_note_0 : decode cX0_note 0 = .ok (.aload_n 0, 1) := by decide +kernel
theorem dX0_note_1 : decode cX0_note 1 = .ok (.getfield 16, 3) := by decide +kernel
theorem dX0_note_4 : decode cX0_note 4 = .ok (.aload_n 0, 1) := by decide +kernel
theorem dX0_note_5 : decode cX0_note 5 = .ok (.getfield 37, 3) := by decide +kernel
theorem dX0_note_8 : decode cX0_note 8 = .ok (.aload_n 0, 1) := by decide +kernel
theorem dX0_note_9 : decode cX0_note 9 = .ok (.iload_n 1, 1) := by decide +kernel
theorem dX0_note_10 : decode cX0_note 10 = .ok (.iload_n 2, 1) := by decide +kernel
theorem dX0_note_11 : decode cX0_note 11 = .ok (.invokevirtual 34, 3) := by decide +kernel
theorem dX0_note_14 : decode cX0_note 14 = .ok (.iastore, 1) := by decide +kernel
theorem dX0_note_15 : decode cX0_note 15 = .ok (.aload_n 0, 1) := by decide +kernel
theorem dX0_note_16 : decode cX0_note 16 = .ok (.dup, 1) := by decide +kernel
theorem dX0_note_17 : decode cX0_note 17 = .ok (.getfield 37, 3) := by decide +kernel
theorem dX0_note_20 : decode cX0_note 20 = .ok (.iconst 1, 1) := by decide +kernel
theorem dX0_note_21 : decode cX0_note 21 = .ok (.iadd, 1) := by decide +kernel
theorem dX0_note_22 : decode cX0_note 22 = .ok (.putfield 37, 3) := by decide +kernel
theorem dX0_note_25 : decode cX0_note 25 = .ok (.return_, 1) := by decide +kernel
abbrev cX0_turnRound : ByteArray := prog_1_method_19_code
def yX0_turnRound : MethodName := ⟨RX0, "turnRound", "()V"⟩
theorem dX0_turnRound_0 : decode cX0_turnRound 0 = .ok (.aload_n 0, 1) := by decide +kernel
theorem dX0_turnRound_1 : decode cX0_turnRound 1 = .ok (.aload_n 0, 1) := by decide +kernel
theorem dX0_turnRound_2 : decode cX0_turnRound 2 = .ok (.getfield 37, 3) := by decide +kernel
theorem dX0_turnRound_5 : decode cX0_turnRound 5 = .ok (.putfield 50, 3) := by decide +kernel
theorem dX0_turnRound_8 : decode cX0_turnRound 8 = .ok (.iconst 0, 1) := by decide +kernel
theorem dX0_turnRound_9 : decode cX0_turnRound 9 = .ok (.istore_n 1, 1) := by decide +kernel
theorem dX0_turnRound_10 : decode cX0_turnRound 10 = .ok (.iload_n 1, 1) := by decide +kernel
theorem dX0_turnRound_11 : decode cX0_turnRound 11 = .ok (.aload_n 0, 1) := by decide +kernel
theorem dX0_turnRound_12 : decode cX0_turnRound 12 = .ok (.getfield 37, 3) := by decide +kernel
theorem dX0_turnRound_15 : decode cX0_turnRound 15 = .ok (.if_icmp .ge 28, 3) := by decide +kernel
theorem dX0_turnRound_18 : decode cX0_turnRound 18 = .ok (.aload_n 0, 1) := by decide +kernel
theorem dX0_turnRound_19 : decode cX0_turnRound 19 = .ok (.getfield 13, 3) := by decide +kernel
theorem dX0_turnRound_22 : decode cX0_turnRound 22 = .ok (.iload_n 1, 1) := by decide +kernel
theorem dX0_turnRound_23 : decode cX0_turnRound 23 = .ok (.aload_n 0, 1) := by decide +kernel
theorem dX0_turnRound_24 : decode cX0_turnRound 24 = .ok (.getfield 16, 3) := by decide +kernel
theorem dX0_turnRound_27 : decode cX0_turnRound 27 = .ok (.aload_n 0, 1) := by decide +kernel
theorem dX0_turnRound_28 : decode cX0_turnRound 28 = .ok (.getfield 37, 3) := by decide +kernel
theorem dX0_turnRound_31 : decode cX0_turnRound 31 = .ok (.iconst 1, 1) := by decide +kernel
theorem dX0_turnRound_32 : decode cX0_turnRound 32 = .ok (.isub, 1) := by decide +kernel
theorem dX0_turnRound_33 : decode cX0_turnRound 33 = .ok (.iload_n 1, 1) := by decide +kernel
theorem dX0_turnRound_34 : decode cX0_turnRound 34 = .ok (.isub, 1) := by decide +kernel
theorem dX0_turnRound_35 : decode cX0_turnRound 35 = .ok (.iaload, 1) := by decide +kernel
theorem dX0_turnRound_36 : decode cX0_turnRound 36 = .ok (.iastore, 1) := by decide +kernel
theorem dX0_turnRound_37 : decode cX0_turnRound 37 = .ok (.iinc 1 1, 3) := by decide +kernel
theorem dX0_turnRound_40 : decode cX0_turnRound 40 = .ok (.goto (-30), 3) := by decide +kernel
theorem dX0_turnRound_43 : decode cX0_turnRound 43 = .ok (.return_, 1) := by decide +kernel
abbrev cX0_steps : ByteArray := prog_1_method_5_code
def yX0_steps : MethodName := ⟨RX0, "steps", "(II)I"⟩
theorem dX0_steps_0 : decode cX0_steps 0 = .ok (.iload_n 1, 1) := by decide +kernel
theorem dX0_steps_1 : decode cX0_steps 1 = .ok (.iconst 1, 1) := by decide +kernel
theorem dX0_steps_2 : decode cX0_steps 2 = .ok (.if_icmp .lt 16, 3) := by decide +kernel
theorem dX0_steps_5 : decode cX0_steps 5 = .ok (.iload_n 1, 1) := by decide +kernel
theorem dX0_steps_6 : decode cX0_steps 6 = .ok (.iload_n 2, 1) := by decide +kernel
theorem dX0_steps_7 : decode cX0_steps 7 = .ok (.if_icmp .gt 11, 3) := by decide +kernel
theorem dX0_steps_10 : decode cX0_steps 10 = .ok (.iload_n 2, 1) := by decide +kernel
theorem dX0_steps_11 : decode cX0_steps 11 = .ok (.aload_n 0, 1) := by decide +kernel
theorem dX0_steps_12 : decode cX0_steps 12 = .ok (.getfield 19, 3) := by decide +kernel
theorem dX0_steps_15 : decode cX0_steps 15 = .ok (.if_icmp .le 5, 3) := by decide +kernel
theorem dX0_steps_18 : decode cX0_steps 18 = .ok (.iconst (-1), 1) := by decide +kernel
theorem dX0_steps_19 : decode cX0_steps 19 = .ok (.ireturn, 1) := by decide +kernel
theorem dX0_steps_20 : decode cX0_steps 20 = .ok (.iconst 0, 1) := by decide +kernel
theorem dX0_steps_21 : decode cX0_steps 21 = .ok (.istore_n 3, 1) := by decide +kernel
theorem dX0_steps_22 : decode cX0_steps 22 = .ok (.iload_n 2, 1) := by decide +kernel
theorem dX0_steps_23 : decode cX0_steps 23 = .ok (.istore 4, 2) := by decide +kernel
theorem dX0_steps_25 : decode cX0_steps 25 = .ok (.aload_n 0, 1) := by decide +kernel
theorem dX0_steps_26 : decode cX0_steps 26 = .ok (.iconst 0, 1) := by decide +kernel
theorem dX0_steps_27 : decode cX0_steps 27 = .ok (.putfield 37, 3) := by decide +kernel
theorem dX0_steps_30 : decode cX0_steps 30 = .ok (.iconst 0, 1) := by decide +kernel
theorem dX0_steps_31 : decode cX0_steps 31 = .ok (.istore 5, 2) := by decide +kernel
theorem dX0_steps_33 : decode cX0_steps 33 = .ok (.iload 5, 2) := by decide +kernel
theorem dX0_steps_35 : decode cX0_steps 35 = .ok (.bipush 6, 2) := by decide +kernel
theorem dX0_steps_37 : decode cX0_steps 37 = .ok (.if_icmp .ge 57, 3) := by decide +kernel
theorem dX0_steps_40 : decode cX0_steps 40 = .ok (.iload 4, 2) := by decide +kernel
theorem dX0_steps_42 : decode cX0_steps 42 = .ok (.iload_n 1, 1) := by decide +kernel
theorem dX0_steps_43 : decode cX0_steps 43 = .ok (.if_icmp .eq 51, 3) := by decide +kernel
theorem dX0_steps_46 : decode cX0_steps 46 = .ok (.iload_n 3, 1) := by decide +kernel
theorem dX0_steps_47 : decode cX0_steps 47 = .ok (.iload 4, 2) := by decide +kernel
theorem dX0_steps_49 : decode cX0_steps 49 = .ok (.iload_n 3, 1) := by decide +kernel
theorem dX0_steps_50 : decode cX0_steps 50 = .ok (.isub, 1) := by decide +kernel
theorem dX0_steps_51 : decode cX0_steps 51 = .ok (.invokestatic 40, 3) := by decide +kernel
theorem dX0_steps_54 : decode cX0_steps 54 = .ok (.iadd, 1) := by decide +kernel
theorem dX0_steps_55 : decode cX0_steps 55 = .ok (.istore 6, 2) := by decide +kernel
theorem dX0_steps_57 : decode cX0_steps 57 = .ok (.iload_n 1, 1) := by decide +kernel
theorem dX0_steps_58 : decode cX0_steps 58 = .ok (.iload 6, 2) := by decide +kernel
theorem dX0_steps_60 : decode cX0_steps 60 = .ok (.if_icmp .gt 18, 3) := by decide +kernel
theorem dX0_steps_63 : decode cX0_steps 63 = .ok (.aload_n 0, 1) := by decide +kernel
theorem dX0_steps_64 : decode cX0_steps 64 = .ok (.iload 6, 2) := by decide +kernel
theorem dX0_steps_66 : decode cX0_steps 66 = .ok (.iload 4, 2) := by decide +kernel
theorem dX0_steps_68 : decode cX0_steps 68 = .ok (.invokevirtual 43, 3) := by decide +kernel
theorem dX0_steps_71 : decode cX0_steps 71 = .ok (.iload 6, 2) := by decide +kernel
theorem dX0_steps_73 : decode cX0_steps 73 = .ok (.istore 4, 2) := by decide +kernel
theorem dX0_steps_75 : decode cX0_steps 75 = .ok (.goto 13, 3) := by decide +kernel
theorem dX0_steps_78 : decode cX0_steps 78 = .ok (.aload_n 0, 1) := by decide +kernel
theorem dX0_steps_79 : decode cX0_steps 79 = .ok (.iload_n 3, 1) := by decide +kernel
theorem dX0_steps_80 : decode cX0_steps 80 = .ok (.iload 6, 2) := by decide +kernel
theorem dX0_steps_82 : decode cX0_steps 82 = .ok (.invokevirtual 43, 3) := by decide +kernel
theorem dX0_steps_85 : decode cX0_steps 85 = .ok (.iload 6, 2) := by decide +kernel
theorem dX0_steps_87 : decode cX0_steps 87 = .ok (.istore_n 3, 1) := by decide +kernel
theorem dX0_steps_88 : decode cX0_steps 88 = .ok (.iinc 5 1, 3) := by decide +kernel
theorem dX0_steps_91 : decode cX0_steps 91 = .ok (.goto (-58), 3) := by decide +kernel
theorem dX0_steps_94 : decode cX0_steps 94 = .ok (.iload_n 3, 1) := by decide +kernel
theorem dX0_steps_95 : decode cX0_steps 95 = .ok (.ifCond .le 10, 3) := by decide +kernel
theorem dX0_steps_98 : decode cX0_steps 98 = .ok (.aload_n 0, 1) := by decide +kernel
theorem dX0_steps_99 : decode cX0_steps 99 = .ok (.iload_n 3, 1) := by decide +kernel
theorem dX0_steps_100 : decode cX0_steps 100 = .ok (.iload 4, 2) := by decide +kernel
theorem dX0_steps_102 : decode cX0_steps 102 = .ok (.invokevirtual 43, 3) := by decide +kernel
theorem dX0_steps_105 : decode cX0_steps 105 = .ok (.aload_n 0, 1) := by decide +kernel
theorem dX0_steps_106 : decode cX0_steps 106 = .ok (.invokevirtual 47, 3) := by decide +kernel
theorem dX0_steps_109 : decode cX0_steps 109 = .ok (.aload_n 0, 1) := by decide +kernel
theorem dX0_steps_110 : decode cX0_steps 110 = .ok (.getfield 50, 3) := by decide +kernel
theorem dX0_steps_113 : decode cX0_steps 113 = .ok (.ireturn, 1) := by decide +kernel
abbrev cX0_hand : ByteArray := prog_1_method_6_code
def yX0_hand : MethodName := ⟨RX0, "hand", "(I)I"⟩
theorem dX0_hand_0 : decode cX0_hand 0 = .ok (.iload_n 1, 1) := by decide +kernel
theorem dX0_hand_1 : decode cX0_hand 1 = .ok (.ifCond .lt 11, 3) := by decide +kernel
theorem dX0_hand_4 : decode cX0_hand 4 = .ok (.iload_n 1, 1) := by decide +kernel
theorem dX0_hand_5 : decode cX0_hand 5 = .ok (.aload_n 0, 1) := by decide +kernel
theorem dX0_hand_6 : decode cX0_hand 6 = .ok (.getfield 50, 3) := by decide +kernel
theorem dX0_hand_9 : decode cX0_hand 9 = .ok (.if_icmp .lt 7, 3) := by decide +kernel
theorem dX0_hand_12 : decode cX0_hand 12 = .ok (.iconst 0, 1) := by decide +kernel
theorem dX0_hand_13 : decode cX0_hand 13 = .ok (.goto 9, 3) := by decide +kernel
theorem dX0_hand_16 : decode cX0_hand 16 = .ok (.aload_n 0, 1) := by decide +kernel
theorem dX0_hand_17 : decode cX0_hand 17 = .ok (.getfield 13, 3) := by decide +kernel
theorem dX0_hand_20 : decode cX0_hand 20 = .ok (.iload_n 1, 1) := by decide +kernel
theorem dX0_hand_21 : decode cX0_hand 21 = .ok (.iaload, 1) := by decide +kernel
theorem dX0_hand_22 : decode cX0_hand 22 = .ok (.ireturn, 1) := by decide +kernel
abbrev cX0_held : ByteArray := prog_1_method_7_code
def yX0_held : MethodName := ⟨RX0, "held", "()I"⟩
theorem dX0_held_0 : decode cX0_held 0 = .ok (.aload_n 0, 1) := by decide +kernel
theorem dX0_held_1 : decode cX0_held 1 = .ok (.getfield 50, 3) := by decide +kernel
theorem dX0_held_4 : decode cX0_held 4 = .ok (.ireturn, 1) := by decide +kernel
abbrev cX0_alter : ByteArray := prog_1_method_8_code
def yX0_alter : MethodName := ⟨RX0, "alter", "(II)I"⟩
theorem dX0_alter_0 : decode cX0_alter 0 = .ok (.iload_n 1, 1) := by decide +kernel
theorem dX0_alter_1 : decode cX0_alter 1 = .ok (.ifCond .lt 11, 3) := by decide +kernel
theorem dX0_alter_4 : decode cX0_alter 4 = .ok (.iload_n 1, 1) := by decide +kernel
theorem dX0_alter_5 : decode cX0_alter 5 = .ok (.aload_n 0, 1) := by decide +kernel
theorem dX0_alter_6 : decode cX0_alter 6 = .ok (.getfield 50, 3) := by decide +kernel
theorem dX0_alter_9 : decode cX0_alter 9 = .ok (.if_icmp .lt 5, 3) := by decide +kernel
theorem dX0_alter_12 : decode cX0_alter 12 = .ok (.iconst (-1), 1) := by decide +kernel
theorem dX0_alter_13 : decode cX0_alter 13 = .ok (.ireturn, 1) := by decide +kernel
theorem dX0_alter_14 : decode cX0_alter 14 = .ok (.aload_n 0, 1) := by decide +kernel
theorem dX0_alter_15 : decode cX0_alter 15 = .ok (.getfield 13, 3) := by decide +kernel
theorem dX0_alter_18 : decode cX0_alter 18 = .ok (.iload_n 1, 1) := by decide +kernel
theorem dX0_alter_19 : decode cX0_alter 19 = .ok (.iload_n 2, 1) := by decide +kernel
theorem dX0_alter_20 : decode cX0_alter 20 = .ok (.iastore, 1) := by decide +kernel
theorem dX0_alter_21 : decode cX0_alter 21 = .ok (.iconst 0, 1) := by decide +kernel
theorem dX0_alter_22 : decode cX0_alter 22 = .ok (.ireturn, 1) := by decide +kernel
abbrev cX0_drop : ByteArray := prog_1_method_9_code
def yX0_drop : MethodName := ⟨RX0, "drop", "()V"⟩
theorem dX0_drop_0 : decode cX0_drop 0 = .ok (.aload_n 0, 1) := by decide +kernel
theorem dX0_drop_1 : decode cX0_drop 1 = .ok (.iconst 0, 1) := by decide +kernel
theorem dX0_drop_2 : decode cX0_drop 2 = .ok (.putfield 50, 3) := by decide +kernel
theorem dX0_drop_5 : decode cX0_drop 5 = .ok (.return_, 1) := by decide +kernel
abbrev cX0_take : ByteArray := prog_1_method_10_code
def yX0_take : MethodName := ⟨RX0, "take", "(I)I"⟩
theorem dX0_take_0 : decode cX0_take 0 = .ok (.aload_n 0, 1) := by decide +kernel
theorem dX0_take_1 : decode cX0_take 1 = .ok (.getfield 50, 3) := by decide +kernel
theorem dX0_take_4 : decode cX0_take 4 = .ok (.bipush 16, 2) := by decide +kernel
theorem dX0_take_6 : decode cX0_take 6 = .ok (.if_icmp .lt 5, 3) := by decide +kernel
theorem dX0_take_9 : decode cX0_take 9 = .ok (.iconst (-1), 1) := by decide +kernel
theorem dX0_take_10 : decode cX0_take 10 = .ok (.ireturn, 1) := by decide +kernel
theorem dX0_take_11 : decode cX0_take 11 = .ok (.aload_n 0, 1) := by decide +kernel
theorem dX0_take_12 : decode cX0_take 12 = .ok (.getfield 13, 3) := by decide +kernel
theorem dX0_take_15 : decode cX0_take 15 = .ok (.aload_n 0, 1) := by decide +kernel
theorem dX0_take_16 : decode cX0_take 16 = .ok (.getfield 50, 3) := by decide +kernel
theorem dX0_take_19 : decode cX0_take 19 = .ok (.iload_n 1, 1) := by decide +kernel
theorem dX0_take_20 : decode cX0_take 20 = .ok (.iastore, 1) := by decide +kernel
theorem dX0_take_21 : decode cX0_take 21 = .ok (.aload_n 0, 1) := by decide +kernel
theorem dX0_take_22 : decode cX0_take 22 = .ok (.dup, 1) := by decide +kernel
theorem dX0_take_23 : decode cX0_take 23 = .ok (.getfield 50, 3) := by decide +kernel
theorem dX0_take_26 : decode cX0_take 26 = .ok (.iconst 1, 1) := by decide +kernel
theorem dX0_take_27 : decode cX0_take 27 = .ok (.iadd, 1) := by decide +kernel
theorem dX0_take_28 : decode cX0_take 28 = .ok (.putfield 50, 3) := by decide +kernel
theorem dX0_take_31 : decode cX0_take 31 = .ok (.aload_n 0, 1) := by decide +kernel
theorem dX0_take_32 : decode cX0_take 32 = .ok (.getfield 50, 3) := by decide +kernel
theorem dX0_take_35 : decode cX0_take 35 = .ok (.ireturn, 1) := by decide +kernel
abbrev cX0_rootFrom : ByteArray := prog_1_method_11_code
def yX0_rootFrom : MethodName := ⟨RX0, "rootFrom", "(III)I"⟩
theorem dX0_rootFrom_0 : decode cX0_rootFrom 0 = .ok (.iload_n 2, 1) := by decide +kernel
theorem dX0_rootFrom_1 : decode cX0_rootFrom 1 = .ok (.iconst 1, 1) := by decide +kernel
theorem dX0_rootFrom_2 : decode cX0_rootFrom 2 = .ok (.if_icmp .lt 18, 3) := by decide +kernel
theorem dX0_rootFrom_5 : decode cX0_rootFrom 5 = .ok (.iload_n 2, 1) := by decide +kernel
theorem dX0_rootFrom_6 : decode cX0_rootFrom 6 = .ok (.bipush 40, 2) := by decide +kernel
theorem dX0_rootFrom_8 : decode cX0_rootFrom 8 = .ok (.if_icmp .gt 12, 3) := by decide +kernel
theorem dX0_rootFrom_11 : decode cX0_rootFrom 11 = .ok (.iload_n 1, 1) := by decide +kernel
theorem dX0_rootFrom_12 : decode cX0_rootFrom 12 = .ok (.ifCond .lt 8, 3) := by decide +kernel
theorem dX0_rootFrom_15 : decode cX0_rootFrom 15 = .ok (.iload_n 1, 1) := by decide +kernel
theorem dX0_rootFrom_16 : decode cX0_rootFrom 16 = .ok (.iload_n 2, 1) := by decide +kernel
theorem dX0_rootFrom_17 : decode cX0_rootFrom 17 = .ok (.if_icmp .lt 5, 3) := by decide +kernel
theorem dX0_rootFrom_20 : decode cX0_rootFrom 20 = .ok (.iconst 0, 1) := by decide +kernel
theorem dX0_rootFrom_21 : decode cX0_rootFrom 21 = .ok (.ireturn, 1) := by decide +kernel
theorem dX0_rootFrom_22 : decode cX0_rootFrom 22 = .ok (.iload_n 1, 1) := by decide +kernel
theorem dX0_rootFrom_23 : decode cX0_rootFrom 23 = .ok (.istore 4, 2) := by decide +kernel
theorem dX0_rootFrom_25 : decode cX0_rootFrom 25 = .ok (.iload_n 2, 1) := by decide +kernel
theorem dX0_rootFrom_26 : decode cX0_rootFrom 26 = .ok (.iconst 1, 1) := by decide +kernel
theorem dX0_rootFrom_27 : decode cX0_rootFrom 27 = .ok (.isub, 1) := by decide +kernel
theorem dX0_rootFrom_28 : decode cX0_rootFrom 28 = .ok (.istore 5, 2) := by decide +kernel
theorem dX0_rootFrom_30 : decode cX0_rootFrom 30 = .ok (.iload_n 3, 1) := by decide +kernel
theorem dX0_rootFrom_31 : decode cX0_rootFrom 31 = .ok (.invokestatic 23, 3) := by decide +kernel
theorem dX0_rootFrom_34 : decode cX0_rootFrom 34 = .ok (.istore 6, 2) := by decide +kernel
theorem dX0_rootFrom_36 : decode cX0_rootFrom 36 = .ok (.iconst 0, 1) := by decide +kernel
theorem dX0_rootFrom_37 : decode cX0_rootFrom 37 = .ok (.istore 7, 2) := by decide +kernel
theorem dX0_rootFrom_39 : decode cX0_rootFrom 39 = .ok (.iload 7, 2) := by decide +kernel
theorem dX0_rootFrom_41 : decode cX0_rootFrom 41 = .ok (.aload_n 0, 1) := by decide +kernel
theorem dX0_rootFrom_42 : decode cX0_rootFrom 42 = .ok (.getfield 50, 3) := by decide +kernel
theorem dX0_rootFrom_45 : decode cX0_rootFrom 45 = .ok (.if_icmp .ge 108, 3) := by decide +kernel
theorem dX0_rootFrom_48 : decode cX0_rootFrom 48 = .ok (.iload 5, 2) := by decide +kernel
theorem dX0_rootFrom_50 : decode cX0_rootFrom 50 = .ok (.ifCond .ne 5, 3) := by decide +kernel
theorem dX0_rootFrom_53 : decode cX0_rootFrom 53 = .ok (.iconst 0, 1) := by decide +kernel
theorem dX0_rootFrom_54 : decode cX0_rootFrom 54 = .ok (.ireturn, 1) := by decide +kernel
theorem dX0_rootFrom_55 : decode cX0_rootFrom 55 = .ok (.iload 4, 2) := by decide +kernel
theorem dX0_rootFrom_57 : decode cX0_rootFrom 57 = .ok (.iconst 1, 1) := by decide +kernel
theorem dX0_rootFrom_58 : decode cX0_rootFrom 58 = .ok (.iand, 1) := by decide +kernel
theorem dX0_rootFrom_59 : decode cX0_rootFrom 59 = .ok (.ifCond .ne 10, 3) := by decide +kernel
theorem dX0_rootFrom_62 : decode cX0_rootFrom 62 = .ok (.iload 4, 2) := by decide +kernel
theorem dX0_rootFrom_64 : decode cX0_rootFrom 64 = .ok (.iload 5, 2) := by decide +kernel
theorem dX0_rootFrom_66 : decode cX0_rootFrom 66 = .ok (.if_icmp .ne 55, 3) := by decide +kernel
theorem dX0_rootFrom_69 : decode cX0_rootFrom 69 = .ok (.aload_n 0, 1) := by decide +kernel
theorem dX0_rootFrom_70 : decode cX0_rootFrom 70 = .ok (.getfield 13, 3) := by decide +kernel
theorem dX0_rootFrom_73 : decode cX0_rootFrom 73 = .ok (.iload 7, 2) := by decide +kernel
theorem dX0_rootFrom_75 : decode cX0_rootFrom 75 = .ok (.iaload, 1) := by decide +kernel
theorem dX0_rootFrom_76 : decode cX0_rootFrom 76 = .ok (.iload 6, 2) := by decide +kernel
theorem dX0_rootFrom_78 : decode cX0_rootFrom 78 = .ok (.invokestatic 30, 3) := by decide +kernel
theorem dX0_rootFrom_81 : decode cX0_rootFrom 81 = .ok (.istore 6, 2) := by decide +kernel
theorem dX0_rootFrom_83 : decode cX0_rootFrom 83 = .ok (.iconst 0, 1) := by decide +kernel
theorem dX0_rootFrom_84 : decode cX0_rootFrom 84 = .ok (.istore 8, 2) := by decide +kernel
theorem dX0_rootFrom_86 : decode cX0_rootFrom 86 = .ok (.iload 8, 2) := by decide +kernel
theorem dX0_rootFrom_88 : decode cX0_rootFrom 88 = .ok (.bipush 6, 2) := by decide +kernel
theorem dX0_rootFrom_90 : decode cX0_rootFrom 90 = .ok (.if_icmp .ge 28, 3) := by decide +kernel
theorem dX0_rootFrom_93 : decode cX0_rootFrom 93 = .ok (.iload 4, 2) := by decide +kernel
theorem dX0_rootFrom_95 : decode cX0_rootFrom 95 = .ok (.iconst 1, 1) := by decide +kernel
theorem dX0_rootFrom_96 : decode cX0_rootFrom 96 = .ok (.iand, 1) := by decide +kernel
theorem dX0_rootFrom_97 : decode cX0_rootFrom 97 = .ok (.ifCond .ne 21, 3) := by decide +kernel
theorem dX0_rootFrom_100 : decode cX0_rootFrom 100 = .ok (.iload 4, 2) := by decide +kernel
theorem dX0_rootFrom_102 : decode cX0_rootFrom 102 = .ok (.iconst 1, 1) := by decide +kernel
theorem dX0_rootFrom_103 : decode cX0_rootFrom 103 = .ok (.ishr, 1) := by decide +kernel
theorem dX0_rootFrom_104 : decode cX0_rootFrom 104 = .ok (.istore 4, 2) := by decide +kernel
theorem dX0_rootFrom_106 : decode cX0_rootFrom 106 = .ok (.iload 5, 2) := by decide +kernel
theorem dX0_rootFrom_108 : decode cX0_rootFrom 108 = .ok (.iconst 1, 1) := by decide +kernel
theorem dX0_rootFrom_109 : decode cX0_rootFrom 109 = .ok (.ishr, 1) := by decide +kernel
theorem dX0_rootFrom_110 : decode cX0_rootFrom 110 = .ok (.istore 5, 2) := by decide +kernel
theorem dX0_rootFrom_112 : decode cX0_rootFrom 112 = .ok (.iinc 8 1, 3) := by decide +kernel
theorem dX0_rootFrom_115 : decode cX0_rootFrom 115 = .ok (.goto (-29), 3) := by decide +kernel
theorem dX0_rootFrom_118 : decode cX0_rootFrom 118 = .ok (.goto 17, 3) := by decide +kernel
theorem dX0_rootFrom_121 : decode cX0_rootFrom 121 = .ok (.iload 6, 2) := by decide +kernel
theorem dX0_rootFrom_123 : decode cX0_rootFrom 123 = .ok (.aload_n 0, 1) := by decide +kernel
theorem dX0_rootFrom_124 : decode cX0_rootFrom 124 = .ok (.getfield 13, 3) := by decide +kernel
theorem dX0_rootFrom_127 : decode cX0_rootFrom 127 = .ok (.iload 7, 2) := by decide +kernel
theorem dX0_rootFrom_129 : decode cX0_rootFrom 129 = .ok (.iaload, 1) := by decide +kernel
theorem dX0_rootFrom_130 : decode cX0_rootFrom 130 = .ok (.invokestatic 30, 3) := by decide +kernel
theorem dX0_rootFrom_133 : decode cX0_rootFrom 133 = .ok (.istore 6, 2) := by decide +kernel
theorem dX0_rootFrom_135 : decode cX0_rootFrom 135 = .ok (.iload 4, 2) := by decide +kernel
theorem dX0_rootFrom_137 : decode cX0_rootFrom 137 = .ok (.iconst 1, 1) := by decide +kernel
theorem dX0_rootFrom_138 : decode cX0_rootFrom 138 = .ok (.ishr, 1) := by decide +kernel
theorem dX0_rootFrom_139 : decode cX0_rootFrom 139 = .ok (.istore 4, 2) := by decide +kernel
theorem dX0_rootFrom_141 : decode cX0_rootFrom 141 = .ok (.iload 5, 2) := by decide +kernel
theorem dX0_rootFrom_143 : decode cX0_rootFrom 143 = .ok (.iconst 1, 1) := by decide +kernel
theorem dX0_rootFrom_144 : decode cX0_rootFrom 144 = .ok (.ishr, 1) := by decide +kernel
theorem dX0_rootFrom_145 : decode cX0_rootFrom 145 = .ok (.istore 5, 2) := by decide +kernel
theorem dX0_rootFrom_147 : decode cX0_rootFrom 147 = .ok (.iinc 7 1, 3) := by decide +kernel
theorem dX0_rootFrom_150 : decode cX0_rootFrom 150 = .ok (.goto (-111), 3) := by decide +kernel
theorem dX0_rootFrom_153 : decode cX0_rootFrom 153 = .ok (.iload 5, 2) := by decide +kernel
theorem dX0_rootFrom_155 : decode cX0_rootFrom 155 = .ok (.ifCond .ne 8, 3) := by decide +kernel
theorem dX0_rootFrom_158 : decode cX0_rootFrom 158 = .ok (.iload 6, 2) := by decide +kernel
theorem dX0_rootFrom_160 : decode cX0_rootFrom 160 = .ok (.goto 4, 3) := by decide +kernel
theorem dX0_rootFrom_163 : decode cX0_rootFrom 163 = .ok (.iconst 0, 1) := by decide +kernel
theorem dX0_rootFrom_164 : decode cX0_rootFrom 164 = .ok (.ireturn, 1) := by decide +kernel
theorem q8 : (Jvm.Cond.initialized "MerkleLog") ∈ lw_all := lw_g (lw_at lw_m0 1 rfl) rfl
theorem q11 : (Jvm.Cond.instantiable "MerkleLog" (6 : Nat)) ∈ lw_all := lw_g (lw_at lw_m0 4 rfl) rfl
theorem q13 : (Jvm.Cond.instanceMethod ({ cls := "MerkleLog", name := "<init>", desc := "()V" } : Jvm.MethodName)) ∈ lw_all := lw_g (lw_at lw_m0 6 rfl) rfl
theorem q14 : (Jvm.Cond.code ({ cls := "MerkleLog", name := "<init>", desc := "()V" } : Jvm.MethodName) prog_1_method_1_code (1 : Nat) (Option.none : Option Jvm.ClassFile.FieldType)) ∈ lw_all := lw_g (lw_at lw_m0 7 rfl) rfl
theorem q15 : (Jvm.Cond.methodLink "MerkleLog" (1 : Nat) ({ cls := "java/lang/Object", name := "<init>", desc := "()V" } : Jvm.MethodName)) ∈ lw_all := lw_g (lw_at lw_m0 8 rfl) rfl
theorem q18 : (Jvm.Cond.fieldLink "MerkleLog" (19 : Nat) "MerkleLog" "entries" "I") ∈ lw_all := lw_g (lw_at lw_m0 11 rfl) rfl
theorem q19 : (Jvm.Cond.fieldLink "MerkleLog" (7 : Nat) "MerkleLog" "part" "[I") ∈ lw_all := lw_g (lw_at lw_m0 12 rfl) rfl
theorem q20 : (Jvm.Cond.fieldLink "MerkleLog" (50 : Nat) "MerkleLog" "count" "I") ∈ lw_all := lw_g (lw_at lw_m0 13 rfl) rfl
theorem q21 : (Jvm.Cond.fieldLink "MerkleLog" (13 : Nat) "MerkleLog" "numbers" "[I") ∈ lw_all := lw_g (lw_at lw_m0 14 rfl) rfl
theorem q22 : (Jvm.Cond.fieldLink "MerkleLog" (37 : Nat) "MerkleLog" "found" "I") ∈ lw_all := lw_g (lw_at lw_m0 15 rfl) rfl
theorem q23 : (Jvm.Cond.fieldLink "MerkleLog" (16 : Nat) "MerkleLog" "downwards" "[I") ∈ lw_all := lw_g (lw_at lw_m0 16 rfl) rfl
theorem q24 : (Jvm.Cond.lays "MerkleLog" "MerkleLog" "entries" "I") ∈ lw_all := lw_g (lw_at lw_m0 17 rfl) rfl
theorem q25 : (Jvm.Cond.soleField "MerkleLog" "entries") ∈ lw_all := lw_g (lw_at lw_m0 18 rfl) rfl
theorem q26 : (Jvm.Cond.laysFinal "MerkleLog" "MerkleLog" "part" "[I") ∈ lw_all := lw_g (lw_at lw_m0 19 rfl) rfl
theorem q27 : (Jvm.Cond.soleField "MerkleLog" "part") ∈ lw_all := lw_g (lw_at lw_m0 20 rfl) rfl
theorem q28 : (Jvm.Cond.lays "MerkleLog" "MerkleLog" "count" "I") ∈ lw_all := lw_g (lw_at lw_m0 21 rfl) rfl
theorem q29 : (Jvm.Cond.soleField "MerkleLog" "count") ∈ lw_all := lw_g (lw_at lw_m0 22 rfl) rfl
theorem q30 : (Jvm.Cond.laysFinal "MerkleLog" "MerkleLog" "numbers" "[I") ∈ lw_all := lw_g (lw_at lw_m0 23 rfl) rfl
theorem q31 : (Jvm.Cond.soleField "MerkleLog" "numbers") ∈ lw_all := lw_g (lw_at lw_m0 24 rfl) rfl
theorem q32 : (Jvm.Cond.lays "MerkleLog" "MerkleLog" "found" "I") ∈ lw_all := lw_g (lw_at lw_m0 25 rfl) rfl
theorem q33 : (Jvm.Cond.soleField "MerkleLog" "found") ∈ lw_all := lw_g (lw_at lw_m0 26 rfl) rfl
theorem q34 : (Jvm.Cond.laysFinal "MerkleLog" "MerkleLog" "downwards" "[I") ∈ lw_all := lw_g (lw_at lw_m0 27 rfl) rfl
theorem q35 : (Jvm.Cond.soleField "MerkleLog" "downwards") ∈ lw_all := lw_g (lw_at lw_m0 28 rfl) rfl
theorem q36 : (Jvm.Cond.superclass "MerkleLog" "java/lang/Object") ∈ lw_all := lw_g (lw_at lw_m0 29 rfl) rfl
theorem q39 : (Jvm.Cond.instanceMethod ({ cls := "MerkleLog", name := "append", desc := "(I)I" } : Jvm.MethodName)) ∈ lw_all := lw_g (lw_at lw_m0 32 rfl) rfl
theorem q40 : (Jvm.Cond.selects "MerkleLog" ({ cls := "MerkleLog", name := "append", desc := "(I)I" } : Jvm.MethodName) ({ cls := "MerkleLog", name := "append", desc := "(I)I" } : Jvm.MethodName)) ∈ lw_all := lw_g (lw_at lw_m0 33 rfl) rfl
theorem q41 : (Jvm.Cond.code ({ cls := "MerkleLog", name := "append", desc := "(I)I" } : Jvm.MethodName) prog_1_method_2_code (6 : Nat) (Option.some Jvm.ClassFile.FieldType.int)) ∈ lw_all := lw_g (lw_at lw_m0 34 rfl) rfl
theorem q42 : (Jvm.Cond.methodLink "MerkleLog" (23 : Nat) ({ cls := "MerkleLog", name := "leaf", desc := "(I)I" } : Jvm.MethodName)) ∈ lw_all := lw_g (lw_at lw_m0 35 rfl) rfl
theorem q43 : (Jvm.Cond.static ({ cls := "MerkleLog", name := "leaf", desc := "(I)I" } : Jvm.MethodName)) ∈ lw_all := lw_g (lw_at lw_m0 36 rfl) rfl
theorem q44 : (Jvm.Cond.code ({ cls := "MerkleLog", name := "leaf", desc := "(I)I" } : Jvm.MethodName) prog_1_method_13_code (1 : Nat) (Option.some Jvm.ClassFile.FieldType.int)) ∈ lw_all := lw_g (lw_at lw_m0 37 rfl) rfl
theorem q45 : (Jvm.Cond.methodLink "MerkleLog" (55 : Nat) ({ cls := "MerkleLog", name := "mix", desc := "(II)I" } : Jvm.MethodName)) ∈ lw_all := lw_g (lw_at lw_m0 38 rfl) rfl
theorem q46 : (Jvm.Cond.static ({ cls := "MerkleLog", name := "mix", desc := "(II)I" } : Jvm.MethodName)) ∈ lw_all := lw_g (lw_at lw_m0 39 rfl) rfl
theorem q47 : (Jvm.Cond.code ({ cls := "MerkleLog", name := "mix", desc := "(II)I" } : Jvm.MethodName) prog_1_method_12_code (3 : Nat) (Option.some Jvm.ClassFile.FieldType.int)) ∈ lw_all := lw_g (lw_at lw_m0 40 rfl) rfl
theorem q48 : (Jvm.Cond.constant "MerkleLog" (53 : Nat) (739982445 : Int32)) ∈ lw_all := lw_g (lw_at lw_m0 41 rfl) rfl
theorem q49 : (Jvm.Cond.constant "MerkleLog" (54 : Nat) (695872825 : Int32)) ∈ lw_all := lw_g (lw_at lw_m0 42 rfl) rfl
theorem q50 : (Jvm.Cond.methodLink "MerkleLog" (27 : Nat) ({ cls := "MerkleLog", name := "first", desc := "(I)I" } : Jvm.MethodName)) ∈ lw_all := lw_g (lw_at lw_m0 43 rfl) rfl
theorem q51 : (Jvm.Cond.static ({ cls := "MerkleLog", name := "first", desc := "(I)I" } : Jvm.MethodName)) ∈ lw_all := lw_g (lw_at lw_m0 44 rfl) rfl
theorem q52 : (Jvm.Cond.code ({ cls := "MerkleLog", name := "first", desc := "(I)I" } : Jvm.MethodName) prog_1_method_15_code (1 : Nat) (Option.some Jvm.ClassFile.FieldType.int)) ∈ lw_all := lw_g (lw_at lw_m0 45 rfl) rfl
theorem q53 : (Jvm.Cond.methodLink "MerkleLog" (30 : Nat) ({ cls := "MerkleLog", name := "node", desc := "(II)I" } : Jvm.MethodName)) ∈ lw_all := lw_g (lw_at lw_m0 46 rfl) rfl
theorem q54 : (Jvm.Cond.static ({ cls := "MerkleLog", name := "node", desc := "(II)I" } : Jvm.MethodName)) ∈ lw_all := lw_g (lw_at lw_m0 47 rfl) rfl
theorem q55 : (Jvm.Cond.code ({ cls := "MerkleLog", name := "node", desc := "(II)I" } : Jvm.MethodName) prog_1_method_14_code (3 : Nat) (Option.some Jvm.ClassFile.FieldType.int)) ∈ lw_all := lw_g (lw_at lw_m0 48 rfl) rfl
theorem q57 : (Jvm.Cond.instanceMethod ({ cls := "MerkleLog", name := "root", desc := "(I)I" } : Jvm.MethodName)) ∈ lw_all := lw_g (lw_at lw_m0 50 rfl) rfl
theorem q58 : (Jvm.Cond.selects "MerkleLog" ({ cls := "MerkleLog", name := "root", desc := "(I)I" } : Jvm.MethodName) ({ cls := "MerkleLog", name := "root", desc := "(I)I" } : Jvm.MethodName)) ∈ lw_all := lw_g (lw_at lw_m0 51 rfl) rfl
theorem q59 : (Jvm.Cond.code ({ cls := "MerkleLog", name := "root", desc := "(I)I" } : Jvm.MethodName) prog_1_method_3_code (2 : Nat) (Option.some Jvm.ClassFile.FieldType.int)) ∈ lw_all := lw_g (lw_at lw_m0 52 rfl) rfl
theorem q60 : (Jvm.Cond.methodLink "MerkleLog" (34 : Nat) ({ cls := "MerkleLog", name := "rangeRoot", desc := "(II)I" } : Jvm.MethodName)) ∈ lw_all := lw_g (lw_at lw_m0 53 rfl) rfl
theorem q61 : (Jvm.Cond.privateMethod ({ cls := "MerkleLog", name := "rangeRoot", desc := "(II)I" } : Jvm.MethodName)) ∈ lw_tbl := lw_at lw_m0 54 rfl
theorem q62 : (Jvm.Cond.instanceMethod ({ cls := "MerkleLog", name := "rangeRoot", desc := "(II)I" } : Jvm.MethodName)) ∈ lw_all := lw_g (lw_at lw_m0 55 rfl) rfl
theorem q63 : (Jvm.Cond.code ({ cls := "MerkleLog", name := "rangeRoot", desc := "(II)I" } : Jvm.MethodName) prog_1_method_17_code (9 : Nat) (Option.some Jvm.ClassFile.FieldType.int)) ∈ lw_all := lw_g (lw_at lw_m0 56 rfl) rfl
theorem q65 : (Jvm.Cond.instanceMethod ({ cls := "MerkleLog", name := "path", desc := "(II)I" } : Jvm.MethodName)) ∈ lw_all := lw_g (lw_at lw_m0 58 rfl) rfl
theorem q66 : (Jvm.Cond.selects "MerkleLog" ({ cls := "MerkleLog", name := "path", desc := "(II)I" } : Jvm.MethodName) ({ cls := "MerkleLog", name := "path", desc := "(II)I" } : Jvm.MethodName)) ∈ lw_all := lw_g (lw_at lw_m0 59 rfl) rfl
theorem q67 : (Jvm.Cond.code ({ cls := "MerkleLog", name := "path", desc := "(II)I" } : Jvm.MethodName) prog_1_method_4_code (7 : Nat) (Option.some Jvm.ClassFile.FieldType.int)) ∈ lw_all := lw_g (lw_at lw_m0 60 rfl) rfl
theorem q68 : (Jvm.Cond.methodLink "MerkleLog" (40 : Nat) ({ cls := "MerkleLog", name := "cut", desc := "(I)I" } : Jvm.MethodName)) ∈ lw_all := lw_g (lw_at lw_m0 61 rfl) rfl
theorem q69 : (Jvm.Cond.static ({ cls := "MerkleLog", name := "cut", desc := "(I)I" } : Jvm.MethodName)) ∈ lw_all := lw_g (lw_at lw_m0 62 rfl) rfl
theorem q70 : (Jvm.Cond.code ({ cls := "MerkleLog", name := "cut", desc := "(I)I" } : Jvm.MethodName) prog_1_method_16_code (3 : Nat) (Option.some Jvm.ClassFile.FieldType.int)) ∈ lw_all := lw_g (lw_at lw_m0 63 rfl) rfl
theorem q71 : (Jvm.Cond.methodLink "MerkleLog" (43 : Nat) ({ cls := "MerkleLog", name := "note", desc := "(II)V" } : Jvm.MethodName)) ∈ lw_all := lw_g (lw_at lw_m0 64 rfl) rfl
theorem q72 : (Jvm.Cond.privateMethod ({ cls := "MerkleLog", name := "note", desc := "(II)V" } : Jvm.MethodName)) ∈ lw_tbl := lw_at lw_m0 65 rfl
theorem q73 : (Jvm.Cond.instanceMethod ({ cls := "MerkleLog", name := "note", desc := "(II)V" } : Jvm.MethodName)) ∈ lw_all := lw_g (lw_at lw_m0 66 rfl) rfl
theorem q74 : (Jvm.Cond.code ({ cls := "MerkleLog", name := "note", desc := "(II)V" } : Jvm.MethodName) prog_1_method_18_code (3 : Nat) (Option.none : Option Jvm.ClassFile.FieldType)) ∈ lw_all := lw_g (lw_at lw_m0 67 rfl) rfl
theorem q75 : (Jvm.Cond.methodLink "MerkleLog" (47 : Nat) ({ cls := "MerkleLog", name := "turnRound", desc := "()V" } : Jvm.MethodName)) ∈ lw_all := lw_g (lw_at lw_m0 68 rfl) rfl
theorem q76 : (Jvm.Cond.privateMethod ({ cls := "MerkleLog", name := "turnRound", desc := "()V" } : Jvm.MethodName)) ∈ lw_tbl := lw_at lw_m0 69 rfl
theorem q77 : (Jvm.Cond.instanceMethod ({ cls := "MerkleLog", name := "turnRound", desc := "()V" } : Jvm.MethodName)) ∈ lw_all := lw_g (lw_at lw_m0 70 rfl) rfl
theorem q78 : (Jvm.Cond.code ({ cls := "MerkleLog", name := "turnRound", desc := "()V" } : Jvm.MethodName) prog_1_method_19_code (2 : Nat) (Option.none : Option Jvm.ClassFile.FieldType)) ∈ lw_all := lw_g (lw_at lw_m0 71 rfl) rfl
theorem q80 : (Jvm.Cond.instanceMethod ({ cls := "MerkleLog", name := "steps", desc := "(II)I" } : Jvm.MethodName)) ∈ lw_all := lw_g (lw_at lw_m0 73 rfl) rfl
theorem q81 : (Jvm.Cond.selects "MerkleLog" ({ cls := "MerkleLog", name := "steps", desc := "(II)I" } : Jvm.MethodName) ({ cls := "MerkleLog", name := "steps", desc := "(II)I" } : Jvm.MethodName)) ∈ lw_all := lw_g (lw_at lw_m0 74 rfl) rfl
theorem q82 : (Jvm.Cond.code ({ cls := "MerkleLog", name := "steps", desc := "(II)I" } : Jvm.MethodName) prog_1_method_5_code (7 : Nat) (Option.some Jvm.ClassFile.FieldType.int)) ∈ lw_all := lw_g (lw_at lw_m0 75 rfl) rfl
theorem q84 : (Jvm.Cond.instanceMethod ({ cls := "MerkleLog", name := "hand", desc := "(I)I" } : Jvm.MethodName)) ∈ lw_all := lw_g (lw_at lw_m0 77 rfl) rfl
theorem q85 : (Jvm.Cond.selects "MerkleLog" ({ cls := "MerkleLog", name := "hand", desc := "(I)I" } : Jvm.MethodName) ({ cls := "MerkleLog", name := "hand", desc := "(I)I" } : Jvm.MethodName)) ∈ lw_all := lw_g (lw_at lw_m0 78 rfl) rfl
theorem q86 : (Jvm.Cond.code ({ cls := "MerkleLog", name := "hand", desc := "(I)I" } : Jvm.MethodName) prog_1_method_6_code (2 : Nat) (Option.some Jvm.ClassFile.FieldType.int)) ∈ lw_all := lw_g (lw_at lw_m0 79 rfl) rfl
theorem q88 : (Jvm.Cond.instanceMethod ({ cls := "MerkleLog", name := "held", desc := "()I" } : Jvm.MethodName)) ∈ lw_all := lw_g (lw_at lw_m0 81 rfl) rfl
theorem q89 : (Jvm.Cond.selects "MerkleLog" ({ cls := "MerkleLog", name := "held", desc := "()I" } : Jvm.MethodName) ({ cls := "MerkleLog", name := "held", desc := "()I" } : Jvm.MethodName)) ∈ lw_all := lw_g (lw_at lw_m0 82 rfl) rfl
theorem q90 : (Jvm.Cond.code ({ cls := "MerkleLog", name := "held", desc := "()I" } : Jvm.MethodName) prog_1_method_7_code (1 : Nat) (Option.some Jvm.ClassFile.FieldType.int)) ∈ lw_all := lw_g (lw_at lw_m0 83 rfl) rfl
theorem q92 : (Jvm.Cond.instanceMethod ({ cls := "MerkleLog", name := "alter", desc := "(II)I" } : Jvm.MethodName)) ∈ lw_all := lw_g (lw_at lw_m0 85 rfl) rfl
theorem q93 : (Jvm.Cond.selects "MerkleLog" ({ cls := "MerkleLog", name := "alter", desc := "(II)I" } : Jvm.MethodName) ({ cls := "MerkleLog", name := "alter", desc := "(II)I" } : Jvm.MethodName)) ∈ lw_all := lw_g (lw_at lw_m0 86 rfl) rfl
theorem q94 : (Jvm.Cond.code ({ cls := "MerkleLog", name := "alter", desc := "(II)I" } : Jvm.MethodName) prog_1_method_8_code (3 : Nat) (Option.some Jvm.ClassFile.FieldType.int)) ∈ lw_all := lw_g (lw_at lw_m0 87 rfl) rfl
theorem q96 : (Jvm.Cond.instanceMethod ({ cls := "MerkleLog", name := "drop", desc := "()V" } : Jvm.MethodName)) ∈ lw_all := lw_g (lw_at lw_m0 89 rfl) rfl
theorem q97 : (Jvm.Cond.selects "MerkleLog" ({ cls := "MerkleLog", name := "drop", desc := "()V" } : Jvm.MethodName) ({ cls := "MerkleLog", name := "drop", desc := "()V" } : Jvm.MethodName)) ∈ lw_all := lw_g (lw_at lw_m0 90 rfl) rfl
theorem q98 : (Jvm.Cond.code ({ cls := "MerkleLog", name := "drop", desc := "()V" } : Jvm.MethodName) prog_1_method_9_code (1 : Nat) (Option.none : Option Jvm.ClassFile.FieldType)) ∈ lw_all := lw_g (lw_at lw_m0 91 rfl) rfl
theorem q100 : (Jvm.Cond.instanceMethod ({ cls := "MerkleLog", name := "take", desc := "(I)I" } : Jvm.MethodName)) ∈ lw_all := lw_g (lw_at lw_m0 93 rfl) rfl
theorem q101 : (Jvm.Cond.selects "MerkleLog" ({ cls := "MerkleLog", name := "take", desc := "(I)I" } : Jvm.MethodName) ({ cls := "MerkleLog", name := "take", desc := "(I)I" } : Jvm.MethodName)) ∈ lw_all := lw_g (lw_at lw_m0 94 rfl) rfl
theorem q102 : (Jvm.Cond.code ({ cls := "MerkleLog", name := "take", desc := "(I)I" } : Jvm.MethodName) prog_1_method_10_code (2 : Nat) (Option.some Jvm.ClassFile.FieldType.int)) ∈ lw_all := lw_g (lw_at lw_m0 95 rfl) rfl
theorem q104 : (Jvm.Cond.instanceMethod ({ cls := "MerkleLog", name := "rootFrom", desc := "(III)I" } : Jvm.MethodName)) ∈ lw_all := lw_g (lw_at lw_m0 97 rfl) rfl
theorem q105 : (Jvm.Cond.selects "MerkleLog" ({ cls := "MerkleLog", name := "rootFrom", desc := "(III)I" } : Jvm.MethodName) ({ cls := "MerkleLog", name := "rootFrom", desc := "(III)I" } : Jvm.MethodName)) ∈ lw_all := lw_g (lw_at lw_m0 98 rfl) rfl
theorem q106 : (Jvm.Cond.code ({ cls := "MerkleLog", name := "rootFrom", desc := "(III)I" } : Jvm.MethodName) prog_1_method_11_code (9 : Nat) (Option.some Jvm.ClassFile.FieldType.int)) ∈ lw_all := lw_g (lw_at lw_m0 99 rfl) rfl
theorem in_X0 : ∀ w ∈ wsX00, w ∈ lw_all := lw_in wsX00 [24, 26, 28, 30, 32, 34] (by decide +kernel) (by decide +kernel)
end
section
set_option maxRecDepth 100000
/-! MerkleLogModel -/
def RX1 : String := "MerkleLogModel"
def TX1 : u_T := fun k => match k with
  | 0 => ("MerkleLogModel", "entries", "I", false)
  | 1 => ("MerkleLogModel", "log", "[I", true)
  | 2 => ("MerkleLogModel", "hand", "[I", true)
  | 3 => ("MerkleLogModel", "held", "I", false)
  | 4 => ("MerkleLogModel", "from", "[I", true)
  | 5 => ("MerkleLogModel", "count", "[I", true)
  | 6 => ("MerkleLogModel", "state", "[I", true)
  | _ => ("MerkleLogModel", "value", "[I", true)
def tyX1 : Nat → FieldType := fun k => match k with
  | 0 => .int
  | 1 => .array .int
  | 2 => .array .int
  | 3 => .int
  | 4 => .array .int
  | 5 => .array .int
  | 6 => .array .int
  | _ => .array .int
abbrev wsX10 : List Cond := u_ws RX1 TX1 8
theorem nmX1 : ∀ a, a < 8 → ∀ b, b < 8 → a ≠ b → (TX1 a).2.1 ≠ (TX1 b).2.1 := by decide +kernel
theorem tyX1_ok : ∀ k, k < 8 → parseFieldDescriptor (TX1 k).2.2.1 = some (tyX1 k) := by decide +kernel
abbrev cX1_init : ByteArray := prog_3_method_1_code
def yX1_init : MethodName := ⟨RX1, "<init>", "()V"⟩
theorem dX1_init_0 : decode cX1_init 0 = .ok (.aload_n 0, 1) := by decide +kernel
theorem dX1_init_1 : decode cX1_init 1 = .ok (.invokespecial 1, 3) := by decide +kernel
theorem dX1_init_4 : decode cX1_init 4 = .ok (.aload_n 0, 1) := by decide +kernel
theorem dX1_init_5 : decode cX1_init 5 = .ok (.bipush 40, 2) := by decide +kernel
theorem dX1_init_7 : decode cX1_init 7 = .ok (.newarray .int, 2) := by decide +kernel
theorem dX1_init_9 : decode cX1_init 9 = .ok (.putfield 7, 3) := by decide +kernel
theorem dX1_init_12 : decode cX1_init 12 = .ok (.aload_n 0, 1) := by decide +kernel
theorem dX1_init_13 : decode cX1_init 13 = .ok (.bipush 16, 2) := by decide +kernel
theorem dX1_init_15 : decode cX1_init 15 = .ok (.newarray .int, 2) := by decide +kernel
theorem dX1_init_17 : decode cX1_init 17 = .ok (.putfield 13, 3) := by decide +kernel
theorem dX1_init_20 : decode cX1_init 20 = .ok (.aload_n 0, 1) := by decide +kernel
theorem dX1_init_21 : decode cX1_init 21 = .ok (.bipush 100, 2) := by decide +kernel
theorem dX1_init_23 : decode cX1_init 23 = .ok (.newarray .int, 2) := by decide +kernel
theorem dX1_init_25 : decode cX1_init 25 = .ok (.putfield 16, 3) := by decide +kernel
theorem dX1_init_28 : decode cX1_init 28 = .ok (.aload_n 0, 1) := by decide +kernel
theorem dX1_init_29 : decode cX1_init 29 = .ok (.bipush 100, 2) := by decide +kernel
theorem dX1_init_31 : decode cX1_init 31 = .ok (.newarray .int, 2) := by decide +kernel
theorem dX1_init_33 : decode cX1_init 33 = .ok (.putfield 19, 3) := by decide +kernel
theorem dX1_init_36 : decode cX1_init 36 = .ok (.aload_n 0, 1) := by decide +kernel
theorem dX1_init_37 : decode cX1_init 37 = .ok (.bipush 100, 2) := by decide +kernel
theorem dX1_init_39 : decode cX1_init 39 = .ok (.newarray .int, 2) := by decide +kernel
theorem dX1_init_41 : decode cX1_init 41 = .ok (.putfield 22, 3) := by decide +kernel
theorem dX1_init_44 : decode cX1_init 44 = .ok (.aload_n 0, 1) := by decide +kernel
theorem dX1_init_45 : decode cX1_init 45 = .ok (.bipush 100, 2) := by decide +kernel
theorem dX1_init_47 : decode cX1_init 47 = .ok (.newarray .int, 2) := by decide +kernel
theorem dX1_init_49 : decode cX1_init 49 = .ok (.putfield 25, 3) := by decide +kernel
theorem dX1_init_52 : decode cX1_init 52 = .ok (.return_, 1) := by decide +kernel
abbrev cX1_append : ByteArray := prog_3_method_6_code
def yX1_append : MethodName := ⟨RX1, "append", "(I)I"⟩
theorem dX1_append_0 : decode cX1_append 0 = .ok (.aload_n 0, 1) := by decide +kernel
theorem dX1_append_1 : decode cX1_append 1 = .ok (.getfield 34, 3) := by decide +kernel
theorem dX1_append_4 : decode cX1_append 4 = .ok (.bipush 40, 2) := by decide +kernel
theorem dX1_append_6 : decode cX1_append 6 = .ok (.if_icmp .ne 5, 3) := by decide +kernel
theorem dX1_append_9 : decode cX1_append 9 = .ok (.iconst (-1), 1) := by decide +kernel
theorem dX1_append_10 : decode cX1_append 10 = .ok (.ireturn, 1) := by decide +kernel
theorem dX1_append_11 : decode cX1_append 11 = .ok (.aload_n 0, 1) := by decide +kernel
theorem dX1_append_12 : decode cX1_append 12 = .ok (.getfield 7, 3) := by decide +kernel
theorem dX1_append_15 : decode cX1_append 15 = .ok (.aload_n 0, 1) := by decide +kernel
theorem dX1_append_16 : decode cX1_append 16 = .ok (.getfield 34, 3) := by decide +kernel
theorem dX1_append_19 : decode cX1_append 19 = .ok (.iload_n 1, 1) := by decide +kernel
theorem dX1_append_20 : decode cX1_append 20 = .ok (.iastore, 1) := by decide +kernel
theorem dX1_append_21 : decode cX1_append 21 = .ok (.aload_n 0, 1) := by decide +kernel
theorem dX1_append_22 : decode cX1_append 22 = .ok (.dup, 1) := by decide +kernel
theorem dX1_append_23 : decode cX1_append 23 = .ok (.getfield 34, 3) := by decide +kernel
theorem dX1_append_26 : decode cX1_append 26 = .ok (.iconst 1, 1) := by decide +kernel
theorem dX1_append_27 : decode cX1_append 27 = .ok (.iadd, 1) := by decide +kernel
theorem dX1_append_28 : decode cX1_append 28 = .ok (.putfield 34, 3) := by decide +kernel
theorem dX1_append_31 : decode cX1_append 31 = .ok (.aload_n 0, 1) := by decide +kernel
theorem dX1_append_32 : decode cX1_append 32 = .ok (.getfield 34, 3) := by decide +kernel
theorem dX1_append_35 : decode cX1_append 35 = .ok (.ireturn, 1) := by decide +kernel
abbrev cX1_root : ByteArray := prog_3_method_9_code
def yX1_root : MethodName := ⟨RX1, "root", "(I)I"⟩
theorem dX1_root_0 : decode cX1_root 0 = .ok (.iload_n 1, 1) := by decide +kernel
theorem dX1_root_1 : decode cX1_root 1 = .ok (.iconst 1, 1) := by decide +kernel
theorem dX1_root_2 : decode cX1_root 2 = .ok (.if_icmp .lt 11, 3) := by decide +kernel
theorem dX1_root_5 : decode cX1_root 5 = .ok (.iload_n 1, 1) := by decide +kernel
theorem dX1_root_6 : decode cX1_root 6 = .ok (.aload_n 0, 1) := by decide +kernel
theorem dX1_root_7 : decode cX1_root 7 = .ok (.getfield 34, 3) := by decide +kernel
theorem dX1_root_10 : decode cX1_root 10 = .ok (.if_icmp .le 5, 3) := by decide +kernel
theorem dX1_root_13 : decode cX1_root 13 = .ok (.iconst 0, 1) := by decide +kernel
theorem dX1_root_14 : decode cX1_root 14 = .ok (.ireturn, 1) := by decide +kernel
theorem dX1_root_15 : decode cX1_root 15 = .ok (.aload_n 0, 1) := by decide +kernel
theorem dX1_root_16 : decode cX1_root 16 = .ok (.iconst 0, 1) := by decide +kernel
theorem dX1_root_17 : decode cX1_root 17 = .ok (.iload_n 1, 1) := by decide +kernel
theorem dX1_root_18 : decode cX1_root 18 = .ok (.invokevirtual 52, 3) := by decide +kernel
theorem dX1_root_21 : decode cX1_root 21 = .ok (.ireturn, 1) := by decide +kernel
abbrev cX1_rootOf : ByteArray := prog_3_method_8_code
def yX1_rootOf : MethodName := ⟨RX1, "rootOf", "(II)I"⟩
theorem dX1_rootOf_0 : decode cX1_rootOf 0 = .ok (.iconst 0, 1) := by decide +kernel
theorem dX1_rootOf_1 : decode cX1_rootOf 1 = .ok (.istore_n 3, 1) := by decide +kernel
theorem dX1_rootOf_2 : decode cX1_rootOf 2 = .ok (.iconst 0, 1) := by decide +kernel
theorem dX1_rootOf_3 : decode cX1_rootOf 3 = .ok (.istore 4, 2) := by decide +kernel
theorem dX1_rootOf_5 : decode cX1_rootOf 5 = .ok (.aload_n 0, 1) := by decide +kernel
theorem dX1_rootOf_6 : decode cX1_rootOf 6 = .ok (.iconst 0, 1) := by decide +kernel
theorem dX1_rootOf_7 : decode cX1_rootOf 7 = .ok (.iload_n 1, 1) := by decide +kernel
theorem dX1_rootOf_8 : decode cX1_rootOf 8 = .ok (.iload_n 2, 1) := by decide +kernel
theorem dX1_rootOf_9 : decode cX1_rootOf 9 = .ok (.invokevirtual 38, 3) := by decide +kernel
theorem dX1_rootOf_12 : decode cX1_rootOf 12 = .ok (.iconst 0, 1) := by decide +kernel
theorem dX1_rootOf_13 : decode cX1_rootOf 13 = .ok (.istore 5, 2) := by decide +kernel
theorem dX1_rootOf_15 : decode cX1_rootOf 15 = .ok (.iload 5, 2) := by decide +kernel
theorem dX1_rootOf_17 : decode cX1_rootOf 17 = .ok (.sipush 300, 3) := by decide +kernel
theorem dX1_rootOf_20 : decode cX1_rootOf 20 = .ok (.if_icmp .ge 191, 3) := by decide +kernel
theorem dX1_rootOf_23 : decode cX1_rootOf 23 = .ok (.iload_n 3, 1) := by decide +kernel
theorem dX1_rootOf_24 : decode cX1_rootOf 24 = .ok (.ifCond .lt 187, 3) := by decide +kernel
theorem dX1_rootOf_27 : decode cX1_rootOf 27 = .ok (.aload_n 0, 1) := by decide +kernel
theorem dX1_rootOf_28 : decode cX1_rootOf 28 = .ok (.getfield 19, 3) := by decide +kernel
theorem dX1_rootOf_31 : decode cX1_rootOf 31 = .ok (.iload_n 3, 1) := by decide +kernel
theorem dX1_rootOf_32 : decode cX1_rootOf 32 = .ok (.iaload, 1) := by decide +kernel
theorem dX1_rootOf_33 : decode cX1_rootOf 33 = .ok (.iconst 1, 1) := by decide +kernel
theorem dX1_rootOf_34 : decode cX1_rootOf 34 = .ok (.if_icmp .ne 40, 3) := by decide +kernel
theorem dX1_rootOf_37 : decode cX1_rootOf 37 = .ok (.aload_n 0, 1) := by decide +kernel
theorem dX1_rootOf_38 : decode cX1_rootOf 38 = .ok (.getfield 16, 3) := by decide +kernel
theorem dX1_rootOf_41 : decode cX1_rootOf 41 = .ok (.iload_n 3, 1) := by decide +kernel
theorem dX1_rootOf_42 : decode cX1_rootOf 42 = .ok (.iaload, 1) := by decide +kernel
theorem dX1_rootOf_43 : decode cX1_rootOf 43 = .ok (.bipush 40, 2) := by decide +kernel
theorem dX1_rootOf_45 : decode cX1_rootOf 45 = .ok (.if_icmp .ge 20, 3) := by decide +kernel
theorem dX1_rootOf_48 : decode cX1_rootOf 48 = .ok (.aload_n 0, 1) := by decide +kernel
theorem dX1_rootOf_49 : decode cX1_rootOf 49 = .ok (.getfield 7, 3) := by decide +kernel
theorem dX1_rootOf_52 : decode cX1_rootOf 52 = .ok (.aload_n 0, 1) := by decide +kernel
theorem dX1_rootOf_53 : decode cX1_rootOf 53 = .ok (.getfield 16, 3) := by decide +kernel
theorem dX1_rootOf_56 : decode cX1_rootOf 56 = .ok (.iload_n 3, 1) := by decide +kernel
theorem dX1_rootOf_57 : decode cX1_rootOf 57 = .ok (.iaload, 1) := by decide +kernel
theorem dX1_rootOf_58 : decode cX1_rootOf 58 = .ok (.iaload, 1) := by decide +kernel
theorem dX1_rootOf_59 : decode cX1_rootOf 59 = .ok (.invokestatic 42, 3) := by decide +kernel
theorem dX1_rootOf_62 : decode cX1_rootOf 62 = .ok (.goto 4, 3) := by decide +kernel
theorem dX1_rootOf_65 : decode cX1_rootOf 65 = .ok (.iconst 0, 1) := by decide +kernel
theorem dX1_rootOf_66 : decode cX1_rootOf 66 = .ok (.istore 4, 2) := by decide +kernel
theorem dX1_rootOf_68 : decode cX1_rootOf 68 = .ok (.iinc 3 (-1), 3) := by decide +kernel
theorem dX1_rootOf_71 : decode cX1_rootOf 71 = .ok (.goto 134, 3) := by decide +kernel
theorem dX1_rootOf_74 : decode cX1_rootOf 74 = .ok (.aload_n 0, 1) := by decide +kernel
theorem dX1_rootOf_75 : decode cX1_rootOf 75 = .ok (.getfield 22, 3) := by decide +kernel
theorem dX1_rootOf_78 : decode cX1_rootOf 78 = .ok (.iload_n 3, 1) := by decide +kernel
theorem dX1_rootOf_79 : decode cX1_rootOf 79 = .ok (.iaload, 1) := by decide +kernel
theorem dX1_rootOf_80 : decode cX1_rootOf 80 = .ok (.ifCond .ne 42, 3) := by decide +kernel
theorem dX1_rootOf_83 : decode cX1_rootOf 83 = .ok (.aload_n 0, 1) := by decide +kernel
theorem dX1_rootOf_84 : decode cX1_rootOf 84 = .ok (.getfield 22, 3) := by decide +kernel
theorem dX1_rootOf_87 : decode cX1_rootOf 87 = .ok (.iload_n 3, 1) := by decide +kernel
theorem dX1_rootOf_88 : decode cX1_rootOf 88 = .ok (.iconst 1, 1) := by decide +kernel
theorem dX1_rootOf_89 : decode cX1_rootOf 89 = .ok (.iastore, 1) := by decide +kernel
theorem dX1_rootOf_90 : decode cX1_rootOf 90 = .ok (.aload_n 0, 1) := by decide +kernel
theorem dX1_rootOf_91 : decode cX1_rootOf 91 = .ok (.getfield 19, 3) := by decide +kernel
theorem dX1_rootOf_94 : decode cX1_rootOf 94 = .ok (.iload_n 3, 1) := by decide +kernel
theorem dX1_rootOf_95 : decode cX1_rootOf 95 = .ok (.iaload, 1) := by decide +kernel
theorem dX1_rootOf_96 : decode cX1_rootOf 96 = .ok (.invokestatic 46, 3) := by decide +kernel
theorem dX1_rootOf_99 : decode cX1_rootOf 99 = .ok (.istore 6, 2) := by decide +kernel
theorem dX1_rootOf_101 : decode cX1_rootOf 101 = .ok (.aload_n 0, 1) := by decide +kernel
theorem dX1_rootOf_102 : decode cX1_rootOf 102 = .ok (.iload_n 3, 1) := by decide +kernel
theorem dX1_rootOf_103 : decode cX1_rootOf 103 = .ok (.iconst 1, 1) := by decide +kernel
theorem dX1_rootOf_104 : decode cX1_rootOf 104 = .ok (.iadd, 1) := by decide +kernel
theorem dX1_rootOf_105 : decode cX1_rootOf 105 = .ok (.aload_n 0, 1) := by decide +kernel
theorem dX1_rootOf_106 : decode cX1_rootOf 106 = .ok (.getfield 16, 3) := by decide +kernel
theorem dX1_rootOf_109 : decode cX1_rootOf 109 = .ok (.iload_n 3, 1) := by decide +kernel
theorem dX1_rootOf_110 : decode cX1_rootOf 110 = .ok (.iaload, 1) := by decide +kernel
theorem dX1_rootOf_111 : decode cX1_rootOf 111 = .ok (.iload 6, 2) := by decide +kernel
theorem dX1_rootOf_113 : decode cX1_rootOf 113 = .ok (.invokevirtual 38, 3) := by decide +kernel
theorem dX1_rootOf_116 : decode cX1_rootOf 116 = .ok (.iinc 3 1, 3) := by decide +kernel
theorem dX1_rootOf_119 : decode cX1_rootOf 119 = .ok (.goto 86, 3) := by decide +kernel
theorem dX1_rootOf_122 : decode cX1_rootOf 122 = .ok (.aload_n 0, 1) := by decide +kernel
theorem dX1_rootOf_123 : decode cX1_rootOf 123 = .ok (.getfield 22, 3) := by decide +kernel
theorem dX1_rootOf_126 : decode cX1_rootOf 126 = .ok (.iload_n 3, 1) := by decide +kernel
theorem dX1_rootOf_127 : decode cX1_rootOf 127 = .ok (.iaload, 1) := by decide +kernel
theorem dX1_rootOf_128 : decode cX1_rootOf 128 = .ok (.iconst 1, 1) := by decide +kernel
theorem dX1_rootOf_129 : decode cX1_rootOf 129 = .ok (.if_icmp .ne 60, 3) := by decide +kernel
theorem dX1_rootOf_132 : decode cX1_rootOf 132 = .ok (.aload_n 0, 1) := by decide +kernel
theorem dX1_rootOf_133 : decode cX1_rootOf 133 = .ok (.getfield 25, 3) := by decide +kernel
theorem dX1_rootOf_136 : decode cX1_rootOf 136 = .ok (.iload_n 3, 1) := by decide +kernel
theorem dX1_rootOf_137 : decode cX1_rootOf 137 = .ok (.iload 4, 2) := by decide +kernel
theorem dX1_rootOf_139 : decode cX1_rootOf 139 = .ok (.iastore, 1) := by decide +kernel
theorem dX1_rootOf_140 : decode cX1_rootOf 140 = .ok (.aload_n 0, 1) := by decide +kernel
theorem dX1_rootOf_141 : decode cX1_rootOf 141 = .ok (.getfield 22, 3) := by decide +kernel
theorem dX1_rootOf_144 : decode cX1_rootOf 144 = .ok (.iload_n 3, 1) := by decide +kernel
theorem dX1_rootOf_145 : decode cX1_rootOf 145 = .ok (.iconst 2, 1) := by decide +kernel
theorem dX1_rootOf_146 : decode cX1_rootOf 146 = .ok (.iastore, 1) := by decide +kernel
theorem dX1_rootOf_147 : decode cX1_rootOf 147 = .ok (.aload_n 0, 1) := by decide +kernel
theorem dX1_rootOf_148 : decode cX1_rootOf 148 = .ok (.getfield 19, 3) := by decide +kernel
theorem dX1_rootOf_151 : decode cX1_rootOf 151 = .ok (.iload_n 3, 1) := by decide +kernel
theorem dX1_rootOf_152 : decode cX1_rootOf 152 = .ok (.iaload, 1) := by decide +kernel
theorem dX1_rootOf_153 : decode cX1_rootOf 153 = .ok (.invokestatic 46, 3) := by decide +kernel
theorem dX1_rootOf_156 : decode cX1_rootOf 156 = .ok (.istore 6, 2) := by decide +kernel
theorem dX1_rootOf_158 : decode cX1_rootOf 158 = .ok (.aload_n 0, 1) := by decide +kernel
theorem dX1_rootOf_159 : decode cX1_rootOf 159 = .ok (.iload_n 3, 1) := by decide +kernel
theorem dX1_rootOf_160 : decode cX1_rootOf 160 = .ok (.iconst 1, 1) := by decide +kernel
theorem dX1_rootOf_161 : decode cX1_rootOf 161 = .ok (.iadd, 1) := by decide +kernel
theorem dX1_rootOf_162 : decode cX1_rootOf 162 = .ok (.aload_n 0, 1) := by decide +kernel
theorem dX1_rootOf_163 : decode cX1_rootOf 163 = .ok (.getfield 16, 3) := by decide +kernel
theorem dX1_rootOf_166 : decode cX1_rootOf 166 = .ok (.iload_n 3, 1) := by decide +kernel
theorem dX1_rootOf_167 : decode cX1_rootOf 167 = .ok (.iaload, 1) := by decide +kernel
theorem dX1_rootOf_168 : decode cX1_rootOf 168 = .ok (.iload 6, 2) := by decide +kernel
theorem dX1_rootOf_170 : decode cX1_rootOf 170 = .ok (.iadd, 1) := by decide +kernel
theorem dX1_rootOf_171 : decode cX1_rootOf 171 = .ok (.aload_n 0, 1) := by decide +kernel
theorem dX1_rootOf_172 : decode cX1_rootOf 172 = .ok (.getfield 19, 3) := by decide +kernel
theorem dX1_rootOf_175 : decode cX1_rootOf 175 = .ok (.iload_n 3, 1) := by decide +kernel
theorem dX1_rootOf_176 : decode cX1_rootOf 176 = .ok (.iaload, 1) := by decide +kernel
theorem dX1_rootOf_177 : decode cX1_rootOf 177 = .ok (.iload 6, 2) := by decide +kernel
theorem dX1_rootOf_179 : decode cX1_rootOf 179 = .ok (.isub, 1) := by decide +kernel
theorem dX1_rootOf_180 : decode cX1_rootOf 180 = .ok (.invokevirtual 38, 3) := by decide +kernel
theorem dX1_rootOf_183 : decode cX1_rootOf 183 = .ok (.iinc 3 1, 3) := by decide +kernel
theorem dX1_rootOf_186 : decode cX1_rootOf 186 = .ok (.goto 19, 3) := by decide +kernel
theorem dX1_rootOf_189 : decode cX1_rootOf 189 = .ok (.aload_n 0, 1) := by decide +kernel
theorem dX1_rootOf_190 : decode cX1_rootOf 190 = .ok (.getfield 25, 3) := by decide +kernel
theorem dX1_rootOf_193 : decode cX1_rootOf 193 = .ok (.iload_n 3, 1) := by decide +kernel
theorem dX1_rootOf_194 : decode cX1_rootOf 194 = .ok (.iaload, 1) := by decide +kernel
theorem dX1_rootOf_195 : decode cX1_rootOf 195 = .ok (.iload 4, 2) := by decide +kernel
theorem dX1_rootOf_197 : decode cX1_rootOf 197 = .ok (.invokestatic 49, 3) := by decide +kernel
theorem dX1_rootOf_200 : decode cX1_rootOf 200 = .ok (.istore 4, 2) := by decide +kernel
theorem dX1_rootOf_202 : decode cX1_rootOf 202 = .ok (.iinc 3 (-1), 3) := by decide +kernel
theorem dX1_rootOf_205 : decode cX1_rootOf 205 = .ok (.iinc 5 1, 3) := by decide +kernel
theorem dX1_rootOf_208 : decode cX1_rootOf 208 = .ok (.goto (-193), 3) := by decide +kernel
theorem dX1_rootOf_211 : decode cX1_rootOf 211 = .ok (.iload 4, 2) := by decide +kernel
theorem dX1_rootOf_213 : decode cX1_rootOf 213 = .ok (.ireturn, 1) := by decide +kernel
abbrev cX1_open : ByteArray := prog_3_method_7_code
def yX1_open : MethodName := ⟨RX1, "open", "(III)V"⟩
theorem dX1_open_0 : decode cX1_open 0 = .ok (.aload_n 0, 1) := by decide +kernel
theorem dX1_open_1 : decode cX1_open 1 = .ok (.getfield 16, 3) := by decide +kernel
theorem dX1_open_4 : decode cX1_open 4 = .ok (.iload_n 1, 1) := by decide +kernel
theorem dX1_open_5 : decode cX1_open 5 = .ok (.iload_n 2, 1) := by decide +kernel
theorem dX1_open_6 : decode cX1_open 6 = .ok (.iastore, 1) := by decide +kernel
theorem dX1_open_7 : decode cX1_open 7 = .ok (.aload_n 0, 1) := by decide +kernel
theorem dX1_open_8 : decode cX1_open 8 = .ok (.getfield 19, 3) := by decide +kernel
theorem dX1_open_11 : decode cX1_open 11 = .ok (.iload_n 1, 1) := by decide +kernel
theorem dX1_open_12 : decode cX1_open 12 = .ok (.iload_n 3, 1) := by decide +kernel
theorem dX1_open_13 : decode cX1_open 13 = .ok (.iastore, 1) := by decide +kernel
theorem dX1_open_14 : decode cX1_open 14 = .ok (.aload_n 0, 1) := by decide +kernel
theorem dX1_open_15 : decode cX1_open 15 = .ok (.getfield 22, 3) := by decide +kernel
theorem dX1_open_18 : decode cX1_open 18 = .ok (.iload_n 1, 1) := by decide +kernel
theorem dX1_open_19 : decode cX1_open 19 = .ok (.iconst 0, 1) := by decide +kernel
theorem dX1_open_20 : decode cX1_open 20 = .ok (.iastore, 1) := by decide +kernel
theorem dX1_open_21 : decode cX1_open 21 = .ok (.return_, 1) := by decide +kernel
abbrev cX1_leaf : ByteArray := prog_3_method_3_code
def yX1_leaf : MethodName := ⟨RX1, "leaf", "(I)I"⟩
theorem dX1_leaf_0 : decode cX1_leaf 0 = .ok (.iload_n 0, 1) := by decide +kernel
theorem dX1_leaf_1 : decode cX1_leaf 1 = .ok (.iconst 1, 1) := by decide +kernel
theorem dX1_leaf_2 : decode cX1_leaf 2 = .ok (.invokestatic 30, 3) := by decide +kernel
theorem dX1_leaf_5 : decode cX1_leaf 5 = .ok (.ireturn, 1) := by decide +kernel
abbrev cX1_mix : ByteArray := prog_3_method_2_code
def yX1_mix : MethodName := ⟨RX1, "mix", "(II)I"⟩
theorem dX1_mix_0 : decode cX1_mix 0 = .ok (.iload_n 0, 1) := by decide +kernel
theorem dX1_mix_1 : decode cX1_mix 1 = .ok (.iload_n 0, 1) := by decide +kernel
theorem dX1_mix_2 : decode cX1_mix 2 = .ok (.bipush 15, 2) := by decide +kernel
theorem dX1_mix_4 : decode cX1_mix 4 = .ok (.iushr, 1) := by decide +kernel
theorem dX1_mix_5 : decode cX1_mix 5 = .ok (.ixor, 1) := by decide +kernel
theorem dX1_mix_6 : decode cX1_mix 6 = .ok (.ldc 28, 2) := by decide +kernel
theorem dX1_mix_8 : decode cX1_mix 8 = .ok (.imul, 1) := by decide +kernel
theorem dX1_mix_9 : decode cX1_mix 9 = .ok (.iload_n 1, 1) := by decide +kernel
theorem dX1_mix_10 : decode cX1_mix 10 = .ok (.iadd, 1) := by decide +kernel
theorem dX1_mix_11 : decode cX1_mix 11 = .ok (.istore_n 2, 1) := by decide +kernel
theorem dX1_mix_12 : decode cX1_mix 12 = .ok (.iload_n 2, 1) := by decide +kernel
theorem dX1_mix_13 : decode cX1_mix 13 = .ok (.iload_n 2, 1) := by decide +kernel
theorem dX1_mix_14 : decode cX1_mix 14 = .ok (.bipush 12, 2) := by decide +kernel
theorem dX1_mix_16 : decode cX1_mix 16 = .ok (.iushr, 1) := by decide +kernel
theorem dX1_mix_17 : decode cX1_mix 17 = .ok (.ixor, 1) := by decide +kernel
theorem dX1_mix_18 : decode cX1_mix 18 = .ok (.ldc 29, 2) := by decide +kernel
theorem dX1_mix_20 : decode cX1_mix 20 = .ok (.imul, 1) := by decide +kernel
theorem dX1_mix_21 : decode cX1_mix 21 = .ok (.iload_n 1, 1) := by decide +kernel
theorem dX1_mix_22 : decode cX1_mix 22 = .ok (.iadd, 1) := by decide +kernel
theorem dX1_mix_23 : decode cX1_mix 23 = .ok (.istore_n 2, 1) := by decide +kernel
theorem dX1_mix_24 : decode cX1_mix 24 = .ok (.iload_n 2, 1) := by decide +kernel
theorem dX1_mix_25 : decode cX1_mix 25 = .ok (.iload_n 2, 1) := by decide +kernel
theorem dX1_mix_26 : decode cX1_mix 26 = .ok (.bipush 15, 2) := by decide +kernel
theorem dX1_mix_28 : decode cX1_mix 28 = .ok (.iushr, 1) := by decide +kernel
theorem dX1_mix_29 : decode cX1_mix 29 = .ok (.ixor, 1) := by decide +kernel
theorem dX1_mix_30 : decode cX1_mix 30 = .ok (.ireturn, 1) := by decide +kernel
abbrev cX1_half : ByteArray := prog_3_method_5_code
def yX1_half : MethodName := ⟨RX1, "half", "(I)I"⟩
theorem dX1_half_0 : decode cX1_half 0 = .ok (.iconst 1, 1) := by decide +kernel
theorem dX1_half_1 : decode cX1_half 1 = .ok (.istore_n 1, 1) := by decide +kernel
theorem dX1_half_2 : decode cX1_half 2 = .ok (.iload_n 1, 1) := by decide +kernel
theorem dX1_half_3 : decode cX1_half 3 = .ok (.bipush 64, 2) := by decide +kernel
theorem dX1_half_5 : decode cX1_half 5 = .ok (.if_icmp .ge 17, 3) := by decide +kernel
theorem dX1_half_8 : decode cX1_half 8 = .ok (.iconst 2, 1) := by decide +kernel
theorem dX1_half_9 : decode cX1_half 9 = .ok (.iload_n 1, 1) := by decide +kernel
theorem dX1_half_10 : decode cX1_half 10 = .ok (.imul, 1) := by decide +kernel
theorem dX1_half_11 : decode cX1_half 11 = .ok (.iload_n 0, 1) := by decide +kernel
theorem dX1_half_12 : decode cX1_half 12 = .ok (.if_icmp .ge 10, 3) := by decide +kernel
theorem dX1_half_15 : decode cX1_half 15 = .ok (.iconst 2, 1) := by decide +kernel
theorem dX1_half_16 : decode cX1_half 16 = .ok (.iload_n 1, 1) := by decide +kernel
theorem dX1_half_17 : decode cX1_half 17 = .ok (.imul, 1) := by decide +kernel
theorem dX1_half_18 : decode cX1_half 18 = .ok (.istore_n 1, 1) := by decide +kernel
theorem dX1_half_19 : decode cX1_half 19 = .ok (.goto (-17), 3) := by decide +kernel
theorem dX1_half_22 : decode cX1_half 22 = .ok (.iload_n 1, 1) := by decide +kernel
theorem dX1_half_23 : decode cX1_half 23 = .ok (.ireturn, 1) := by decide +kernel
end
section
set_option maxRecDepth 100000
abbrev cX1_node : ByteArray := prog_3_method_4_code
def yX1_node : MethodName := ⟨RX1, "node", "(II)I"⟩
theorem dX1_node_0 : decode cX1_node 0 = .ok (.iload_n 0, 1) := by decide +kernel
theorem dX1_node_1 : decode cX1_node 1 = .ok (.iconst 2, 1) := by decide +kernel
theorem dX1_node_2 : decode cX1_node 2 = .ok (.invokestatic 30, 3) := by decide +kernel
theorem dX1_node_5 : decode cX1_node 5 = .ok (.istore_n 2, 1) := by decide +kernel
theorem dX1_node_6 : decode cX1_node 6 = .ok (.iload_n 2, 1) := by decide +kernel
theorem dX1_node_7 : decode cX1_node 7 = .ok (.iload_n 1, 1) := by decide +kernel
theorem dX1_node_8 : decode cX1_node 8 = .ok (.ixor, 1) := by decide +kernel
theorem dX1_node_9 : decode cX1_node 9 = .ok (.iconst 3, 1) := by decide +kernel
theorem dX1_node_10 : decode cX1_node 10 = .ok (.invokestatic 30, 3) := by decide +kernel
theorem dX1_node_13 : decode cX1_node 13 = .ok (.ireturn, 1) := by decide +kernel
abbrev cX1_path : ByteArray := prog_3_method_12_code
def yX1_path : MethodName := ⟨RX1, "path", "(II)I"⟩
theorem dX1_path_0 : decode cX1_path 0 = .ok (.iload_n 2, 1) := by decide +kernel
theorem dX1_path_1 : decode cX1_path 1 = .ok (.iconst 1, 1) := by decide +kernel
theorem dX1_path_2 : decode cX1_path 2 = .ok (.if_icmp .lt 20, 3) := by decide +kernel
theorem dX1_path_5 : decode cX1_path 5 = .ok (.iload_n 2, 1) := by decide +kernel
theorem dX1_path_6 : decode cX1_path 6 = .ok (.aload_n 0, 1) := by decide +kernel
theorem dX1_path_7 : decode cX1_path 7 = .ok (.getfield 34, 3) := by decide +kernel
theorem dX1_path_10 : decode cX1_path 10 = .ok (.if_icmp .gt 12, 3) := by decide +kernel
theorem dX1_path_13 : decode cX1_path 13 = .ok (.iload_n 1, 1) := by decide +kernel
theorem dX1_path_14 : decode cX1_path 14 = .ok (.ifCond .lt 8, 3) := by decide +kernel
theorem dX1_path_17 : decode cX1_path 17 = .ok (.iload_n 1, 1) := by decide +kernel
theorem dX1_path_18 : decode cX1_path 18 = .ok (.iload_n 2, 1) := by decide +kernel
theorem dX1_path_19 : decode cX1_path 19 = .ok (.if_icmp .lt 5, 3) := by decide +kernel
theorem dX1_path_22 : decode cX1_path 22 = .ok (.iconst (-1), 1) := by decide +kernel
theorem dX1_path_23 : decode cX1_path 23 = .ok (.ireturn, 1) := by decide +kernel
theorem dX1_path_24 : decode cX1_path 24 = .ok (.aload_n 0, 1) := by decide +kernel
theorem dX1_path_25 : decode cX1_path 25 = .ok (.iconst 0, 1) := by decide +kernel
theorem dX1_path_26 : decode cX1_path 26 = .ok (.putfield 55, 3) := by decide +kernel
theorem dX1_path_29 : decode cX1_path 29 = .ok (.iconst 0, 1) := by decide +kernel
theorem dX1_path_30 : decode cX1_path 30 = .ok (.istore_n 3, 1) := by decide +kernel
theorem dX1_path_31 : decode cX1_path 31 = .ok (.iload_n 2, 1) := by decide +kernel
theorem dX1_path_32 : decode cX1_path 32 = .ok (.istore 4, 2) := by decide +kernel
theorem dX1_path_34 : decode cX1_path 34 = .ok (.iload_n 1, 1) := by decide +kernel
theorem dX1_path_35 : decode cX1_path 35 = .ok (.istore 5, 2) := by decide +kernel
theorem dX1_path_37 : decode cX1_path 37 = .ok (.iconst 0, 1) := by decide +kernel
theorem dX1_path_38 : decode cX1_path 38 = .ok (.istore 6, 2) := by decide +kernel
theorem dX1_path_40 : decode cX1_path 40 = .ok (.iload 6, 2) := by decide +kernel
theorem dX1_path_42 : decode cX1_path 42 = .ok (.bipush 6, 2) := by decide +kernel
theorem dX1_path_44 : decode cX1_path 44 = .ok (.if_icmp .ge 114, 3) := by decide +kernel
theorem dX1_path_47 : decode cX1_path 47 = .ok (.iload 4, 2) := by decide +kernel
theorem dX1_path_49 : decode cX1_path 49 = .ok (.iconst 1, 1) := by decide +kernel
theorem dX1_path_50 : decode cX1_path 50 = .ok (.if_icmp .le 108, 3) := by decide +kernel
theorem dX1_path_53 : decode cX1_path 53 = .ok (.iload 4, 2) := by decide +kernel
theorem dX1_path_55 : decode cX1_path 55 = .ok (.invokestatic 46, 3) := by decide +kernel
theorem dX1_path_58 : decode cX1_path 58 = .ok (.istore 7, 2) := by decide +kernel
theorem dX1_path_60 : decode cX1_path 60 = .ok (.iload 5, 2) := by decide +kernel
theorem dX1_path_62 : decode cX1_path 62 = .ok (.iload 7, 2) := by decide +kernel
theorem dX1_path_64 : decode cX1_path 64 = .ok (.if_icmp .ge 19, 3) := by decide +kernel
theorem dX1_path_67 : decode cX1_path 67 = .ok (.aload_n 0, 1) := by decide +kernel
theorem dX1_path_68 : decode cX1_path 68 = .ok (.iload_n 3, 1) := by decide +kernel
theorem dX1_path_69 : decode cX1_path 69 = .ok (.iload 7, 2) := by decide +kernel
theorem dX1_path_71 : decode cX1_path 71 = .ok (.iadd, 1) := by decide +kernel
theorem dX1_path_72 : decode cX1_path 72 = .ok (.iload 4, 2) := by decide +kernel
theorem dX1_path_74 : decode cX1_path 74 = .ok (.iload 7, 2) := by decide +kernel
theorem dX1_path_76 : decode cX1_path 76 = .ok (.isub, 1) := by decide +kernel
theorem dX1_path_77 : decode cX1_path 77 = .ok (.invokevirtual 52, 3) := by decide +kernel
theorem dX1_path_80 : decode cX1_path 80 = .ok (.goto 10, 3) := by decide +kernel
theorem dX1_path_83 : decode cX1_path 83 = .ok (.aload_n 0, 1) := by decide +kernel
theorem dX1_path_84 : decode cX1_path 84 = .ok (.iload_n 3, 1) := by decide +kernel
theorem dX1_path_85 : decode cX1_path 85 = .ok (.iload 7, 2) := by decide +kernel
theorem dX1_path_87 : decode cX1_path 87 = .ok (.invokevirtual 52, 3) := by decide +kernel
theorem dX1_path_90 : decode cX1_path 90 = .ok (.istore 8, 2) := by decide +kernel
theorem dX1_path_92 : decode cX1_path 92 = .ok (.aload_n 0, 1) := by decide +kernel
theorem dX1_path_93 : decode cX1_path 93 = .ok (.iload 8, 2) := by decide +kernel
theorem dX1_path_95 : decode cX1_path 95 = .ok (.invokevirtual 58, 3) := by decide +kernel
theorem dX1_path_98 : decode cX1_path 98 = .ok (.iload 5, 2) := by decide +kernel
theorem dX1_path_100 : decode cX1_path 100 = .ok (.iload 7, 2) := by decide +kernel
theorem dX1_path_102 : decode cX1_path 102 = .ok (.if_icmp .ge 7, 3) := by decide +kernel
theorem dX1_path_105 : decode cX1_path 105 = .ok (.iload_n 3, 1) := by decide +kernel
theorem dX1_path_106 : decode cX1_path 106 = .ok (.goto 7, 3) := by decide +kernel
theorem dX1_path_109 : decode cX1_path 109 = .ok (.iload_n 3, 1) := by decide +kernel
theorem dX1_path_110 : decode cX1_path 110 = .ok (.iload 7, 2) := by decide +kernel
theorem dX1_path_112 : decode cX1_path 112 = .ok (.iadd, 1) := by decide +kernel
theorem dX1_path_113 : decode cX1_path 113 = .ok (.istore_n 3, 1) := by decide +kernel
theorem dX1_path_114 : decode cX1_path 114 = .ok (.iload 5, 2) := by decide +kernel
theorem dX1_path_116 : decode cX1_path 116 = .ok (.iload 7, 2) := by decide +kernel
theorem dX1_path_118 : decode cX1_path 118 = .ok (.if_icmp .ge 8, 3) := by decide +kernel
theorem dX1_path_121 : decode cX1_path 121 = .ok (.iload 7, 2) := by decide +kernel
theorem dX1_path_123 : decode cX1_path 123 = .ok (.goto 8, 3) := by decide +kernel
theorem dX1_path_126 : decode cX1_path 126 = .ok (.iload 4, 2) := by decide +kernel
theorem dX1_path_128 : decode cX1_path 128 = .ok (.iload 7, 2) := by decide +kernel
theorem dX1_path_130 : decode cX1_path 130 = .ok (.isub, 1) := by decide +kernel
theorem dX1_path_131 : decode cX1_path 131 = .ok (.istore 4, 2) := by decide +kernel
theorem dX1_path_133 : decode cX1_path 133 = .ok (.iload 5, 2) := by decide +kernel
theorem dX1_path_135 : decode cX1_path 135 = .ok (.iload 7, 2) := by decide +kernel
theorem dX1_path_137 : decode cX1_path 137 = .ok (.if_icmp .ge 8, 3) := by decide +kernel
theorem dX1_path_140 : decode cX1_path 140 = .ok (.iload 5, 2) := by decide +kernel
theorem dX1_path_142 : decode cX1_path 142 = .ok (.goto 8, 3) := by decide +kernel
theorem dX1_path_145 : decode cX1_path 145 = .ok (.iload 5, 2) := by decide +kernel
theorem dX1_path_147 : decode cX1_path 147 = .ok (.iload 7, 2) := by decide +kernel
theorem dX1_path_149 : decode cX1_path 149 = .ok (.isub, 1) := by decide +kernel
theorem dX1_path_150 : decode cX1_path 150 = .ok (.istore 5, 2) := by decide +kernel
theorem dX1_path_152 : decode cX1_path 152 = .ok (.iinc 6 1, 3) := by decide +kernel
theorem dX1_path_155 : decode cX1_path 155 = .ok (.goto (-115), 3) := by decide +kernel
theorem dX1_path_158 : decode cX1_path 158 = .ok (.aload_n 0, 1) := by decide +kernel
theorem dX1_path_159 : decode cX1_path 159 = .ok (.invokevirtual 62, 3) := by decide +kernel
theorem dX1_path_162 : decode cX1_path 162 = .ok (.aload_n 0, 1) := by decide +kernel
theorem dX1_path_163 : decode cX1_path 163 = .ok (.getfield 55, 3) := by decide +kernel
theorem dX1_path_166 : decode cX1_path 166 = .ok (.ireturn, 1) := by decide +kernel
abbrev cX1_hold : ByteArray := prog_3_method_11_code
def yX1_hold : MethodName := ⟨RX1, "hold", "(I)V"⟩
theorem dX1_hold_0 : decode cX1_hold 0 = .ok (.aload_n 0, 1) := by decide +kernel
theorem dX1_hold_1 : decode cX1_hold 1 = .ok (.getfield 55, 3) := by decide +kernel
theorem dX1_hold_4 : decode cX1_hold 4 = .ok (.bipush 16, 2) := by decide +kernel
theorem dX1_hold_6 : decode cX1_hold 6 = .ok (.if_icmp .ge 23, 3) := by decide +kernel
theorem dX1_hold_9 : decode cX1_hold 9 = .ok (.aload_n 0, 1) := by decide +kernel
theorem dX1_hold_10 : decode cX1_hold 10 = .ok (.getfield 13, 3) := by decide +kernel
theorem dX1_hold_13 : decode cX1_hold 13 = .ok (.aload_n 0, 1) := by decide +kernel
theorem dX1_hold_14 : decode cX1_hold 14 = .ok (.getfield 55, 3) := by decide +kernel
theorem dX1_hold_17 : decode cX1_hold 17 = .ok (.iload_n 1, 1) := by decide +kernel
theorem dX1_hold_18 : decode cX1_hold 18 = .ok (.iastore, 1) := by decide +kernel
theorem dX1_hold_19 : decode cX1_hold 19 = .ok (.aload_n 0, 1) := by decide +kernel
theorem dX1_hold_20 : decode cX1_hold 20 = .ok (.dup, 1) := by decide +kernel
theorem dX1_hold_21 : decode cX1_hold 21 = .ok (.getfield 55, 3) := by decide +kernel
theorem dX1_hold_24 : decode cX1_hold 24 = .ok (.iconst 1, 1) := by decide +kernel
theorem dX1_hold_25 : decode cX1_hold 25 = .ok (.iadd, 1) := by decide +kernel
theorem dX1_hold_26 : decode cX1_hold 26 = .ok (.putfield 55, 3) := by decide +kernel
theorem dX1_hold_29 : decode cX1_hold 29 = .ok (.return_, 1) := by decide +kernel
abbrev cX1_turnHand : ByteArray := prog_3_method_10_code
def yX1_turnHand : MethodName := ⟨RX1, "turnHand", "()V"⟩
theorem dX1_turnHand_0 : decode cX1_turnHand 0 = .ok (.iconst 0, 1) := by decide +kernel
theorem dX1_turnHand_1 : decode cX1_turnHand 1 = .ok (.istore_n 1, 1) := by decide +kernel
theorem dX1_turnHand_2 : decode cX1_turnHand 2 = .ok (.iload_n 1, 1) := by decide +kernel
theorem dX1_turnHand_3 : decode cX1_turnHand 3 = .ok (.aload_n 0, 1) := by decide +kernel
theorem dX1_turnHand_4 : decode cX1_turnHand 4 = .ok (.getfield 55, 3) := by decide +kernel
theorem dX1_turnHand_7 : decode cX1_turnHand 7 = .ok (.iconst 1, 1) := by decide +kernel
theorem dX1_turnHand_8 : decode cX1_turnHand 8 = .ok (.isub, 1) := by decide +kernel
theorem dX1_turnHand_9 : decode cX1_turnHand 9 = .ok (.iload_n 1, 1) := by decide +kernel
theorem dX1_turnHand_10 : decode cX1_turnHand 10 = .ok (.isub, 1) := by decide +kernel
theorem dX1_turnHand_11 : decode cX1_turnHand 11 = .ok (.if_icmp .ge 49, 3) := by decide +kernel
theorem dX1_turnHand_14 : decode cX1_turnHand 14 = .ok (.aload_n 0, 1) := by decide +kernel
theorem dX1_turnHand_15 : decode cX1_turnHand 15 = .ok (.getfield 13, 3) := by decide +kernel
theorem dX1_turnHand_18 : decode cX1_turnHand 18 = .ok (.iload_n 1, 1) := by decide +kernel
theorem dX1_turnHand_19 : decode cX1_turnHand 19 = .ok (.iaload, 1) := by decide +kernel
theorem dX1_turnHand_20 : decode cX1_turnHand 20 = .ok (.istore_n 2, 1) := by decide +kernel
theorem dX1_turnHand_21 : decode cX1_turnHand 21 = .ok (.aload_n 0, 1) := by decide +kernel
theorem dX1_turnHand_22 : decode cX1_turnHand 22 = .ok (.getfield 13, 3) := by decide +kernel
theorem dX1_turnHand_25 : decode cX1_turnHand 25 = .ok (.iload_n 1, 1) := by decide +kernel
theorem dX1_turnHand_26 : decode cX1_turnHand 26 = .ok (.aload_n 0, 1) := by decide +kernel
theorem dX1_turnHand_27 : decode cX1_turnHand 27 = .ok (.getfield 13, 3) := by decide +kernel
theorem dX1_turnHand_30 : decode cX1_turnHand 30 = .ok (.aload_n 0, 1) := by decide +kernel
theorem dX1_turnHand_31 : decode cX1_turnHand 31 = .ok (.getfield 55, 3) := by decide +kernel
theorem dX1_turnHand_34 : decode cX1_turnHand 34 = .ok (.iconst 1, 1) := by decide +kernel
theorem dX1_turnHand_35 : decode cX1_turnHand 35 = .ok (.isub, 1) := by decide +kernel
theorem dX1_turnHand_36 : decode cX1_turnHand 36 = .ok (.iload_n 1, 1) := by decide +kernel
theorem dX1_turnHand_37 : decode cX1_turnHand 37 = .ok (.isub, 1) := by decide +kernel
theorem dX1_turnHand_38 : decode cX1_turnHand 38 = .ok (.iaload, 1) := by decide +kernel
theorem dX1_turnHand_39 : decode cX1_turnHand 39 = .ok (.iastore, 1) := by decide +kernel
theorem dX1_turnHand_40 : decode cX1_turnHand 40 = .ok (.aload_n 0, 1) := by decide +kernel
theorem dX1_turnHand_41 : decode cX1_turnHand 41 = .ok (.getfield 13, 3) := by decide +kernel
theorem dX1_turnHand_44 : decode cX1_turnHand 44 = .ok (.aload_n 0, 1) := by decide +kernel
theorem dX1_turnHand_45 : decode cX1_turnHand 45 = .ok (.getfield 55, 3) := by decide +kernel
theorem dX1_turnHand_48 : decode cX1_turnHand 48 = .ok (.iconst 1, 1) := by decide +kernel
theorem dX1_turnHand_49 : decode cX1_turnHand 49 = .ok (.isub, 1) := by decide +kernel
theorem dX1_turnHand_50 : decode cX1_turnHand 50 = .ok (.iload_n 1, 1) := by decide +kernel
theorem dX1_turnHand_51 : decode cX1_turnHand 51 = .ok (.isub, 1) := by decide +kernel
theorem dX1_turnHand_52 : decode cX1_turnHand 52 = .ok (.iload_n 2, 1) := by decide +kernel
theorem dX1_turnHand_53 : decode cX1_turnHand 53 = .ok (.iastore, 1) := by decide +kernel
theorem dX1_turnHand_54 : decode cX1_turnHand 54 = .ok (.iinc 1 1, 3) := by decide +kernel
theorem dX1_turnHand_57 : decode cX1_turnHand 57 = .ok (.goto (-55), 3) := by decide +kernel
theorem dX1_turnHand_60 : decode cX1_turnHand 60 = .ok (.return_, 1) := by decide +kernel
abbrev cX1_steps : ByteArray := prog_3_method_13_code
def yX1_steps : MethodName := ⟨RX1, "steps", "(II)I"⟩
theorem dX1_steps_0 : decode cX1_steps 0 = .ok (.iload_n 1, 1) := by decide +kernel
theorem dX1_steps_1 : decode cX1_steps 1 = .ok (.iconst 1, 1) := by decide +kernel
theorem dX1_steps_2 : decode cX1_steps 2 = .ok (.if_icmp .lt 16, 3) := by decide +kernel
theorem dX1_steps_5 : decode cX1_steps 5 = .ok (.iload_n 2, 1) := by decide +kernel
theorem dX1_steps_6 : decode cX1_steps 6 = .ok (.iload_n 1, 1) := by decide +kernel
theorem dX1_steps_7 : decode cX1_steps 7 = .ok (.if_icmp .lt 11, 3) := by decide +kernel
theorem dX1_steps_10 : decode cX1_steps 10 = .ok (.iload_n 2, 1) := by decide +kernel
theorem dX1_steps_11 : decode cX1_steps 11 = .ok (.aload_n 0, 1) := by decide +kernel
theorem dX1_steps_12 : decode cX1_steps 12 = .ok (.getfield 34, 3) := by decide +kernel
theorem dX1_steps_15 : decode cX1_steps 15 = .ok (.if_icmp .le 5, 3) := by decide +kernel
theorem dX1_steps_18 : decode cX1_steps 18 = .ok (.iconst (-1), 1) := by decide +kernel
theorem dX1_steps_19 : decode cX1_steps 19 = .ok (.ireturn, 1) := by decide +kernel
theorem dX1_steps_20 : decode cX1_steps 20 = .ok (.aload_n 0, 1) := by decide +kernel
theorem dX1_steps_21 : decode cX1_steps 21 = .ok (.iconst 0, 1) := by decide +kernel
theorem dX1_steps_22 : decode cX1_steps 22 = .ok (.putfield 55, 3) := by decide +kernel
theorem dX1_steps_25 : decode cX1_steps 25 = .ok (.iconst 0, 1) := by decide +kernel
theorem dX1_steps_26 : decode cX1_steps 26 = .ok (.istore_n 3, 1) := by decide +kernel
theorem dX1_steps_27 : decode cX1_steps 27 = .ok (.iload_n 2, 1) := by decide +kernel
theorem dX1_steps_28 : decode cX1_steps 28 = .ok (.istore 4, 2) := by decide +kernel
theorem dX1_steps_30 : decode cX1_steps 30 = .ok (.iload_n 1, 1) := by decide +kernel
theorem dX1_steps_31 : decode cX1_steps 31 = .ok (.istore 5, 2) := by decide +kernel
theorem dX1_steps_33 : decode cX1_steps 33 = .ok (.iconst 1, 1) := by decide +kernel
theorem dX1_steps_34 : decode cX1_steps 34 = .ok (.istore 6, 2) := by decide +kernel
theorem dX1_steps_36 : decode cX1_steps 36 = .ok (.iconst 0, 1) := by decide +kernel
theorem dX1_steps_37 : decode cX1_steps 37 = .ok (.istore 7, 2) := by decide +kernel
theorem dX1_steps_39 : decode cX1_steps 39 = .ok (.iload 7, 2) := by decide +kernel
theorem dX1_steps_41 : decode cX1_steps 41 = .ok (.bipush 6, 2) := by decide +kernel
theorem dX1_steps_43 : decode cX1_steps 43 = .ok (.if_icmp .ge 134, 3) := by decide +kernel
theorem dX1_steps_46 : decode cX1_steps 46 = .ok (.iload 5, 2) := by decide +kernel
theorem dX1_steps_48 : decode cX1_steps 48 = .ok (.iload 4, 2) := by decide +kernel
theorem dX1_steps_50 : decode cX1_steps 50 = .ok (.if_icmp .ge 127, 3) := by decide +kernel
theorem dX1_steps_53 : decode cX1_steps 53 = .ok (.iload 4, 2) := by decide +kernel
theorem dX1_steps_55 : decode cX1_steps 55 = .ok (.invokestatic 46, 3) := by decide +kernel
theorem dX1_steps_58 : decode cX1_steps 58 = .ok (.istore 8, 2) := by decide +kernel
theorem dX1_steps_60 : decode cX1_steps 60 = .ok (.iload 5, 2) := by decide +kernel
theorem dX1_steps_62 : decode cX1_steps 62 = .ok (.iload 8, 2) := by decide +kernel
theorem dX1_steps_64 : decode cX1_steps 64 = .ok (.if_icmp .gt 19, 3) := by decide +kernel
theorem dX1_steps_67 : decode cX1_steps 67 = .ok (.aload_n 0, 1) := by decide +kernel
theorem dX1_steps_68 : decode cX1_steps 68 = .ok (.iload_n 3, 1) := by decide +kernel
theorem dX1_steps_69 : decode cX1_steps 69 = .ok (.iload 8, 2) := by decide +kernel
theorem dX1_steps_71 : decode cX1_steps 71 = .ok (.iadd, 1) := by decide +kernel
theorem dX1_steps_72 : decode cX1_steps 72 = .ok (.iload 4, 2) := by decide +kernel
theorem dX1_steps_74 : decode cX1_steps 74 = .ok (.iload 8, 2) := by decide +kernel
theorem dX1_steps_76 : decode cX1_steps 76 = .ok (.isub, 1) := by decide +kernel
theorem dX1_steps_77 : decode cX1_steps 77 = .ok (.invokevirtual 52, 3) := by decide +kernel
theorem dX1_steps_80 : decode cX1_steps 80 = .ok (.goto 10, 3) := by decide +kernel
theorem dX1_steps_83 : decode cX1_steps 83 = .ok (.aload_n 0, 1) := by decide +kernel
theorem dX1_steps_84 : decode cX1_steps 84 = .ok (.iload_n 3, 1) := by decide +kernel
theorem dX1_steps_85 : decode cX1_steps 85 = .ok (.iload 8, 2) := by decide +kernel
theorem dX1_steps_87 : decode cX1_steps 87 = .ok (.invokevirtual 52, 3) := by decide +kernel
theorem dX1_steps_90 : decode cX1_steps 90 = .ok (.istore 9, 2) := by decide +kernel
theorem dX1_steps_92 : decode cX1_steps 92 = .ok (.aload_n 0, 1) := by decide +kernel
theorem dX1_steps_93 : decode cX1_steps 93 = .ok (.iload 9, 2) := by decide +kernel
theorem dX1_steps_95 : decode cX1_steps 95 = .ok (.invokevirtual 58, 3) := by decide +kernel
theorem dX1_steps_98 : decode cX1_steps 98 = .ok (.iload 6, 2) := by decide +kernel
theorem dX1_steps_100 : decode cX1_steps 100 = .ok (.ifCond .eq 14, 3) := by decide +kernel
theorem dX1_steps_103 : decode cX1_steps 103 = .ok (.iload 5, 2) := by decide +kernel
theorem dX1_steps_105 : decode cX1_steps 105 = .ok (.iload 8, 2) := by decide +kernel
theorem dX1_steps_107 : decode cX1_steps 107 = .ok (.if_icmp .gt 7, 3) := by decide +kernel
theorem dX1_steps_110 : decode cX1_steps 110 = .ok (.iconst 1, 1) := by decide +kernel
theorem dX1_steps_111 : decode cX1_steps 111 = .ok (.goto 4, 3) := by decide +kernel
theorem dX1_steps_114 : decode cX1_steps 114 = .ok (.iconst 0, 1) := by decide +kernel
theorem dX1_steps_115 : decode cX1_steps 115 = .ok (.istore 6, 2) := by decide +kernel
theorem dX1_steps_117 : decode cX1_steps 117 = .ok (.iload 5, 2) := by decide +kernel
theorem dX1_steps_119 : decode cX1_steps 119 = .ok (.iload 8, 2) := by decide +kernel
theorem dX1_steps_121 : decode cX1_steps 121 = .ok (.if_icmp .gt 7, 3) := by decide +kernel
theorem dX1_steps_124 : decode cX1_steps 124 = .ok (.iload_n 3, 1) := by decide +kernel
theorem dX1_steps_125 : decode cX1_steps 125 = .ok (.goto 7, 3) := by decide +kernel
theorem dX1_steps_128 : decode cX1_steps 128 = .ok (.iload_n 3, 1) := by decide +kernel
theorem dX1_steps_129 : decode cX1_steps 129 = .ok (.iload 8, 2) := by decide +kernel
theorem dX1_steps_131 : decode cX1_steps 131 = .ok (.iadd, 1) := by decide +kernel
theorem dX1_steps_132 : decode cX1_steps 132 = .ok (.istore_n 3, 1) := by decide +kernel
theorem dX1_steps_133 : decode cX1_steps 133 = .ok (.iload 5, 2) := by decide +kernel
theorem dX1_steps_135 : decode cX1_steps 135 = .ok (.iload 8, 2) := by decide +kernel
theorem dX1_steps_137 : decode cX1_steps 137 = .ok (.if_icmp .gt 8, 3) := by decide +kernel
theorem dX1_steps_140 : decode cX1_steps 140 = .ok (.iload 8, 2) := by decide +kernel
theorem dX1_steps_142 : decode cX1_steps 142 = .ok (.goto 8, 3) := by decide +kernel
theorem dX1_steps_145 : decode cX1_steps 145 = .ok (.iload 4, 2) := by decide +kernel
theorem dX1_steps_147 : decode cX1_steps 147 = .ok (.iload 8, 2) := by decide +kernel
theorem dX1_steps_149 : decode cX1_steps 149 = .ok (.isub, 1) := by decide +kernel
theorem dX1_steps_150 : decode cX1_steps 150 = .ok (.istore 4, 2) := by decide +kernel
theorem dX1_steps_152 : decode cX1_steps 152 = .ok (.iload 5, 2) := by decide +kernel
theorem dX1_steps_154 : decode cX1_steps 154 = .ok (.iload 8, 2) := by decide +kernel
theorem dX1_steps_156 : decode cX1_steps 156 = .ok (.if_icmp .gt 8, 3) := by decide +kernel
theorem dX1_steps_159 : decode cX1_steps 159 = .ok (.iload 5, 2) := by decide +kernel
theorem dX1_steps_161 : decode cX1_steps 161 = .ok (.goto 8, 3) := by decide +kernel
theorem dX1_steps_164 : decode cX1_steps 164 = .ok (.iload 5, 2) := by decide +kernel
theorem dX1_steps_166 : decode cX1_steps 166 = .ok (.iload 8, 2) := by decide +kernel
theorem dX1_steps_168 : decode cX1_steps 168 = .ok (.isub, 1) := by decide +kernel
theorem dX1_steps_169 : decode cX1_steps 169 = .ok (.istore 5, 2) := by decide +kernel
theorem dX1_steps_171 : decode cX1_steps 171 = .ok (.iinc 7 1, 3) := by decide +kernel
theorem dX1_steps_174 : decode cX1_steps 174 = .ok (.goto (-135), 3) := by decide +kernel
theorem dX1_steps_177 : decode cX1_steps 177 = .ok (.iload 6, 2) := by decide +kernel
theorem dX1_steps_179 : decode cX1_steps 179 = .ok (.ifCond .ne 18, 3) := by decide +kernel
theorem dX1_steps_182 : decode cX1_steps 182 = .ok (.aload_n 0, 1) := by decide +kernel
theorem dX1_steps_183 : decode cX1_steps 183 = .ok (.iload_n 3, 1) := by decide +kernel
theorem dX1_steps_184 : decode cX1_steps 184 = .ok (.iload 4, 2) := by decide +kernel
theorem dX1_steps_186 : decode cX1_steps 186 = .ok (.invokevirtual 52, 3) := by decide +kernel
theorem dX1_steps_189 : decode cX1_steps 189 = .ok (.istore 7, 2) := by decide +kernel
theorem dX1_steps_191 : decode cX1_steps 191 = .ok (.aload_n 0, 1) := by decide +kernel
theorem dX1_steps_192 : decode cX1_steps 192 = .ok (.iload 7, 2) := by decide +kernel
theorem dX1_steps_194 : decode cX1_steps 194 = .ok (.invokevirtual 58, 3) := by decide +kernel
theorem dX1_steps_197 : decode cX1_steps 197 = .ok (.aload_n 0, 1) := by decide +kernel
theorem dX1_steps_198 : decode cX1_steps 198 = .ok (.invokevirtual 62, 3) := by decide +kernel
theorem dX1_steps_201 : decode cX1_steps 201 = .ok (.aload_n 0, 1) := by decide +kernel
theorem dX1_steps_202 : decode cX1_steps 202 = .ok (.getfield 55, 3) := by decide +kernel
theorem dX1_steps_205 : decode cX1_steps 205 = .ok (.ireturn, 1) := by decide +kernel
abbrev cX1_hand : ByteArray := prog_3_method_14_code
def yX1_hand : MethodName := ⟨RX1, "hand", "(I)I"⟩
theorem dX1_hand_0 : decode cX1_hand 0 = .ok (.iload_n 1, 1) := by decide +kernel
theorem dX1_hand_1 : decode cX1_hand 1 = .ok (.ifCond .lt 11, 3) := by decide +kernel
theorem dX1_hand_4 : decode cX1_hand 4 = .ok (.iload_n 1, 1) := by decide +kernel
theorem dX1_hand_5 : decode cX1_hand 5 = .ok (.aload_n 0, 1) := by decide +kernel
theorem dX1_hand_6 : decode cX1_hand 6 = .ok (.getfield 55, 3) := by decide +kernel
theorem dX1_hand_9 : decode cX1_hand 9 = .ok (.if_icmp .lt 7, 3) := by decide +kernel
theorem dX1_hand_12 : decode cX1_hand 12 = .ok (.iconst 0, 1) := by decide +kernel
theorem dX1_hand_13 : decode cX1_hand 13 = .ok (.goto 9, 3) := by decide +kernel
theorem dX1_hand_16 : decode cX1_hand 16 = .ok (.aload_n 0, 1) := by decide +kernel
theorem dX1_hand_17 : decode cX1_hand 17 = .ok (.getfield 13, 3) := by decide +kernel
theorem dX1_hand_20 : decode cX1_hand 20 = .ok (.iload_n 1, 1) := by decide +kernel
theorem dX1_hand_21 : decode cX1_hand 21 = .ok (.iaload, 1) := by decide +kernel
theorem dX1_hand_22 : decode cX1_hand 22 = .ok (.ireturn, 1) := by decide +kernel
abbrev cX1_held : ByteArray := prog_3_method_15_code
def yX1_held : MethodName := ⟨RX1, "held", "()I"⟩
theorem dX1_held_0 : decode cX1_held 0 = .ok (.aload_n 0, 1) := by decide +kernel
theorem dX1_held_1 : decode cX1_held 1 = .ok (.getfield 55, 3) := by decide +kernel
theorem dX1_held_4 : decode cX1_held 4 = .ok (.ireturn, 1) := by decide +kernel
end
section
set_option maxRecDepth 100000
abbrev cX1_alter : ByteArray := prog_3_method_16_code
def yX1_alter : MethodName := ⟨RX1, "alter", "(II)I"⟩
theorem dX1_alter_0 : decode cX1_alter 0 = .ok (.iload_n 1, 1) := by decide +kernel
theorem dX1_alter_1 : decode cX1_alter 1 = .ok (.ifCond .lt 11, 3) := by decide +kernel
theorem dX1_alter_4 : decode cX1_alter 4 = .ok (.iload_n 1, 1) := by decide +kernel
theorem dX1_alter_5 : decode cX1_alter 5 = .ok (.aload_n 0, 1) := by decide +kernel
theorem dX1_alter_6 : decode cX1_alter 6 = .ok (.getfield 55, 3) := by decide +kernel
theorem dX1_alter_9 : decode cX1_alter 9 = .ok (.if_icmp .lt 5, 3) := by decide +kernel
theorem dX1_alter_12 : decode cX1_alter 12 = .ok (.iconst (-1), 1) := by decide +kernel
theorem dX1_alter_13 : decode cX1_alter 13 = .ok (.ireturn, 1) := by decide +kernel
theorem dX1_alter_14 : decode cX1_alter 14 = .ok (.aload_n 0, 1) := by decide +kernel
theorem dX1_alter_15 : decode cX1_alter 15 = .ok (.getfield 13, 3) := by decide +kernel
theorem dX1_alter_18 : decode cX1_alter 18 = .ok (.iload_n 1, 1) := by decide +kernel
theorem dX1_alter_19 : decode cX1_alter 19 = .ok (.iload_n 2, 1) := by decide +kernel
theorem dX1_alter_20 : decode cX1_alter 20 = .ok (.iastore, 1) := by decide +kernel
theorem dX1_alter_21 : decode cX1_alter 21 = .ok (.iconst 0, 1) := by decide +kernel
theorem dX1_alter_22 : decode cX1_alter 22 = .ok (.ireturn, 1) := by decide +kernel
abbrev cX1_drop : ByteArray := prog_3_method_17_code
def yX1_drop : MethodName := ⟨RX1, "drop", "()V"⟩
theorem dX1_drop_0 : decode cX1_drop 0 = .ok (.aload_n 0, 1) := by decide +kernel
theorem dX1_drop_1 : decode cX1_drop 1 = .ok (.iconst 0, 1) := by decide +kernel
theorem dX1_drop_2 : decode cX1_drop 2 = .ok (.putfield 55, 3) := by decide +kernel
theorem dX1_drop_5 : decode cX1_drop 5 = .ok (.return_, 1) := by decide +kernel
abbrev cX1_take : ByteArray := prog_3_method_18_code
def yX1_take : MethodName := ⟨RX1, "take", "(I)I"⟩
theorem dX1_take_0 : decode cX1_take 0 = .ok (.aload_n 0, 1) := by decide +kernel
theorem dX1_take_1 : decode cX1_take 1 = .ok (.getfield 55, 3) := by decide +kernel
theorem dX1_take_4 : decode cX1_take 4 = .ok (.bipush 16, 2) := by decide +kernel
theorem dX1_take_6 : decode cX1_take 6 = .ok (.if_icmp .ne 5, 3) := by decide +kernel
theorem dX1_take_9 : decode cX1_take 9 = .ok (.iconst (-1), 1) := by decide +kernel
theorem dX1_take_10 : decode cX1_take 10 = .ok (.ireturn, 1) := by decide +kernel
theorem dX1_take_11 : decode cX1_take 11 = .ok (.aload_n 0, 1) := by decide +kernel
theorem dX1_take_12 : decode cX1_take 12 = .ok (.getfield 13, 3) := by decide +kernel
theorem dX1_take_15 : decode cX1_take 15 = .ok (.aload_n 0, 1) := by decide +kernel
theorem dX1_take_16 : decode cX1_take 16 = .ok (.getfield 55, 3) := by decide +kernel
theorem dX1_take_19 : decode cX1_take 19 = .ok (.iload_n 1, 1) := by decide +kernel
theorem dX1_take_20 : decode cX1_take 20 = .ok (.iastore, 1) := by decide +kernel
theorem dX1_take_21 : decode cX1_take 21 = .ok (.aload_n 0, 1) := by decide +kernel
theorem dX1_take_22 : decode cX1_take 22 = .ok (.dup, 1) := by decide +kernel
theorem dX1_take_23 : decode cX1_take 23 = .ok (.getfield 55, 3) := by decide +kernel
theorem dX1_take_26 : decode cX1_take 26 = .ok (.iconst 1, 1) := by decide +kernel
theorem dX1_take_27 : decode cX1_take 27 = .ok (.iadd, 1) := by decide +kernel
theorem dX1_take_28 : decode cX1_take 28 = .ok (.putfield 55, 3) := by decide +kernel
theorem dX1_take_31 : decode cX1_take 31 = .ok (.aload_n 0, 1) := by decide +kernel
theorem dX1_take_32 : decode cX1_take 32 = .ok (.getfield 55, 3) := by decide +kernel
theorem dX1_take_35 : decode cX1_take 35 = .ok (.ireturn, 1) := by decide +kernel
abbrev cX1_rootFrom : ByteArray := prog_3_method_21_code
def yX1_rootFrom : MethodName := ⟨RX1, "rootFrom", "(III)I"⟩
theorem dX1_rootFrom_0 : decode cX1_rootFrom 0 = .ok (.iload_n 2, 1) := by decide +kernel
theorem dX1_rootFrom_1 : decode cX1_rootFrom 1 = .ok (.iconst 1, 1) := by decide +kernel
theorem dX1_rootFrom_2 : decode cX1_rootFrom 2 = .ok (.if_icmp .lt 30, 3) := by decide +kernel
theorem dX1_rootFrom_5 : decode cX1_rootFrom 5 = .ok (.iload_n 2, 1) := by decide +kernel
theorem dX1_rootFrom_6 : decode cX1_rootFrom 6 = .ok (.bipush 40, 2) := by decide +kernel
theorem dX1_rootFrom_8 : decode cX1_rootFrom 8 = .ok (.if_icmp .gt 24, 3) := by decide +kernel
theorem dX1_rootFrom_11 : decode cX1_rootFrom 11 = .ok (.iload_n 1, 1) := by decide +kernel
theorem dX1_rootFrom_12 : decode cX1_rootFrom 12 = .ok (.ifCond .lt 20, 3) := by decide +kernel
theorem dX1_rootFrom_15 : decode cX1_rootFrom 15 = .ok (.iload_n 1, 1) := by decide +kernel
theorem dX1_rootFrom_16 : decode cX1_rootFrom 16 = .ok (.iload_n 2, 1) := by decide +kernel
theorem dX1_rootFrom_17 : decode cX1_rootFrom 17 = .ok (.if_icmp .ge 15, 3) := by decide +kernel
theorem dX1_rootFrom_20 : decode cX1_rootFrom 20 = .ok (.aload_n 0, 1) := by decide +kernel
theorem dX1_rootFrom_21 : decode cX1_rootFrom 21 = .ok (.getfield 55, 3) := by decide +kernel
theorem dX1_rootFrom_24 : decode cX1_rootFrom 24 = .ok (.iload_n 1, 1) := by decide +kernel
theorem dX1_rootFrom_25 : decode cX1_rootFrom 25 = .ok (.iload_n 2, 1) := by decide +kernel
theorem dX1_rootFrom_26 : decode cX1_rootFrom 26 = .ok (.invokestatic 65, 3) := by decide +kernel
theorem dX1_rootFrom_29 : decode cX1_rootFrom 29 = .ok (.if_icmp .eq 5, 3) := by decide +kernel
theorem dX1_rootFrom_32 : decode cX1_rootFrom 32 = .ok (.iconst 0, 1) := by decide +kernel
theorem dX1_rootFrom_33 : decode cX1_rootFrom 33 = .ok (.ireturn, 1) := by decide +kernel
theorem dX1_rootFrom_34 : decode cX1_rootFrom 34 = .ok (.iload_n 3, 1) := by decide +kernel
theorem dX1_rootFrom_35 : decode cX1_rootFrom 35 = .ok (.invokestatic 42, 3) := by decide +kernel
theorem dX1_rootFrom_38 : decode cX1_rootFrom 38 = .ok (.istore 4, 2) := by decide +kernel
theorem dX1_rootFrom_40 : decode cX1_rootFrom 40 = .ok (.iconst 0, 1) := by decide +kernel
theorem dX1_rootFrom_41 : decode cX1_rootFrom 41 = .ok (.istore 5, 2) := by decide +kernel
theorem dX1_rootFrom_43 : decode cX1_rootFrom 43 = .ok (.iload 5, 2) := by decide +kernel
theorem dX1_rootFrom_45 : decode cX1_rootFrom 45 = .ok (.aload_n 0, 1) := by decide +kernel
theorem dX1_rootFrom_46 : decode cX1_rootFrom 46 = .ok (.getfield 55, 3) := by decide +kernel
theorem dX1_rootFrom_49 : decode cX1_rootFrom 49 = .ok (.if_icmp .ge 59, 3) := by decide +kernel
theorem dX1_rootFrom_52 : decode cX1_rootFrom 52 = .ok (.iload_n 1, 1) := by decide +kernel
theorem dX1_rootFrom_53 : decode cX1_rootFrom 53 = .ok (.iload_n 2, 1) := by decide +kernel
theorem dX1_rootFrom_54 : decode cX1_rootFrom 54 = .ok (.aload_n 0, 1) := by decide +kernel
theorem dX1_rootFrom_55 : decode cX1_rootFrom 55 = .ok (.getfield 55, 3) := by decide +kernel
theorem dX1_rootFrom_58 : decode cX1_rootFrom 58 = .ok (.iconst 1, 1) := by decide +kernel
theorem dX1_rootFrom_59 : decode cX1_rootFrom 59 = .ok (.isub, 1) := by decide +kernel
theorem dX1_rootFrom_60 : decode cX1_rootFrom 60 = .ok (.iload 5, 2) := by decide +kernel
theorem dX1_rootFrom_62 : decode cX1_rootFrom 62 = .ok (.isub, 1) := by decide +kernel
theorem dX1_rootFrom_63 : decode cX1_rootFrom 63 = .ok (.invokestatic 68, 3) := by decide +kernel
theorem dX1_rootFrom_66 : decode cX1_rootFrom 66 = .ok (.istore 6, 2) := by decide +kernel
theorem dX1_rootFrom_68 : decode cX1_rootFrom 68 = .ok (.iload 6, 2) := by decide +kernel
theorem dX1_rootFrom_70 : decode cX1_rootFrom 70 = .ok (.ifCond .eq 18, 3) := by decide +kernel
theorem dX1_rootFrom_73 : decode cX1_rootFrom 73 = .ok (.iload 4, 2) := by decide +kernel
theorem dX1_rootFrom_75 : decode cX1_rootFrom 75 = .ok (.aload_n 0, 1) := by decide +kernel
theorem dX1_rootFrom_76 : decode cX1_rootFrom 76 = .ok (.getfield 13, 3) := by decide +kernel
theorem dX1_rootFrom_79 : decode cX1_rootFrom 79 = .ok (.iload 5, 2) := by decide +kernel
theorem dX1_rootFrom_81 : decode cX1_rootFrom 81 = .ok (.iaload, 1) := by decide +kernel
theorem dX1_rootFrom_82 : decode cX1_rootFrom 82 = .ok (.invokestatic 49, 3) := by decide +kernel
theorem dX1_rootFrom_85 : decode cX1_rootFrom 85 = .ok (.goto 15, 3) := by decide +kernel
theorem dX1_rootFrom_88 : decode cX1_rootFrom 88 = .ok (.aload_n 0, 1) := by decide +kernel
theorem dX1_rootFrom_89 : decode cX1_rootFrom 89 = .ok (.getfield 13, 3) := by decide +kernel
theorem dX1_rootFrom_92 : decode cX1_rootFrom 92 = .ok (.iload 5, 2) := by decide +kernel
theorem dX1_rootFrom_94 : decode cX1_rootFrom 94 = .ok (.iaload, 1) := by decide +kernel
theorem dX1_rootFrom_95 : decode cX1_rootFrom 95 = .ok (.iload 4, 2) := by decide +kernel
theorem dX1_rootFrom_97 : decode cX1_rootFrom 97 = .ok (.invokestatic 49, 3) := by decide +kernel
theorem dX1_rootFrom_100 : decode cX1_rootFrom 100 = .ok (.istore 4, 2) := by decide +kernel
theorem dX1_rootFrom_102 : decode cX1_rootFrom 102 = .ok (.iinc 5 1, 3) := by decide +kernel
theorem dX1_rootFrom_105 : decode cX1_rootFrom 105 = .ok (.goto (-62), 3) := by decide +kernel
theorem dX1_rootFrom_108 : decode cX1_rootFrom 108 = .ok (.iload 4, 2) := by decide +kernel
theorem dX1_rootFrom_110 : decode cX1_rootFrom 110 = .ok (.ireturn, 1) := by decide +kernel
abbrev cX1_depth : ByteArray := prog_3_method_19_code
def yX1_depth : MethodName := ⟨RX1, "depth", "(II)I"⟩
theorem dX1_depth_0 : decode cX1_depth 0 = .ok (.iconst 0, 1) := by decide +kernel
theorem dX1_depth_1 : decode cX1_depth 1 = .ok (.istore_n 2, 1) := by decide +kernel
theorem dX1_depth_2 : decode cX1_depth 2 = .ok (.iload_n 1, 1) := by decide +kernel
theorem dX1_depth_3 : decode cX1_depth 3 = .ok (.istore_n 3, 1) := by decide +kernel
theorem dX1_depth_4 : decode cX1_depth 4 = .ok (.iload_n 0, 1) := by decide +kernel
theorem dX1_depth_5 : decode cX1_depth 5 = .ok (.istore 4, 2) := by decide +kernel
theorem dX1_depth_7 : decode cX1_depth 7 = .ok (.iconst 0, 1) := by decide +kernel
theorem dX1_depth_8 : decode cX1_depth 8 = .ok (.istore 5, 2) := by decide +kernel
theorem dX1_depth_10 : decode cX1_depth 10 = .ok (.iload 5, 2) := by decide +kernel
theorem dX1_depth_12 : decode cX1_depth 12 = .ok (.bipush 6, 2) := by decide +kernel
theorem dX1_depth_14 : decode cX1_depth 14 = .ok (.if_icmp .ge 59, 3) := by decide +kernel
theorem dX1_depth_17 : decode cX1_depth 17 = .ok (.iload_n 3, 1) := by decide +kernel
theorem dX1_depth_18 : decode cX1_depth 18 = .ok (.iconst 1, 1) := by decide +kernel
theorem dX1_depth_19 : decode cX1_depth 19 = .ok (.if_icmp .le 54, 3) := by decide +kernel
theorem dX1_depth_22 : decode cX1_depth 22 = .ok (.iload_n 3, 1) := by decide +kernel
theorem dX1_depth_23 : decode cX1_depth 23 = .ok (.invokestatic 46, 3) := by decide +kernel
theorem dX1_depth_26 : decode cX1_depth 26 = .ok (.istore 6, 2) := by decide +kernel
theorem dX1_depth_28 : decode cX1_depth 28 = .ok (.iinc 2 1, 3) := by decide +kernel
theorem dX1_depth_31 : decode cX1_depth 31 = .ok (.iload 4, 2) := by decide +kernel
theorem dX1_depth_33 : decode cX1_depth 33 = .ok (.iload 6, 2) := by decide +kernel
theorem dX1_depth_35 : decode cX1_depth 35 = .ok (.if_icmp .ge 8, 3) := by decide +kernel
theorem dX1_depth_38 : decode cX1_depth 38 = .ok (.iload 6, 2) := by decide +kernel
theorem dX1_depth_40 : decode cX1_depth 40 = .ok (.goto 7, 3) := by decide +kernel
theorem dX1_depth_43 : decode cX1_depth 43 = .ok (.iload_n 3, 1) := by decide +kernel
theorem dX1_depth_44 : decode cX1_depth 44 = .ok (.iload 6, 2) := by decide +kernel
theorem dX1_depth_46 : decode cX1_depth 46 = .ok (.isub, 1) := by decide +kernel
theorem dX1_depth_47 : decode cX1_depth 47 = .ok (.istore_n 3, 1) := by decide +kernel
theorem dX1_depth_48 : decode cX1_depth 48 = .ok (.iload 4, 2) := by decide +kernel
theorem dX1_depth_50 : decode cX1_depth 50 = .ok (.iload 6, 2) := by decide +kernel
theorem dX1_depth_52 : decode cX1_depth 52 = .ok (.if_icmp .ge 8, 3) := by decide +kernel
theorem dX1_depth_55 : decode cX1_depth 55 = .ok (.iload 4, 2) := by decide +kernel
theorem dX1_depth_57 : decode cX1_depth 57 = .ok (.goto 8, 3) := by decide +kernel
theorem dX1_depth_60 : decode cX1_depth 60 = .ok (.iload 4, 2) := by decide +kernel
theorem dX1_depth_62 : decode cX1_depth 62 = .ok (.iload 6, 2) := by decide +kernel
theorem dX1_depth_64 : decode cX1_depth 64 = .ok (.isub, 1) := by decide +kernel
theorem dX1_depth_65 : decode cX1_depth 65 = .ok (.istore 4, 2) := by decide +kernel
theorem dX1_depth_67 : decode cX1_depth 67 = .ok (.iinc 5 1, 3) := by decide +kernel
theorem dX1_depth_70 : decode cX1_depth 70 = .ok (.goto (-60), 3) := by decide +kernel
theorem dX1_depth_73 : decode cX1_depth 73 = .ok (.iload_n 2, 1) := by decide +kernel
theorem dX1_depth_74 : decode cX1_depth 74 = .ok (.ireturn, 1) := by decide +kernel
abbrev cX1_first : ByteArray := prog_3_method_20_code
def yX1_first : MethodName := ⟨RX1, "first", "(III)Z"⟩
theorem dX1_first_0 : decode cX1_first 0 = .ok (.iload_n 1, 1) := by decide +kernel
theorem dX1_first_1 : decode cX1_first 1 = .ok (.istore_n 3, 1) := by decide +kernel
theorem dX1_first_2 : decode cX1_first 2 = .ok (.iload_n 0, 1) := by decide +kernel
theorem dX1_first_3 : decode cX1_first 3 = .ok (.istore 4, 2) := by decide +kernel
theorem dX1_first_5 : decode cX1_first 5 = .ok (.iconst 0, 1) := by decide +kernel
theorem dX1_first_6 : decode cX1_first 6 = .ok (.istore 5, 2) := by decide +kernel
theorem dX1_first_8 : decode cX1_first 8 = .ok (.iload 5, 2) := by decide +kernel
theorem dX1_first_10 : decode cX1_first 10 = .ok (.iload_n 2, 1) := by decide +kernel
theorem dX1_first_11 : decode cX1_first 11 = .ok (.if_icmp .ge 56, 3) := by decide +kernel
theorem dX1_first_14 : decode cX1_first 14 = .ok (.iload_n 3, 1) := by decide +kernel
theorem dX1_first_15 : decode cX1_first 15 = .ok (.iconst 1, 1) := by decide +kernel
theorem dX1_first_16 : decode cX1_first 16 = .ok (.if_icmp .le 51, 3) := by decide +kernel
theorem dX1_first_19 : decode cX1_first 19 = .ok (.iload_n 3, 1) := by decide +kernel
theorem dX1_first_20 : decode cX1_first 20 = .ok (.invokestatic 46, 3) := by decide +kernel
theorem dX1_first_23 : decode cX1_first 23 = .ok (.istore 6, 2) := by decide +kernel
theorem dX1_first_25 : decode cX1_first 25 = .ok (.iload 4, 2) := by decide +kernel
theorem dX1_first_27 : decode cX1_first 27 = .ok (.iload 6, 2) := by decide +kernel
theorem dX1_first_29 : decode cX1_first 29 = .ok (.if_icmp .ge 8, 3) := by decide +kernel
theorem dX1_first_32 : decode cX1_first 32 = .ok (.iload 6, 2) := by decide +kernel
theorem dX1_first_34 : decode cX1_first 34 = .ok (.goto 7, 3) := by decide +kernel
theorem dX1_first_37 : decode cX1_first 37 = .ok (.iload_n 3, 1) := by decide +kernel
theorem dX1_first_38 : decode cX1_first 38 = .ok (.iload 6, 2) := by decide +kernel
theorem dX1_first_40 : decode cX1_first 40 = .ok (.isub, 1) := by decide +kernel
theorem dX1_first_41 : decode cX1_first 41 = .ok (.istore_n 3, 1) := by decide +kernel
theorem dX1_first_42 : decode cX1_first 42 = .ok (.iload 4, 2) := by decide +kernel
theorem dX1_first_44 : decode cX1_first 44 = .ok (.iload 6, 2) := by decide +kernel
theorem dX1_first_46 : decode cX1_first 46 = .ok (.if_icmp .ge 8, 3) := by decide +kernel
theorem dX1_first_49 : decode cX1_first 49 = .ok (.iload 4, 2) := by decide +kernel
theorem dX1_first_51 : decode cX1_first 51 = .ok (.goto 8, 3) := by decide +kernel
theorem dX1_first_54 : decode cX1_first 54 = .ok (.iload 4, 2) := by decide +kernel
theorem dX1_first_56 : decode cX1_first 56 = .ok (.iload 6, 2) := by decide +kernel
theorem dX1_first_58 : decode cX1_first 58 = .ok (.isub, 1) := by decide +kernel
theorem dX1_first_59 : decode cX1_first 59 = .ok (.istore 4, 2) := by decide +kernel
theorem dX1_first_61 : decode cX1_first 61 = .ok (.iinc 5 1, 3) := by decide +kernel
theorem dX1_first_64 : decode cX1_first 64 = .ok (.goto (-56), 3) := by decide +kernel
theorem dX1_first_67 : decode cX1_first 67 = .ok (.iload_n 3, 1) := by decide +kernel
theorem dX1_first_68 : decode cX1_first 68 = .ok (.iconst 1, 1) := by decide +kernel
theorem dX1_first_69 : decode cX1_first 69 = .ok (.if_icmp .le 16, 3) := by decide +kernel
theorem dX1_first_72 : decode cX1_first 72 = .ok (.iload 4, 2) := by decide +kernel
theorem dX1_first_74 : decode cX1_first 74 = .ok (.iload_n 3, 1) := by decide +kernel
theorem dX1_first_75 : decode cX1_first 75 = .ok (.invokestatic 46, 3) := by decide +kernel
theorem dX1_first_78 : decode cX1_first 78 = .ok (.if_icmp .ge 7, 3) := by decide +kernel
theorem dX1_first_81 : decode cX1_first 81 = .ok (.iconst 1, 1) := by decide +kernel
theorem dX1_first_82 : decode cX1_first 82 = .ok (.goto 4, 3) := by decide +kernel
theorem dX1_first_85 : decode cX1_first 85 = .ok (.iconst 0, 1) := by decide +kernel
theorem dX1_first_86 : decode cX1_first 86 = .ok (.ireturn, 1) := by decide +kernel
theorem q9 : (Jvm.Cond.initialized "MerkleLogModel") ∈ lw_all := lw_g (lw_at lw_m0 2 rfl) rfl
theorem q108 : (Jvm.Cond.instantiable "MerkleLogModel" (8 : Nat)) ∈ lw_all := lw_g (lw_at lw_m0 101 rfl) rfl
theorem q110 : (Jvm.Cond.instanceMethod ({ cls := "MerkleLogModel", name := "<init>", desc := "()V" } : Jvm.MethodName)) ∈ lw_all := lw_g (lw_at lw_m0 103 rfl) rfl
theorem q111 : (Jvm.Cond.code ({ cls := "MerkleLogModel", name := "<init>", desc := "()V" } : Jvm.MethodName) prog_3_method_1_code (1 : Nat) (Option.none : Option Jvm.ClassFile.FieldType)) ∈ lw_all := lw_g (lw_at lw_m0 104 rfl) rfl
theorem q112 : (Jvm.Cond.methodLink "MerkleLogModel" (1 : Nat) ({ cls := "java/lang/Object", name := "<init>", desc := "()V" } : Jvm.MethodName)) ∈ lw_all := lw_g (lw_at lw_m0 105 rfl) rfl
theorem q113 : (Jvm.Cond.fieldLink "MerkleLogModel" (34 : Nat) "MerkleLogModel" "entries" "I") ∈ lw_all := lw_g (lw_at lw_m0 106 rfl) rfl
theorem q114 : (Jvm.Cond.fieldLink "MerkleLogModel" (7 : Nat) "MerkleLogModel" "log" "[I") ∈ lw_all := lw_g (lw_at lw_m0 107 rfl) rfl
theorem q115 : (Jvm.Cond.fieldLink "MerkleLogModel" (13 : Nat) "MerkleLogModel" "hand" "[I") ∈ lw_all := lw_g (lw_at lw_m0 108 rfl) rfl
theorem q116 : (Jvm.Cond.fieldLink "MerkleLogModel" (55 : Nat) "MerkleLogModel" "held" "I") ∈ lw_all := lw_g (lw_at lw_m0 109 rfl) rfl
theorem q117 : (Jvm.Cond.fieldLink "MerkleLogModel" (16 : Nat) "MerkleLogModel" "from" "[I") ∈ lw_all := lw_g (lw_at lw_m0 110 rfl) rfl
theorem q118 : (Jvm.Cond.fieldLink "MerkleLogModel" (19 : Nat) "MerkleLogModel" "count" "[I") ∈ lw_all := lw_g (lw_at lw_m0 111 rfl) rfl
theorem q119 : (Jvm.Cond.fieldLink "MerkleLogModel" (22 : Nat) "MerkleLogModel" "state" "[I") ∈ lw_all := lw_g (lw_at lw_m0 112 rfl) rfl
theorem q120 : (Jvm.Cond.fieldLink "MerkleLogModel" (25 : Nat) "MerkleLogModel" "value" "[I") ∈ lw_all := lw_g (lw_at lw_m0 113 rfl) rfl
theorem q121 : (Jvm.Cond.lays "MerkleLogModel" "MerkleLogModel" "entries" "I") ∈ lw_all := lw_g (lw_at lw_m0 114 rfl) rfl
theorem q122 : (Jvm.Cond.soleField "MerkleLogModel" "entries") ∈ lw_all := lw_g (lw_at lw_m0 115 rfl) rfl
theorem q123 : (Jvm.Cond.laysFinal "MerkleLogModel" "MerkleLogModel" "log" "[I") ∈ lw_all := lw_g (lw_at lw_m0 116 rfl) rfl
theorem q124 : (Jvm.Cond.soleField "MerkleLogModel" "log") ∈ lw_all := lw_g (lw_at lw_m0 117 rfl) rfl
theorem q125 : (Jvm.Cond.laysFinal "MerkleLogModel" "MerkleLogModel" "hand" "[I") ∈ lw_all := lw_g (lw_at lw_m0 118 rfl) rfl
theorem q126 : (Jvm.Cond.soleField "MerkleLogModel" "hand") ∈ lw_all := lw_g (lw_at lw_m0 119 rfl) rfl
theorem q127 : (Jvm.Cond.lays "MerkleLogModel" "MerkleLogModel" "held" "I") ∈ lw_all := lw_g (lw_at lw_m0 120 rfl) rfl
theorem q128 : (Jvm.Cond.soleField "MerkleLogModel" "held") ∈ lw_all := lw_g (lw_at lw_m0 121 rfl) rfl
theorem q129 : (Jvm.Cond.laysFinal "MerkleLogModel" "MerkleLogModel" "from" "[I") ∈ lw_all := lw_g (lw_at lw_m0 122 rfl) rfl
theorem q130 : (Jvm.Cond.soleField "MerkleLogModel" "from") ∈ lw_all := lw_g (lw_at lw_m0 123 rfl) rfl
theorem q131 : (Jvm.Cond.laysFinal "MerkleLogModel" "MerkleLogModel" "count" "[I") ∈ lw_all := lw_g (lw_at lw_m0 124 rfl) rfl
theorem q132 : (Jvm.Cond.soleField "MerkleLogModel" "count") ∈ lw_all := lw_g (lw_at lw_m0 125 rfl) rfl
theorem q133 : (Jvm.Cond.laysFinal "MerkleLogModel" "MerkleLogModel" "state" "[I") ∈ lw_all := lw_g (lw_at lw_m0 126 rfl) rfl
theorem q134 : (Jvm.Cond.soleField "MerkleLogModel" "state") ∈ lw_all := lw_g (lw_at lw_m0 127 rfl) rfl
theorem q135 : (Jvm.Cond.laysFinal "MerkleLogModel" "MerkleLogModel" "value" "[I") ∈ lw_all := lw_g (lw_at lw_m0 128 rfl) rfl
theorem q136 : (Jvm.Cond.soleField "MerkleLogModel" "value") ∈ lw_all := lw_g (lw_at lw_m0 129 rfl) rfl
theorem q137 : (Jvm.Cond.superclass "MerkleLogModel" "java/lang/Object") ∈ lw_all := lw_g (lw_at lw_m0 130 rfl) rfl
theorem q139 : (Jvm.Cond.instanceMethod ({ cls := "MerkleLogModel", name := "append", desc := "(I)I" } : Jvm.MethodName)) ∈ lw_all := lw_g (lw_at lw_m0 132 rfl) rfl
theorem q140 : (Jvm.Cond.selects "MerkleLogModel" ({ cls := "MerkleLogModel", name := "append", desc := "(I)I" } : Jvm.MethodName) ({ cls := "MerkleLogModel", name := "append", desc := "(I)I" } : Jvm.MethodName)) ∈ lw_all := lw_g (lw_at lw_m0 133 rfl) rfl
theorem q141 : (Jvm.Cond.code ({ cls := "MerkleLogModel", name := "append", desc := "(I)I" } : Jvm.MethodName) prog_3_method_6_code (2 : Nat) (Option.some Jvm.ClassFile.FieldType.int)) ∈ lw_all := lw_g (lw_at lw_m0 134 rfl) rfl
theorem q143 : (Jvm.Cond.instanceMethod ({ cls := "MerkleLogModel", name := "root", desc := "(I)I" } : Jvm.MethodName)) ∈ lw_all := lw_g (lw_at lw_m0 136 rfl) rfl
theorem q144 : (Jvm.Cond.selects "MerkleLogModel" ({ cls := "MerkleLogModel", name := "root", desc := "(I)I" } : Jvm.MethodName) ({ cls := "MerkleLogModel", name := "root", desc := "(I)I" } : Jvm.MethodName)) ∈ lw_all := lw_g (lw_at lw_m0 137 rfl) rfl
theorem q145 : (Jvm.Cond.code ({ cls := "MerkleLogModel", name := "root", desc := "(I)I" } : Jvm.MethodName) prog_3_method_9_code (2 : Nat) (Option.some Jvm.ClassFile.FieldType.int)) ∈ lw_all := lw_g (lw_at lw_m0 138 rfl) rfl
theorem q146 : (Jvm.Cond.methodLink "MerkleLogModel" (52 : Nat) ({ cls := "MerkleLogModel", name := "rootOf", desc := "(II)I" } : Jvm.MethodName)) ∈ lw_all := lw_g (lw_at lw_m0 139 rfl) rfl
theorem q147 : (Jvm.Cond.privateMethod ({ cls := "MerkleLogModel", name := "rootOf", desc := "(II)I" } : Jvm.MethodName)) ∈ lw_tbl := lw_at lw_m0 140 rfl
theorem q148 : (Jvm.Cond.instanceMethod ({ cls := "MerkleLogModel", name := "rootOf", desc := "(II)I" } : Jvm.MethodName)) ∈ lw_all := lw_g (lw_at lw_m0 141 rfl) rfl
theorem q149 : (Jvm.Cond.code ({ cls := "MerkleLogModel", name := "rootOf", desc := "(II)I" } : Jvm.MethodName) prog_3_method_8_code (7 : Nat) (Option.some Jvm.ClassFile.FieldType.int)) ∈ lw_all := lw_g (lw_at lw_m0 142 rfl) rfl
theorem q150 : (Jvm.Cond.methodLink "MerkleLogModel" (38 : Nat) ({ cls := "MerkleLogModel", name := "open", desc := "(III)V" } : Jvm.MethodName)) ∈ lw_all := lw_g (lw_at lw_m0 143 rfl) rfl
theorem q151 : (Jvm.Cond.privateMethod ({ cls := "MerkleLogModel", name := "open", desc := "(III)V" } : Jvm.MethodName)) ∈ lw_tbl := lw_at lw_m0 144 rfl
theorem q152 : (Jvm.Cond.instanceMethod ({ cls := "MerkleLogModel", name := "open", desc := "(III)V" } : Jvm.MethodName)) ∈ lw_all := lw_g (lw_at lw_m0 145 rfl) rfl
theorem q153 : (Jvm.Cond.code ({ cls := "MerkleLogModel", name := "open", desc := "(III)V" } : Jvm.MethodName) prog_3_method_7_code (4 : Nat) (Option.none : Option Jvm.ClassFile.FieldType)) ∈ lw_all := lw_g (lw_at lw_m0 146 rfl) rfl
theorem q154 : (Jvm.Cond.methodLink "MerkleLogModel" (42 : Nat) ({ cls := "MerkleLogModel", name := "leaf", desc := "(I)I" } : Jvm.MethodName)) ∈ lw_all := lw_g (lw_at lw_m0 147 rfl) rfl
theorem q155 : (Jvm.Cond.static ({ cls := "MerkleLogModel", name := "leaf", desc := "(I)I" } : Jvm.MethodName)) ∈ lw_all := lw_g (lw_at lw_m0 148 rfl) rfl
theorem q156 : (Jvm.Cond.code ({ cls := "MerkleLogModel", name := "leaf", desc := "(I)I" } : Jvm.MethodName) prog_3_method_3_code (1 : Nat) (Option.some Jvm.ClassFile.FieldType.int)) ∈ lw_all := lw_g (lw_at lw_m0 149 rfl) rfl
theorem q157 : (Jvm.Cond.methodLink "MerkleLogModel" (30 : Nat) ({ cls := "MerkleLogModel", name := "mix", desc := "(II)I" } : Jvm.MethodName)) ∈ lw_all := lw_g (lw_at lw_m0 150 rfl) rfl
theorem q158 : (Jvm.Cond.static ({ cls := "MerkleLogModel", name := "mix", desc := "(II)I" } : Jvm.MethodName)) ∈ lw_all := lw_g (lw_at lw_m0 151 rfl) rfl
theorem q159 : (Jvm.Cond.code ({ cls := "MerkleLogModel", name := "mix", desc := "(II)I" } : Jvm.MethodName) prog_3_method_2_code (3 : Nat) (Option.some Jvm.ClassFile.FieldType.int)) ∈ lw_all := lw_g (lw_at lw_m0 152 rfl) rfl
theorem q160 : (Jvm.Cond.constant "MerkleLogModel" (28 : Nat) (739982445 : Int32)) ∈ lw_all := lw_g (lw_at lw_m0 153 rfl) rfl
theorem q161 : (Jvm.Cond.constant "MerkleLogModel" (29 : Nat) (695872825 : Int32)) ∈ lw_all := lw_g (lw_at lw_m0 154 rfl) rfl
theorem q162 : (Jvm.Cond.methodLink "MerkleLogModel" (46 : Nat) ({ cls := "MerkleLogModel", name := "half", desc := "(I)I" } : Jvm.MethodName)) ∈ lw_all := lw_g (lw_at lw_m0 155 rfl) rfl
theorem q163 : (Jvm.Cond.static ({ cls := "MerkleLogModel", name := "half", desc := "(I)I" } : Jvm.MethodName)) ∈ lw_all := lw_g (lw_at lw_m0 156 rfl) rfl
theorem q164 : (Jvm.Cond.code ({ cls := "MerkleLogModel", name := "half", desc := "(I)I" } : Jvm.MethodName) prog_3_method_5_code (2 : Nat) (Option.some Jvm.ClassFile.FieldType.int)) ∈ lw_all := lw_g (lw_at lw_m0 157 rfl) rfl
theorem q165 : (Jvm.Cond.methodLink "MerkleLogModel" (49 : Nat) ({ cls := "MerkleLogModel", name := "node", desc := "(II)I" } : Jvm.MethodName)) ∈ lw_all := lw_g (lw_at lw_m0 158 rfl) rfl
theorem q166 : (Jvm.Cond.static ({ cls := "MerkleLogModel", name := "node", desc := "(II)I" } : Jvm.MethodName)) ∈ lw_all := lw_g (lw_at lw_m0 159 rfl) rfl
theorem q167 : (Jvm.Cond.code ({ cls := "MerkleLogModel", name := "node", desc := "(II)I" } : Jvm.MethodName) prog_3_method_4_code (3 : Nat) (Option.some Jvm.ClassFile.FieldType.int)) ∈ lw_all := lw_g (lw_at lw_m0 160 rfl) rfl
theorem q169 : (Jvm.Cond.instanceMethod ({ cls := "MerkleLogModel", name := "path", desc := "(II)I" } : Jvm.MethodName)) ∈ lw_all := lw_g (lw_at lw_m0 162 rfl) rfl
theorem q170 : (Jvm.Cond.selects "MerkleLogModel" ({ cls := "MerkleLogModel", name := "path", desc := "(II)I" } : Jvm.MethodName) ({ cls := "MerkleLogModel", name := "path", desc := "(II)I" } : Jvm.MethodName)) ∈ lw_all := lw_g (lw_at lw_m0 163 rfl) rfl
theorem q171 : (Jvm.Cond.code ({ cls := "MerkleLogModel", name := "path", desc := "(II)I" } : Jvm.MethodName) prog_3_method_12_code (9 : Nat) (Option.some Jvm.ClassFile.FieldType.int)) ∈ lw_all := lw_g (lw_at lw_m0 164 rfl) rfl
theorem q172 : (Jvm.Cond.methodLink "MerkleLogModel" (58 : Nat) ({ cls := "MerkleLogModel", name := "hold", desc := "(I)V" } : Jvm.MethodName)) ∈ lw_all := lw_g (lw_at lw_m0 165 rfl) rfl
theorem q173 : (Jvm.Cond.privateMethod ({ cls := "MerkleLogModel", name := "hold", desc := "(I)V" } : Jvm.MethodName)) ∈ lw_tbl := lw_at lw_m0 166 rfl
theorem q174 : (Jvm.Cond.instanceMethod ({ cls := "MerkleLogModel", name := "hold", desc := "(I)V" } : Jvm.MethodName)) ∈ lw_all := lw_g (lw_at lw_m0 167 rfl) rfl
theorem q175 : (Jvm.Cond.code ({ cls := "MerkleLogModel", name := "hold", desc := "(I)V" } : Jvm.MethodName) prog_3_method_11_code (2 : Nat) (Option.none : Option Jvm.ClassFile.FieldType)) ∈ lw_all := lw_g (lw_at lw_m0 168 rfl) rfl
theorem q176 : (Jvm.Cond.methodLink "MerkleLogModel" (62 : Nat) ({ cls := "MerkleLogModel", name := "turnHand", desc := "()V" } : Jvm.MethodName)) ∈ lw_all := lw_g (lw_at lw_m0 169 rfl) rfl
theorem q177 : (Jvm.Cond.privateMethod ({ cls := "MerkleLogModel", name := "turnHand", desc := "()V" } : Jvm.MethodName)) ∈ lw_tbl := lw_at lw_m0 170 rfl
theorem q178 : (Jvm.Cond.instanceMethod ({ cls := "MerkleLogModel", name := "turnHand", desc := "()V" } : Jvm.MethodName)) ∈ lw_all := lw_g (lw_at lw_m0 171 rfl) rfl
theorem q179 : (Jvm.Cond.code ({ cls := "MerkleLogModel", name := "turnHand", desc := "()V" } : Jvm.MethodName) prog_3_method_10_code (3 : Nat) (Option.none : Option Jvm.ClassFile.FieldType)) ∈ lw_all := lw_g (lw_at lw_m0 172 rfl) rfl
theorem q181 : (Jvm.Cond.instanceMethod ({ cls := "MerkleLogModel", name := "steps", desc := "(II)I" } : Jvm.MethodName)) ∈ lw_all := lw_g (lw_at lw_m0 174 rfl) rfl
theorem q182 : (Jvm.Cond.selects "MerkleLogModel" ({ cls := "MerkleLogModel", name := "steps", desc := "(II)I" } : Jvm.MethodName) ({ cls := "MerkleLogModel", name := "steps", desc := "(II)I" } : Jvm.MethodName)) ∈ lw_all := lw_g (lw_at lw_m0 175 rfl) rfl
theorem q183 : (Jvm.Cond.code ({ cls := "MerkleLogModel", name := "steps", desc := "(II)I" } : Jvm.MethodName) prog_3_method_13_code (10 : Nat) (Option.some Jvm.ClassFile.FieldType.int)) ∈ lw_all := lw_g (lw_at lw_m0 176 rfl) rfl
theorem q185 : (Jvm.Cond.instanceMethod ({ cls := "MerkleLogModel", name := "hand", desc := "(I)I" } : Jvm.MethodName)) ∈ lw_all := lw_g (lw_at lw_m0 178 rfl) rfl
theorem q186 : (Jvm.Cond.selects "MerkleLogModel" ({ cls := "MerkleLogModel", name := "hand", desc := "(I)I" } : Jvm.MethodName) ({ cls := "MerkleLogModel", name := "hand", desc := "(I)I" } : Jvm.MethodName)) ∈ lw_all := lw_g (lw_at lw_m0 179 rfl) rfl
theorem q187 : (Jvm.Cond.code ({ cls := "MerkleLogModel", name := "hand", desc := "(I)I" } : Jvm.MethodName) prog_3_method_14_code (2 : Nat) (Option.some Jvm.ClassFile.FieldType.int)) ∈ lw_all := lw_g (lw_at lw_m0 180 rfl) rfl
theorem q189 : (Jvm.Cond.instanceMethod ({ cls := "MerkleLogModel", name := "held", desc := "()I" } : Jvm.MethodName)) ∈ lw_all := lw_g (lw_at lw_m0 182 rfl) rfl
theorem q190 : (Jvm.Cond.selects "MerkleLogModel" ({ cls := "MerkleLogModel", name := "held", desc := "()I" } : Jvm.MethodName) ({ cls := "MerkleLogModel", name := "held", desc := "()I" } : Jvm.MethodName)) ∈ lw_all := lw_g (lw_at lw_m0 183 rfl) rfl
theorem q191 : (Jvm.Cond.code ({ cls := "MerkleLogModel", name := "held", desc := "()I" } : Jvm.MethodName) prog_3_method_15_code (1 : Nat) (Option.some Jvm.ClassFile.FieldType.int)) ∈ lw_all := lw_g (lw_at lw_m0 184 rfl) rfl
theorem q193 : (Jvm.Cond.instanceMethod ({ cls := "MerkleLogModel", name := "alter", desc := "(II)I" } : Jvm.MethodName)) ∈ lw_all := lw_g (lw_at lw_m0 186 rfl) rfl
theorem q194 : (Jvm.Cond.selects "MerkleLogModel" ({ cls := "MerkleLogModel", name := "alter", desc := "(II)I" } : Jvm.MethodName) ({ cls := "MerkleLogModel", name := "alter", desc := "(II)I" } : Jvm.MethodName)) ∈ lw_all := lw_g (lw_at lw_m0 187 rfl) rfl
theorem q195 : (Jvm.Cond.code ({ cls := "MerkleLogModel", name := "alter", desc := "(II)I" } : Jvm.MethodName) prog_3_method_16_code (3 : Nat) (Option.some Jvm.ClassFile.FieldType.int)) ∈ lw_all := lw_g (lw_at lw_m0 188 rfl) rfl
theorem q197 : (Jvm.Cond.instanceMethod ({ cls := "MerkleLogModel", name := "drop", desc := "()V" } : Jvm.MethodName)) ∈ lw_all := lw_g (lw_at lw_m0 190 rfl) rfl
theorem q198 : (Jvm.Cond.selects "MerkleLogModel" ({ cls := "MerkleLogModel", name := "drop", desc := "()V" } : Jvm.MethodName) ({ cls := "MerkleLogModel", name := "drop", desc := "()V" } : Jvm.MethodName)) ∈ lw_all := lw_g (lw_at lw_m0 191 rfl) rfl
theorem q199 : (Jvm.Cond.code ({ cls := "MerkleLogModel", name := "drop", desc := "()V" } : Jvm.MethodName) prog_3_method_17_code (1 : Nat) (Option.none : Option Jvm.ClassFile.FieldType)) ∈ lw_all := lw_g (lw_at lw_m0 192 rfl) rfl
theorem q201 : (Jvm.Cond.instanceMethod ({ cls := "MerkleLogModel", name := "take", desc := "(I)I" } : Jvm.MethodName)) ∈ lw_all := lw_g (lw_at lw_m0 194 rfl) rfl
theorem q202 : (Jvm.Cond.selects "MerkleLogModel" ({ cls := "MerkleLogModel", name := "take", desc := "(I)I" } : Jvm.MethodName) ({ cls := "MerkleLogModel", name := "take", desc := "(I)I" } : Jvm.MethodName)) ∈ lw_all := lw_g (lw_at lw_m0 195 rfl) rfl
theorem q203 : (Jvm.Cond.code ({ cls := "MerkleLogModel", name := "take", desc := "(I)I" } : Jvm.MethodName) prog_3_method_18_code (2 : Nat) (Option.some Jvm.ClassFile.FieldType.int)) ∈ lw_all := lw_g (lw_at lw_m0 196 rfl) rfl
theorem q205 : (Jvm.Cond.instanceMethod ({ cls := "MerkleLogModel", name := "rootFrom", desc := "(III)I" } : Jvm.MethodName)) ∈ lw_all := lw_g (lw_at lw_m0 198 rfl) rfl
theorem q206 : (Jvm.Cond.selects "MerkleLogModel" ({ cls := "MerkleLogModel", name := "rootFrom", desc := "(III)I" } : Jvm.MethodName) ({ cls := "MerkleLogModel", name := "rootFrom", desc := "(III)I" } : Jvm.MethodName)) ∈ lw_all := lw_g (lw_at lw_m0 199 rfl) rfl
theorem q207 : (Jvm.Cond.code ({ cls := "MerkleLogModel", name := "rootFrom", desc := "(III)I" } : Jvm.MethodName) prog_3_method_21_code (7 : Nat) (Option.some Jvm.ClassFile.FieldType.int)) ∈ lw_all := lw_g (lw_at lw_m0 200 rfl) rfl
theorem q208 : (Jvm.Cond.methodLink "MerkleLogModel" (65 : Nat) ({ cls := "MerkleLogModel", name := "depth", desc := "(II)I" } : Jvm.MethodName)) ∈ lw_all := lw_g (lw_at lw_m0 201 rfl) rfl
theorem q209 : (Jvm.Cond.static ({ cls := "MerkleLogModel", name := "depth", desc := "(II)I" } : Jvm.MethodName)) ∈ lw_all := lw_g (lw_at lw_m0 202 rfl) rfl
theorem q210 : (Jvm.Cond.code ({ cls := "MerkleLogModel", name := "depth", desc := "(II)I" } : Jvm.MethodName) prog_3_method_19_code (7 : Nat) (Option.some Jvm.ClassFile.FieldType.int)) ∈ lw_all := lw_g (lw_at lw_m0 203 rfl) rfl
theorem q211 : (Jvm.Cond.methodLink "MerkleLogModel" (68 : Nat) ({ cls := "MerkleLogModel", name := "first", desc := "(III)Z" } : Jvm.MethodName)) ∈ lw_all := lw_g (lw_at lw_m0 204 rfl) rfl
theorem q212 : (Jvm.Cond.static ({ cls := "MerkleLogModel", name := "first", desc := "(III)Z" } : Jvm.MethodName)) ∈ lw_all := lw_g (lw_at lw_m0 205 rfl) rfl
theorem q213 : (Jvm.Cond.code ({ cls := "MerkleLogModel", name := "first", desc := "(III)Z" } : Jvm.MethodName) prog_3_method_20_code (7 : Nat) (Option.some Jvm.ClassFile.FieldType.boolean)) ∈ lw_all := lw_g (lw_at lw_m0 206 rfl) rfl
theorem in_X1 : ∀ w ∈ wsX10, w ∈ lw_all := lw_in wsX10 [121, 123, 125, 127, 129, 131, 133, 135] (by decide +kernel) (by decide +kernel)
end
section
set_option maxRecDepth 100000
theorem q37 : (Jvm.Cond.arrayClass Jvm.ClassFile.FieldType.int) ∈ lw_all := lw_g (lw_at lw_m0 30 rfl) rfl
theorem q7 : (Jvm.Cond.initialized "MerkleLogLaw") ∈ lw_all := lw_g (lw_at lw_m0 0 rfl) rfl
theorem q10 : (Jvm.Cond.classLink "MerkleLogLaw" (7 : Nat) "MerkleLog") ∈ lw_all := lw_g (lw_at lw_m0 3 rfl) rfl
theorem q12 : (Jvm.Cond.methodLink "MerkleLogLaw" (9 : Nat) ({ cls := "MerkleLog", name := "<init>", desc := "()V" } : Jvm.MethodName)) ∈ lw_all := lw_g (lw_at lw_m0 5 rfl) rfl
theorem q38 : (Jvm.Cond.methodLink "MerkleLogLaw" (13 : Nat) ({ cls := "MerkleLog", name := "append", desc := "(I)I" } : Jvm.MethodName)) ∈ lw_all := lw_g (lw_at lw_m0 31 rfl) rfl
theorem q56 : (Jvm.Cond.methodLink "MerkleLogLaw" (18 : Nat) ({ cls := "MerkleLog", name := "root", desc := "(I)I" } : Jvm.MethodName)) ∈ lw_all := lw_g (lw_at lw_m0 49 rfl) rfl
theorem q64 : (Jvm.Cond.methodLink "MerkleLogLaw" (22 : Nat) ({ cls := "MerkleLog", name := "path", desc := "(II)I" } : Jvm.MethodName)) ∈ lw_all := lw_g (lw_at lw_m0 57 rfl) rfl
theorem q79 : (Jvm.Cond.methodLink "MerkleLogLaw" (27 : Nat) ({ cls := "MerkleLog", name := "steps", desc := "(II)I" } : Jvm.MethodName)) ∈ lw_all := lw_g (lw_at lw_m0 72 rfl) rfl
theorem q83 : (Jvm.Cond.methodLink "MerkleLogLaw" (31 : Nat) ({ cls := "MerkleLog", name := "hand", desc := "(I)I" } : Jvm.MethodName)) ∈ lw_all := lw_g (lw_at lw_m0 76 rfl) rfl
theorem q87 : (Jvm.Cond.methodLink "MerkleLogLaw" (35 : Nat) ({ cls := "MerkleLog", name := "held", desc := "()I" } : Jvm.MethodName)) ∈ lw_all := lw_g (lw_at lw_m0 80 rfl) rfl
theorem q91 : (Jvm.Cond.methodLink "MerkleLogLaw" (40 : Nat) ({ cls := "MerkleLog", name := "alter", desc := "(II)I" } : Jvm.MethodName)) ∈ lw_all := lw_g (lw_at lw_m0 84 rfl) rfl
theorem q95 : (Jvm.Cond.methodLink "MerkleLogLaw" (44 : Nat) ({ cls := "MerkleLog", name := "drop", desc := "()V" } : Jvm.MethodName)) ∈ lw_all := lw_g (lw_at lw_m0 88 rfl) rfl
theorem q99 : (Jvm.Cond.methodLink "MerkleLogLaw" (48 : Nat) ({ cls := "MerkleLog", name := "take", desc := "(I)I" } : Jvm.MethodName)) ∈ lw_all := lw_g (lw_at lw_m0 92 rfl) rfl
theorem q103 : (Jvm.Cond.methodLink "MerkleLogLaw" (52 : Nat) ({ cls := "MerkleLog", name := "rootFrom", desc := "(III)I" } : Jvm.MethodName)) ∈ lw_all := lw_g (lw_at lw_m0 96 rfl) rfl
theorem q107 : (Jvm.Cond.classLink "MerkleLogLaw" (10 : Nat) "MerkleLogModel") ∈ lw_all := lw_g (lw_at lw_m0 100 rfl) rfl
theorem q109 : (Jvm.Cond.methodLink "MerkleLogLaw" (12 : Nat) ({ cls := "MerkleLogModel", name := "<init>", desc := "()V" } : Jvm.MethodName)) ∈ lw_all := lw_g (lw_at lw_m0 102 rfl) rfl
theorem q138 : (Jvm.Cond.methodLink "MerkleLogLaw" (17 : Nat) ({ cls := "MerkleLogModel", name := "append", desc := "(I)I" } : Jvm.MethodName)) ∈ lw_all := lw_g (lw_at lw_m0 131 rfl) rfl
theorem q142 : (Jvm.Cond.methodLink "MerkleLogLaw" (21 : Nat) ({ cls := "MerkleLogModel", name := "root", desc := "(I)I" } : Jvm.MethodName)) ∈ lw_all := lw_g (lw_at lw_m0 135 rfl) rfl
theorem q168 : (Jvm.Cond.methodLink "MerkleLogLaw" (26 : Nat) ({ cls := "MerkleLogModel", name := "path", desc := "(II)I" } : Jvm.MethodName)) ∈ lw_all := lw_g (lw_at lw_m0 161 rfl) rfl
theorem q180 : (Jvm.Cond.methodLink "MerkleLogLaw" (30 : Nat) ({ cls := "MerkleLogModel", name := "steps", desc := "(II)I" } : Jvm.MethodName)) ∈ lw_all := lw_g (lw_at lw_m0 173 rfl) rfl
theorem q184 : (Jvm.Cond.methodLink "MerkleLogLaw" (34 : Nat) ({ cls := "MerkleLogModel", name := "hand", desc := "(I)I" } : Jvm.MethodName)) ∈ lw_all := lw_g (lw_at lw_m0 177 rfl) rfl
theorem q188 : (Jvm.Cond.methodLink "MerkleLogLaw" (39 : Nat) ({ cls := "MerkleLogModel", name := "held", desc := "()I" } : Jvm.MethodName)) ∈ lw_all := lw_g (lw_at lw_m0 181 rfl) rfl
theorem q192 : (Jvm.Cond.methodLink "MerkleLogLaw" (43 : Nat) ({ cls := "MerkleLogModel", name := "alter", desc := "(II)I" } : Jvm.MethodName)) ∈ lw_all := lw_g (lw_at lw_m0 185 rfl) rfl
theorem q196 : (Jvm.Cond.methodLink "MerkleLogLaw" (47 : Nat) ({ cls := "MerkleLogModel", name := "drop", desc := "()V" } : Jvm.MethodName)) ∈ lw_all := lw_g (lw_at lw_m0 189 rfl) rfl
theorem q200 : (Jvm.Cond.methodLink "MerkleLogLaw" (51 : Nat) ({ cls := "MerkleLogModel", name := "take", desc := "(I)I" } : Jvm.MethodName)) ∈ lw_all := lw_g (lw_at lw_m0 193 rfl) rfl
theorem q204 : (Jvm.Cond.methodLink "MerkleLogLaw" (56 : Nat) ({ cls := "MerkleLogModel", name := "rootFrom", desc := "(III)I" } : Jvm.MethodName)) ∈ lw_all := lw_g (lw_at lw_m0 197 rfl) rfl
/-! the law's own entry -/
abbrev cL_law : ByteArray := code
theorem dL_law_0 : decode cL_law 0 = .ok (.new 7, 3) := by decide +kernel
theorem dL_law_3 : decode cL_law 3 = .ok (.dup, 1) := by decide +kernel
theorem dL_law_4 : decode cL_law 4 = .ok (.invokespecial 9, 3) := by decide +kernel
theorem dL_law_7 : decode cL_law 7 = .ok (.astore_n 1, 1) := by decide +kernel
theorem dL_law_8 : decode cL_law 8 = .ok (.new 10, 3) := by decide +kernel
theorem dL_law_11 : decode cL_law 11 = .ok (.dup, 1) := by decide +kernel
theorem dL_law_12 : decode cL_law 12 = .ok (.invokespecial 12, 3) := by decide +kernel
theorem dL_law_15 : decode cL_law 15 = .ok (.astore_n 2, 1) := by decide +kernel
theorem dL_law_16 : decode cL_law 16 = .ok (.iconst 0, 1) := by decide +kernel
theorem dL_law_17 : decode cL_law 17 = .ok (.istore_n 3, 1) := by decide +kernel
theorem dL_law_18 : decode cL_law 18 = .ok (.iload_n 3, 1) := by decide +kernel
theorem dL_law_19 : decode cL_law 19 = .ok (.aload_n 0, 1) := by decide +kernel
theorem dL_law_20 : decode cL_law 20 = .ok (.arraylength, 1) := by decide +kernel
theorem dL_law_21 : decode cL_law 21 = .ok (.iconst 4, 1) := by decide +kernel
theorem dL_law_22 : decode cL_law 22 = .ok (.isub, 1) := by decide +kernel
theorem dL_law_23 : decode cL_law 23 = .ok (.if_icmp .gt 329, 3) := by decide +kernel
theorem dL_law_26 : decode cL_law 26 = .ok (.aload_n 0, 1) := by decide +kernel
theorem dL_law_27 : decode cL_law 27 = .ok (.iload_n 3, 1) := by decide +kernel
theorem dL_law_28 : decode cL_law 28 = .ok (.iaload, 1) := by decide +kernel
theorem dL_law_29 : decode cL_law 29 = .ok (.bipush 15, 2) := by decide +kernel
theorem dL_law_31 : decode cL_law 31 = .ok (.iand, 1) := by decide +kernel
theorem dL_law_32 : decode cL_law 32 = .ok (.tableswitch 314 0 9 #[56, 79, 102, 135, 168, 191, 204, 237, 248, 271], 56) := by decide +kernel
theorem dL_law_88 : decode cL_law 88 = .ok (.aload_n 1, 1) := by decide +kernel
theorem dL_law_89 : decode cL_law 89 = .ok (.aload_n 0, 1) := by decide +kernel
theorem dL_law_90 : decode cL_law 90 = .ok (.iload_n 3, 1) := by decide +kernel
theorem dL_law_91 : decode cL_law 91 = .ok (.iconst 1, 1) := by decide +kernel
theorem dL_law_92 : decode cL_law 92 = .ok (.iadd, 1) := by decide +kernel
theorem dL_law_93 : decode cL_law 93 = .ok (.iaload, 1) := by decide +kernel
theorem dL_law_94 : decode cL_law 94 = .ok (.invokevirtual 13, 3) := by decide +kernel
theorem dL_law_97 : decode cL_law 97 = .ok (.aload_n 2, 1) := by decide +kernel
theorem dL_law_98 : decode cL_law 98 = .ok (.aload_n 0, 1) := by decide +kernel
theorem dL_law_99 : decode cL_law 99 = .ok (.iload_n 3, 1) := by decide +kernel
theorem dL_law_100 : decode cL_law 100 = .ok (.iconst 1, 1) := by decide +kernel
theorem dL_law_101 : decode cL_law 101 = .ok (.iadd, 1) := by decide +kernel
theorem dL_law_102 : decode cL_law 102 = .ok (.iaload, 1) := by decide +kernel
theorem dL_law_103 : decode cL_law 103 = .ok (.invokevirtual 17, 3) := by decide +kernel
theorem dL_law_106 : decode cL_law 106 = .ok (.if_icmp .eq 240, 3) := by decide +kernel
theorem dL_law_109 : decode cL_law 109 = .ok (.iconst 0, 1) := by decide +kernel
theorem dL_law_110 : decode cL_law 110 = .ok (.ireturn, 1) := by decide +kernel
theorem dL_law_111 : decode cL_law 111 = .ok (.aload_n 1, 1) := by decide +kernel
theorem dL_law_112 : decode cL_law 112 = .ok (.aload_n 0, 1) := by decide +kernel
theorem dL_law_113 : decode cL_law 113 = .ok (.iload_n 3, 1) := by decide +kernel
theorem dL_law_114 : decode cL_law 114 = .ok (.iconst 1, 1) := by decide +kernel
theorem dL_law_115 : decode cL_law 115 = .ok (.iadd, 1) := by decide +kernel
theorem dL_law_116 : decode cL_law 116 = .ok (.iaload, 1) := by decide +kernel
theorem dL_law_117 : decode cL_law 117 = .ok (.invokevirtual 18, 3) := by decide +kernel
theorem dL_law_120 : decode cL_law 120 = .ok (.aload_n 2, 1) := by decide +kernel
theorem dL_law_121 : decode cL_law 121 = .ok (.aload_n 0, 1) := by decide +kernel
theorem dL_law_122 : decode cL_law 122 = .ok (.iload_n 3, 1) := by decide +kernel
theorem dL_law_123 : decode cL_law 123 = .ok (.iconst 1, 1) := by decide +kernel
theorem dL_law_124 : decode cL_law 124 = .ok (.iadd, 1) := by decide +kernel
theorem dL_law_125 : decode cL_law 125 = .ok (.iaload, 1) := by decide +kernel
theorem dL_law_126 : decode cL_law 126 = .ok (.invokevirtual 21, 3) := by decide +kernel
theorem dL_law_129 : decode cL_law 129 = .ok (.if_icmp .eq 217, 3) := by decide +kernel
theorem dL_law_132 : decode cL_law 132 = .ok (.iconst 0, 1) := by decide +kernel
theorem dL_law_133 : decode cL_law 133 = .ok (.ireturn, 1) := by decide +kernel
theorem dL_law_134 : decode cL_law 134 = .ok (.aload_n 1, 1) := by decide +kernel
theorem dL_law_135 : decode cL_law 135 = .ok (.aload_n 0, 1) := by decide +kernel
theorem dL_law_136 : decode cL_law 136 = .ok (.iload_n 3, 1) := by decide +kernel
theorem dL_law_137 : decode cL_law 137 = .ok (.iconst 1, 1) := by decide +kernel
theorem dL_law_138 : decode cL_law 138 = .ok (.iadd, 1) := by decide +kernel
theorem dL_law_139 : decode cL_law 139 = .ok (.iaload, 1) := by decide +kernel
theorem dL_law_140 : decode cL_law 140 = .ok (.aload_n 0, 1) := by decide +kernel
theorem dL_law_141 : decode cL_law 141 = .ok (.iload_n 3, 1) := by decide +kernel
theorem dL_law_142 : decode cL_law 142 = .ok (.iconst 2, 1) := by decide +kernel
theorem dL_law_143 : decode cL_law 143 = .ok (.iadd, 1) := by decide +kernel
theorem dL_law_144 : decode cL_law 144 = .ok (.iaload, 1) := by decide +kernel
theorem dL_law_145 : decode cL_law 145 = .ok (.invokevirtual 22, 3) := by decide +kernel
theorem dL_law_148 : decode cL_law 148 = .ok (.aload_n 2, 1) := by decide +kernel
theorem dL_law_149 : decode cL_law 149 = .ok (.aload_n 0, 1) := by decide +kernel
theorem dL_law_150 : decode cL_law 150 = .ok (.iload_n 3, 1) := by decide +kernel
theorem dL_law_151 : decode cL_law 151 = .ok (.iconst 1, 1) := by decide +kernel
theorem dL_law_152 : decode cL_law 152 = .ok (.iadd, 1) := by decide +kernel
theorem dL_law_153 : decode cL_law 153 = .ok (.iaload, 1) := by decide +kernel
theorem dL_law_154 : decode cL_law 154 = .ok (.aload_n 0, 1) := by decide +kernel
theorem dL_law_155 : decode cL_law 155 = .ok (.iload_n 3, 1) := by decide +kernel
theorem dL_law_156 : decode cL_law 156 = .ok (.iconst 2, 1) := by decide +kernel
theorem dL_law_157 : decode cL_law 157 = .ok (.iadd, 1) := by decide +kernel
theorem dL_law_158 : decode cL_law 158 = .ok (.iaload, 1) := by decide +kernel
theorem dL_law_159 : decode cL_law 159 = .ok (.invokevirtual 26, 3) := by decide +kernel
theorem dL_law_162 : decode cL_law 162 = .ok (.if_icmp .eq 184, 3) := by decide +kernel
theorem dL_law_165 : decode cL_law 165 = .ok (.iconst 0, 1) := by decide +kernel
theorem dL_law_166 : decode cL_law 166 = .ok (.ireturn, 1) := by decide +kernel
theorem dL_law_167 : decode cL_law 167 = .ok (.aload_n 1, 1) := by decide +kernel
theorem dL_law_168 : decode cL_law 168 = .ok (.aload_n 0, 1) := by decide +kernel
theorem dL_law_169 : decode cL_law 169 = .ok (.iload_n 3, 1) := by decide +kernel
theorem dL_law_170 : decode cL_law 170 = .ok (.iconst 1, 1) := by decide +kernel
theorem dL_law_171 : decode cL_law 171 = .ok (.iadd, 1) := by decide +kernel
theorem dL_law_172 : decode cL_law 172 = .ok (.iaload, 1) := by decide +kernel
theorem dL_law_173 : decode cL_law 173 = .ok (.aload_n 0, 1) := by decide +kernel
theorem dL_law_174 : decode cL_law 174 = .ok (.iload_n 3, 1) := by decide +kernel
theorem dL_law_175 : decode cL_law 175 = .ok (.iconst 2, 1) := by decide +kernel
theorem dL_law_176 : decode cL_law 176 = .ok (.iadd, 1) := by decide +kernel
theorem dL_law_177 : decode cL_law 177 = .ok (.iaload, 1) := by decide +kernel
theorem dL_law_178 : decode cL_law 178 = .ok (.invokevirtual 27, 3) := by decide +kernel
theorem dL_law_181 : decode cL_law 181 = .ok (.aload_n 2, 1) := by decide +kernel
theorem dL_law_182 : decode cL_law 182 = .ok (.aload_n 0, 1) := by decide +kernel
theorem dL_law_183 : decode cL_law 183 = .ok (.iload_n 3, 1) := by decide +kernel
theorem dL_law_184 : decode cL_law 184 = .ok (.iconst 1, 1) := by decide +kernel
theorem dL_law_185 : decode cL_law 185 = .ok (.iadd, 1) := by decide +kernel
theorem dL_law_186 : decode cL_law 186 = .ok (.iaload, 1) := by decide +kernel
theorem dL_law_187 : decode cL_law 187 = .ok (.aload_n 0, 1) := by decide +kernel
theorem dL_law_188 : decode cL_law 188 = .ok (.iload_n 3, 1) := by decide +kernel
theorem dL_law_189 : decode cL_law 189 = .ok (.iconst 2, 1) := by decide +kernel
theorem dL_law_190 : decode cL_law 190 = .ok (.iadd, 1) := by decide +kernel
theorem dL_law_191 : decode cL_law 191 = .ok (.iaload, 1) := by decide +kernel
theorem dL_law_192 : decode cL_law 192 = .ok (.invokevirtual 30, 3) := by decide +kernel
theorem dL_law_195 : decode cL_law 195 = .ok (.if_icmp .eq 151, 3) := by decide +kernel
theorem dL_law_198 : decode cL_law 198 = .ok (.iconst 0, 1) := by decide +kernel
theorem dL_law_199 : decode cL_law 199 = .ok (.ireturn, 1) := by decide +kernel
theorem dL_law_200 : decode cL_law 200 = .ok (.aload_n 1, 1) := by decide +kernel
theorem dL_law_201 : decode cL_law 201 = .ok (.aload_n 0, 1) := by decide +kernel
theorem dL_law_202 : decode cL_law 202 = .ok (.iload_n 3, 1) := by decide +kernel
theorem dL_law_203 : decode cL_law 203 = .ok (.iconst 1, 1) := by decide +kernel
theorem dL_law_204 : decode cL_law 204 = .ok (.iadd, 1) := by decide +kernel
theorem dL_law_205 : decode cL_law 205 = .ok (.iaload, 1) := by decide +kernel
theorem dL_law_206 : decode cL_law 206 = .ok (.invokevirtual 31, 3) := by decide +kernel
theorem dL_law_209 : decode cL_law 209 = .ok (.aload_n 2, 1) := by decide +kernel
theorem dL_law_210 : decode cL_law 210 = .ok (.aload_n 0, 1) := by decide +kernel
theorem dL_law_211 : decode cL_law 211 = .ok (.iload_n 3, 1) := by decide +kernel
theorem dL_law_212 : decode cL_law 212 = .ok (.iconst 1, 1) := by decide +kernel
theorem dL_law_213 : decode cL_law 213 = .ok (.iadd, 1) := by decide +kernel
theorem dL_law_214 : decode cL_law 214 = .ok (.iaload, 1) := by decide +kernel
theorem dL_law_215 : decode cL_law 215 = .ok (.invokevirtual 34, 3) := by decide +kernel
theorem dL_law_218 : decode cL_law 218 = .ok (.if_icmp .eq 128, 3) := by decide +kernel
theorem dL_law_221 : decode cL_law 221 = .ok (.iconst 0, 1) := by decide +kernel
theorem dL_law_222 : decode cL_law 222 = .ok (.ireturn, 1) := by decide +kernel
theorem dL_law_223 : decode cL_law 223 = .ok (.aload_n 1, 1) := by decide +kernel
theorem dL_law_224 : decode cL_law 224 = .ok (.invokevirtual 35, 3) := by decide +kernel
theorem dL_law_227 : decode cL_law 227 = .ok (.aload_n 2, 1) := by decide +kernel
theorem dL_law_228 : decode cL_law 228 = .ok (.invokevirtual 39, 3) := by decide +kernel
theorem dL_law_231 : decode cL_law 231 = .ok (.if_icmp .eq 115, 3) := by decide +kernel
theorem dL_law_234 : decode cL_law 234 = .ok (.iconst 0, 1) := by decide +kernel
theorem dL_law_235 : decode cL_law 235 = .ok (.ireturn, 1) := by decide +kernel
theorem dL_law_236 : decode cL_law 236 = .ok (.aload_n 1, 1) := by decide +kernel
theorem dL_law_237 : decode cL_law 237 = .ok (.aload_n 0, 1) := by decide +kernel
theorem dL_law_238 : decode cL_law 238 = .ok (.iload_n 3, 1) := by decide +kernel
theorem dL_law_239 : decode cL_law 239 = .ok (.iconst 1, 1) := by decide +kernel
theorem dL_law_240 : decode cL_law 240 = .ok (.iadd, 1) := by decide +kernel
theorem dL_law_241 : decode cL_law 241 = .ok (.iaload, 1) := by decide +kernel
theorem dL_law_242 : decode cL_law 242 = .ok (.aload_n 0, 1) := by decide +kernel
theorem dL_law_243 : decode cL_law 243 = .ok (.iload_n 3, 1) := by decide +kernel
theorem dL_law_244 : decode cL_law 244 = .ok (.iconst 2, 1) := by decide +kernel
theorem dL_law_245 : decode cL_law 245 = .ok (.iadd, 1) := by decide +kernel
theorem dL_law_246 : decode cL_law 246 = .ok (.iaload, 1) := by decide +kernel
theorem dL_law_247 : decode cL_law 247 = .ok (.invokevirtual 40, 3) := by decide +kernel
theorem dL_law_250 : decode cL_law 250 = .ok (.aload_n 2, 1) := by decide +kernel
theorem dL_law_251 : decode cL_law 251 = .ok (.aload_n 0, 1) := by decide +kernel
theorem dL_law_252 : decode cL_law 252 = .ok (.iload_n 3, 1) := by decide +kernel
theorem dL_law_253 : decode cL_law 253 = .ok (.iconst 1, 1) := by decide +kernel
theorem dL_law_254 : decode cL_law 254 = .ok (.iadd, 1) := by decide +kernel
theorem dL_law_255 : decode cL_law 255 = .ok (.iaload, 1) := by decide +kernel
theorem dL_law_256 : decode cL_law 256 = .ok (.aload_n 0, 1) := by decide +kernel
theorem dL_law_257 : decode cL_law 257 = .ok (.iload_n 3, 1) := by decide +kernel
theorem dL_law_258 : decode cL_law 258 = .ok (.iconst 2, 1) := by decide +kernel
theorem dL_law_259 : decode cL_law 259 = .ok (.iadd, 1) := by decide +kernel
theorem dL_law_260 : decode cL_law 260 = .ok (.iaload, 1) := by decide +kernel
theorem dL_law_261 : decode cL_law 261 = .ok (.invokevirtual 43, 3) := by decide +kernel
theorem dL_law_264 : decode cL_law 264 = .ok (.if_icmp .eq 82, 3) := by decide +kernel
theorem dL_law_267 : decode cL_law 267 = .ok (.iconst 0, 1) := by decide +kernel
theorem dL_law_268 : decode cL_law 268 = .ok (.ireturn, 1) := by decide +kernel
theorem dL_law_269 : decode cL_law 269 = .ok (.aload_n 1, 1) := by decide +kernel
theorem dL_law_270 : decode cL_law 270 = .ok (.invokevirtual 44, 3) := by decide +kernel
theorem dL_law_273 : decode cL_law 273 = .ok (.aload_n 2, 1) := by decide +kernel
theorem dL_law_274 : decode cL_law 274 = .ok (.invokevirtual 47, 3) := by decide +kernel
theorem dL_law_277 : decode cL_law 277 = .ok (.goto 69, 3) := by decide +kernel
theorem dL_law_280 : decode cL_law 280 = .ok (.aload_n 1, 1) := by decide +kernel
theorem dL_law_281 : decode cL_law 281 = .ok (.aload_n 0, 1) := by decide +kernel
theorem dL_law_282 : decode cL_law 282 = .ok (.iload_n 3, 1) := by decide +kernel
theorem dL_law_283 : decode cL_law 283 = .ok (.iconst 1, 1) := by decide +kernel
theorem dL_law_284 : decode cL_law 284 = .ok (.iadd, 1) := by decide +kernel
theorem dL_law_285 : decode cL_law 285 = .ok (.iaload, 1) := by decide +kernel
theorem dL_law_286 : decode cL_law 286 = .ok (.invokevirtual 48, 3) := by decide +kernel
theorem dL_law_289 : decode cL_law 289 = .ok (.aload_n 2, 1) := by decide +kernel
theorem dL_law_290 : decode cL_law 290 = .ok (.aload_n 0, 1) := by decide +kernel
theorem dL_law_291 : decode cL_law 291 = .ok (.iload_n 3, 1) := by decide +kernel
theorem dL_law_292 : decode cL_law 292 = .ok (.iconst 1, 1) := by decide +kernel
theorem dL_law_293 : decode cL_law 293 = .ok (.iadd, 1) := by decide +kernel
theorem dL_law_294 : decode cL_law 294 = .ok (.iaload, 1) := by decide +kernel
theorem dL_law_295 : decode cL_law 295 = .ok (.invokevirtual 51, 3) := by decide +kernel
theorem dL_law_298 : decode cL_law 298 = .ok (.if_icmp .eq 48, 3) := by decide +kernel
theorem dL_law_301 : decode cL_law 301 = .ok (.iconst 0, 1) := by decide +kernel
theorem dL_law_302 : decode cL_law 302 = .ok (.ireturn, 1) := by decide +kernel
theorem dL_law_303 : decode cL_law 303 = .ok (.aload_n 1, 1) := by decide +kernel
theorem dL_law_304 : decode cL_law 304 = .ok (.aload_n 0, 1) := by decide +kernel
theorem dL_law_305 : decode cL_law 305 = .ok (.iload_n 3, 1) := by decide +kernel
theorem dL_law_306 : decode cL_law 306 = .ok (.iconst 1, 1) := by decide +kernel
theorem dL_law_307 : decode cL_law 307 = .ok (.iadd, 1) := by decide +kernel
theorem dL_law_308 : decode cL_law 308 = .ok (.iaload, 1) := by decide +kernel
theorem dL_law_309 : decode cL_law 309 = .ok (.aload_n 0, 1) := by decide +kernel
theorem dL_law_310 : decode cL_law 310 = .ok (.iload_n 3, 1) := by decide +kernel
theorem dL_law_311 : decode cL_law 311 = .ok (.iconst 2, 1) := by decide +kernel
theorem dL_law_312 : decode cL_law 312 = .ok (.iadd, 1) := by decide +kernel
theorem dL_law_313 : decode cL_law 313 = .ok (.iaload, 1) := by decide +kernel
theorem dL_law_314 : decode cL_law 314 = .ok (.aload_n 0, 1) := by decide +kernel
theorem dL_law_315 : decode cL_law 315 = .ok (.iload_n 3, 1) := by decide +kernel
theorem dL_law_316 : decode cL_law 316 = .ok (.iconst 3, 1) := by decide +kernel
theorem dL_law_317 : decode cL_law 317 = .ok (.iadd, 1) := by decide +kernel
theorem dL_law_318 : decode cL_law 318 = .ok (.iaload, 1) := by decide +kernel
theorem dL_law_319 : decode cL_law 319 = .ok (.invokevirtual 52, 3) := by decide +kernel
theorem dL_law_322 : decode cL_law 322 = .ok (.aload_n 2, 1) := by decide +kernel
theorem dL_law_323 : decode cL_law 323 = .ok (.aload_n 0, 1) := by decide +kernel
theorem dL_law_324 : decode cL_law 324 = .ok (.iload_n 3, 1) := by decide +kernel
theorem dL_law_325 : decode cL_law 325 = .ok (.iconst 1, 1) := by decide +kernel
theorem dL_law_326 : decode cL_law 326 = .ok (.iadd, 1) := by decide +kernel
theorem dL_law_327 : decode cL_law 327 = .ok (.iaload, 1) := by decide +kernel
theorem dL_law_328 : decode cL_law 328 = .ok (.aload_n 0, 1) := by decide +kernel
theorem dL_law_329 : decode cL_law 329 = .ok (.iload_n 3, 1) := by decide +kernel
theorem dL_law_330 : decode cL_law 330 = .ok (.iconst 2, 1) := by decide +kernel
theorem dL_law_331 : decode cL_law 331 = .ok (.iadd, 1) := by decide +kernel
theorem dL_law_332 : decode cL_law 332 = .ok (.iaload, 1) := by decide +kernel
theorem dL_law_333 : decode cL_law 333 = .ok (.aload_n 0, 1) := by decide +kernel
theorem dL_law_334 : decode cL_law 334 = .ok (.iload_n 3, 1) := by decide +kernel
theorem dL_law_335 : decode cL_law 335 = .ok (.iconst 3, 1) := by decide +kernel
theorem dL_law_336 : decode cL_law 336 = .ok (.iadd, 1) := by decide +kernel
theorem dL_law_337 : decode cL_law 337 = .ok (.iaload, 1) := by decide +kernel
theorem dL_law_338 : decode cL_law 338 = .ok (.invokevirtual 56, 3) := by decide +kernel
theorem dL_law_341 : decode cL_law 341 = .ok (.if_icmp .eq 5, 3) := by decide +kernel
theorem dL_law_344 : decode cL_law 344 = .ok (.iconst 0, 1) := by decide +kernel
theorem dL_law_345 : decode cL_law 345 = .ok (.ireturn, 1) := by decide +kernel
theorem dL_law_346 : decode cL_law 346 = .ok (.iinc 3 4, 3) := by decide +kernel
theorem dL_law_349 : decode cL_law 349 = .ok (.goto (-331), 3) := by decide +kernel
theorem dL_law_352 : decode cL_law 352 = .ok (.iconst 1, 1) := by decide +kernel
theorem dL_law_353 : decode cL_law 353 = .ok (.ireturn, 1) := by decide +kernel
end
section
/-! THE PLAIN LAW, first part: hashing, halves, roots of ranges, what part[] holds -/
def ml_ush (x n : Int32) : Int32 := (x.toUInt32 >>> (n.toUInt32 &&& Int32.toUInt32 31)).toInt32
def ml_m1 (x k : Int32) : Int32 := (x ^^^ ml_ush x 15) * 739982445 + k
def ml_m2 (x k : Int32) : Int32 := (x ^^^ ml_ush x 12) * 695872825 + k
def ml_mix (x k : Int32) : Int32 := ml_m2 (ml_m1 x k) k ^^^ ml_ush (ml_m2 (ml_m1 x k) k) 15
def ml_leaf (x : Int32) : Int32 := ml_mix x 1
def ml_node (a b : Int32) : Int32 := ml_mix (ml_mix a 2 ^^^ b) 3
/-- the greatest power of 2 below n (n from 2 up to 64) -/
def ml_hf (n : Nat) : Nat := if n ≤ 2 then 1 else if n ≤ 4 then 2 else if n ≤ 8 then 4 else if n ≤ 16 then 8 else if n ≤ 32 then 16 else 32
def ml_fst (l : Nat) : Nat := if l = 0 then 0 else if l = 1 then 40 else if l = 2 then 60 else if l = 3 then 70 else if l = 4 then 75 else 77
def ml_fi (x : Int32) : Int32 := if x = 0 then 0 else if x = 1 then 40 else if x = 2 then 60 else if x = 3 then 70 else if x = 4 then 75 else 77
theorem ml_fi_nat : ∀ l, l < 6 → ml_fi (nI l) = nI (ml_fst l) := by decide +kernel
def ml_rt (g : Nat → Int32) : Nat → Nat → Nat → Int32
  | 0, f, _ => g f
  | d + 1, f, n => if n ≤ 1 then g f else ml_node (ml_rt g d f (ml_hf n)) (ml_rt g d (f + ml_hf n) (n - ml_hf n))
theorem rt_s (g : Nat → Int32) (d f n : Nat) : ml_rt g (d + 1) f n = if n ≤ 1 then g f else ml_node (ml_rt g d f (ml_hf n)) (ml_rt g d (f + ml_hf n) (n - ml_hf n)) := rfl
/-- the root of n entries from f on -/
def ml_r (g : Nat → Int32) (f n : Nat) : Int32 := ml_rt g 6 f n
theorem hf_lt {n : Nat} (h : 2 ≤ n) : 1 ≤ ml_hf n ∧ ml_hf n < n := by
  unfold ml_hf
  repeat' split
  all_goals omega
theorem hf_pos (n : Nat) : 1 ≤ ml_hf n := by
  unfold ml_hf
  repeat' split
  all_goals omega
theorem hf_le32 (n : Nat) : ml_hf n ≤ 32 := by
  unfold ml_hf
  repeat' split
  all_goals omega
theorem hf_half {n : Nat} (h : n ≤ 64) : n - ml_hf n ≤ ml_hf n := by
  unfold ml_hf
  repeat' split
  all_goals omega
theorem hf_pow {d n : Nat} (hd : d ≤ 5) (h2 : 2 ≤ n) (h : n ≤ 2 ^ (d + 1)) : ml_hf n ≤ 2 ^ d ∧ n - ml_hf n ≤ 2 ^ d := by
  rcases (show d = 0 ∨ d = 1 ∨ d = 2 ∨ d = 3 ∨ d = 4 ∨ d = 5 by omega) with e | e | e | e | e | e <;> subst e <;> simp only [Nat.reduceAdd, Nat.reducePow] at h ⊢ <;> unfold ml_hf <;> (repeat' split) <;> omega
theorem hf_is {i n : Nat} (hi : i ≤ 5) (h1 : i = 0 ∨ 2 ^ i < n) (h2 : n ≤ 2 * 2 ^ i) : ml_hf n = 2 ^ i := by
  rcases (show i = 0 ∨ i = 1 ∨ i = 2 ∨ i = 3 ∨ i = 4 ∨ i = 5 by omega) with e | e | e | e | e | e <;> subst e <;> simp only [Nat.reducePow, Nat.reduceMul] at h1 h2 ⊢ <;> unfold ml_hf <;> (repeat' split) <;> omega
theorem rt_fuel (g : Nat → Int32) : ∀ (d f n : Nat), d ≤ 5 → n ≤ 2 ^ d → ml_rt g (d + 1) f n = ml_rt g d f n := by
  intro d
  induction d with
  | zero =>
    intro f n _ h
    have h1 : n ≤ 1 := h
    simp [ml_rt, h1]
  | succ d ih =>
    intro f n hd h
    by_cases h1 : n ≤ 1
    · simp [ml_rt, h1]
    · obtain ⟨e1, e2⟩ := hf_pow (d := d) (by omega) (by omega) h
      rw [rt_s g (d + 1) f n, rt_s g d f n, if_neg h1, if_neg h1, ih _ _ (by omega) e1, ih _ _ (by omega) e2]
theorem rt_up (g : Nat → Int32) (f n : Nat) : ∀ (k d : Nat), d + k ≤ 6 → n ≤ 2 ^ d → ml_rt g (d + k) f n = ml_rt g d f n := by
  intro k
  induction k with
  | zero => intro d _ _; rfl
  | succ k ih =>
    intro d hd hn
    rw [show d + (k + 1) = (d + k) + 1 by omega, rt_fuel g (d + k) f n (by omega) (Nat.le_trans hn (Nat.pow_le_pow_right (by omega) (by omega)))]
    exact ih d (by omega) hn
theorem r_up {g : Nat → Int32} {f n d : Nat} (hd : d ≤ 6) (hn : n ≤ 2 ^ d) : ml_rt g d f n = ml_r g f n := by
  have := rt_up g f n (6 - d) d (by omega) hn
  rw [show d + (6 - d) = 6 by omega] at this
  exact this.symm
theorem r_1 (g : Nat → Int32) (f : Nat) {n : Nat} (h : n ≤ 1) : ml_r g f n = g f := by
  rw [ml_r, rt_s, if_pos h]
theorem r_node (g : Nat → Int32) (f : Nat) {n : Nat} (h2 : 2 ≤ n) (h : n ≤ 64) : ml_r g f n = ml_node (ml_r g f (ml_hf n)) (ml_r g (f + ml_hf n) (n - ml_hf n)) := by
  have e1 : ml_hf n ≤ 2 ^ 5 := hf_le32 n
  have e2 : n - ml_hf n ≤ 2 ^ 5 := Nat.le_trans (hf_half h) e1
  rw [← r_up (d := 5) (by omega) e1, ← r_up (d := 5) (by omega) e2, ml_r, rt_s, if_neg (by omega)]
theorem rt_congr {g g' : Nat → Int32} : ∀ (d f n : Nat), d ≤ 6 → 1 ≤ n → n ≤ 2 ^ d → (∀ i, f ≤ i → i < f + n → g i = g' i) → ml_rt g d f n = ml_rt g' d f n := by
  intro d
  induction d with
  | zero =>
    intro f n _ h0 h hg
    exact hg f (by omega) (by omega)
  | succ d ih =>
    intro f n hd h0 h hg
    by_cases h1 : n ≤ 1
    · rw [rt_s, rt_s, if_pos h1, if_pos h1]
      exact hg f (by omega) (by omega)
    · obtain ⟨e1, e2⟩ := hf_pow (d := d) (by omega) (by omega) h
      obtain ⟨e3, e4⟩ := hf_lt (n := n) (by omega)
      rw [rt_s g d f n, rt_s g' d f n, if_neg h1, if_neg h1, ih _ _ (by omega) e3 e1 (fun i h1 h2 => hg i h1 (by omega)), ih _ _ (by omega) (by omega) e2 (fun i h1 h2 => hg i (by omega) (by omega))]
theorem r_congr {g g' : Nat → Int32} {f n : Nat} (h0 : 1 ≤ n) (h : n ≤ 64) (hg : ∀ i, f ≤ i → i < f + n → g i = g' i) : ml_r g f n = ml_r g' f n := rt_congr 6 f n (Nat.le_refl 6) h0 h hg
/-- what part[] holds of the full parts of N entries -/
def ml_pI (part g : Nat → Int32) (N : Nat) : Prop := ∀ l i : Nat, l ≤ 5 → (i + 1) * 2 ^ l ≤ N → part (ml_fst l + i) = ml_r g (i * 2 ^ l) (2 ^ l)
theorem pI_0 (part g : Nat → Int32) : ml_pI part g 0 := by
  intro l i _ h
  have := Nat.two_pow_pos l
  have h2 : 1 * 2 ^ l ≤ (i + 1) * 2 ^ l := Nat.mul_le_mul_right _ (by omega)
  omega
/-- the place of a full part is in the array, and two places differ -/
theorem ml_slt {l i : Nat} (hl : l ≤ 5) (h : (i + 1) * 2 ^ l ≤ 40) : ml_fst l + i < 80 := by
  rcases (show l = 0 ∨ l = 1 ∨ l = 2 ∨ l = 3 ∨ l = 4 ∨ l = 5 by omega) with e | e | e | e | e | e <;> subst e <;> simp only [Nat.reducePow] at h <;> simp [ml_fst] <;> omega
theorem ml_sne {l i k j : Nat} (hl : l ≤ 5) (h : (i + 1) * 2 ^ l ≤ 40) (hk : k ≤ 5) (h2 : (j + 1) * 2 ^ k ≤ 40) (hne : l ≠ k) : ml_fst l + i ≠ ml_fst k + j := by
  rcases (show l = 0 ∨ l = 1 ∨ l = 2 ∨ l = 3 ∨ l = 4 ∨ l = 5 by omega) with e | e | e | e | e | e <;> subst e <;> simp only [Nat.reducePow] at h <;>
  rcases (show k = 0 ∨ k = 1 ∨ k = 2 ∨ k = 3 ∨ k = 4 ∨ k = 5 by omega) with e | e | e | e | e | e <;> subst e <;> simp only [Nat.reducePow] at h2 <;> simp [ml_fst] <;> omega
/-! append: levels up to l are those of N + 1 entries, those above of N -/
def ml_aI (part g : Nat → Int32) (N l : Nat) : Prop := (∀ k i : Nat, k ≤ l → k ≤ 5 → (i + 1) * 2 ^ k ≤ N + 1 → part (ml_fst k + i) = ml_r g (i * 2 ^ k) (2 ^ k)) ∧ ∀ k i : Nat, l < k → k ≤ 5 → (i + 1) * 2 ^ k ≤ N → part (ml_fst k + i) = ml_r g (i * 2 ^ k) (2 ^ k)
theorem two_pow_5 {k : Nat} (h : k ≤ 5) : 1 ≤ 2 ^ k ∧ 2 ^ k ≤ 32 := by
  refine ⟨Nat.two_pow_pos k, ?_⟩
  have := Nat.pow_le_pow_right (n := 2) (by omega) h
  exact this
theorem aI_0 {part g : Nat → Int32} {N : Nat} {x : Int32} (hN : N < 40) (h : ml_pI part g N) : ml_aI (upd part N x) (upd g N x) N 0 := by
  have old : ∀ k i : Nat, k ≤ 5 → (i + 1) * 2 ^ k ≤ N → ml_fst k + i ≠ N → upd part N x (ml_fst k + i) = ml_r (upd g N x) (i * 2 ^ k) (2 ^ k) := by
    intro k i hk hi hne
    obtain ⟨p1, p2⟩ := two_pow_5 hk
    rw [pk_un hne, h k i hk hi]
    refine r_congr p1 (by omega) (fun j h1 h2 => ?_)
    have e : (i + 1) * 2 ^ k = i * 2 ^ k + 2 ^ k := by rw [Nat.add_mul, Nat.one_mul]
    rw [pk_un (by omega)]
  refine ⟨fun k i h1 h2 h3 => ?_, fun k i h1 h2 h3 => ?_⟩
  · have hk : k = 0 := by omega
    subst hk
    have h3 : i + 1 ≤ N + 1 := by simpa using h3
    have e0 : ml_fst 0 + i = i := by simp [ml_fst]
    have e1 : i * 2 ^ 0 = i := by simp
    by_cases hi : i = N
    · subst hi
      rw [e0, e1, pk_us, r_1 _ _ (by decide), pk_us]
    · have := old 0 i (by omega) (by simpa using (by omega : i + 1 ≤ N)) (by rw [e0]; exact hi)
      exact this
  · refine old k i h2 h3 ?_
    have h4 := ml_sne (l := k) (i := i) (k := 0) (j := N) h2 (by omega) (by omega) (by simp only [Nat.pow_zero, Nat.mul_one]; omega) (by omega)
    have e0 : ml_fst 0 + N = N := by simp [ml_fst]
    rw [e0] at h4
    exact h4
theorem aI_step {part g : Nat → Int32} {N l j : Nat} (hN : N < 40) (hl : l < 5) (hj : (2 * j) * 2 ^ l = N + 1) (h : ml_aI part g N l) :
    ml_aI (upd part (ml_fst (l + 1) + j - 1) (ml_node (part (ml_fst l + 2 * j - 2)) (part (ml_fst l + 2 * j - 1)))) g N (l + 1) := by
  have hp : 2 ^ (l + 1) = 2 * 2 ^ l := by rw [Nat.pow_succ]; omega
  obtain ⟨p1, p2⟩ := two_pow_5 (k := l + 1) (by omega)
  obtain ⟨p3, p4⟩ := two_pow_5 (k := l) (by omega)
  have hj1 : 1 ≤ j := by
    rcases Nat.eq_zero_or_pos j with e | e
    · subst e; simp at hj
    · exact e
  obtain ⟨i, rfl⟩ : ∃ i, j = i + 1 := ⟨j - 1, by omega⟩
  have hw : (i + 1) * 2 ^ (l + 1) = N + 1 := by rw [hp, ← hj, Nat.mul_comm 2 (i + 1), Nat.mul_assoc]
  have eA : ml_fst l + 2 * (i + 1) - 2 = ml_fst l + 2 * i := by omega
  have eB : ml_fst l + 2 * (i + 1) - 1 = ml_fst l + (2 * i + 1) := by omega
  have eC : ml_fst (l + 1) + (i + 1) - 1 = ml_fst (l + 1) + i := by omega
  rw [eA, eB, eC]
  have m1 : (2 * i + 1) * 2 ^ l = 2 * i * 2 ^ l + 2 ^ l := by rw [Nat.add_mul, Nat.one_mul]
  have m2 : (2 * i + 1 + 1) * 2 ^ l = N + 1 := by rw [← hj]; rfl
  have m3 : (2 * i + 1 + 1) * 2 ^ l = (2 * i + 1) * 2 ^ l + 2 ^ l := by rw [Nat.add_mul (2 * i + 1), Nat.one_mul]
  have m4 : i * 2 ^ (l + 1) = 2 * i * 2 ^ l := by rw [hp, ← Nat.mul_assoc, Nat.mul_comm i 2]
  have hA := h.1 l (2 * i) (by omega) (by omega) (by omega)
  have hB := h.1 l (2 * i + 1) (by omega) (by omega) (by omega)
  have hval : ml_node (part (ml_fst l + 2 * i)) (part (ml_fst l + (2 * i + 1))) = ml_r g (i * 2 ^ (l + 1)) (2 ^ (l + 1)) := by
    have hhf : ml_hf (2 ^ (l + 1)) = 2 ^ l := hf_is (by omega) (Or.inr (by omega)) (by omega)
    rw [r_node g (i * 2 ^ (l + 1)) (n := 2 ^ (l + 1)) (by omega) (by omega), hhf, hA, hB, m4, m1, show 2 ^ (l + 1) - 2 ^ l = 2 ^ l by omega]
  rw [hval]
  have own : (i + 1) * 2 ^ (l + 1) ≤ 40 := by omega
  refine ⟨fun k q h1 h2 h3 => ?_, fun k q h1 h2 h3 => ?_⟩
  · by_cases hk : k = l + 1
    · subst hk
      by_cases hq : q = i
      · subst hq
        rw [pk_us]
      · have hlt : (q + 1) * 2 ^ (l + 1) < (i + 1) * 2 ^ (l + 1) := by
          refine Nat.mul_lt_mul_of_pos_right ?_ (by omega)
          have : (q + 1) * 2 ^ (l + 1) ≤ (i + 1) * 2 ^ (l + 1) := by omega
          have := Nat.le_of_mul_le_mul_right this (by omega : 0 < 2 ^ (l + 1))
          omega
        rw [pk_un (by omega)]
        exact h.2 (l + 1) q (by omega) h2 (by omega)
    · rw [pk_un (ml_sne h2 (by omega) (by omega) own hk)]
      exact h.1 k q (by omega) h2 h3
  · rw [pk_un (ml_sne h2 (by omega) (by omega) own (by omega))]
    exact h.2 k q (by omega) h2 h3
theorem aI_end {part g : Nat → Int32} {N l j : Nat} (hl : l ≤ 5) (hj : j * 2 ^ l = N + 1) (he : l = 5 ∨ j % 2 = 1) (h : ml_aI part g N l) : ml_pI part g (N + 1) := by
  intro k i hk hi
  by_cases hkl : k ≤ l
  · exact h.1 k i hkl hk hi
  · refine h.2 k i (by omega) hk ?_
    rcases he with e | e
    · omega
    · rcases Nat.lt_or_ge N ((i + 1) * 2 ^ k) with q | q
      · exfalso
        have e2 : (i + 1) * 2 ^ k = j * 2 ^ l := by omega
        have e3 : 2 ^ k = 2 * 2 ^ (k - l - 1) * 2 ^ l := by
          rw [Nat.mul_assoc, ← Nat.pow_add, Nat.mul_comm, ← Nat.pow_succ]
          congr 1
          omega
        rw [e3, ← Nat.mul_assoc] at e2
        have e4 := Nat.eq_of_mul_eq_mul_right (Nat.two_pow_pos l) e2
        have e5 : (i + 1) * (2 * 2 ^ (k - l - 1)) = 2 * ((i + 1) * 2 ^ (k - l - 1)) := by rw [← Nat.mul_assoc, Nat.mul_comm (i + 1) 2, Nat.mul_assoc]
        omega
      · exact q
end
section
/-! THE PLAIN LAW, second part: the root of a range out of full parts; rows of path and steps; sides; the hand; the operations -/
theorem ml_bit : ∀ n, n < 41 → ∀ l, l < 6 → ((nI n &&& nI (2 ^ l) = 0) ↔ n / 2 ^ l % 2 = 0) := by decide +kernel
theorem ml_shl : ∀ l, l < 6 → (1 : Int32) <<< (nI l &&& 31) = nI (2 ^ l) := by decide +kernel
theorem ml_shr : ∀ x, x < 41 → ∀ l, l < 6 → nI x >>> (nI l &&& 31) = nI (x / 2 ^ l) := by decide +kernel
theorem ml_shr1 : ∀ x, x < 41 → nI x >>> ((1 : Int32) &&& 31) = nI (x / 2) := by decide +kernel
theorem ml_and1 : ∀ x, x < 41 → nI x &&& 1 = nI (x % 2) := by decide +kernel
theorem ml_div2 : ∀ x, x < 41 → nI x / 2 = nI (x / 2) := by decide +kernel
/-- a begins a part that n entries fit in, of a size up to 2^e -/
def ml_al (e a n : Nat) : Prop := ∃ j, j ≤ e ∧ a % 2 ^ j = 0 ∧ n ≤ 2 ^ j
theorem al_0 {n : Nat} (h : n ≤ 64) : ml_al 6 0 n := ⟨6, Nat.le_refl 6, rfl, h⟩
theorem al_le {e e' a n : Nat} (h : ml_al e a n) (he : e ≤ e') : ml_al e' a n := by
  obtain ⟨j, h1, h2, h3⟩ := h
  exact ⟨j, by omega, h2, h3⟩
theorem al_one {a n : Nat} (h : ml_al 0 a n) : n ≤ 1 := by
  obtain ⟨j, h1, h2, h3⟩ := h
  have : j = 0 := by omega
  subst this
  exact h3
theorem al_step {e a n : Nat} (he : e ≤ 5) (h : ml_al (e + 1) a n) (hn : 2 ≤ n) : ml_al e a (ml_hf n) ∧ ml_al e (a + ml_hf n) (n - ml_hf n) := by
  obtain ⟨j, h1, h2, h3⟩ := h
  have key : ∃ i, i + 1 ≤ j ∧ ml_hf n = 2 ^ i ∧ n ≤ 2 * 2 ^ i := by
    rcases (show j = 0 ∨ j = 1 ∨ j = 2 ∨ j = 3 ∨ j = 4 ∨ j = 5 ∨ j = 6 by omega) with q | q | q | q | q | q | q <;> subst q <;> simp only [Nat.reducePow] at h3
    · omega
    all_goals
      unfold ml_hf
      repeat' split
      all_goals first
        | omega
        | exact ⟨0, by omega, rfl, by omega⟩
        | exact ⟨1, by omega, rfl, by omega⟩
        | exact ⟨2, by omega, rfl, by omega⟩
        | exact ⟨3, by omega, rfl, by omega⟩
        | exact ⟨4, by omega, rfl, by omega⟩
        | exact ⟨5, by omega, rfl, by omega⟩
  obtain ⟨i, k1, k2, k3⟩ := key
  have hdiv : a % 2 ^ i = 0 := by
    have d1 : 2 ^ i ∣ 2 ^ j := Nat.pow_dvd_pow 2 (by omega)
    exact Nat.mod_eq_zero_of_dvd (Nat.dvd_trans d1 (Nat.dvd_of_mod_eq_zero h2))
  refine ⟨⟨i, by omega, hdiv, by omega⟩, ⟨i, by omega, ?_, by omega⟩⟩
  rw [k2, Nat.add_mod_right]
  exact hdiv
theorem al_mod {e a n l : Nat} (h : ml_al e a n) (hl : 2 ^ l ≤ n) : a % 2 ^ l = 0 := by
  obtain ⟨j, h1, h2, h3⟩ := h
  have : l ≤ j := (Nat.pow_le_pow_iff_right (by omega)).mp (Nat.le_trans hl h3)
  exact Nat.mod_eq_zero_of_dvd (Nat.dvd_trans (Nat.pow_dvd_pow 2 this) (Nat.dvd_of_mod_eq_zero h2))
/-! rangeRoot: what stands behind the levels below l -/
def ml_rI (g : Nat → Int32) (b n l : Nat) : Int32 := if n % 2 ^ l = 0 then 0 else ml_r g (b - n % 2 ^ l) (n % 2 ^ l)
def ml_rS (n l : Nat) : Int32 := if n % 2 ^ l = 0 then 0 else 1
theorem rr_no {n l : Nat} (h : n / 2 ^ l % 2 = 0) : n % 2 ^ (l + 1) = n % 2 ^ l := by
  rw [Nat.mod_pow_succ, h, Nat.mul_zero, Nat.add_zero]
theorem rr_yes {n l : Nat} (h : ¬ n / 2 ^ l % 2 = 0) : n % 2 ^ (l + 1) = n % 2 ^ l + 2 ^ l := by
  rw [Nat.mod_pow_succ, show n / 2 ^ l % 2 = 1 by omega, Nat.mul_one]
theorem rr_ok {part g : Nat → Int32} {N a b l : Nat} (hI : ml_pI part g N) (hab : a ≤ b) (hb : b ≤ N) (hN : N ≤ 40) (hl : l ≤ 5) (hal : ml_al 6 a (b - a)) (h : ¬ (b - a) / 2 ^ l % 2 = 0) :
    2 ^ l ≤ b - (b - a) % 2 ^ l ∧ b - (b - a) % 2 ^ l - 2 ^ l = b - (b - a) % 2 ^ (l + 1) ∧ ml_fst l + (b - (b - a) % 2 ^ l - 2 ^ l) / 2 ^ l < 80 ∧
    part (ml_fst l + (b - (b - a) % 2 ^ l - 2 ^ l) / 2 ^ l) = ml_r g (b - (b - a) % 2 ^ (l + 1)) (2 ^ l) := by
  have hy := rr_yes h
  have hle : (b - a) % 2 ^ (l + 1) ≤ b - a := Nat.mod_le _ _
  obtain ⟨p1, p2⟩ := two_pow_5 hl
  have hmod := al_mod (l := l) hal (by omega)
  have hstart : (b - (b - a) % 2 ^ (l + 1)) % 2 ^ l = 0 := by
    have e1 : b - (b - a) % 2 ^ (l + 1) = a + 2 ^ (l + 1) * ((b - a) / 2 ^ (l + 1)) := by
      have := Nat.div_add_mod (b - a) (2 ^ (l + 1))
      omega
    rw [e1, Nat.pow_succ, Nat.mul_assoc, Nat.add_mul_mod_self_left]
    exact hmod
  have e2 : b - (b - a) % 2 ^ l - 2 ^ l = b - (b - a) % 2 ^ (l + 1) := by omega
  have e3 : (b - (b - a) % 2 ^ (l + 1)) / 2 ^ l * 2 ^ l = b - (b - a) % 2 ^ (l + 1) := by
    have := Nat.div_add_mod (b - (b - a) % 2 ^ (l + 1)) (2 ^ l)
    rw [hstart, Nat.add_zero, Nat.mul_comm] at this
    exact this
  have e4 : ((b - (b - a) % 2 ^ (l + 1)) / 2 ^ l + 1) * 2 ^ l ≤ N := by rw [Nat.add_mul, e3]; omega
  refine ⟨by omega, e2, ?_, ?_⟩
  · rw [e2]
    exact ml_slt hl (by omega)
  · rw [e2, hI l _ hl e4, e3]
theorem rr_join {g : Nat → Int32} {b n l : Nat} (hn : n ≤ 40) (hnb : n ≤ b) (hl : l ≤ 5) (h : ¬ n / 2 ^ l % 2 = 0) (h0 : ¬ n % 2 ^ l = 0) :
    ml_node (ml_r g (b - n % 2 ^ (l + 1)) (2 ^ l)) (ml_rI g b n l) = ml_rI g b n (l + 1) := by
  have hy := rr_yes h
  have hle : n % 2 ^ (l + 1) ≤ n := Nat.mod_le _ _
  have hlt : n % 2 ^ l < 2 ^ l := Nat.mod_lt _ (Nat.two_pow_pos l)
  obtain ⟨p1, p2⟩ := two_pow_5 hl
  have hhf : ml_hf (n % 2 ^ (l + 1)) = 2 ^ l := hf_is hl (Or.inr (by omega)) (by omega)
  unfold ml_rI
  rw [if_neg h0, if_neg (by omega), r_node g (b - n % 2 ^ (l + 1)) (n := n % 2 ^ (l + 1)) (by omega) (by omega), hhf, show b - n % 2 ^ (l + 1) + 2 ^ l = b - n % 2 ^ l by omega, show n % 2 ^ (l + 1) - 2 ^ l = n % 2 ^ l by omega]
theorem rr_first {g : Nat → Int32} {b n l : Nat} (h : ¬ n / 2 ^ l % 2 = 0) (h0 : n % 2 ^ l = 0) : ml_r g (b - n % 2 ^ (l + 1)) (2 ^ l) = ml_rI g b n (l + 1) := by
  have hy := rr_yes h
  have := Nat.two_pow_pos l
  unfold ml_rI
  rw [if_neg (by omega), hy, h0, Nat.zero_add]
theorem rr_skip {g : Nat → Int32} {b n l : Nat} (h : n / 2 ^ l % 2 = 0) : ml_rI g b n (l + 1) = ml_rI g b n l ∧ ml_rS n (l + 1) = ml_rS n l := by
  unfold ml_rI ml_rS
  rw [rr_no h]
  exact ⟨rfl, rfl⟩
theorem rr_end {g : Nat → Int32} {a b : Nat} (h1 : a < b) (h2 : b ≤ 40) : ml_rI g b (b - a) 6 = ml_r g a (b - a) := by
  unfold ml_rI
  have e : (b - a) % 2 ^ 6 = b - a := Nat.mod_eq_of_lt (by omega)
  rw [e, if_neg (by omega), show b - (b - a) = a by omega]
/-! rows from the top down -/
def ml_pth (g : Nat → Int32) : Nat → Nat → Nat → Nat → List Int32
  | 0, _, _, _ => []
  | d + 1, f, n, m => if n ≤ 1 then [] else if m < ml_hf n then ml_r g (f + ml_hf n) (n - ml_hf n) :: ml_pth g d f (ml_hf n) m else ml_r g f (ml_hf n) :: ml_pth g d (f + ml_hf n) (n - ml_hf n) (m - ml_hf n)
def ml_stp (g : Nat → Int32) : Nat → Nat → Nat → Nat → List Int32
  | 0, f, n, _ => if 0 < f then [ml_r g f n] else []
  | d + 1, f, n, m => if n ≤ m then (if 0 < f then [ml_r g f n] else []) else if m ≤ ml_hf n then ml_r g (f + ml_hf n) (n - ml_hf n) :: ml_stp g d f (ml_hf n) m else ml_r g f (ml_hf n) :: ml_stp g d (f + ml_hf n) (n - ml_hf n) (m - ml_hf n)
theorem pth_len (g : Nat → Int32) : ∀ d f n m, (ml_pth g d f n m).length ≤ d := by
  intro d
  induction d with
  | zero => intro f n m; simp [ml_pth]
  | succ d ih =>
    intro f n m
    rw [ml_pth]
    split
    · simp
    · split <;> simp only [List.length_cons] <;> exact Nat.succ_le_succ (ih _ _ _)
theorem stp_len (g : Nat → Int32) : ∀ d f n m, (ml_stp g d f n m).length ≤ d + 1 := by
  intro d
  induction d with
  | zero => intro f n m; rw [ml_stp]; split <;> simp
  | succ d ih =>
    intro f n m
    rw [ml_stp]
    split
    · split <;> simp
    · split <;> simp only [List.length_cons] <;> exact Nat.succ_le_succ (ih _ _ _)
/-! sides: true where the entry lies in the first part -/
def ml_td : Nat → Nat → Nat → List Bool
  | 0, _, _ => []
  | d + 1, n, m => if n ≤ 1 then [] else if m < ml_hf n then true :: ml_td d (ml_hf n) m else false :: ml_td d (n - ml_hf n) (m - ml_hf n)
def ml_st : Nat → Nat → Nat → Nat × Nat
  | 0, x, y => (x, y)
  | d + 1, x, y => if x % 2 = 1 then (x, y) else ml_st d (x / 2) (y / 2)
def ml_xd : Nat → Nat → Nat → List Bool
  | 0, _, _ => []
  | d + 1, x, y => if y = 0 then [] else if x % 2 = 1 ∨ x = y then false :: ml_xd d ((ml_st 6 x y).1 / 2) ((ml_st 6 x y).2 / 2) else true :: ml_xd d (x / 2) (y / 2)
theorem ml_dir : ∀ n, n < 41 → ∀ m, m < n → ml_xd 6 m (n - 1) = (ml_td 6 n m).reverse := by decide +kernel
theorem td_len : ∀ d n m, (ml_td d n m).length ≤ d := by
  intro d
  induction d with
  | zero => intro n m; simp [ml_td]
  | succ d ih =>
    intro n m
    rw [ml_td]
    split
    · simp
    · split <;> simp only [List.length_cons] <;> exact Nat.succ_le_succ (ih _ _)
def ml_fo (h : Nat → Int32) : List Bool → Nat → Int32 → Int32
  | [], _, r => r
  | b :: ds, k, r => ml_fo h ds (k + 1) (if b = true then ml_node r (h k) else ml_node (h k) r)
theorem fo_congr {h h' : Nat → Int32} : ∀ (ds : List Bool) (k : Nat) (r : Int32), (∀ i, k ≤ i → i < k + ds.length → h i = h' i) → ml_fo h ds k r = ml_fo h' ds k r := by
  intro ds
  induction ds with
  | nil => intro k r _; rfl
  | cons b ds ih =>
    intro k r hh
    rw [ml_fo, ml_fo, hh k (by omega) (by simp), ih _ _ (fun i h1 h2 => hh i (by omega) (by simp only [List.length_cons]; omega))]
/-! the hand: an array's first places hold a list -/
def ml_ho (f : Nat → Int32) (L : List Int32) : Prop := ∀ k, k < L.length → f k = L.getD k 0
theorem ho_nil (f : Nat → Int32) : ml_ho f [] := fun k h => absurd h (Nat.not_lt_zero k)
theorem ho_push {f : Nat → Int32} {L : List Int32} {v : Int32} (h : ml_ho f L) : ml_ho (upd f L.length v) (L ++ [v]) := by
  intro k hk
  rw [List.length_append, List.length_singleton] at hk
  by_cases e : k = L.length
  · subst e
    rw [pk_us]
    simp
  · rw [pk_un e, h k (by omega), List.getD_eq_getElem?_getD, List.getD_eq_getElem?_getD, List.getElem?_append_left (by omega)]
theorem ho_set {f : Nat → Int32} {L : List Int32} {v : Int32} {i : Nat} (h : ml_ho f L) : ml_ho (upd f i v) (L.set i v) := by
  intro k hk
  rw [List.length_set] at hk
  by_cases e : k = i
  · subst e
    rw [pk_us, List.getD_eq_getElem?_getD, List.getElem?_set_self hk]
    rfl
  · rw [pk_un e, h k hk, List.getD_eq_getElem?_getD, List.getD_eq_getElem?_getD, List.getElem?_set_ne (fun q => e q.symm)]
theorem ho_rev {f f' : Nat → Int32} {L : List Int32} (h : ml_ho f L) (hr : ∀ j, j < L.length → f' j = f (L.length - 1 - j)) : ml_ho f' L.reverse := by
  intro k hk
  rw [List.length_reverse] at hk
  rw [hr k hk, h _ (by omega), List.getD_eq_getElem?_getD, List.getD_eq_getElem?_getD, List.getElem?_reverse hk]
/-! the abstract state: entries, log, hand; and the operations on it -/
abbrev ml_S : Type := Nat × (Nat → Int32) × List Int32
def ml_g (lg : Nat → Int32) : Nat → Int32 := fun i => ml_leaf (lg i)
theorem g_upd (lg : Nat → Int32) (N : Nat) (x : Int32) : ml_g (upd lg N x) = upd (ml_g lg) N (ml_leaf x) := by
  funext i
  unfold ml_g upd
  by_cases h : i = N <;> simp [h]
def op_append (st : ml_S) (x : Int32) : Int32 × ml_S := if st.1 = 40 then (-1, st) else (nI (st.1 + 1), (st.1 + 1, upd st.2.1 st.1 x, st.2.2))
def op_root (st : ml_S) (n : Int32) : Int32 := if n < 1 ∨ nI st.1 < n then 0 else ml_r (ml_g st.2.1) 0 n.toNatClampNeg
def op_path (st : ml_S) (e n : Int32) : Int32 × ml_S := if n < 1 ∨ nI st.1 < n ∨ e < 0 ∨ n ≤ e then (-1, st) else
  (nI (ml_pth (ml_g st.2.1) 6 0 n.toNatClampNeg e.toNatClampNeg).length, (st.1, st.2.1, (ml_pth (ml_g st.2.1) 6 0 n.toNatClampNeg e.toNatClampNeg).reverse))
def op_steps (st : ml_S) (a b : Int32) : Int32 × ml_S := if a < 1 ∨ b < a ∨ nI st.1 < b then (-1, st) else
  (nI (ml_stp (ml_g st.2.1) 6 0 b.toNatClampNeg a.toNatClampNeg).length, (st.1, st.2.1, (ml_stp (ml_g st.2.1) 6 0 b.toNatClampNeg a.toNatClampNeg).reverse))
def op_hand (st : ml_S) (p : Int32) : Int32 := if p < 0 ∨ nI st.2.2.length ≤ p then 0 else st.2.2.getD p.toNatClampNeg 0
def op_held (st : ml_S) : Int32 := nI st.2.2.length
def op_alter (st : ml_S) (p v : Int32) : Int32 × ml_S := if p < 0 ∨ nI st.2.2.length ≤ p then (-1, st) else (0, (st.1, st.2.1, st.2.2.set p.toNatClampNeg v))
def op_drop (st : ml_S) : ml_S := (st.1, st.2.1, [])
def op_take (st : ml_S) (v : Int32) : Int32 × ml_S := if st.2.2.length = 16 then (-1, st) else (nI (st.2.2.length + 1), (st.1, st.2.1, st.2.2 ++ [v]))
def op_rootFrom (st : ml_S) (e n v : Int32) : Int32 := if n < 1 ∨ 40 < n ∨ e < 0 ∨ n ≤ e then 0 else
  if st.2.2.length = (ml_td 6 n.toNatClampNeg e.toNatClampNeg).length then ml_fo (fun k => st.2.2.getD k 0) (ml_td 6 n.toNatClampNeg e.toNatClampNeg).reverse 0 (ml_leaf v) else 0
/-! ints that are small numbers -/
theorem nat_of {n : Int32} {N : Nat} (hN : N < 2 ^ 31) (h1 : ¬ n < 1) (h2 : ¬ nI N < n) : ∃ k : Nat, n = nI k ∧ 1 ≤ k ∧ k ≤ N := by
  obtain ⟨k, hk, e⟩ := nI_of (x := n) (fun h => h1 (by
    rw [Int32.lt_iff_toInt_lt] at h ⊢
    have : (0 : Int32).toInt = 0 := rfl
    have : (1 : Int32).toInt = 1 := rfl
    omega))
  subst e
  refine ⟨k, rfl, ?_, ?_⟩
  · rcases Nat.eq_zero_or_pos k with q | q
    · subst q
      exact absurd (by decide) h1
    · exact q
  · rcases Nat.lt_or_ge N k with q | q
    · exact absurd (nI_lt q hk) h2
    · exact q
theorem nat_lt {n : Int32} {N : Nat} (hN : N < 2 ^ 31) (h1 : ¬ n < 0) (h2 : ¬ nI N ≤ n) : ∃ k : Nat, n = nI k ∧ k < N := by
  obtain ⟨k, hk, e⟩ := nI_of (x := n) h1
  subst e
  refine ⟨k, rfl, ?_⟩
  rcases Nat.lt_or_ge k N with q | q
  · exact q
  · exact absurd (nI_le q hk) h2
theorem i_nlt {x y : Int32} (h : ¬ x < y) : y ≤ x := Int32.not_lt.mp h
theorem i_nle {x y : Int32} (h : ¬ x ≤ y) : y < x := Int32.not_le.mp h
end
section
/-! THE CLAIM'S OWN ROWS: the worlds of the two objects, rows for their fields and arrays, calls that leave the heap as it is -/
abbrev ml_cl : List vw_C := [(RX0, TX0, 6), (RX1, TX1, 8)]
abbrev wX (d : ClassId) (a : Nat → Nat) (n cnt fnd : Int32) (part nums downs : Nat → Int32) : va_W := [(a 0, .inr (0, [.int n, .ref (a 1), .int cnt, .ref (a 2), .int fnd, .ref (a 3)])), (a 1, .inl (d, 80, .inl part)), (a 2, .inl (d, 16, .inl nums)), (a 3, .inl (d, 16, .inl downs))]
abbrev wM (d : ClassId) (a : Nat → Nat) (n hl : Int32) (lg hd fr co sa va : Nat → Int32) : va_W := [(a 0, .inr (1, [.int n, .ref (a 1), .ref (a 2), .int hl, .ref (a 3), .ref (a 4), .ref (a 5), .ref (a 6)])), (a 1, .inl (d, 40, .inl lg)), (a 2, .inl (d, 16, .inl hd)), (a 3, .inl (d, 100, .inl fr)), (a 4, .inl (d, 100, .inl co)), (a 5, .inl (d, 100, .inl sa)), (a 6, .inl (d, 100, .inl va))]
theorem wd_same {A : Nat → Prop} {ws ws' : va_W} (h : va_D A ws) (e : ws.map Prod.fst = ws'.map Prod.fst) : va_D A ws' := by
  have key : ∀ (k : Nat) (q : Nat × va_E), ws'[k]? = some q → ∃ q0, ws[k]? = some q0 ∧ q0.1 = q.1 := by
    intro k q hk
    have h1 : (ws'.map Prod.fst)[k]? = some q.1 := by rw [List.getElem?_map, hk]; rfl
    rw [← e, List.getElem?_map] at h1
    cases h2 : ws[k]? with
    | none => rw [h2] at h1; cases h1
    | some q0 => rw [h2] at h1; exact ⟨q0, rfl, Option.some.inj h1⟩
  refine ⟨fun i j x y hi hj hxy => ?_, fun k q hk => ?_⟩
  · obtain ⟨x0, h1, h2⟩ := key i x hi
    obtain ⟨y0, h3, h4⟩ := key j y hj
    exact h.1 i j x0 y0 h1 h3 (h2.trans (hxy.trans h4.symm))
  · obtain ⟨q0, h1, h2⟩ := key k q hk
    rw [← h2]
    exact h.2 k q0 h1
/-- the addresses are apart and of a kind -/
def xD (A : Nat → Prop) (a : Nat → Nat) : Prop := va_D A [(a 0, .inr (0, [])), (a 1, .inr (0, [])), (a 2, .inr (0, [])), (a 3, .inr (0, []))]
def mD (A : Nat → Prop) (a : Nat → Nat) : Prop := va_D A [(a 0, .inr (0, [])), (a 1, .inr (0, [])), (a 2, .inr (0, [])), (a 3, .inr (0, [])), (a 4, .inr (0, [])), (a 5, .inr (0, [])), (a 6, .inr (0, []))]
def xA (a : Nat → Nat) : Nat → Prop := fun q => q = a 0 ∨ q = a 1 ∨ q = a 2 ∨ q = a 3
def mA (a : Nat → Nat) : Nat → Prop := fun q => q = a 0 ∨ q = a 1 ∨ q = a 2 ∨ q = a 3 ∨ q = a 4 ∨ q = a 5 ∨ q = a 6
theorem xD.at {A : Nat → Prop} {a : Nat → Nat} {d : ClassId} {n cnt fnd : Int32} {part nums downs : Nat → Int32} (h : xD A a) : va_D A (wX d a n cnt fnd part nums downs) := wd_same h rfl
theorem mD.at {A : Nat → Prop} {a : Nat → Nat} {d : ClassId} {n hl : Int32} {lg hd fr co sa va : Nat → Int32} (h : mD A a) : va_D A (wM d a n hl lg hd fr co sa va) := wd_same h rfl
theorem xD.self {A : Nat → Prop} {a : Nat → Nat} (h : xD A a) : xD (xA a) a := by
  refine ⟨h.1, fun k q hk => ?_⟩
  match k, hk with
  | 0, hk => cases hk; exact Or.inl rfl
  | 1, hk => cases hk; exact Or.inr (Or.inl rfl)
  | 2, hk => cases hk; exact Or.inr (Or.inr (Or.inl rfl))
  | 3, hk => cases hk; exact Or.inr (Or.inr (Or.inr rfl))
  | k + 4, hk => simp at hk
theorem mD.self {A : Nat → Prop} {a : Nat → Nat} (h : mD A a) : mD (mA a) a := by
  refine ⟨h.1, fun k q hk => ?_⟩
  match k, hk with
  | 0, hk => cases hk; exact Or.inl rfl
  | 1, hk => cases hk; exact Or.inr (Or.inl rfl)
  | 2, hk => cases hk; exact Or.inr (Or.inr (Or.inl rfl))
  | 3, hk => cases hk; exact Or.inr (Or.inr (Or.inr (Or.inl rfl)))
  | 4, hk => cases hk; exact Or.inr (Or.inr (Or.inr (Or.inr (Or.inl rfl))))
  | 5, hk => cases hk; exact Or.inr (Or.inr (Or.inr (Or.inr (Or.inr (Or.inl rfl)))))
  | 6, hk => cases hk; exact Or.inr (Or.inr (Or.inr (Or.inr (Or.inr (Or.inr rfl)))))
  | k + 7, hk => simp at hk
theorem xD.wk {A B : Nat → Prop} {a : Nat → Nat} (h : xD A a) (hB : ∀ q, A q → B q) : xD B a := ⟨h.1, fun k q hk => hB _ (h.2 k q hk)⟩
theorem mD.wk {A B : Nat → Prop} {a : Nat → Nat} (h : mD A a) (hB : ∀ q, A q → B q) : mD B a := ⟨h.1, fun k q hk => hB _ (h.2 k q hk)⟩
def ml_no : Addr → Prop := fun _ => False
/-- returns r, the heap as it was -/
def ml_Q (r : Int32) : Array Value → State → Outcome → State → Prop := fun _ st oc t => oc = .returned (some (.int r)) ∧ t.heap = st.heap
section MLR
variable {p : Program} {l : Launch} {e : Env} {R : Room} {s : State} {m : MethodId} {args : Array Value} {below : List Frame} {meth : Method} {c : Code} {H : Heap} {locs : List Loc} {cells slots : Nat} {Q : State → Prop} {cc : ByteArray} {pc nL : Nat} {ls : Array Slot} {rest : List Value} {D : va_G} {A : Nat → Prop} {H0 : Heap} {d : ClassId} {a : Nat → Nat}
theorem ml_top {x y : Int32} (h : x = y) (k : W p l e R s m args below meth c H locs cells slots Q (F0 m pc ls (.int y :: rest))) : W p l e R s m args below meth c H locs cells slots Q (F0 m pc ls (.int x :: rest)) := by
  rw [h]; exact k
theorem ml_pure {r : Int32} {av : Array Value} {st0 : List Value} (hr : va_Run p l e R s m args below meth c H locs cells slots 0 0 (F0 m pc ls st0) rest (ml_Q r av) ml_no) (k : W p l e R s m args below meth c H locs cells slots Q (F0 m (pc + 3) ls (.int r :: rest))) : W p l e R s m args below meth c H locs cells slots Q (F0 m pc ls st0) := by
  intro T hT X
  obtain ⟨v, st₀, t, T', L, h0, X', hL, e1, e2, ⟨hv, hh⟩, st⟩ := hr T hT X
  cases hv
  have hLn : L = [] := by
    cases L with
    | nil => rfl
    | cons q L => exact absurd (hL q List.mem_cons_self) (fun h => h)
  subst hLn
  rw [List.append_nil] at X'
  obtain ⟨t2, a1, b1⟩ := k T' (by rw [e1, hh, h0]) X'
  exact ⟨t2, st t2 a1, b1⟩
theorem xg_n {n cnt fnd : Int32} {part nums downs : Nat → Int32} {tys : List (ClassId × FieldType)} (S : CallFix p m c cc nL s args lw_all RX0) (hK : va_K D ml_cl tys s) (hP : va_P D ml_cl (wX d a n cnt fnd part nums downs) H) (hdg : decode cc pc = .ok (.getfield 19, 3)) (k : W p l e R s m args below meth c H locs cells slots Q (F0 m (pc + 3) ls (.int n :: rest))) : W p l e R s m args below meth c H locs cells slots Q (F0 m pc ls (.ref (a 0) :: rest)) :=
  va_get (ci := 0) (v := .int n) (C := RX0) (T := TX0) (N := 6) S.1 S.2.1 S.2.2.2.2 in_X0 S.2.2.2.1 hK hP 0 rfl rfl 0 (by decide) (S.2.2.2.2 _ q18) (fun _ h9 => h9) rfl hdg k
theorem xp_n {n cnt fnd : Int32} {part nums downs : Nat → Int32} {tys : List (ClassId × FieldType)} {v : Int32} (S : CallFix p m c cc nL s args lw_all RX0) (hK : va_K D ml_cl tys s) (hP : va_P D ml_cl (wX d a n cnt fnd part nums downs) H) (hD : xD A a) (hS : va_S A H0 H locs) (hdg : decode cc pc = .ok (.putfield 19, 3)) (k : ∀ (H1 : Heap) (locs1 : List Loc), va_P D ml_cl (wX d a v cnt fnd part nums downs) H1 → va_S A H0 H1 locs1 → W p l e R s m args below meth c H1 locs1 cells slots Q (F0 m (pc + 3) ls rest)) : W p l e R s m args below meth c H locs cells slots Q (F0 m pc ls (.int v :: .ref (a 0) :: rest)) :=
  va_put (ci := 0) (v := .int v) (ty := .int) (C := RX0) (T := TX0) (N := 6) S.1 S.2.1 S.2.2.2.2 in_X0 tyX0 tyX0_ok nmX0 S.2.2.2.1 hK hP hD.at hS 0 rfl rfl 0 (by decide) (S.2.2.2.2 _ q18) (fun _ h9 => h9) rfl (by decide +kernel) rfl rfl (Nat.le_of_ble_eq_true rfl) hdg (fun H1 locs1 h1 _ h3 => k H1 locs1 h1 h3)
theorem xg_part {n cnt fnd : Int32} {part nums downs : Nat → Int32} {tys : List (ClassId × FieldType)} (S : CallFix p m c cc nL s args lw_all RX0) (hK : va_K D ml_cl tys s) (hP : va_P D ml_cl (wX d a n cnt fnd part nums downs) H) (hdg : decode cc pc = .ok (.getfield 7, 3)) (k : W p l e R s m args below meth c H locs cells slots Q (F0 m (pc + 3) ls (.ref (a 1) :: rest))) : W p l e R s m args below meth c H locs cells slots Q (F0 m pc ls (.ref (a 0) :: rest)) :=
  va_get (ci := 0) (v := .ref (a 1)) (C := RX0) (T := TX0) (N := 6) S.1 S.2.1 S.2.2.2.2 in_X0 S.2.2.2.1 hK hP 0 rfl rfl 1 (by decide) (S.2.2.2.2 _ q19) (fun _ h9 => h9) rfl hdg k
theorem xg_cnt {n cnt fnd : Int32} {part nums downs : Nat → Int32} {tys : List (ClassId × FieldType)} (S : CallFix p m c cc nL s args lw_all RX0) (hK : va_K D ml_cl tys s) (hP : va_P D ml_cl (wX d a n cnt fnd part nums downs) H) (hdg : decode cc pc = .ok (.getfield 50, 3)) (k : W p l e R s m args below meth c H locs cells slots Q (F0 m (pc + 3) ls (.int cnt :: rest))) : W p l e R s m args below meth c H locs cells slots Q (F0 m pc ls (.ref (a 0) :: rest)) :=
  va_get (ci := 0) (v := .int cnt) (C := RX0) (T := TX0) (N := 6) S.1 S.2.1 S.2.2.2.2 in_X0 S.2.2.2.1 hK hP 0 rfl rfl 2 (by decide) (S.2.2.2.2 _ q20) (fun _ h9 => h9) rfl hdg k
theorem xp_cnt {n cnt fnd : Int32} {part nums downs : Nat → Int32} {tys : List (ClassId × FieldType)} {v : Int32} (S : CallFix p m c cc nL s args lw_all RX0) (hK : va_K D ml_cl tys s) (hP : va_P D ml_cl (wX d a n cnt fnd part nums downs) H) (hD : xD A a) (hS : va_S A H0 H locs) (hdg : decode cc pc = .ok (.putfield 50, 3)) (k : ∀ (H1 : Heap) (locs1 : List Loc), va_P D ml_cl (wX d a n v fnd part nums downs) H1 → va_S A H0 H1 locs1 → W p l e R s m args below meth c H1 locs1 cells slots Q (F0 m (pc + 3) ls rest)) : W p l e R s m args below meth c H locs cells slots Q (F0 m pc ls (.int v :: .ref (a 0) :: rest)) :=
  va_put (ci := 0) (v := .int v) (ty := .int) (C := RX0) (T := TX0) (N := 6) S.1 S.2.1 S.2.2.2.2 in_X0 tyX0 tyX0_ok nmX0 S.2.2.2.1 hK hP hD.at hS 0 rfl rfl 2 (by decide) (S.2.2.2.2 _ q20) (fun _ h9 => h9) rfl (by decide +kernel) rfl rfl (Nat.le_of_ble_eq_true rfl) hdg (fun H1 locs1 h1 _ h3 => k H1 locs1 h1 h3)
theorem xg_nums {n cnt fnd : Int32} {part nums downs : Nat → Int32} {tys : List (ClassId × FieldType)} (S : CallFix p m c cc nL s args lw_all RX0) (hK : va_K D ml_cl tys s) (hP : va_P D ml_cl (wX d a n cnt fnd part nums downs) H) (hdg : decode cc pc = .ok (.getfield 13, 3)) (k : W p l e R s m args below meth c H locs cells slots Q (F0 m (pc + 3) ls (.ref (a 2) :: rest))) : W p l e R s m args below meth c H locs cells slots Q (F0 m pc ls (.ref (a 0) :: rest)) :=
  va_get (ci := 0) (v := .ref (a 2)) (C := RX0) (T := TX0) (N := 6) S.1 S.2.1 S.2.2.2.2 in_X0 S.2.2.2.1 hK hP 0 rfl rfl 3 (by decide) (S.2.2.2.2 _ q21) (fun _ h9 => h9) rfl hdg k
theorem xg_fnd {n cnt fnd : Int32} {part nums downs : Nat → Int32} {tys : List (ClassId × FieldType)} (S : CallFix p m c cc nL s args lw_all RX0) (hK : va_K D ml_cl tys s) (hP : va_P D ml_cl (wX d a n cnt fnd part nums downs) H) (hdg : decode cc pc = .ok (.getfield 37, 3)) (k : W p l e R s m args below meth c H locs cells slots Q (F0 m (pc + 3) ls (.int fnd :: rest))) : W p l e R s m args below meth c H locs cells slots Q (F0 m pc ls (.ref (a 0) :: rest)) :=
  va_get (ci := 0) (v := .int fnd) (C := RX0) (T := TX0) (N := 6) S.1 S.2.1 S.2.2.2.2 in_X0 S.2.2.2.1 hK hP 0 rfl rfl 4 (by decide) (S.2.2.2.2 _ q22) (fun _ h9 => h9) rfl hdg k
theorem xp_fnd {n cnt fnd : Int32} {part nums downs : Nat → Int32} {tys : List (ClassId × FieldType)} {v : Int32} (S : CallFix p m c cc nL s args lw_all RX0) (hK : va_K D ml_cl tys s) (hP : va_P D ml_cl (wX d a n cnt fnd part nums downs) H) (hD : xD A a) (hS : va_S A H0 H locs) (hdg : decode cc pc = .ok (.putfield 37, 3)) (k : ∀ (H1 : Heap) (locs1 : List Loc), va_P D ml_cl (wX d a n cnt v part nums downs) H1 → va_S A H0 H1 locs1 → W p l e R s m args below meth c H1 locs1 cells slots Q (F0 m (pc + 3) ls rest)) : W p l e R s m args below meth c H locs cells slots Q (F0 m pc ls (.int v :: .ref (a 0) :: rest)) :=
  va_put (ci := 0) (v := .int v) (ty := .int) (C := RX0) (T := TX0) (N := 6) S.1 S.2.1 S.2.2.2.2 in_X0 tyX0 tyX0_ok nmX0 S.2.2.2.1 hK hP hD.at hS 0 rfl rfl 4 (by decide) (S.2.2.2.2 _ q22) (fun _ h9 => h9) rfl (by decide +kernel) rfl rfl (Nat.le_of_ble_eq_true rfl) hdg (fun H1 locs1 h1 _ h3 => k H1 locs1 h1 h3)
theorem xg_downs {n cnt fnd : Int32} {part nums downs : Nat → Int32} {tys : List (ClassId × FieldType)} (S : CallFix p m c cc nL s args lw_all RX0) (hK : va_K D ml_cl tys s) (hP : va_P D ml_cl (wX d a n cnt fnd part nums downs) H) (hdg : decode cc pc = .ok (.getfield 16, 3)) (k : W p l e R s m args below meth c H locs cells slots Q (F0 m (pc + 3) ls (.ref (a 3) :: rest))) : W p l e R s m args below meth c H locs cells slots Q (F0 m pc ls (.ref (a 0) :: rest)) :=
  va_get (ci := 0) (v := .ref (a 3)) (C := RX0) (T := TX0) (N := 6) S.1 S.2.1 S.2.2.2.2 in_X0 S.2.2.2.1 hK hP 0 rfl rfl 5 (by decide) (S.2.2.2.2 _ q23) (fun _ h9 => h9) rfl hdg k
theorem xl_part {n cnt fnd : Int32} {part nums downs : Nat → Int32} {j : Nat} (hj : j < 80) (S : CallFix p m c cc nL s args lw_all RX0) (hK : va_K D ml_cl [(d, .int)] s) (hP : va_P D ml_cl (wX d a n cnt fnd part nums downs) H) (hdg : decode cc pc = .ok (.iaload, 1)) (k : W p l e R s m args below meth c H locs cells slots Q (F0 m (pc + 1) ls (.int (part j) :: rest))) : W p l e R s m args below meth c H locs cells slots Q (F0 m pc ls (.int (nI j) :: .ref (a 1) :: rest)) :=
  va_iald S.1 S.2.1 hK hP 1 0 rfl rfl (vp_in_nI hj (by decide)) hdg (by rw [nI_clamp (Nat.lt_trans hj (by decide))]; exact k)
theorem xs_part {n cnt fnd : Int32} {part nums downs : Nat → Int32} {j : Nat} {v : Int32} (hj : j < 80) (S : CallFix p m c cc nL s args lw_all RX0) (hK : va_K D ml_cl [(d, .int)] s) (hP : va_P D ml_cl (wX d a n cnt fnd part nums downs) H) (hD : xD A a) (hS : va_S A H0 H locs) (hdg : decode cc pc = .ok (.iastore, 1)) (k : ∀ (H1 : Heap) (locs1 : List Loc), va_P D ml_cl (wX d a n cnt fnd (upd part j v) nums downs) H1 → va_S A H0 H1 locs1 → W p l e R s m args below meth c H1 locs1 cells slots Q (F0 m (pc + 1) ls rest)) : W p l e R s m args below meth c H locs cells slots Q (F0 m pc ls (.int v :: .int (nI j) :: .ref (a 1) :: rest)) := by
  refine va_iast S.1 S.2.1 hK hP hD.at hS 1 0 rfl rfl (vp_in_nI hj (by decide)) hdg (fun H1 locs1 h1 _ h3 => k H1 locs1 ?_ h3)
  rw [nI_clamp (Nat.lt_trans hj (by decide))] at h1
  exact h1
theorem xl_nums {n cnt fnd : Int32} {part nums downs : Nat → Int32} {j : Nat} (hj : j < 16) (S : CallFix p m c cc nL s args lw_all RX0) (hK : va_K D ml_cl [(d, .int)] s) (hP : va_P D ml_cl (wX d a n cnt fnd part nums downs) H) (hdg : decode cc pc = .ok (.iaload, 1)) (k : W p l e R s m args below meth c H locs cells slots Q (F0 m (pc + 1) ls (.int (nums j) :: rest))) : W p l e R s m args below meth c H locs cells slots Q (F0 m pc ls (.int (nI j) :: .ref (a 2) :: rest)) :=
  va_iald S.1 S.2.1 hK hP 2 0 rfl rfl (vp_in_nI hj (by decide)) hdg (by rw [nI_clamp (Nat.lt_trans hj (by decide))]; exact k)
theorem xs_nums {n cnt fnd : Int32} {part nums downs : Nat → Int32} {j : Nat} {v : Int32} (hj : j < 16) (S : CallFix p m c cc nL s args lw_all RX0) (hK : va_K D ml_cl [(d, .int)] s) (hP : va_P D ml_cl (wX d a n cnt fnd part nums downs) H) (hD : xD A a) (hS : va_S A H0 H locs) (hdg : decode cc pc = .ok (.iastore, 1)) (k : ∀ (H1 : Heap) (locs1 : List Loc), va_P D ml_cl (wX d a n cnt fnd part (upd nums j v) downs) H1 → va_S A H0 H1 locs1 → W p l e R s m args below meth c H1 locs1 cells slots Q (F0 m (pc + 1) ls rest)) : W p l e R s m args below meth c H locs cells slots Q (F0 m pc ls (.int v :: .int (nI j) :: .ref (a 2) :: rest)) := by
  refine va_iast S.1 S.2.1 hK hP hD.at hS 2 0 rfl rfl (vp_in_nI hj (by decide)) hdg (fun H1 locs1 h1 _ h3 => k H1 locs1 ?_ h3)
  rw [nI_clamp (Nat.lt_trans hj (by decide))] at h1
  exact h1
theorem xl_downs {n cnt fnd : Int32} {part nums downs : Nat → Int32} {j : Nat} (hj : j < 16) (S : CallFix p m c cc nL s args lw_all RX0) (hK : va_K D ml_cl [(d, .int)] s) (hP : va_P D ml_cl (wX d a n cnt fnd part nums downs) H) (hdg : decode cc pc = .ok (.iaload, 1)) (k : W p l e R s m args below meth c H locs cells slots Q (F0 m (pc + 1) ls (.int (downs j) :: rest))) : W p l e R s m args below meth c H locs cells slots Q (F0 m pc ls (.int (nI j) :: .ref (a 3) :: rest)) :=
  va_iald S.1 S.2.1 hK hP 3 0 rfl rfl (vp_in_nI hj (by decide)) hdg (by rw [nI_clamp (Nat.lt_trans hj (by decide))]; exact k)
theorem xs_downs {n cnt fnd : Int32} {part nums downs : Nat → Int32} {j : Nat} {v : Int32} (hj : j < 16) (S : CallFix p m c cc nL s args lw_all RX0) (hK : va_K D ml_cl [(d, .int)] s) (hP : va_P D ml_cl (wX d a n cnt fnd part nums downs) H) (hD : xD A a) (hS : va_S A H0 H locs) (hdg : decode cc pc = .ok (.iastore, 1)) (k : ∀ (H1 : Heap) (locs1 : List Loc), va_P D ml_cl (wX d a n cnt fnd part nums (upd downs j v)) H1 → va_S A H0 H1 locs1 → W p l e R s m args below meth c H1 locs1 cells slots Q (F0 m (pc + 1) ls rest)) : W p l e R s m args below meth c H locs cells slots Q (F0 m pc ls (.int v :: .int (nI j) :: .ref (a 3) :: rest)) := by
  refine va_iast S.1 S.2.1 hK hP hD.at hS 3 0 rfl rfl (vp_in_nI hj (by decide)) hdg (fun H1 locs1 h1 _ h3 => k H1 locs1 ?_ h3)
  rw [nI_clamp (Nat.lt_trans hj (by decide))] at h1
  exact h1
theorem mg_n {n hl : Int32} {lg hd fr co sa va : Nat → Int32} {tys : List (ClassId × FieldType)} (S : CallFix p m c cc nL s args lw_all RX1) (hK : va_K D ml_cl tys s) (hP : va_P D ml_cl (wM d a n hl lg hd fr co sa va) H) (hdg : decode cc pc = .ok (.getfield 34, 3)) (k : W p l e R s m args below meth c H locs cells slots Q (F0 m (pc + 3) ls (.int n :: rest))) : W p l e R s m args below meth c H locs cells slots Q (F0 m pc ls (.ref (a 0) :: rest)) :=
  va_get (ci := 1) (v := .int n) (C := RX1) (T := TX1) (N := 8) S.1 S.2.1 S.2.2.2.2 in_X1 S.2.2.2.1 hK hP 0 rfl rfl 0 (by decide) (S.2.2.2.2 _ q113) (fun _ h9 => h9) rfl hdg k
theorem mp_n {n hl : Int32} {lg hd fr co sa va : Nat → Int32} {tys : List (ClassId × FieldType)} {v : Int32} (S : CallFix p m c cc nL s args lw_all RX1) (hK : va_K D ml_cl tys s) (hP : va_P D ml_cl (wM d a n hl lg hd fr co sa va) H) (hD : mD A a) (hS : va_S A H0 H locs) (hdg : decode cc pc = .ok (.putfield 34, 3)) (k : ∀ (H1 : Heap) (locs1 : List Loc), va_P D ml_cl (wM d a v hl lg hd fr co sa va) H1 → va_S A H0 H1 locs1 → W p l e R s m args below meth c H1 locs1 cells slots Q (F0 m (pc + 3) ls rest)) : W p l e R s m args below meth c H locs cells slots Q (F0 m pc ls (.int v :: .ref (a 0) :: rest)) :=
  va_put (ci := 1) (v := .int v) (ty := .int) (C := RX1) (T := TX1) (N := 8) S.1 S.2.1 S.2.2.2.2 in_X1 tyX1 tyX1_ok nmX1 S.2.2.2.1 hK hP hD.at hS 0 rfl rfl 0 (by decide) (S.2.2.2.2 _ q113) (fun _ h9 => h9) rfl (by decide +kernel) rfl rfl (Nat.le_of_ble_eq_true rfl) hdg (fun H1 locs1 h1 _ h3 => k H1 locs1 h1 h3)
theorem mg_lg {n hl : Int32} {lg hd fr co sa va : Nat → Int32} {tys : List (ClassId × FieldType)} (S : CallFix p m c cc nL s args lw_all RX1) (hK : va_K D ml_cl tys s) (hP : va_P D ml_cl (wM d a n hl lg hd fr co sa va) H) (hdg : decode cc pc = .ok (.getfield 7, 3)) (k : W p l e R s m args below meth c H locs cells slots Q (F0 m (pc + 3) ls (.ref (a 1) :: rest))) : W p l e R s m args below meth c H locs cells slots Q (F0 m pc ls (.ref (a 0) :: rest)) :=
  va_get (ci := 1) (v := .ref (a 1)) (C := RX1) (T := TX1) (N := 8) S.1 S.2.1 S.2.2.2.2 in_X1 S.2.2.2.1 hK hP 0 rfl rfl 1 (by decide) (S.2.2.2.2 _ q114) (fun _ h9 => h9) rfl hdg k
theorem mg_hd {n hl : Int32} {lg hd fr co sa va : Nat → Int32} {tys : List (ClassId × FieldType)} (S : CallFix p m c cc nL s args lw_all RX1) (hK : va_K D ml_cl tys s) (hP : va_P D ml_cl (wM d a n hl lg hd fr co sa va) H) (hdg : decode cc pc = .ok (.getfield 13, 3)) (k : W p l e R s m args below meth c H locs cells slots Q (F0 m (pc + 3) ls (.ref (a 2) :: rest))) : W p l e R s m args below meth c H locs cells slots Q (F0 m pc ls (.ref (a 0) :: rest)) :=
  va_get (ci := 1) (v := .ref (a 2)) (C := RX1) (T := TX1) (N := 8) S.1 S.2.1 S.2.2.2.2 in_X1 S.2.2.2.1 hK hP 0 rfl rfl 2 (by decide) (S.2.2.2.2 _ q115) (fun _ h9 => h9) rfl hdg k
theorem mg_hl {n hl : Int32} {lg hd fr co sa va : Nat → Int32} {tys : List (ClassId × FieldType)} (S : CallFix p m c cc nL s args lw_all RX1) (hK : va_K D ml_cl tys s) (hP : va_P D ml_cl (wM d a n hl lg hd fr co sa va) H) (hdg : decode cc pc = .ok (.getfield 55, 3)) (k : W p l e R s m args below meth c H locs cells slots Q (F0 m (pc + 3) ls (.int hl :: rest))) : W p l e R s m args below meth c H locs cells slots Q (F0 m pc ls (.ref (a 0) :: rest)) :=
  va_get (ci := 1) (v := .int hl) (C := RX1) (T := TX1) (N := 8) S.1 S.2.1 S.2.2.2.2 in_X1 S.2.2.2.1 hK hP 0 rfl rfl 3 (by decide) (S.2.2.2.2 _ q116) (fun _ h9 => h9) rfl hdg k
theorem mp_hl {n hl : Int32} {lg hd fr co sa va : Nat → Int32} {tys : List (ClassId × FieldType)} {v : Int32} (S : CallFix p m c cc nL s args lw_all RX1) (hK : va_K D ml_cl tys s) (hP : va_P D ml_cl (wM d a n hl lg hd fr co sa va) H) (hD : mD A a) (hS : va_S A H0 H locs) (hdg : decode cc pc = .ok (.putfield 55, 3)) (k : ∀ (H1 : Heap) (locs1 : List Loc), va_P D ml_cl (wM d a n v lg hd fr co sa va) H1 → va_S A H0 H1 locs1 → W p l e R s m args below meth c H1 locs1 cells slots Q (F0 m (pc + 3) ls rest)) : W p l e R s m args below meth c H locs cells slots Q (F0 m pc ls (.int v :: .ref (a 0) :: rest)) :=
  va_put (ci := 1) (v := .int v) (ty := .int) (C := RX1) (T := TX1) (N := 8) S.1 S.2.1 S.2.2.2.2 in_X1 tyX1 tyX1_ok nmX1 S.2.2.2.1 hK hP hD.at hS 0 rfl rfl 3 (by decide) (S.2.2.2.2 _ q116) (fun _ h9 => h9) rfl (by decide +kernel) rfl rfl (Nat.le_of_ble_eq_true rfl) hdg (fun H1 locs1 h1 _ h3 => k H1 locs1 h1 h3)
theorem mg_fr {n hl : Int32} {lg hd fr co sa va : Nat → Int32} {tys : List (ClassId × FieldType)} (S : CallFix p m c cc nL s args lw_all RX1) (hK : va_K D ml_cl tys s) (hP : va_P D ml_cl (wM d a n hl lg hd fr co sa va) H) (hdg : decode cc pc = .ok (.getfield 16, 3)) (k : W p l e R s m args below meth c H locs cells slots Q (F0 m (pc + 3) ls (.ref (a 3) :: rest))) : W p l e R s m args below meth c H locs cells slots Q (F0 m pc ls (.ref (a 0) :: rest)) :=
  va_get (ci := 1) (v := .ref (a 3)) (C := RX1) (T := TX1) (N := 8) S.1 S.2.1 S.2.2.2.2 in_X1 S.2.2.2.1 hK hP 0 rfl rfl 4 (by decide) (S.2.2.2.2 _ q117) (fun _ h9 => h9) rfl hdg k
theorem mg_co {n hl : Int32} {lg hd fr co sa va : Nat → Int32} {tys : List (ClassId × FieldType)} (S : CallFix p m c cc nL s args lw_all RX1) (hK : va_K D ml_cl tys s) (hP : va_P D ml_cl (wM d a n hl lg hd fr co sa va) H) (hdg : decode cc pc = .ok (.getfield 19, 3)) (k : W p l e R s m args below meth c H locs cells slots Q (F0 m (pc + 3) ls (.ref (a 4) :: rest))) : W p l e R s m args below meth c H locs cells slots Q (F0 m pc ls (.ref (a 0) :: rest)) :=
  va_get (ci := 1) (v := .ref (a 4)) (C := RX1) (T := TX1) (N := 8) S.1 S.2.1 S.2.2.2.2 in_X1 S.2.2.2.1 hK hP 0 rfl rfl 5 (by decide) (S.2.2.2.2 _ q118) (fun _ h9 => h9) rfl hdg k
theorem mg_sa {n hl : Int32} {lg hd fr co sa va : Nat → Int32} {tys : List (ClassId × FieldType)} (S : CallFix p m c cc nL s args lw_all RX1) (hK : va_K D ml_cl tys s) (hP : va_P D ml_cl (wM d a n hl lg hd fr co sa va) H) (hdg : decode cc pc = .ok (.getfield 22, 3)) (k : W p l e R s m args below meth c H locs cells slots Q (F0 m (pc + 3) ls (.ref (a 5) :: rest))) : W p l e R s m args below meth c H locs cells slots Q (F0 m pc ls (.ref (a 0) :: rest)) :=
  va_get (ci := 1) (v := .ref (a 5)) (C := RX1) (T := TX1) (N := 8) S.1 S.2.1 S.2.2.2.2 in_X1 S.2.2.2.1 hK hP 0 rfl rfl 6 (by decide) (S.2.2.2.2 _ q119) (fun _ h9 => h9) rfl hdg k
theorem mg_va {n hl : Int32} {lg hd fr co sa va : Nat → Int32} {tys : List (ClassId × FieldType)} (S : CallFix p m c cc nL s args lw_all RX1) (hK : va_K D ml_cl tys s) (hP : va_P D ml_cl (wM d a n hl lg hd fr co sa va) H) (hdg : decode cc pc = .ok (.getfield 25, 3)) (k : W p l e R s m args below meth c H locs cells slots Q (F0 m (pc + 3) ls (.ref (a 6) :: rest))) : W p l e R s m args below meth c H locs cells slots Q (F0 m pc ls (.ref (a 0) :: rest)) :=
  va_get (ci := 1) (v := .ref (a 6)) (C := RX1) (T := TX1) (N := 8) S.1 S.2.1 S.2.2.2.2 in_X1 S.2.2.2.1 hK hP 0 rfl rfl 7 (by decide) (S.2.2.2.2 _ q120) (fun _ h9 => h9) rfl hdg k
theorem ml_lg {n hl : Int32} {lg hd fr co sa va : Nat → Int32} {j : Nat} (hj : j < 40) (S : CallFix p m c cc nL s args lw_all RX1) (hK : va_K D ml_cl [(d, .int)] s) (hP : va_P D ml_cl (wM d a n hl lg hd fr co sa va) H) (hdg : decode cc pc = .ok (.iaload, 1)) (k : W p l e R s m args below meth c H locs cells slots Q (F0 m (pc + 1) ls (.int (lg j) :: rest))) : W p l e R s m args below meth c H locs cells slots Q (F0 m pc ls (.int (nI j) :: .ref (a 1) :: rest)) :=
  va_iald S.1 S.2.1 hK hP 1 0 rfl rfl (vp_in_nI hj (by decide)) hdg (by rw [nI_clamp (Nat.lt_trans hj (by decide))]; exact k)
theorem ms_lg {n hl : Int32} {lg hd fr co sa va : Nat → Int32} {j : Nat} {v : Int32} (hj : j < 40) (S : CallFix p m c cc nL s args lw_all RX1) (hK : va_K D ml_cl [(d, .int)] s) (hP : va_P D ml_cl (wM d a n hl lg hd fr co sa va) H) (hD : mD A a) (hS : va_S A H0 H locs) (hdg : decode cc pc = .ok (.iastore, 1)) (k : ∀ (H1 : Heap) (locs1 : List Loc), va_P D ml_cl (wM d a n hl (upd lg j v) hd fr co sa va) H1 → va_S A H0 H1 locs1 → W p l e R s m args below meth c H1 locs1 cells slots Q (F0 m (pc + 1) ls rest)) : W p l e R s m args below meth c H locs cells slots Q (F0 m pc ls (.int v :: .int (nI j) :: .ref (a 1) :: rest)) := by
  refine va_iast S.1 S.2.1 hK hP hD.at hS 1 0 rfl rfl (vp_in_nI hj (by decide)) hdg (fun H1 locs1 h1 _ h3 => k H1 locs1 ?_ h3)
  rw [nI_clamp (Nat.lt_trans hj (by decide))] at h1
  exact h1
theorem ml_hd {n hl : Int32} {lg hd fr co sa va : Nat → Int32} {j : Nat} (hj : j < 16) (S : CallFix p m c cc nL s args lw_all RX1) (hK : va_K D ml_cl [(d, .int)] s) (hP : va_P D ml_cl (wM d a n hl lg hd fr co sa va) H) (hdg : decode cc pc = .ok (.iaload, 1)) (k : W p l e R s m args below meth c H locs cells slots Q (F0 m (pc + 1) ls (.int (hd j) :: rest))) : W p l e R s m args below meth c H locs cells slots Q (F0 m pc ls (.int (nI j) :: .ref (a 2) :: rest)) :=
  va_iald S.1 S.2.1 hK hP 2 0 rfl rfl (vp_in_nI hj (by decide)) hdg (by rw [nI_clamp (Nat.lt_trans hj (by decide))]; exact k)
theorem ms_hd {n hl : Int32} {lg hd fr co sa va : Nat → Int32} {j : Nat} {v : Int32} (hj : j < 16) (S : CallFix p m c cc nL s args lw_all RX1) (hK : va_K D ml_cl [(d, .int)] s) (hP : va_P D ml_cl (wM d a n hl lg hd fr co sa va) H) (hD : mD A a) (hS : va_S A H0 H locs) (hdg : decode cc pc = .ok (.iastore, 1)) (k : ∀ (H1 : Heap) (locs1 : List Loc), va_P D ml_cl (wM d a n hl lg (upd hd j v) fr co sa va) H1 → va_S A H0 H1 locs1 → W p l e R s m args below meth c H1 locs1 cells slots Q (F0 m (pc + 1) ls rest)) : W p l e R s m args below meth c H locs cells slots Q (F0 m pc ls (.int v :: .int (nI j) :: .ref (a 2) :: rest)) := by
  refine va_iast S.1 S.2.1 hK hP hD.at hS 2 0 rfl rfl (vp_in_nI hj (by decide)) hdg (fun H1 locs1 h1 _ h3 => k H1 locs1 ?_ h3)
  rw [nI_clamp (Nat.lt_trans hj (by decide))] at h1
  exact h1
theorem ml_fr {n hl : Int32} {lg hd fr co sa va : Nat → Int32} {j : Nat} (hj : j < 100) (S : CallFix p m c cc nL s args lw_all RX1) (hK : va_K D ml_cl [(d, .int)] s) (hP : va_P D ml_cl (wM d a n hl lg hd fr co sa va) H) (hdg : decode cc pc = .ok (.iaload, 1)) (k : W p l e R s m args below meth c H locs cells slots Q (F0 m (pc + 1) ls (.int (fr j) :: rest))) : W p l e R s m args below meth c H locs cells slots Q (F0 m pc ls (.int (nI j) :: .ref (a 3) :: rest)) :=
  va_iald S.1 S.2.1 hK hP 3 0 rfl rfl (vp_in_nI hj (by decide)) hdg (by rw [nI_clamp (Nat.lt_trans hj (by decide))]; exact k)
theorem ms_fr {n hl : Int32} {lg hd fr co sa va : Nat → Int32} {j : Nat} {v : Int32} (hj : j < 100) (S : CallFix p m c cc nL s args lw_all RX1) (hK : va_K D ml_cl [(d, .int)] s) (hP : va_P D ml_cl (wM d a n hl lg hd fr co sa va) H) (hD : mD A a) (hS : va_S A H0 H locs) (hdg : decode cc pc = .ok (.iastore, 1)) (k : ∀ (H1 : Heap) (locs1 : List Loc), va_P D ml_cl (wM d a n hl lg hd (upd fr j v) co sa va) H1 → va_S A H0 H1 locs1 → W p l e R s m args below meth c H1 locs1 cells slots Q (F0 m (pc + 1) ls rest)) : W p l e R s m args below meth c H locs cells slots Q (F0 m pc ls (.int v :: .int (nI j) :: .ref (a 3) :: rest)) := by
  refine va_iast S.1 S.2.1 hK hP hD.at hS 3 0 rfl rfl (vp_in_nI hj (by decide)) hdg (fun H1 locs1 h1 _ h3 => k H1 locs1 ?_ h3)
  rw [nI_clamp (Nat.lt_trans hj (by decide))] at h1
  exact h1
theorem ml_co {n hl : Int32} {lg hd fr co sa va : Nat → Int32} {j : Nat} (hj : j < 100) (S : CallFix p m c cc nL s args lw_all RX1) (hK : va_K D ml_cl [(d, .int)] s) (hP : va_P D ml_cl (wM d a n hl lg hd fr co sa va) H) (hdg : decode cc pc = .ok (.iaload, 1)) (k : W p l e R s m args below meth c H locs cells slots Q (F0 m (pc + 1) ls (.int (co j) :: rest))) : W p l e R s m args below meth c H locs cells slots Q (F0 m pc ls (.int (nI j) :: .ref (a 4) :: rest)) :=
  va_iald S.1 S.2.1 hK hP 4 0 rfl rfl (vp_in_nI hj (by decide)) hdg (by rw [nI_clamp (Nat.lt_trans hj (by decide))]; exact k)
theorem ms_co {n hl : Int32} {lg hd fr co sa va : Nat → Int32} {j : Nat} {v : Int32} (hj : j < 100) (S : CallFix p m c cc nL s args lw_all RX1) (hK : va_K D ml_cl [(d, .int)] s) (hP : va_P D ml_cl (wM d a n hl lg hd fr co sa va) H) (hD : mD A a) (hS : va_S A H0 H locs) (hdg : decode cc pc = .ok (.iastore, 1)) (k : ∀ (H1 : Heap) (locs1 : List Loc), va_P D ml_cl (wM d a n hl lg hd fr (upd co j v) sa va) H1 → va_S A H0 H1 locs1 → W p l e R s m args below meth c H1 locs1 cells slots Q (F0 m (pc + 1) ls rest)) : W p l e R s m args below meth c H locs cells slots Q (F0 m pc ls (.int v :: .int (nI j) :: .ref (a 4) :: rest)) := by
  refine va_iast S.1 S.2.1 hK hP hD.at hS 4 0 rfl rfl (vp_in_nI hj (by decide)) hdg (fun H1 locs1 h1 _ h3 => k H1 locs1 ?_ h3)
  rw [nI_clamp (Nat.lt_trans hj (by decide))] at h1
  exact h1
theorem ml_sa {n hl : Int32} {lg hd fr co sa va : Nat → Int32} {j : Nat} (hj : j < 100) (S : CallFix p m c cc nL s args lw_all RX1) (hK : va_K D ml_cl [(d, .int)] s) (hP : va_P D ml_cl (wM d a n hl lg hd fr co sa va) H) (hdg : decode cc pc = .ok (.iaload, 1)) (k : W p l e R s m args below meth c H locs cells slots Q (F0 m (pc + 1) ls (.int (sa j) :: rest))) : W p l e R s m args below meth c H locs cells slots Q (F0 m pc ls (.int (nI j) :: .ref (a 5) :: rest)) :=
  va_iald S.1 S.2.1 hK hP 5 0 rfl rfl (vp_in_nI hj (by decide)) hdg (by rw [nI_clamp (Nat.lt_trans hj (by decide))]; exact k)
theorem ms_sa {n hl : Int32} {lg hd fr co sa va : Nat → Int32} {j : Nat} {v : Int32} (hj : j < 100) (S : CallFix p m c cc nL s args lw_all RX1) (hK : va_K D ml_cl [(d, .int)] s) (hP : va_P D ml_cl (wM d a n hl lg hd fr co sa va) H) (hD : mD A a) (hS : va_S A H0 H locs) (hdg : decode cc pc = .ok (.iastore, 1)) (k : ∀ (H1 : Heap) (locs1 : List Loc), va_P D ml_cl (wM d a n hl lg hd fr co (upd sa j v) va) H1 → va_S A H0 H1 locs1 → W p l e R s m args below meth c H1 locs1 cells slots Q (F0 m (pc + 1) ls rest)) : W p l e R s m args below meth c H locs cells slots Q (F0 m pc ls (.int v :: .int (nI j) :: .ref (a 5) :: rest)) := by
  refine va_iast S.1 S.2.1 hK hP hD.at hS 5 0 rfl rfl (vp_in_nI hj (by decide)) hdg (fun H1 locs1 h1 _ h3 => k H1 locs1 ?_ h3)
  rw [nI_clamp (Nat.lt_trans hj (by decide))] at h1
  exact h1
theorem ml_va {n hl : Int32} {lg hd fr co sa va : Nat → Int32} {j : Nat} (hj : j < 100) (S : CallFix p m c cc nL s args lw_all RX1) (hK : va_K D ml_cl [(d, .int)] s) (hP : va_P D ml_cl (wM d a n hl lg hd fr co sa va) H) (hdg : decode cc pc = .ok (.iaload, 1)) (k : W p l e R s m args below meth c H locs cells slots Q (F0 m (pc + 1) ls (.int (va j) :: rest))) : W p l e R s m args below meth c H locs cells slots Q (F0 m pc ls (.int (nI j) :: .ref (a 6) :: rest)) :=
  va_iald S.1 S.2.1 hK hP 6 0 rfl rfl (vp_in_nI hj (by decide)) hdg (by rw [nI_clamp (Nat.lt_trans hj (by decide))]; exact k)
theorem ms_va {n hl : Int32} {lg hd fr co sa va : Nat → Int32} {j : Nat} {v : Int32} (hj : j < 100) (S : CallFix p m c cc nL s args lw_all RX1) (hK : va_K D ml_cl [(d, .int)] s) (hP : va_P D ml_cl (wM d a n hl lg hd fr co sa va) H) (hD : mD A a) (hS : va_S A H0 H locs) (hdg : decode cc pc = .ok (.iastore, 1)) (k : ∀ (H1 : Heap) (locs1 : List Loc), va_P D ml_cl (wM d a n hl lg hd fr co sa (upd va j v)) H1 → va_S A H0 H1 locs1 → W p l e R s m args below meth c H1 locs1 cells slots Q (F0 m (pc + 1) ls rest)) : W p l e R s m args below meth c H locs cells slots Q (F0 m pc ls (.int v :: .int (nI j) :: .ref (a 6) :: rest)) := by
  refine va_iast S.1 S.2.1 hK hP hD.at hS 6 0 rfl rfl (vp_in_nI hj (by decide)) hdg (fun H1 locs1 h1 _ h3 => k H1 locs1 ?_ h3)
  rw [nI_clamp (Nat.lt_trans hj (by decide))] at h1
  exact h1
end MLR
end
section
/-! PICTURES AND THE FORM OF CONTRACTS -/
/-- MerkleLog's fields say st -/
def xR (st : ml_S) (n cnt : Int32) (part nums : Nat → Int32) : Prop := n = nI st.1 ∧ st.1 ≤ 40 ∧ ml_pI part (ml_g st.2.1) st.1 ∧ cnt = nI st.2.2.length ∧ st.2.2.length ≤ 16 ∧ ml_ho nums st.2.2
/-- the heap holds a MerkleLog at the addresses a with the state st -/
def xH (D : va_G) (d : ClassId) (a : Nat → Nat) (st : ml_S) (H : Heap) : Prop := ∃ (n cnt fnd : Int32) (part nums downs : Nat → Int32), xR st n cnt part nums ∧ va_P D ml_cl (wX d a n cnt fnd part nums downs) H
/-- the heap holds a MerkleLogModel: its numbers, log and hand; whatever its four work arrays hold -/
def mW (D : va_G) (d : ClassId) (a : Nat → Nat) (n hl : Int32) (lg hd : Nat → Int32) (H : Heap) : Prop := ∃ (fr co sa va : Nat → Int32), va_P D ml_cl (wM d a n hl lg hd fr co sa va) H
def mR (st : ml_S) (n hl : Int32) (lg hd : Nat → Int32) : Prop := n = nI st.1 ∧ st.1 ≤ 40 ∧ lg = st.2.1 ∧ hl = nI st.2.2.length ∧ st.2.2.length ≤ 16 ∧ ml_ho hd st.2.2
def mH (D : va_G) (d : ClassId) (a : Nat → Nat) (st : ml_S) (H : Heap) : Prop := ∃ (n hl : Int32) (lg hd : Nat → Int32), mR st n hl lg hd ∧ mW D d a n hl lg hd H
/-- a contract's start: the heap is P, the classes are known -/
def ml_Pc (D : va_G) (d : ClassId) (av : List Value) (P : Heap → Prop) : Array Value → State → Prop := va_Pc av (fun U => P U.heap ∧ va_K D ml_cl [(d, .int)] U)
/-- a contract's end: answers r0, the heap is P -/
def ml_Qi (r0 : Int32) (P : Heap → Prop) (A : Nat → Prop) : Array Value → State → Outcome → State → Prop := va_Qi (fun (r : Int32) (_ : Unit) => r = r0) (fun (_ : Unit) (t : State) => P t.heap) A
def ml_Qv (P : Heap → Prop) (A : Nat → Prop) : Array Value → State → Outcome → State → Prop := va_Qv (fun (_ : Unit) => True) (fun (_ : Unit) (t : State) => P t.heap) A
theorem ml_blind {D : va_G} {d : ClassId} {av : List Value} {P : Heap → Prop} : FrameBlind (ml_Pc D d av P) := fun a U g mk q => by
  obtain ⟨q0, q1, q2⟩ := q
  exact ⟨q0, q1, va_K.moved (u := U) (U := U.calling g mk a) (Vm.Alike.refl U.vm) q2⟩
theorem ml_pre {D : va_G} {d : ClassId} {av : List Value} {P : Heap → Prop} {s : State} {H : Heap} (h : P H) (hK : va_K D ml_cl [(d, .int)] s) : ∀ U : State, U.heap = H → s.WarmedH U.vm → ml_Pc D d av P av.toArray U := fun U hU hW => ⟨rfl, by rw [hU]; exact h, va_K.moved hW.alike hK⟩
section MLC
variable {p : Program} {l : Launch} {e : Env} {R : Room} {s : State} {m : MethodId} {args : Array Value} {below : List Frame} {meth : Method} {c : Code} {H : Heap} {locs : List Loc} {cells slots : Nat} {Q : State → Prop} {cc : ByteArray} {pc nL : Nat} {ls : Array Slot} {rest : List Value} {A A1 : Nat → Prop} {free : Addr → Prop} {H0 : Heap} {P : Heap → Prop} {av : Array Value} {st0 : List Value}
theorem ml_calli {r0 : Int32} (hr : va_Run p l e R s m args below meth c H locs cells slots 0 0 (F0 m pc ls st0) rest (ml_Qi r0 P A1 av) free) (hS : va_S A H0 H locs) (hA : ∀ q, A1 q → A q) (hf : ∀ q, free q → A q)
    (k : ∀ (H1 : Heap) (locs1 : List Loc), P H1 → (∀ q : Nat, q < H.size → ¬ A1 q → H1[q]? = H[q]?) → va_S A H0 H1 locs1 → W p l e R s m args below meth c H1 locs1 cells slots Q (F0 m (pc + 3) ls (.int r0 :: rest))) : W p l e R s m args below meth c H locs cells slots Q (F0 m pc ls st0) := by
  refine va_calli hr hS (fun q _ h => hA q h) hf (fun r u t H1 locs1 ht hvm hp hB hz hk hS1 => ?_)
  have hp : r = r0 := hp
  have hB : P t.heap := hB
  subst hp
  rw [ht] at hB
  exact k H1 locs1 hB hk hS1
theorem ml_callv (hr : va_Run p l e R s m args below meth c H locs cells slots 0 0 (F0 m pc ls st0) rest (ml_Qv P A1 av) free) (hS : va_S A H0 H locs) (hA : ∀ q, A1 q → A q) (hf : ∀ q, free q → A q)
    (k : ∀ (H1 : Heap) (locs1 : List Loc), P H1 → (∀ q : Nat, q < H.size → ¬ A1 q → H1[q]? = H[q]?) → va_S A H0 H1 locs1 → W p l e R s m args below meth c H1 locs1 cells slots Q (F0 m (pc + 3) ls rest)) : W p l e R s m args below meth c H locs cells slots Q (F0 m pc ls st0) := by
  refine va_callv hr hS (fun q _ h => hA q h) hf (fun u t H1 locs1 ht hvm hp hB hz hk hS1 => ?_)
  have hB : P t.heap := hB
  rw [ht] at hB
  exact k H1 locs1 hB hk hS1
/-- a method's end -/
theorem ml_iret {r r0 : Int32} (hexec : p.tables.exec = Jvm.exec) (hb : c.code = cc) (hr : meth.sig.returnType = some .int) (hlocks : meth.locks = false) (e0 : r = r0) (hP : P H) (hS : va_S A s.heap H locs) (hdg : decode cc pc = .ok (.ireturn, 1)) :
    W p l e R s m args below meth c H locs cells slots (MQ below (ml_Qi r0 P A) args s cells slots A) (F0 m pc ls [.int r]) :=
  W.iret (v := r) hexec hb hr (fun t ht hW => ⟨⟨r, (), rfl, e0, by show P t.heap; rw [ht]; exact hP⟩, hS.F ht⟩) hS.2.2 hdg
theorem ml_vret (hexec : p.tables.exec = Jvm.exec) (hb : c.code = cc) (hr : meth.sig.returnType = none) (hlocks : meth.locks = false) (hP : P H) (hS : va_S A s.heap H locs) (hdg : decode cc pc = .ok (.return_, 1)) :
    W p l e R s m args below meth c H locs cells slots (MQ below (ml_Qv P A) args s cells slots A) (F0 m pc ls []) :=
  W.vret hexec hb hr (fun t ht hW => ⟨⟨(), rfl, trivial, by show P t.heap; rw [ht]; exact hP⟩, hS.F ht⟩) hS.2.2 hdg
/-- the end of a method that leaves the heap as it is -/
theorem ml_pret {r r0 : Int32} {ty : FieldType} (hexec : p.tables.exec = Jvm.exec) (hb : c.code = cc) (hr : meth.sig.returnType = some ty) (hn : narrow ty (.int r) = .int r) (hlocks : meth.locks = false) (e0 : r = r0) (hdg : decode cc pc = .ok (.ireturn, 1)) :
    W p l e R s m args below meth c s.heap [] cells slots (MQ below (ml_Q r0) args s cells slots ml_no) (F0 m pc ls [.int r]) :=
  W.zret (v := r) hexec hb hr hn (fun t ht hW => ⟨by rw [e0], ht⟩) (fun q h => by cases h) hdg
end MLC
theorem mW.recv {D : va_G} {d : ClassId} {a : Nat → Nat} {n hl : Int32} {lg hd : Nat → Int32} {H : Heap} {s : State} (hK : va_K D ml_cl [(d, .int)] s) (h : mW D d a n hl lg hd H) : ∃ cell : Cell, H[a 0]? = some cell ∧ cell.vm.isStatics = false ∧ s.vm.findClass RX1 = some cell.cls := by
  obtain ⟨fr, co, sa, va, hP⟩ := h
  exact va_recv hK hP (ci := 1) (q0 := 0) (q := (RX1, TX1, 8)) rfl rfl
theorem mH.recv {D : va_G} {d : ClassId} {a : Nat → Nat} {st : ml_S} {H : Heap} {s : State} (hK : va_K D ml_cl [(d, .int)] s) (h : mH D d a st H) : ∃ cell : Cell, H[a 0]? = some cell ∧ cell.vm.isStatics = false ∧ s.vm.findClass RX1 = some cell.cls := by
  obtain ⟨n, hl, lg, hd, -, h⟩ := h
  exact h.recv hK
theorem xH.recv {D : va_G} {d : ClassId} {a : Nat → Nat} {st : ml_S} {H : Heap} {s : State} (hK : va_K D ml_cl [(d, .int)] s) (h : xH D d a st H) : ∃ cell : Cell, H[a 0]? = some cell ∧ cell.vm.isStatics = false ∧ s.vm.findClass RX0 = some cell.cls := by
  obtain ⟨n, cnt, fnd, part, nums, downs, -, hP⟩ := h
  exact va_recv hK hP (ci := 0) (q0 := 0) (q := (RX0, TX0, 6)) rfl rfl
end
section
/-! THE PLAIN LAW, third part: what the operations answer, case by case -/
theorem op_append_full {st : ml_S} {x : Int32} (h : st.1 = 40) : op_append st x = (-1, st) := if_pos h
theorem op_append_ok {st : ml_S} {x : Int32} (h : st.1 < 40) : op_append st x = (nI (st.1 + 1), (st.1 + 1, upd st.2.1 st.1 x, st.2.2)) := if_neg (by omega)
theorem op_root_bad {st : ml_S} {n : Int32} (h : n < 1 ∨ nI st.1 < n) : op_root st n = 0 := if_pos h
theorem op_root_ok {st : ml_S} {k : Nat} (h1 : 1 ≤ k) (h2 : k ≤ st.1) (h3 : st.1 ≤ 40) : op_root st (nI k) = ml_r (ml_g st.2.1) 0 k := by
  unfold op_root
  rw [if_neg, nI_clamp (by omega)]
  rintro (h | h)
  · exact nI_nlt (a := k) (b := 1) h1 (by omega) h
  · exact nI_nlt h2 (by omega) h
theorem op_path_bad {st : ml_S} {e n : Int32} (h : n < 1 ∨ nI st.1 < n ∨ e < 0 ∨ n ≤ e) : op_path st e n = (-1, st) := if_pos h
theorem op_path_ok {st : ml_S} {k j : Nat} (h1 : j < k) (h2 : k ≤ st.1) (h3 : st.1 ≤ 40) : op_path st (nI j) (nI k) = (nI (ml_pth (ml_g st.2.1) 6 0 k j).length, (st.1, st.2.1, (ml_pth (ml_g st.2.1) 6 0 k j).reverse)) := by
  unfold op_path
  rw [if_neg, nI_clamp (by omega), nI_clamp (by omega)]
  rintro (h | h | h | h)
  · exact nI_nlt (a := k) (b := 1) (by omega) (by omega) h
  · exact nI_nlt h2 (by omega) h
  · exact nI_pos (n := j) (by omega) h
  · exact nI_ge h1 (by omega) h
theorem op_steps_bad {st : ml_S} {a b : Int32} (h : a < 1 ∨ b < a ∨ nI st.1 < b) : op_steps st a b = (-1, st) := if_pos h
theorem op_steps_ok {st : ml_S} {k j : Nat} (h0 : 1 ≤ j) (h1 : j ≤ k) (h2 : k ≤ st.1) (h3 : st.1 ≤ 40) : op_steps st (nI j) (nI k) = (nI (ml_stp (ml_g st.2.1) 6 0 k j).length, (st.1, st.2.1, (ml_stp (ml_g st.2.1) 6 0 k j).reverse)) := by
  unfold op_steps
  rw [if_neg, nI_clamp (by omega), nI_clamp (by omega)]
  rintro (h | h | h)
  · exact nI_nlt (a := j) (b := 1) h0 (by omega) h
  · exact nI_nlt h1 (by omega) h
  · exact nI_nlt h2 (by omega) h
theorem op_hand_bad {st : ml_S} {p : Int32} (h : p < 0 ∨ nI st.2.2.length ≤ p) : op_hand st p = 0 := if_pos h
theorem op_hand_ok {st : ml_S} {k : Nat} (h : k < st.2.2.length) (h3 : st.2.2.length ≤ 16) : op_hand st (nI k) = st.2.2.getD k 0 := by
  unfold op_hand
  rw [if_neg, nI_clamp (by omega)]
  rintro (h1 | h1)
  · exact nI_pos (n := k) (by omega) h1
  · exact nI_ge h (by omega) h1
theorem op_alter_bad {st : ml_S} {p v : Int32} (h : p < 0 ∨ nI st.2.2.length ≤ p) : op_alter st p v = (-1, st) := if_pos h
theorem op_alter_ok {st : ml_S} {k : Nat} {v : Int32} (h : k < st.2.2.length) (h3 : st.2.2.length ≤ 16) : op_alter st (nI k) v = (0, (st.1, st.2.1, st.2.2.set k v)) := by
  unfold op_alter
  rw [if_neg, nI_clamp (by omega)]
  rintro (h1 | h1)
  · exact nI_pos (n := k) (by omega) h1
  · exact nI_ge h (by omega) h1
theorem op_take_full {st : ml_S} {v : Int32} (h : st.2.2.length = 16) : op_take st v = (-1, st) := if_pos h
theorem op_take_ok {st : ml_S} {v : Int32} (h : st.2.2.length < 16) : op_take st v = (nI (st.2.2.length + 1), (st.1, st.2.1, st.2.2 ++ [v])) := if_neg (by omega)
theorem op_rootFrom_bad {st : ml_S} {e n v : Int32} (h : n < 1 ∨ 40 < n ∨ e < 0 ∨ n ≤ e) : op_rootFrom st e n v = 0 := if_pos h
theorem op_rootFrom_ok {st : ml_S} {k j : Nat} {v : Int32} (h1 : j < k) (h2 : k ≤ 40) : op_rootFrom st (nI j) (nI k) v = if st.2.2.length = (ml_td 6 k j).length then ml_fo (fun i => st.2.2.getD i 0) (ml_td 6 k j).reverse 0 (ml_leaf v) else 0 := by
  unfold op_rootFrom
  rw [if_neg, nI_clamp (by omega), nI_clamp (by omega)]
  rintro (h | h | h | h)
  · exact nI_nlt (a := k) (b := 1) (by omega) (by omega) h
  · exact nI_nlt (a := 40) (b := k) h2 (by decide) h
  · exact nI_pos (n := j) (by omega) h
  · exact nI_ge h1 (by omega) h
/-- the places that append reads and writes at level i -/
theorem ap_ix {N i j : Nat} (hN : N < 40) (hi : i < 5) (hj : 2 * j * 2 ^ i = N + 1) : 1 ≤ j ∧ j < 41 ∧ ml_fst i + 2 * j - 2 < 80 ∧ ml_fst i + 2 * j - 1 < 80 ∧ ml_fst (i + 1) + j - 1 < 80 := by
  rcases (show i = 0 ∨ i = 1 ∨ i = 2 ∨ i = 3 ∨ i = 4 by omega) with e | e | e | e | e <;> subst e <;> simp only [Nat.reducePow] at hj <;> simp [ml_fst] <;> omega
theorem nI_minus (a b : Nat) (h : b ≤ a) (c : Nat) (hc : a - b = c) : nI a - nI b = nI c := by rw [pk_sub h, hc]
/-! rootFrom: one number of the hand more -/
def ml_rf (h : Nat → Int32) (len : Nat) (ds : List Bool) (k : Nat) (r : Int32) : Int32 := if k + ds.length = len then ml_fo h ds k r else 0
theorem rf_step (h : Nat → Int32) (len : Nat) (b : Bool) (ds : List Bool) (k : Nat) (r : Int32) : ml_rf h len (b :: ds) k r = ml_rf h len ds (k + 1) (if b = true then ml_node r (h k) else ml_node (h k) r) := by
  unfold ml_rf
  rw [ml_fo, List.length_cons, show k + (ds.length + 1) = k + 1 + ds.length by omega]
theorem rf_nil {h : Nat → Int32} {len k : Nat} {r : Int32} (e : k = len) : ml_rf h len [] k r = r := by
  unfold ml_rf
  rw [List.length_nil, Nat.add_zero, if_pos e, ml_fo]
theorem rf_nil0 {h : Nat → Int32} {len k : Nat} {r : Int32} (e : k ≠ len) : ml_rf h len [] k r = 0 := by
  unfold ml_rf
  rw [List.length_nil, Nat.add_zero, if_neg e]
theorem rf_cons0 {h : Nat → Int32} {len k : Nat} {r : Int32} {b : Bool} {ds : List Bool} (e : len ≤ k) : ml_rf h len (b :: ds) k r = 0 := by
  unfold ml_rf
  rw [List.length_cons, if_neg (by omega)]
theorem rf_congr {h h' : Nat → Int32} {len : Nat} {ds : List Bool} {r : Int32} (hh : ∀ i, i < len → h i = h' i) : ml_rf h len ds 0 r = ml_rf h' len ds 0 r := by
  unfold ml_rf
  by_cases e : 0 + ds.length = len
  · rw [if_pos e, if_pos e]
    exact fo_congr ds 0 r (fun i _ h2 => hh i (by omega))
  · rw [if_neg e, if_neg e]
theorem rf_op {st : ml_S} {h : Nat → Int32} {k j : Nat} {v : Int32} (h1 : j < k) (h2 : k ≤ 40) (hh : ml_ho h st.2.2) : op_rootFrom st (nI j) (nI k) v = ml_rf h st.2.2.length (ml_td 6 k j).reverse 0 (ml_leaf v) := by
  rw [op_rootFrom_ok h1 h2, rf_congr (h := h) (h' := fun i => st.2.2.getD i 0) (fun i hi => hh i hi)]
  unfold ml_rf
  rw [List.length_reverse, Nat.zero_add]
  by_cases e : st.2.2.length = (ml_td 6 k j).length
  · rw [if_pos e, if_pos e.symm]
  · rw [if_neg e, if_neg (fun q => e q.symm)]
theorem st_le : ∀ d x y, (ml_st d x y).1 ≤ x ∧ (ml_st d x y).2 ≤ y := by
  intro d
  induction d with
  | zero => intro x y; exact ⟨Nat.le_refl _, Nat.le_refl _⟩
  | succ d ih =>
    intro x y
    rw [ml_st]
    split
    · exact ⟨Nat.le_refl _, Nat.le_refl _⟩
    · obtain ⟨h1, h2⟩ := ih (x / 2) (y / 2)
      exact ⟨by omega, by omega⟩
end
section
/-! THE PLAIN LAW, fourth part: the sides, one by one -/
theorem td_head (d u v : Nat) : (((ml_td (d + 1) u v)[0]?).getD false = true) ↔ (2 ≤ u ∧ v < ml_hf u) := by
  rw [ml_td]
  by_cases h1 : u ≤ 1
  · rw [if_pos h1]
    simp
    omega
  · rw [if_neg h1]
    by_cases h2 : v < ml_hf u
    · rw [if_pos h2]
      simp [h2]
      omega
    · rw [if_neg h2]
      simp [h2]
theorem td_T {nn ee dn u v : Nat} (hdn : dn < 6) (h : (ml_td 6 nn ee).drop dn = ml_td (6 - dn) u v) : ((ml_td 6 nn ee).getD dn false = true) ↔ (2 ≤ u ∧ v < ml_hf u) := by
  rw [List.getD_eq_getElem?_getD, show (ml_td 6 nn ee)[dn]? = ((ml_td 6 nn ee).drop dn)[0]? by rw [List.getElem?_drop, Nat.add_zero], h, show 6 - dn = (5 - dn) + 1 by omega]
  exact td_head _ u v
theorem td_T0 {nn ee dn i u v : Nat} (hi : i ≤ dn) (hdn : dn < 6) (hu : u ≤ 1) (h : (ml_td 6 nn ee).drop i = ml_td (6 - i) u v) : ((ml_td 6 nn ee).getD dn false = true) ↔ (2 ≤ u ∧ v < ml_hf u) := by
  generalize ml_td 6 nn ee = L at h ⊢
  rw [show 6 - i = (5 - i) + 1 by omega, ml_td, if_pos hu] at h
  have hl := List.drop_eq_nil_iff.mp h
  rw [List.getD_eq_getElem?_getD, List.getElem?_eq_none (by omega)]
  simp
  omega
theorem td_L {L : List Bool} {i u v : Nat} (hi : i < 6) (h2 : 2 ≤ u) (hv : v < ml_hf u) (h : L.drop i = ml_td (6 - i) u v) : L.drop (i + 1) = ml_td (6 - (i + 1)) (ml_hf u) v := by
  rw [← List.drop_drop, h, show 6 - i = (6 - (i + 1)) + 1 by omega, ml_td, if_neg (by omega), if_pos hv]
  rfl
theorem td_R {L : List Bool} {i u v : Nat} (hi : i < 6) (h2 : 2 ≤ u) (hv : ¬ v < ml_hf u) (h : L.drop i = ml_td (6 - i) u v) : L.drop (i + 1) = ml_td (6 - (i + 1)) (u - ml_hf u) (v - ml_hf u) := by
  rw [← List.drop_drop, h, show 6 - i = (6 - (i + 1)) + 1 by omega, ml_td, if_neg (by omega), if_neg hv]
  rfl
theorem rev_drop {L : List Bool} {i : Nat} (h : i < L.length) : L.reverse.drop i = L.getD (L.length - 1 - i) false :: L.reverse.drop (i + 1) := by
  rw [List.drop_eq_getElem_cons (by rw [List.length_reverse]; exact h), List.getElem_reverse, List.getD_eq_getElem?_getD, List.getElem?_eq_getElem (by omega)]
  rfl
end
section
set_option maxHeartbeats 4000000 in
set_option maxRecDepth 100000 in
/-- mix -/
theorem xm_mix (l : Launch) (x y : Int32) : Met l yX0_mix (ws_ yX0_mix cX0_mix 3 (some .int)) ({ frames := 0, cells := 0, slots := 0, locals := 0 }) (va_Pc [.int x, .int y] (fun _ => True)) (ml_Q (ml_mix x y)) 0 0 (ml_no) := by
  refine Met.ofW (cc := cX0_mix) (maxL := 3) (ret := (some .int)) (by decide) rfl ?_
  intro p e s m args below meth c s₁ B hml hv
  obtain ⟨rfl, -⟩ := hv
  have hx := B.exec
  have hb := B.bytes
  have hr := B.returns
  have hts0 := atoms_spec (ws := (ws_ yX0_mix cX0_mix 3 (some .int))) B.pre
  have hts : ∀ w ∈ lw_all, w.before _ s = true := fun w h => hts0 w (List.mem_cons_of_mem _ h)
  have hown : s.vm.findClass RX0 = some m.cls := findClass_of_methodNamed B.named
  have hlocks := B.notSynchronized
  have S : CallFix p m c cX0_mix 3 s _ lw_all RX0 := ⟨hx, hb, hml, hown, hts⟩
  have hl := lv_entry ([.int x, .int y]) (n := 3) (Nat.le_of_ble_eq_true rfl)
  rw [lg_entry_eq]
  generalize (lg_sl ([.int x, .int y]) ++ List.replicate (3 - (lg_sl ([.int x, .int y])).length) Slot.unset).toArray = ls at hl ⊢
  have hl : lv_has ls 3 [(0, .int x), (1, .int y)] := hl
  refine lv_iload_n hx hb dX0_mix_0 rfl (lv_at hl 0 rfl) ?_
  refine lv_iload_n hx hb dX0_mix_1 rfl (lv_at hl 0 rfl) ?_
  refine lv_bipush (v := 15) hx hb dX0_mix_2 (by decide) ?_
  refine lv_iushr (v := ml_ush x 15) hx hb dX0_mix_4 rfl ?_
  refine lv_ixor hx hb dX0_mix_5 ?_
  refine lv_ldc (v := 739982445) hx hb hown (hts _ q48) dX0_mix_6 ?_
  refine lv_imul hx hb dX0_mix_8 ?_
  refine lv_iload_n hx hb dX0_mix_9 rfl (lv_at hl 1 rfl) ?_
  refine lv_iadd hx hb dX0_mix_10 ?_
  refine ml_top (y := ml_m1 x y) (rfl) ?_
  refine lv_istore_n (lv' := [(2, .int (ml_m1 x y)), (0, .int x), (1, .int y)]) hx hb dX0_mix_11 rfl hl (by decide) rfl (fun ls hl => ?_)
  refine lv_iload_n hx hb dX0_mix_12 rfl (lv_at hl 0 rfl) ?_
  refine lv_iload_n hx hb dX0_mix_13 rfl (lv_at hl 0 rfl) ?_
  refine lv_bipush (v := 12) hx hb dX0_mix_14 (by decide) ?_
  refine lv_iushr (v := ml_ush (ml_m1 x y) 12) hx hb dX0_mix_16 rfl ?_
  refine lv_ixor hx hb dX0_mix_17 ?_
  refine lv_ldc (v := 695872825) hx hb hown (hts _ q49) dX0_mix_18 ?_
  refine lv_imul hx hb dX0_mix_20 ?_
  refine lv_iload_n hx hb dX0_mix_21 rfl (lv_at hl 2 rfl) ?_
  refine lv_iadd hx hb dX0_mix_22 ?_
  refine ml_top (y := ml_m2 (ml_m1 x y) y) (rfl) ?_
  refine lv_istore_n (lv' := [(2, .int (ml_m2 (ml_m1 x y) y)), (0, .int x), (1, .int y)]) hx hb dX0_mix_23 rfl hl (by decide) rfl (fun ls hl => ?_)
  refine lv_iload_n hx hb dX0_mix_24 rfl (lv_at hl 0 rfl) ?_
  refine lv_iload_n hx hb dX0_mix_25 rfl (lv_at hl 0 rfl) ?_
  refine lv_bipush (v := 15) hx hb dX0_mix_26 (by decide) ?_
  refine lv_iushr (v := ml_ush (ml_m2 (ml_m1 x y) y) 15) hx hb dX0_mix_28 rfl ?_
  refine lv_ixor hx hb dX0_mix_29 ?_
  exact ml_pret hx hb hr rfl hlocks (rfl) dX0_mix_30
section
variable {p : Program} {l : Launch} {e : Env} {R : Room} {s : State} {m : MethodId} {args : Array Value} {below : List Frame} {meth : Method} {c : Code} {H : Heap} {locs : List Loc} {cells slots : Nat} {Q : State → Prop} {cc : ByteArray} {pc nL : Nat} {ls : Array Slot} {rest : List Value}
theorem xc_mix {x y : Int32} (S : CallFix p m c cc nL s args lw_all RX0) (hR : 0 + 1 ≤ R.frames ∧ 8 + (3 + 11) + 0 ≤ R.locals) (hc : cells ≤ R.cells ∧ slots ≤ R.slots) (hl : ls.size = nL) (hw : (rest.map fun v => v.category).sum ≤ 8) (hdg : decode cc pc = .ok (.invokestatic 55, 3)) (k : W p l e R s m args below meth c H locs cells slots Q (F0 m (pc + 3) ls (.int (ml_mix x y) :: rest))) : W p l e R s m args below meth c H locs cells slots Q (F0 m pc ls (.int y :: .int x :: rest)) :=
  ml_pure (va_runS (As := [.int x, .int y]) (rest := rest) S (xm_mix l x y) (va_cwS 2 S.2.2.2.2 (lw_S q45 q46 q8 q47) rfl rfl rfl (by decide +kernel) hR) ⟨fun _ _ _ _ q => q, fun U hU hW => ⟨rfl, trivial⟩⟩ rfl rfl hl rfl (lv_room hw) hdg hc) k
end
set_option maxHeartbeats 4000000 in
set_option maxRecDepth 100000 in
/-- leaf -/
theorem xm_leaf (l : Launch) (x : Int32) : Met l yX0_leaf (ws_ yX0_leaf cX0_leaf 1 (some .int)) ({ frames := 1, cells := 0, slots := 0, locals := 22 }) (va_Pc [.int x] (fun _ => True)) (ml_Q (ml_leaf x)) 0 0 (ml_no) := by
  refine Met.ofW (cc := cX0_leaf) (maxL := 1) (ret := (some .int)) (by decide) rfl ?_
  intro p e s m args below meth c s₁ B hml hv
  obtain ⟨rfl, -⟩ := hv
  have hx := B.exec
  have hb := B.bytes
  have hr := B.returns
  have hts0 := atoms_spec (ws := (ws_ yX0_leaf cX0_leaf 1 (some .int))) B.pre
  have hts : ∀ w ∈ lw_all, w.before _ s = true := fun w h => hts0 w (List.mem_cons_of_mem _ h)
  have hown : s.vm.findClass RX0 = some m.cls := findClass_of_methodNamed B.named
  have hlocks := B.notSynchronized
  have S : CallFix p m c cX0_leaf 1 s _ lw_all RX0 := ⟨hx, hb, hml, hown, hts⟩
  have hl := lv_entry ([.int x]) (n := 1) (Nat.le_of_ble_eq_true rfl)
  rw [lg_entry_eq]
  generalize (lg_sl ([.int x]) ++ List.replicate (1 - (lg_sl ([.int x])).length) Slot.unset).toArray = ls at hl ⊢
  have hl : lv_has ls 1 [(0, .int x)] := hl
  refine lv_iload_n hx hb dX0_leaf_0 rfl (lv_at hl 0 rfl) ?_
  refine lv_iconst (v := 1) hx hb dX0_leaf_1 (by decide) ?_
  refine xc_mix S ⟨Nat.le_of_ble_eq_true rfl, Nat.le_of_ble_eq_true rfl⟩ ⟨Nat.zero_le _, Nat.zero_le _⟩ hl.1 (Nat.le_of_ble_eq_true rfl) dX0_leaf_2 ?_
  exact ml_pret hx hb hr rfl hlocks (rfl) dX0_leaf_5
section
variable {p : Program} {l : Launch} {e : Env} {R : Room} {s : State} {m : MethodId} {args : Array Value} {below : List Frame} {meth : Method} {c : Code} {H : Heap} {locs : List Loc} {cells slots : Nat} {Q : State → Prop} {cc : ByteArray} {pc nL : Nat} {ls : Array Slot} {rest : List Value}
theorem xc_leaf {x : Int32} (S : CallFix p m c cc nL s args lw_all RX0) (hR : 1 + 1 ≤ R.frames ∧ 8 + (1 + 11) + 22 ≤ R.locals) (hc : cells ≤ R.cells ∧ slots ≤ R.slots) (hl : ls.size = nL) (hw : (rest.map fun v => v.category).sum ≤ 8) (hdg : decode cc pc = .ok (.invokestatic 23, 3)) (k : W p l e R s m args below meth c H locs cells slots Q (F0 m (pc + 3) ls (.int (ml_leaf x) :: rest))) : W p l e R s m args below meth c H locs cells slots Q (F0 m pc ls (.int x :: rest)) :=
  ml_pure (va_runS (As := [.int x]) (rest := rest) S (xm_leaf l x) (va_cwS 1 S.2.2.2.2 (lw_S q42 q43 q8 q44) rfl rfl rfl (by decide +kernel) hR) ⟨fun _ _ _ _ q => q, fun U hU hW => ⟨rfl, trivial⟩⟩ rfl rfl hl rfl (lv_room hw) hdg hc) k
end
set_option maxHeartbeats 4000000 in
set_option maxRecDepth 100000 in
/-- node -/
theorem xm_node (l : Launch) (x y : Int32) : Met l yX0_node (ws_ yX0_node cX0_node 3 (some .int)) ({ frames := 1, cells := 0, slots := 0, locals := 22 }) (va_Pc [.int x, .int y] (fun _ => True)) (ml_Q (ml_node x y)) 0 0 (ml_no) := by
  refine Met.ofW (cc := cX0_node) (maxL := 3) (ret := (some .int)) (by decide) rfl ?_
  intro p e s m args below meth c s₁ B hml hv
  obtain ⟨rfl, -⟩ := hv
  have hx := B.exec
  have hb := B.bytes
  have hr := B.returns
  have hts0 := atoms_spec (ws := (ws_ yX0_node cX0_node 3 (some .int))) B.pre
  have hts : ∀ w ∈ lw_all, w.before _ s = true := fun w h => hts0 w (List.mem_cons_of_mem _ h)
  have hown : s.vm.findClass RX0 = some m.cls := findClass_of_methodNamed B.named
  have hlocks := B.notSynchronized
  have S : CallFix p m c cX0_node 3 s _ lw_all RX0 := ⟨hx, hb, hml, hown, hts⟩
  have hl := lv_entry ([.int x, .int y]) (n := 3) (Nat.le_of_ble_eq_true rfl)
  rw [lg_entry_eq]
  generalize (lg_sl ([.int x, .int y]) ++ List.replicate (3 - (lg_sl ([.int x, .int y])).length) Slot.unset).toArray = ls at hl ⊢
  have hl : lv_has ls 3 [(0, .int x), (1, .int y)] := hl
  refine lv_iload_n hx hb dX0_node_0 rfl (lv_at hl 0 rfl) ?_
  refine lv_iconst (v := 2) hx hb dX0_node_1 (by decide) ?_
  refine xc_mix S ⟨Nat.le_of_ble_eq_true rfl, Nat.le_of_ble_eq_true rfl⟩ ⟨Nat.zero_le _, Nat.zero_le _⟩ hl.1 (Nat.le_of_ble_eq_true rfl) dX0_node_2 ?_
  refine lv_istore_n (lv' := [(2, .int (ml_mix x 2)), (0, .int x), (1, .int y)]) hx hb dX0_node_5 rfl hl (by decide) rfl (fun ls hl => ?_)
  refine lv_iload_n hx hb dX0_node_6 rfl (lv_at hl 0 rfl) ?_
  refine lv_iload_n hx hb dX0_node_7 rfl (lv_at hl 2 rfl) ?_
  refine lv_ixor hx hb dX0_node_8 ?_
  refine lv_iconst (v := 3) hx hb dX0_node_9 (by decide) ?_
  refine xc_mix S ⟨Nat.le_of_ble_eq_true rfl, Nat.le_of_ble_eq_true rfl⟩ ⟨Nat.zero_le _, Nat.zero_le _⟩ hl.1 (Nat.le_of_ble_eq_true rfl) dX0_node_10 ?_
  exact ml_pret hx hb hr rfl hlocks (rfl) dX0_node_13
section
variable {p : Program} {l : Launch} {e : Env} {R : Room} {s : State} {m : MethodId} {args : Array Value} {below : List Frame} {meth : Method} {c : Code} {H : Heap} {locs : List Loc} {cells slots : Nat} {Q : State → Prop} {cc : ByteArray} {pc nL : Nat} {ls : Array Slot} {rest : List Value}
theorem xc_node {x y : Int32} (S : CallFix p m c cc nL s args lw_all RX0) (hR : 1 + 1 ≤ R.frames ∧ 8 + (3 + 11) + 22 ≤ R.locals) (hc : cells ≤ R.cells ∧ slots ≤ R.slots) (hl : ls.size = nL) (hw : (rest.map fun v => v.category).sum ≤ 8) (hdg : decode cc pc = .ok (.invokestatic 30, 3)) (k : W p l e R s m args below meth c H locs cells slots Q (F0 m (pc + 3) ls (.int (ml_node x y) :: rest))) : W p l e R s m args below meth c H locs cells slots Q (F0 m pc ls (.int y :: .int x :: rest)) :=
  ml_pure (va_runS (As := [.int x, .int y]) (rest := rest) S (xm_node l x y) (va_cwS 2 S.2.2.2.2 (lw_S q53 q54 q8 q55) rfl rfl rfl (by decide +kernel) hR) ⟨fun _ _ _ _ q => q, fun U hU hW => ⟨rfl, trivial⟩⟩ rfl rfl hl rfl (lv_room hw) hdg hc) k
end
set_option maxHeartbeats 4000000 in
set_option maxRecDepth 100000 in
/-- mix -/
theorem mm_mix (l : Launch) (x y : Int32) : Met l yX1_mix (ws_ yX1_mix cX1_mix 3 (some .int)) ({ frames := 0, cells := 0, slots := 0, locals := 0 }) (va_Pc [.int x, .int y] (fun _ => True)) (ml_Q (ml_mix x y)) 0 0 (ml_no) := by
  refine Met.ofW (cc := cX1_mix) (maxL := 3) (ret := (some .int)) (by decide) rfl ?_
  intro p e s m args below meth c s₁ B hml hv
  obtain ⟨rfl, -⟩ := hv
  have hx := B.exec
  have hb := B.bytes
  have hr := B.returns
  have hts0 := atoms_spec (ws := (ws_ yX1_mix cX1_mix 3 (some .int))) B.pre
  have hts : ∀ w ∈ lw_all, w.before _ s = true := fun w h => hts0 w (List.mem_cons_of_mem _ h)
  have hown : s.vm.findClass RX1 = some m.cls := findClass_of_methodNamed B.named
  have hlocks := B.notSynchronized
  have S : CallFix p m c cX1_mix 3 s _ lw_all RX1 := ⟨hx, hb, hml, hown, hts⟩
  have hl := lv_entry ([.int x, .int y]) (n := 3) (Nat.le_of_ble_eq_true rfl)
  rw [lg_entry_eq]
  generalize (lg_sl ([.int x, .int y]) ++ List.replicate (3 - (lg_sl ([.int x, .int y])).length) Slot.unset).toArray = ls at hl ⊢
  have hl : lv_has ls 3 [(0, .int x), (1, .int y)] := hl
  refine lv_iload_n hx hb dX1_mix_0 rfl (lv_at hl 0 rfl) ?_
  refine lv_iload_n hx hb dX1_mix_1 rfl (lv_at hl 0 rfl) ?_
  refine lv_bipush (v := 15) hx hb dX1_mix_2 (by decide) ?_
  refine lv_iushr (v := ml_ush x 15) hx hb dX1_mix_4 rfl ?_
  refine lv_ixor hx hb dX1_mix_5 ?_
  refine lv_ldc (v := 739982445) hx hb hown (hts _ q160) dX1_mix_6 ?_
  refine lv_imul hx hb dX1_mix_8 ?_
  refine lv_iload_n hx hb dX1_mix_9 rfl (lv_at hl 1 rfl) ?_
  refine lv_iadd hx hb dX1_mix_10 ?_
  refine ml_top (y := ml_m1 x y) (rfl) ?_
  refine lv_istore_n (lv' := [(2, .int (ml_m1 x y)), (0, .int x), (1, .int y)]) hx hb dX1_mix_11 rfl hl (by decide) rfl (fun ls hl => ?_)
  refine lv_iload_n hx hb dX1_mix_12 rfl (lv_at hl 0 rfl) ?_
  refine lv_iload_n hx hb dX1_mix_13 rfl (lv_at hl 0 rfl) ?_
  refine lv_bipush (v := 12) hx hb dX1_mix_14 (by decide) ?_
  refine lv_iushr (v := ml_ush (ml_m1 x y) 12) hx hb dX1_mix_16 rfl ?_
  refine lv_ixor hx hb dX1_mix_17 ?_
  refine lv_ldc (v := 695872825) hx hb hown (hts _ q161) dX1_mix_18 ?_
  refine lv_imul hx hb dX1_mix_20 ?_
  refine lv_iload_n hx hb dX1_mix_21 rfl (lv_at hl 2 rfl) ?_
  refine lv_iadd hx hb dX1_mix_22 ?_
  refine ml_top (y := ml_m2 (ml_m1 x y) y) (rfl) ?_
  refine lv_istore_n (lv' := [(2, .int (ml_m2 (ml_m1 x y) y)), (0, .int x), (1, .int y)]) hx hb dX1_mix_23 rfl hl (by decide) rfl (fun ls hl => ?_)
  refine lv_iload_n hx hb dX1_mix_24 rfl (lv_at hl 0 rfl) ?_
  refine lv_iload_n hx hb dX1_mix_25 rfl (lv_at hl 0 rfl) ?_
  refine lv_bipush (v := 15) hx hb dX1_mix_26 (by decide) ?_
  refine lv_iushr (v := ml_ush (ml_m2 (ml_m1 x y) y) 15) hx hb dX1_mix_28 rfl ?_
  refine lv_ixor hx hb dX1_mix_29 ?_
  exact ml_pret hx hb hr rfl hlocks (rfl) dX1_mix_30
section
variable {p : Program} {l : Launch} {e : Env} {R : Room} {s : State} {m : MethodId} {args : Array Value} {below : List Frame} {meth : Method} {c : Code} {H : Heap} {locs : List Loc} {cells slots : Nat} {Q : State → Prop} {cc : ByteArray} {pc nL : Nat} {ls : Array Slot} {rest : List Value}
theorem mc_mix {x y : Int32} (S : CallFix p m c cc nL s args lw_all RX1) (hR : 0 + 1 ≤ R.frames ∧ 8 + (3 + 11) + 0 ≤ R.locals) (hc : cells ≤ R.cells ∧ slots ≤ R.slots) (hl : ls.size = nL) (hw : (rest.map fun v => v.category).sum ≤ 8) (hdg : decode cc pc = .ok (.invokestatic 30, 3)) (k : W p l e R s m args below meth c H locs cells slots Q (F0 m (pc + 3) ls (.int (ml_mix x y) :: rest))) : W p l e R s m args below meth c H locs cells slots Q (F0 m pc ls (.int y :: .int x :: rest)) :=
  ml_pure (va_runS (As := [.int x, .int y]) (rest := rest) S (mm_mix l x y) (va_cwS 2 S.2.2.2.2 (lw_S q157 q158 q9 q159) rfl rfl rfl (by decide +kernel) hR) ⟨fun _ _ _ _ q => q, fun U hU hW => ⟨rfl, trivial⟩⟩ rfl rfl hl rfl (lv_room hw) hdg hc) k
end
set_option maxHeartbeats 4000000 in
set_option maxRecDepth 100000 in
/-- leaf -/
theorem mm_leaf (l : Launch) (x : Int32) : Met l yX1_leaf (ws_ yX1_leaf cX1_leaf 1 (some .int)) ({ frames := 1, cells := 0, slots := 0, locals := 22 }) (va_Pc [.int x] (fun _ => True)) (ml_Q (ml_leaf x)) 0 0 (ml_no) := by
  refine Met.ofW (cc := cX1_leaf) (maxL := 1) (ret := (some .int)) (by decide) rfl ?_
  intro p e s m args below meth c s₁ B hml hv
  obtain ⟨rfl, -⟩ := hv
  have hx := B.exec
  have hb := B.bytes
  have hr := B.returns
  have hts0 := atoms_spec (ws := (ws_ yX1_leaf cX1_leaf 1 (some .int))) B.pre
  have hts : ∀ w ∈ lw_all, w.before _ s = true := fun w h => hts0 w (List.mem_cons_of_mem _ h)
  have hown : s.vm.findClass RX1 = some m.cls := findClass_of_methodNamed B.named
  have hlocks := B.notSynchronized
  have S : CallFix p m c cX1_leaf 1 s _ lw_all RX1 := ⟨hx, hb, hml, hown, hts⟩
  have hl := lv_entry ([.int x]) (n := 1) (Nat.le_of_ble_eq_true rfl)
  rw [lg_entry_eq]
  generalize (lg_sl ([.int x]) ++ List.replicate (1 - (lg_sl ([.int x])).length) Slot.unset).toArray = ls at hl ⊢
  have hl : lv_has ls 1 [(0, .int x)] := hl
  refine lv_iload_n hx hb dX1_leaf_0 rfl (lv_at hl 0 rfl) ?_
  refine lv_iconst (v := 1) hx hb dX1_leaf_1 (by decide) ?_
  refine mc_mix S ⟨Nat.le_of_ble_eq_true rfl, Nat.le_of_ble_eq_true rfl⟩ ⟨Nat.zero_le _, Nat.zero_le _⟩ hl.1 (Nat.le_of_ble_eq_true rfl) dX1_leaf_2 ?_
  exact ml_pret hx hb hr rfl hlocks (rfl) dX1_leaf_5
section
variable {p : Program} {l : Launch} {e : Env} {R : Room} {s : State} {m : MethodId} {args : Array Value} {below : List Frame} {meth : Method} {c : Code} {H : Heap} {locs : List Loc} {cells slots : Nat} {Q : State → Prop} {cc : ByteArray} {pc nL : Nat} {ls : Array Slot} {rest : List Value}
theorem mc_leaf {x : Int32} (S : CallFix p m c cc nL s args lw_all RX1) (hR : 1 + 1 ≤ R.frames ∧ 8 + (1 + 11) + 22 ≤ R.locals) (hc : cells ≤ R.cells ∧ slots ≤ R.slots) (hl : ls.size = nL) (hw : (rest.map fun v => v.category).sum ≤ 8) (hdg : decode cc pc = .ok (.invokestatic 42, 3)) (k : W p l e R s m args below meth c H locs cells slots Q (F0 m (pc + 3) ls (.int (ml_leaf x) :: rest))) : W p l e R s m args below meth c H locs cells slots Q (F0 m pc ls (.int x :: rest)) :=
  ml_pure (va_runS (As := [.int x]) (rest := rest) S (mm_leaf l x) (va_cwS 1 S.2.2.2.2 (lw_S q154 q155 q9 q156) rfl rfl rfl (by decide +kernel) hR) ⟨fun _ _ _ _ q => q, fun U hU hW => ⟨rfl, trivial⟩⟩ rfl rfl hl rfl (lv_room hw) hdg hc) k
end
set_option maxHeartbeats 4000000 in
set_option maxRecDepth 100000 in
/-- node -/
theorem mm_node (l : Launch) (x y : Int32) : Met l yX1_node (ws_ yX1_node cX1_node 3 (some .int)) ({ frames := 1, cells := 0, slots := 0, locals := 22 }) (va_Pc [.int x, .int y] (fun _ => True)) (ml_Q (ml_node x y)) 0 0 (ml_no) := by
  refine Met.ofW (cc := cX1_node) (maxL := 3) (ret := (some .int)) (by decide) rfl ?_
  intro p e s m args below meth c s₁ B hml hv
  obtain ⟨rfl, -⟩ := hv
  have hx := B.exec
  have hb := B.bytes
  have hr := B.returns
  have hts0 := atoms_spec (ws := (ws_ yX1_node cX1_node 3 (some .int))) B.pre
  have hts : ∀ w ∈ lw_all, w.before _ s = true := fun w h => hts0 w (List.mem_cons_of_mem _ h)
  have hown : s.vm.findClass RX1 = some m.cls := findClass_of_methodNamed B.named
  have hlocks := B.notSynchronized
  have S : CallFix p m c cX1_node 3 s _ lw_all RX1 := ⟨hx, hb, hml, hown, hts⟩
  have hl := lv_entry ([.int x, .int y]) (n := 3) (Nat.le_of_ble_eq_true rfl)
  rw [lg_entry_eq]
  generalize (lg_sl ([.int x, .int y]) ++ List.replicate (3 - (lg_sl ([.int x, .int y])).length) Slot.unset).toArray = ls at hl ⊢
  have hl : lv_has ls 3 [(0, .int x), (1, .int y)] := hl
  refine lv_iload_n hx hb dX1_node_0 rfl (lv_at hl 0 rfl) ?_
  refine lv_iconst (v := 2) hx hb dX1_node_1 (by decide) ?_
  refine mc_mix S ⟨Nat.le_of_ble_eq_true rfl, Nat.le_of_ble_eq_true rfl⟩ ⟨Nat.zero_le _, Nat.zero_le _⟩ hl.1 (Nat.le_of_ble_eq_true rfl) dX1_node_2 ?_
  refine lv_istore_n (lv' := [(2, .int (ml_mix x 2)), (0, .int x), (1, .int y)]) hx hb dX1_node_5 rfl hl (by decide) rfl (fun ls hl => ?_)
  refine lv_iload_n hx hb dX1_node_6 rfl (lv_at hl 0 rfl) ?_
  refine lv_iload_n hx hb dX1_node_7 rfl (lv_at hl 2 rfl) ?_
  refine lv_ixor hx hb dX1_node_8 ?_
  refine lv_iconst (v := 3) hx hb dX1_node_9 (by decide) ?_
  refine mc_mix S ⟨Nat.le_of_ble_eq_true rfl, Nat.le_of_ble_eq_true rfl⟩ ⟨Nat.zero_le _, Nat.zero_le _⟩ hl.1 (Nat.le_of_ble_eq_true rfl) dX1_node_10 ?_
  exact ml_pret hx hb hr rfl hlocks (rfl) dX1_node_13
section
variable {p : Program} {l : Launch} {e : Env} {R : Room} {s : State} {m : MethodId} {args : Array Value} {below : List Frame} {meth : Method} {c : Code} {H : Heap} {locs : List Loc} {cells slots : Nat} {Q : State → Prop} {cc : ByteArray} {pc nL : Nat} {ls : Array Slot} {rest : List Value}
theorem mc_node {x y : Int32} (S : CallFix p m c cc nL s args lw_all RX1) (hR : 1 + 1 ≤ R.frames ∧ 8 + (3 + 11) + 22 ≤ R.locals) (hc : cells ≤ R.cells ∧ slots ≤ R.slots) (hl : ls.size = nL) (hw : (rest.map fun v => v.category).sum ≤ 8) (hdg : decode cc pc = .ok (.invokestatic 49, 3)) (k : W p l e R s m args below meth c H locs cells slots Q (F0 m (pc + 3) ls (.int (ml_node x y) :: rest))) : W p l e R s m args below meth c H locs cells slots Q (F0 m pc ls (.int y :: .int x :: rest)) :=
  ml_pure (va_runS (As := [.int x, .int y]) (rest := rest) S (mm_node l x y) (va_cwS 2 S.2.2.2.2 (lw_S q165 q166 q9 q167) rfl rfl rfl (by decide +kernel) hR) ⟨fun _ _ _ _ q => q, fun U hU hW => ⟨rfl, trivial⟩⟩ rfl rfl hl rfl (lv_room hw) hdg hc) k
end
set_option maxHeartbeats 4000000 in
set_option maxRecDepth 100000 in
/-- first(level) -/
theorem xm_first (l : Launch) (x : Int32) : Met l yX0_first (ws_ yX0_first cX0_first 1 (some .int)) ({ frames := 0, cells := 0, slots := 0, locals := 0 }) (va_Pc [.int x] (fun _ => True)) (ml_Q (ml_fi x)) 0 0 (ml_no) := by
  refine Met.ofW (cc := cX0_first) (maxL := 1) (ret := (some .int)) (by decide) rfl ?_
  intro p e s m args below meth c s₁ B hml hv
  obtain ⟨rfl, -⟩ := hv
  have hx := B.exec
  have hb := B.bytes
  have hr := B.returns
  have hts0 := atoms_spec (ws := (ws_ yX0_first cX0_first 1 (some .int))) B.pre
  have hts : ∀ w ∈ lw_all, w.before _ s = true := fun w h => hts0 w (List.mem_cons_of_mem _ h)
  have hown : s.vm.findClass RX0 = some m.cls := findClass_of_methodNamed B.named
  have hlocks := B.notSynchronized
  have S : CallFix p m c cX0_first 1 s _ lw_all RX0 := ⟨hx, hb, hml, hown, hts⟩
  have hl := lv_entry ([.int x]) (n := 1) (Nat.le_of_ble_eq_true rfl)
  rw [lg_entry_eq]
  generalize (lg_sl ([.int x]) ++ List.replicate (1 - (lg_sl ([.int x])).length) Slot.unset).toArray = ls at hl ⊢
  have hl : lv_has ls 1 [(0, .int x)] := hl
  refine lv_iload_n hx hb dX0_first_0 rfl (lv_at hl 0 rfl) ?_
  refine lv_if_ne (tgt := 8) hx hb dX0_first_1 (by decide) (fun c0 => ?_) (fun c0 => ?_)
  · refine lv_iload_n hx hb dX0_first_8 rfl (lv_at hl 0 rfl) ?_
    refine lv_iconst (v := 1) hx hb dX0_first_9 (by decide) ?_
    refine lv_icmp_ne (tgt := 18) hx hb dX0_first_10 (by decide) (fun c1 => ?_) (fun c1 => ?_)
    · refine lv_iload_n hx hb dX0_first_18 rfl (lv_at hl 0 rfl) ?_
      refine lv_iconst (v := 2) hx hb dX0_first_19 (by decide) ?_
      refine lv_icmp_ne (tgt := 28) hx hb dX0_first_20 (by decide) (fun c2 => ?_) (fun c2 => ?_)
      · refine lv_iload_n hx hb dX0_first_28 rfl (lv_at hl 0 rfl) ?_
        refine lv_iconst (v := 3) hx hb dX0_first_29 (by decide) ?_
        refine lv_icmp_ne (tgt := 38) hx hb dX0_first_30 (by decide) (fun c3 => ?_) (fun c3 => ?_)
        · refine lv_iload_n hx hb dX0_first_38 rfl (lv_at hl 0 rfl) ?_
          refine lv_iconst (v := 4) hx hb dX0_first_39 (by decide) ?_
          refine lv_icmp_ne (tgt := 48) hx hb dX0_first_40 (by decide) (fun c4 => ?_) (fun c4 => ?_)
          · refine lv_bipush (v := 77) hx hb dX0_first_48 (by decide) ?_
            exact ml_pret hx hb hr rfl hlocks (by simp [ml_fi, c0, c1, c2, c3, c4]) dX0_first_50
          · refine lv_bipush (v := 75) hx hb dX0_first_43 (by decide) ?_
            refine lv_goto (tgt := 50) hx hb dX0_first_45 (by decide) ?_
            exact ml_pret hx hb hr rfl hlocks (by simp [ml_fi, c0, c1, c2, c3, c4]) dX0_first_50
        · refine lv_bipush (v := 70) hx hb dX0_first_33 (by decide) ?_
          refine lv_goto (tgt := 50) hx hb dX0_first_35 (by decide) ?_
          exact ml_pret hx hb hr rfl hlocks (by simp [ml_fi, c0, c1, c2, c3]) dX0_first_50
      · refine lv_bipush (v := 60) hx hb dX0_first_23 (by decide) ?_
        refine lv_goto (tgt := 50) hx hb dX0_first_25 (by decide) ?_
        exact ml_pret hx hb hr rfl hlocks (by simp [ml_fi, c0, c1, c2]) dX0_first_50
    · refine lv_bipush (v := 40) hx hb dX0_first_13 (by decide) ?_
      refine lv_goto (tgt := 50) hx hb dX0_first_15 (by decide) ?_
      exact ml_pret hx hb hr rfl hlocks (by simp [ml_fi, c0, c1]) dX0_first_50
  · refine lv_iconst (v := 0) hx hb dX0_first_4 (by decide) ?_
    refine lv_goto (tgt := 50) hx hb dX0_first_5 (by decide) ?_
    exact ml_pret hx hb hr rfl hlocks (by simp [ml_fi, c0]) dX0_first_50
section
variable {p : Program} {l : Launch} {e : Env} {R : Room} {s : State} {m : MethodId} {args : Array Value} {below : List Frame} {meth : Method} {c : Code} {H : Heap} {locs : List Loc} {cells slots : Nat} {Q : State → Prop} {cc : ByteArray} {pc nL : Nat} {ls : Array Slot} {rest : List Value}
theorem xc_first {x : Int32} (S : CallFix p m c cc nL s args lw_all RX0) (hR : 0 + 1 ≤ R.frames ∧ 8 + (1 + 11) + 0 ≤ R.locals) (hc : cells ≤ R.cells ∧ slots ≤ R.slots) (hl : ls.size = nL) (hw : (rest.map fun v => v.category).sum ≤ 8) (hdg : decode cc pc = .ok (.invokestatic 27, 3)) (k : W p l e R s m args below meth c H locs cells slots Q (F0 m (pc + 3) ls (.int (ml_fi x) :: rest))) : W p l e R s m args below meth c H locs cells slots Q (F0 m pc ls (.int x :: rest)) :=
  ml_pure (va_runS (As := [.int x]) (rest := rest) S (xm_first l x) (va_cwS 1 S.2.2.2.2 (lw_S q50 q51 q8 q52) rfl rfl rfl (by decide +kernel) hR) ⟨fun _ _ _ _ q => q, fun U hU hW => ⟨rfl, trivial⟩⟩ rfl rfl hl rfl (lv_room hw) hdg hc) k
end
section
variable {p : Program} {l : Launch} {e : Env} {R : Room} {s : State} {m : MethodId} {args : Array Value} {below : List Frame} {meth : Method} {c : Code} {H : Heap} {locs : List Loc} {cells slots : Nat} {Q : State → Prop} {cc : ByteArray} {pc nL : Nat} {ls : Array Slot} {rest : List Value}
theorem xc_firstN {i : Nat} (hi : i < 6) (S : CallFix p m c cc nL s args lw_all RX0) (hR : 0 + 1 ≤ R.frames ∧ 8 + (1 + 11) + 0 ≤ R.locals) (hc : cells ≤ R.cells ∧ slots ≤ R.slots) (hl : ls.size = nL) (hw : (rest.map fun v => v.category).sum ≤ 8) (hdg : decode cc pc = .ok (.invokestatic 27, 3)) (k : W p l e R s m args below meth c H locs cells slots Q (F0 m (pc + 3) ls (.int (nI (ml_fst i)) :: rest))) : W p l e R s m args below meth c H locs cells slots Q (F0 m pc ls (.int (nI i) :: rest)) :=
  xc_first S hR hc hl hw hdg (by rw [ml_fi_nat i hi]; exact k)
end
set_option maxHeartbeats 4000000 in
set_option maxRecDepth 100000 in
/-- cut(n): the greatest power of 2 below n -/
theorem xm_cut (l : Launch) (n : Nat) (hn : n ≤ 64) : Met l yX0_cut (ws_ yX0_cut cX0_cut 3 (some .int)) ({ frames := 0, cells := 0, slots := 0, locals := 0 }) (va_Pc [.int (nI n)] (fun _ => True)) (ml_Q (nI (ml_hf n))) 0 0 (ml_no) := by
  refine Met.ofW (cc := cX0_cut) (maxL := 3) (ret := (some .int)) (by decide) rfl ?_
  intro p e s m args below meth c s₁ B hml hv
  obtain ⟨rfl, -⟩ := hv
  have hx := B.exec
  have hb := B.bytes
  have hr := B.returns
  have hts0 := atoms_spec (ws := (ws_ yX0_cut cX0_cut 3 (some .int))) B.pre
  have hts : ∀ w ∈ lw_all, w.before _ s = true := fun w h => hts0 w (List.mem_cons_of_mem _ h)
  have hown : s.vm.findClass RX0 = some m.cls := findClass_of_methodNamed B.named
  have hlocks := B.notSynchronized
  have S : CallFix p m c cX0_cut 3 s _ lw_all RX0 := ⟨hx, hb, hml, hown, hts⟩
  have hl := lv_entry ([.int (nI n)]) (n := 3) (Nat.le_of_ble_eq_true rfl)
  rw [lg_entry_eq]
  generalize (lg_sl ([.int (nI n)]) ++ List.replicate (3 - (lg_sl ([.int (nI n)])).length) Slot.unset).toArray = ls at hl ⊢
  have hl : lv_has ls 3 [(0, .int (nI n))] := hl
  have loop : ∀ (k i : Nat), i + k = 6 → i ≤ 5 → (i = 0 ∨ 2 ^ i < n) → ∀ ls : Array Slot, lv_has ls 3 [(0, .int (nI n)), (1, .int (nI (2 ^ i))), (2, .int (nI i))] → W p l e (headSpec (ws_ yX0_cut cX0_cut 3 (some .int)) ({ frames := 0, cells := 0, slots := 0, locals := 0 })).room s m ([.int (nI n)] : List Value).toArray below meth c s.heap [] 0 0 (MQ below (ml_Q (nI (ml_hf n))) ([.int (nI n)] : List Value).toArray s 0 0 (ml_no)) (F0 m 4 ls []) := by
    intro k
    induction k with
    | zero => intro i h1 h2; omega
    | succ k ih =>
      intro i h1 h2 h3 ls hl
      obtain ⟨p1, p2⟩ := two_pow_5 h2
      refine lv_iload_n hx hb dX0_cut_4 rfl (lv_at hl 2 rfl) ?_
      refine lv_bipush (v := 6) hx hb dX0_cut_5 (by decide) ?_
      refine lv_icmp_ge (tgt := 27) hx hb dX0_cut_7 (by decide) (fun q => absurd q (fun h => absurd ((nI_leI (a := 6) (b := i) (by decide) (by omega)).mp h) (by omega))) (fun _ => ?_)
      refine lv_iconst (v := 2) hx hb dX0_cut_10 (by decide) ?_
      refine lv_iload_n hx hb dX0_cut_11 rfl (lv_at hl 1 rfl) ?_
      refine lv_imul hx hb dX0_cut_12 ?_
      refine ml_top (y := nI (2 * 2 ^ i)) (pk_mul 2 (2 ^ i)) ?_
      refine lv_iload_n hx hb dX0_cut_13 rfl (lv_at hl 0 rfl) ?_
      refine lv_icmp_ge (tgt := 27) hx hb dX0_cut_14 (by decide) (fun c1 => ?_) (fun c1 => ?_)
      · refine lv_iload_n hx hb dX0_cut_27 rfl (lv_at hl 1 rfl) ?_
        have h4 := (nI_leI (a := n) (b := 2 * 2 ^ i) (by omega) (by omega)).mp c1
        exact ml_pret hx hb hr rfl hlocks (by rw [hf_is h2 h3 h4]) dX0_cut_28
      · have h4 : 2 * 2 ^ i < n := by
          rcases Nat.lt_or_ge (2 * 2 ^ i) n with h | h
          · exact h
          · exact absurd ((nI_leI (a := n) (b := 2 * 2 ^ i) (by omega) (by omega)).mpr h) c1
        have hi : i ≤ 4 := by
          rcases Nat.lt_or_ge i 5 with h | h
          · omega
          · have : i = 5 := by omega
            subst this
            omega
        refine lv_iload_n hx hb dX0_cut_17 rfl (lv_at hl 1 rfl) ?_
        refine lv_iconst (v := 2) hx hb dX0_cut_18 (by decide) ?_
        refine lv_imul hx hb dX0_cut_19 ?_
        refine ml_top (y := nI (2 ^ (i + 1))) (by rw [Nat.pow_succ]; exact pk_mul (2 ^ i) 2) ?_
        refine lv_istore_n (lv' := [(1, .int (nI (2 ^ (i + 1)))), (0, .int (nI n)), (2, .int (nI i))]) hx hb dX0_cut_20 rfl hl (by decide) rfl (fun ls hl => ?_)
        refine lv_iinc (v := nI (i + 1)) (lv' := [(2, .int (nI (i + 1))), (1, .int (nI (2 ^ (i + 1)))), (0, .int (nI n))]) hx hb dX0_cut_21 hl (k := 2) rfl (nI_1 i) (by decide) rfl (fun ls hl => ?_)
        refine lv_goto (tgt := 4) hx hb dX0_cut_24 (by decide) ?_
        exact ih (i + 1) (by omega) (by omega) (Or.inr (by rw [Nat.pow_succ]; omega)) ls (lv_sub hl [2, 1, 0] rfl)
  refine lv_iconst (v := 1) hx hb dX0_cut_0 (by decide) ?_
  refine lv_istore_n (lv' := [(1, .int 1), (0, .int (nI n))]) hx hb dX0_cut_1 rfl hl (by decide) rfl (fun ls hl => ?_)
  refine lv_iconst (v := 0) hx hb dX0_cut_2 (by decide) ?_
  refine lv_istore_n (lv' := [(2, .int 0), (1, .int 1), (0, .int (nI n))]) hx hb dX0_cut_3 rfl hl (by decide) rfl (fun ls hl => ?_)
  exact loop 6 0 (by omega) (by omega) (Or.inl rfl) ls (lv_sub hl [2, 1, 0] rfl)
section
variable {p : Program} {l : Launch} {e : Env} {R : Room} {s : State} {m : MethodId} {args : Array Value} {below : List Frame} {meth : Method} {c : Code} {H : Heap} {locs : List Loc} {cells slots : Nat} {Q : State → Prop} {cc : ByteArray} {pc nL : Nat} {ls : Array Slot} {rest : List Value}
theorem xc_cut {n : Nat} (hn : n ≤ 64) (S : CallFix p m c cc nL s args lw_all RX0) (hR : 0 + 1 ≤ R.frames ∧ 8 + (3 + 11) + 0 ≤ R.locals) (hc : cells ≤ R.cells ∧ slots ≤ R.slots) (hl : ls.size = nL) (hw : (rest.map fun v => v.category).sum ≤ 8) (hdg : decode cc pc = .ok (.invokestatic 40, 3)) (k : W p l e R s m args below meth c H locs cells slots Q (F0 m (pc + 3) ls (.int (nI (ml_hf n)) :: rest))) : W p l e R s m args below meth c H locs cells slots Q (F0 m pc ls (.int (nI n) :: rest)) :=
  ml_pure (va_runS (As := [.int (nI n)]) (rest := rest) S (xm_cut l n hn) (va_cwS 1 S.2.2.2.2 (lw_S q68 q69 q8 q70) rfl rfl rfl (by decide +kernel) hR) ⟨fun _ _ _ _ q => q, fun U hU hW => ⟨rfl, trivial⟩⟩ rfl rfl hl rfl (lv_room hw) hdg hc) k
end
set_option maxHeartbeats 4000000 in
set_option maxRecDepth 100000 in
/-- half(n): the greatest power of 2 below n -/
theorem mm_half (l : Launch) (n : Nat) (hn : n ≤ 64) : Met l yX1_half (ws_ yX1_half cX1_half 2 (some .int)) ({ frames := 0, cells := 0, slots := 0, locals := 0 }) (va_Pc [.int (nI n)] (fun _ => True)) (ml_Q (nI (ml_hf n))) 0 0 (ml_no) := by
  refine Met.ofW (cc := cX1_half) (maxL := 2) (ret := (some .int)) (by decide) rfl ?_
  intro p e s m args below meth c s₁ B hml hv
  obtain ⟨rfl, -⟩ := hv
  have hx := B.exec
  have hb := B.bytes
  have hr := B.returns
  have hts0 := atoms_spec (ws := (ws_ yX1_half cX1_half 2 (some .int))) B.pre
  have hts : ∀ w ∈ lw_all, w.before _ s = true := fun w h => hts0 w (List.mem_cons_of_mem _ h)
  have hown : s.vm.findClass RX1 = some m.cls := findClass_of_methodNamed B.named
  have hlocks := B.notSynchronized
  have S : CallFix p m c cX1_half 2 s _ lw_all RX1 := ⟨hx, hb, hml, hown, hts⟩
  have hl := lv_entry ([.int (nI n)]) (n := 2) (Nat.le_of_ble_eq_true rfl)
  rw [lg_entry_eq]
  generalize (lg_sl ([.int (nI n)]) ++ List.replicate (2 - (lg_sl ([.int (nI n)])).length) Slot.unset).toArray = ls at hl ⊢
  have hl : lv_has ls 2 [(0, .int (nI n))] := hl
  have loop : ∀ (k i : Nat), i + k = 6 → i ≤ 5 → (i = 0 ∨ 2 ^ i < n) → ∀ ls : Array Slot, lv_has ls 2 [(0, .int (nI n)), (1, .int (nI (2 ^ i)))] → W p l e (headSpec (ws_ yX1_half cX1_half 2 (some .int)) ({ frames := 0, cells := 0, slots := 0, locals := 0 })).room s m ([.int (nI n)] : List Value).toArray below meth c s.heap [] 0 0 (MQ below (ml_Q (nI (ml_hf n))) ([.int (nI n)] : List Value).toArray s 0 0 (ml_no)) (F0 m 2 ls []) := by
    intro k
    induction k with
    | zero => intro i h1 h2; omega
    | succ k ih =>
      intro i h1 h2 h3 ls hl
      obtain ⟨p1, p2⟩ := two_pow_5 h2
      refine lv_iload_n hx hb dX1_half_2 rfl (lv_at hl 1 rfl) ?_
      refine lv_bipush (v := 64) hx hb dX1_half_3 (by decide) ?_
      refine lv_icmp_ge (tgt := 22) hx hb dX1_half_5 (by decide) (fun q => absurd q (fun h => absurd ((nI_leI (a := 64) (b := 2 ^ i) (by decide) (by omega)).mp h) (by omega))) (fun _ => ?_)
      refine lv_iconst (v := 2) hx hb dX1_half_8 (by decide) ?_
      refine lv_iload_n hx hb dX1_half_9 rfl (lv_at hl 1 rfl) ?_
      refine lv_imul hx hb dX1_half_10 ?_
      refine ml_top (y := nI (2 * 2 ^ i)) (pk_mul 2 (2 ^ i)) ?_
      refine lv_iload_n hx hb dX1_half_11 rfl (lv_at hl 0 rfl) ?_
      refine lv_icmp_ge (tgt := 22) hx hb dX1_half_12 (by decide) (fun c1 => ?_) (fun c1 => ?_)
      · refine lv_iload_n hx hb dX1_half_22 rfl (lv_at hl 1 rfl) ?_
        have h4 := (nI_leI (a := n) (b := 2 * 2 ^ i) (by omega) (by omega)).mp c1
        exact ml_pret hx hb hr rfl hlocks (by rw [hf_is h2 h3 h4]) dX1_half_23
      · have h4 : 2 * 2 ^ i < n := by
          rcases Nat.lt_or_ge (2 * 2 ^ i) n with h | h
          · exact h
          · exact absurd ((nI_leI (a := n) (b := 2 * 2 ^ i) (by omega) (by omega)).mpr h) c1
        have hi : i ≤ 4 := by
          rcases Nat.lt_or_ge i 5 with h | h
          · omega
          · have : i = 5 := by omega
            subst this
            omega
        refine lv_iconst (v := 2) hx hb dX1_half_15 (by decide) ?_
        refine lv_iload_n hx hb dX1_half_16 rfl (lv_at hl 1 rfl) ?_
        refine lv_imul hx hb dX1_half_17 ?_
        refine ml_top (y := nI (2 ^ (i + 1))) (by rw [Nat.pow_succ, Nat.mul_comm (2 ^ i) 2]; exact pk_mul 2 (2 ^ i)) ?_
        refine lv_istore_n (lv' := [(1, .int (nI (2 ^ (i + 1)))), (0, .int (nI n))]) hx hb dX1_half_18 rfl hl (by decide) rfl (fun ls hl => ?_)
        refine lv_goto (tgt := 2) hx hb dX1_half_19 (by decide) ?_
        exact ih (i + 1) (by omega) (by omega) (Or.inr (by rw [Nat.pow_succ]; omega)) ls (lv_sub hl [1, 0] rfl)
  refine lv_iconst (v := 1) hx hb dX1_half_0 (by decide) ?_
  refine lv_istore_n (lv' := [(1, .int 1), (0, .int (nI n))]) hx hb dX1_half_1 rfl hl (by decide) rfl (fun ls hl => ?_)
  exact loop 6 0 (by omega) (by omega) (Or.inl rfl) ls (lv_sub hl [1, 0] rfl)
section
variable {p : Program} {l : Launch} {e : Env} {R : Room} {s : State} {m : MethodId} {args : Array Value} {below : List Frame} {meth : Method} {c : Code} {H : Heap} {locs : List Loc} {cells slots : Nat} {Q : State → Prop} {cc : ByteArray} {pc nL : Nat} {ls : Array Slot} {rest : List Value}
theorem mc_half {n : Nat} (hn : n ≤ 64) (S : CallFix p m c cc nL s args lw_all RX1) (hR : 0 + 1 ≤ R.frames ∧ 8 + (2 + 11) + 0 ≤ R.locals) (hc : cells ≤ R.cells ∧ slots ≤ R.slots) (hl : ls.size = nL) (hw : (rest.map fun v => v.category).sum ≤ 8) (hdg : decode cc pc = .ok (.invokestatic 46, 3)) (k : W p l e R s m args below meth c H locs cells slots Q (F0 m (pc + 3) ls (.int (nI (ml_hf n)) :: rest))) : W p l e R s m args below meth c H locs cells slots Q (F0 m pc ls (.int (nI n) :: rest)) :=
  ml_pure (va_runS (As := [.int (nI n)]) (rest := rest) S (mm_half l n hn) (va_cwS 1 S.2.2.2.2 (lw_S q162 q163 q9 q164) rfl rfl rfl (by decide +kernel) hR) ⟨fun _ _ _ _ q => q, fun U hU hW => ⟨rfl, trivial⟩⟩ rfl rfl hl rfl (lv_room hw) hdg hc) k
end
end
section
set_option maxHeartbeats 4000000 in
set_option maxRecDepth 100000 in
/-- rangeRoot(x, y): the root of the entries from x up to y -/
theorem xm_rangeRoot (l : Launch) (D : va_G) (d : ClassId) (a : Nat → Nat) (hD0 : xD (fun _ => True) a) (n cnt fnd : Int32) (part nums downs : Nat → Int32) (g : Nat → Int32) (N x y : Nat) (hI : ml_pI part g N) (hN : N ≤ 40) (hxy : x < y) (hy : y ≤ N) (hal : ml_al 6 x (y - x)) : Met l yX0_rangeRoot (ws_ yX0_rangeRoot cX0_rangeRoot 9 (some .int)) ({ frames := 2, cells := 0, slots := 0, locals := 44 }) (ml_Pc D d [.ref (a 0), .int (nI x), .int (nI y)] (fun H => va_P D ml_cl (wX d a n cnt fnd part nums downs) H)) (ml_Q (ml_r g x (y - x))) 0 0 (ml_no) := by
  refine Met.ofW (cc := cX0_rangeRoot) (maxL := 9) (ret := (some .int)) (by decide) rfl ?_
  intro p e s m args below meth c s₁ B hml hv
  obtain ⟨rfl, hP, hK⟩ := hv
  have hx := B.exec
  have hb := B.bytes
  have hr := B.returns
  have hts0 := atoms_spec (ws := (ws_ yX0_rangeRoot cX0_rangeRoot 9 (some .int))) B.pre
  have hts : ∀ w ∈ lw_all, w.before _ s = true := fun w h => hts0 w (List.mem_cons_of_mem _ h)
  have hown : s.vm.findClass RX0 = some m.cls := findClass_of_methodNamed B.named
  have hlocks := B.notSynchronized
  have S : CallFix p m c cX0_rangeRoot 9 s _ lw_all RX0 := ⟨hx, hb, hml, hown, hts⟩
  have hl := lv_entry ([.ref (a 0), .int (nI x), .int (nI y)]) (n := 9) (Nat.le_of_ble_eq_true rfl)
  rw [lg_entry_eq]
  generalize (lg_sl ([.ref (a 0), .int (nI x), .int (nI y)]) ++ List.replicate (9 - (lg_sl ([.ref (a 0), .int (nI x), .int (nI y)])).length) Slot.unset).toArray = ls at hl ⊢
  have hl : lv_has ls 9 [(0, .ref (a 0)), (1, .int (nI x)), (2, .int (nI y))] := hl
  have hP : va_P D ml_cl (wX d a n cnt fnd part nums downs) s.heap := hP
  have hD : xD (xA a) a := hD0.self
  have hS : va_S (xA a) s.heap s.heap [] := va_S.rf
  have loop : ∀ (k i : Nat) (x3 x4 x5 : Int32), i + k = 6 → x3 = ml_rI g y (y - x) i → x4 = nI (y - (y - x) % 2 ^ i) → x5 = ml_rS (y - x) i → ∀ ls : Array Slot, lv_has ls 9 [(0, .ref (a 0)), (1, .int (nI x)), (2, .int (nI y)), (3, .int x3), (4, .int x4), (5, .int x5), (6, .int (nI i))] → W p l e (headSpec (ws_ yX0_rangeRoot cX0_rangeRoot 9 (some .int)) ({ frames := 2, cells := 0, slots := 0, locals := 44 })).room s m ([.ref (a 0), .int (nI x), .int (nI y)] : List Value).toArray below meth c s.heap [] 0 0 (MQ below (ml_Q (ml_r g x (y - x))) ([.ref (a 0), .int (nI x), .int (nI y)] : List Value).toArray s 0 0 (ml_no)) (F0 m 11 ls []) := by
    intro k
    induction k with
    | zero =>
      intro i x3 x4 x5 hk e3 e4 e5 ls hl
      have hi : i = 6 := by omega
      subst hi
      refine lv_iload hx hb dX0_rangeRoot_11 (lv_at hl 6 rfl) ?_
      refine lv_bipush (v := 6) hx hb dX0_rangeRoot_13 (by decide) ?_
      refine lv_icmp_ge (tgt := 87) hx hb dX0_rangeRoot_15 (by decide) (fun _ => ?_) (fun q => absurd (by decide) q)
      refine lv_iload_n hx hb dX0_rangeRoot_87 rfl (lv_at hl 3 rfl) ?_
      exact ml_pret hx hb hr rfl hlocks (by rw [e3]; exact rr_end hxy (by omega)) dX0_rangeRoot_88
    | succ k ih =>
      intro i x3 x4 x5 hk e3 e4 e5 ls hl
      have hi : i < 6 := by omega
      have hle := Nat.mod_le (y - x) (2 ^ i)
      refine lv_iload hx hb dX0_rangeRoot_11 (lv_at hl 6 rfl) ?_
      refine lv_bipush (v := 6) hx hb dX0_rangeRoot_13 (by decide) ?_
      refine lv_icmp_ge (tgt := 87) hx hb dX0_rangeRoot_15 (by decide) (fun q => absurd q (fun h => absurd ((nI_leI (a := 6) (b := i) (by decide) (by omega)).mp h) (by omega))) (fun _ => ?_)
      refine lv_iconst (v := 1) hx hb dX0_rangeRoot_18 (by decide) ?_
      refine lv_iload hx hb dX0_rangeRoot_19 (lv_at hl 6 rfl) ?_
      refine lv_ishl hx hb dX0_rangeRoot_21 ?_
      refine ml_top (y := nI (2 ^ i)) (ml_shl i hi) ?_
      refine lv_istore (lv' := [(7, .int (nI (2 ^ i))), (0, .ref (a 0)), (1, .int (nI x)), (2, .int (nI y)), (3, .int x3), (4, .int x4), (5, .int x5), (6, .int (nI i))]) hx hb dX0_rangeRoot_22 hl (by decide) rfl (fun ls hl => ?_)
      refine lv_iload_n hx hb dX0_rangeRoot_24 rfl (lv_at hl 3 rfl) ?_
      refine lv_iload_n hx hb dX0_rangeRoot_25 rfl (lv_at hl 2 rfl) ?_
      refine lv_isub hx hb dX0_rangeRoot_26 ?_
      refine ml_top (y := nI (y - x)) (pk_sub (by omega)) ?_
      refine lv_iload hx hb dX0_rangeRoot_27 (lv_at hl 0 rfl) ?_
      refine lv_iand hx hb dX0_rangeRoot_29 ?_
      refine lv_if_eq (tgt := 81) hx hb dX0_rangeRoot_30 (by decide) (fun c1 => ?_) (fun c1 => ?_)
      · have hb0 := (ml_bit (y - x) (by omega) i hi).mp c1
        obtain ⟨k1, k2⟩ := rr_skip (g := g) (b := y) hb0
        refine lv_iinc (v := nI (i + 1)) (lv' := [(6, .int (nI (i + 1))), (7, .int (nI (2 ^ i))), (0, .ref (a 0)), (1, .int (nI x)), (2, .int (nI y)), (3, .int x3), (4, .int x4), (5, .int x5)]) hx hb dX0_rangeRoot_81 hl (k := 7) rfl (nI_1 i) (by decide) rfl (fun ls hl => ?_)
        refine lv_goto (tgt := 11) hx hb dX0_rangeRoot_84 (by decide) ?_
        exact ih (i + 1) x3 x4 x5 (by omega) (by rw [k1]; exact e3) (by rw [rr_no hb0]; exact e4) (by rw [k2]; exact e5) ls (lv_sub hl [2, 3, 4, 5, 6, 7, 0] rfl)
      · have hb0 : ¬ (y - x) / 2 ^ i % 2 = 0 := fun h => c1 ((ml_bit (y - x) (by omega) i hi).mpr h)
        obtain ⟨k1, k2, k3, k4⟩ := rr_ok hI (Nat.le_of_lt hxy) hy hN (by omega : i ≤ 5) hal hb0
        refine lv_aload_n hx hb dX0_rangeRoot_33 rfl (lv_at hl 1 rfl) ?_
        refine xg_part S hK hP dX0_rangeRoot_34 ?_
        refine lv_iload hx hb dX0_rangeRoot_37 (lv_at hl 7 rfl) ?_
        refine xc_firstN hi S ⟨Nat.le_of_ble_eq_true rfl, Nat.le_of_ble_eq_true rfl⟩ ⟨Nat.zero_le _, Nat.zero_le _⟩ hl.1 (Nat.le_of_ble_eq_true rfl) dX0_rangeRoot_39 ?_
        refine lv_iload hx hb dX0_rangeRoot_42 (lv_at hl 5 rfl) ?_
        refine lv_iload hx hb dX0_rangeRoot_44 (lv_at hl 0 rfl) ?_
        refine lv_isub hx hb dX0_rangeRoot_46 ?_
        refine ml_top (y := nI (y - (y - x) % 2 ^ i - 2 ^ i)) (by rw [e4]; exact pk_sub k1) ?_
        refine lv_iload hx hb dX0_rangeRoot_47 (lv_at hl 7 rfl) ?_
        refine lv_ishr hx hb dX0_rangeRoot_49 ?_
        refine ml_top (y := nI ((y - (y - x) % 2 ^ i - 2 ^ i) / 2 ^ i)) (ml_shr _ (by omega) i hi) ?_
        refine lv_iadd hx hb dX0_rangeRoot_50 ?_
        refine ml_top (y := nI (ml_fst i + (y - (y - x) % 2 ^ i - 2 ^ i) / 2 ^ i)) (nI_add _ _) ?_
        refine xl_part (j := ml_fst i + (y - (y - x) % 2 ^ i - 2 ^ i) / 2 ^ i) (k3) S hK hP dX0_rangeRoot_51 ?_
        refine ml_top (y := ml_r g (y - (y - x) % 2 ^ (i + 1)) (2 ^ i)) (k4) ?_
        refine lv_istore (lv' := [(8, .int (ml_r g (y - (y - x) % 2 ^ (i + 1)) (2 ^ i))), (7, .int (nI (2 ^ i))), (0, .ref (a 0)), (1, .int (nI x)), (2, .int (nI y)), (3, .int x3), (4, .int x4), (5, .int x5), (6, .int (nI i))]) hx hb dX0_rangeRoot_52 hl (by decide) rfl (fun ls hl => ?_)
        refine lv_iload hx hb dX0_rangeRoot_54 (lv_at hl 7 rfl) ?_
        refine lv_if_eq (tgt := 68) hx hb dX0_rangeRoot_56 (by decide) (fun c2 => ?_) (fun c2 => ?_)
        · have h0 : (y - x) % 2 ^ i = 0 := by
            rcases Nat.eq_zero_or_pos ((y - x) % 2 ^ i) with h | h
            · exact h
            · rw [e5, ml_rS, if_neg (by omega)] at c2; exact absurd c2 (by decide)
          refine lv_iload hx hb dX0_rangeRoot_68 (lv_at hl 0 rfl) ?_
          refine lv_istore_n (lv' := [(3, .int (ml_r g (y - (y - x) % 2 ^ (i + 1)) (2 ^ i))), (8, .int (ml_r g (y - (y - x) % 2 ^ (i + 1)) (2 ^ i))), (7, .int (nI (2 ^ i))), (0, .ref (a 0)), (1, .int (nI x)), (2, .int (nI y)), (4, .int x4), (5, .int x5), (6, .int (nI i))]) hx hb dX0_rangeRoot_70 rfl hl (by decide) rfl (fun ls hl => ?_)
          refine lv_iconst (v := 1) hx hb dX0_rangeRoot_71 (by decide) ?_
          refine lv_istore (lv' := [(5, .int 1), (3, .int (ml_r g (y - (y - x) % 2 ^ (i + 1)) (2 ^ i))), (8, .int (ml_r g (y - (y - x) % 2 ^ (i + 1)) (2 ^ i))), (7, .int (nI (2 ^ i))), (0, .ref (a 0)), (1, .int (nI x)), (2, .int (nI y)), (4, .int x4), (6, .int (nI i))]) hx hb dX0_rangeRoot_72 hl (by decide) rfl (fun ls hl => ?_)
          refine lv_iload hx hb dX0_rangeRoot_74 (lv_at hl 7 rfl) ?_
          refine lv_iload hx hb dX0_rangeRoot_76 (lv_at hl 3 rfl) ?_
          refine lv_isub hx hb dX0_rangeRoot_78 ?_
          refine lv_istore (lv' := [(4, .int (x4 - (nI (2 ^ i)))), (5, .int 1), (3, .int (ml_r g (y - (y - x) % 2 ^ (i + 1)) (2 ^ i))), (8, .int (ml_r g (y - (y - x) % 2 ^ (i + 1)) (2 ^ i))), (7, .int (nI (2 ^ i))), (0, .ref (a 0)), (1, .int (nI x)), (2, .int (nI y)), (6, .int (nI i))]) hx hb dX0_rangeRoot_79 hl (by decide) rfl (fun ls hl => ?_)
          refine lv_iinc (v := nI (i + 1)) (lv' := [(6, .int (nI (i + 1))), (4, .int (x4 - (nI (2 ^ i)))), (5, .int 1), (3, .int (ml_r g (y - (y - x) % 2 ^ (i + 1)) (2 ^ i))), (8, .int (ml_r g (y - (y - x) % 2 ^ (i + 1)) (2 ^ i))), (7, .int (nI (2 ^ i))), (0, .ref (a 0)), (1, .int (nI x)), (2, .int (nI y))]) hx hb dX0_rangeRoot_81 hl (k := 8) rfl (nI_1 i) (by decide) rfl (fun ls hl => ?_)
          refine lv_goto (tgt := 11) hx hb dX0_rangeRoot_84 (by decide) ?_
          exact ih (i + 1) _ _ _ (by omega) (rr_first hb0 h0) (by rw [e4, pk_sub k1, k2]) (by unfold ml_rS; rw [rr_yes hb0, if_neg (by have := Nat.two_pow_pos i; omega)]) ls (lv_sub hl [6, 7, 8, 3, 1, 2, 0] rfl)
        · have h0 : ¬ (y - x) % 2 ^ i = 0 := by
            intro h
            rw [e5, ml_rS, if_pos h] at c2
            exact c2 rfl
          refine lv_iload hx hb dX0_rangeRoot_59 (lv_at hl 0 rfl) ?_
          refine lv_iload_n hx hb dX0_rangeRoot_61 rfl (lv_at hl 5 rfl) ?_
          refine xc_node S ⟨Nat.le_of_ble_eq_true rfl, Nat.le_of_ble_eq_true rfl⟩ ⟨Nat.zero_le _, Nat.zero_le _⟩ hl.1 (Nat.le_of_ble_eq_true rfl) dX0_rangeRoot_62 ?_
          refine lv_goto (tgt := 70) hx hb dX0_rangeRoot_65 (by decide) ?_
          refine lv_istore_n (lv' := [(3, .int (ml_node (ml_r g (y - (y - x) % 2 ^ (i + 1)) (2 ^ i)) x3)), (8, .int (ml_r g (y - (y - x) % 2 ^ (i + 1)) (2 ^ i))), (7, .int (nI (2 ^ i))), (0, .ref (a 0)), (1, .int (nI x)), (2, .int (nI y)), (4, .int x4), (5, .int x5), (6, .int (nI i))]) hx hb dX0_rangeRoot_70 rfl hl (by decide) rfl (fun ls hl => ?_)
          refine lv_iconst (v := 1) hx hb dX0_rangeRoot_71 (by decide) ?_
          refine lv_istore (lv' := [(5, .int 1), (3, .int (ml_node (ml_r g (y - (y - x) % 2 ^ (i + 1)) (2 ^ i)) x3)), (8, .int (ml_r g (y - (y - x) % 2 ^ (i + 1)) (2 ^ i))), (7, .int (nI (2 ^ i))), (0, .ref (a 0)), (1, .int (nI x)), (2, .int (nI y)), (4, .int x4), (6, .int (nI i))]) hx hb dX0_rangeRoot_72 hl (by decide) rfl (fun ls hl => ?_)
          refine lv_iload hx hb dX0_rangeRoot_74 (lv_at hl 7 rfl) ?_
          refine lv_iload hx hb dX0_rangeRoot_76 (lv_at hl 3 rfl) ?_
          refine lv_isub hx hb dX0_rangeRoot_78 ?_
          refine lv_istore (lv' := [(4, .int (x4 - (nI (2 ^ i)))), (5, .int 1), (3, .int (ml_node (ml_r g (y - (y - x) % 2 ^ (i + 1)) (2 ^ i)) x3)), (8, .int (ml_r g (y - (y - x) % 2 ^ (i + 1)) (2 ^ i))), (7, .int (nI (2 ^ i))), (0, .ref (a 0)), (1, .int (nI x)), (2, .int (nI y)), (6, .int (nI i))]) hx hb dX0_rangeRoot_79 hl (by decide) rfl (fun ls hl => ?_)
          refine lv_iinc (v := nI (i + 1)) (lv' := [(6, .int (nI (i + 1))), (4, .int (x4 - (nI (2 ^ i)))), (5, .int 1), (3, .int (ml_node (ml_r g (y - (y - x) % 2 ^ (i + 1)) (2 ^ i)) x3)), (8, .int (ml_r g (y - (y - x) % 2 ^ (i + 1)) (2 ^ i))), (7, .int (nI (2 ^ i))), (0, .ref (a 0)), (1, .int (nI x)), (2, .int (nI y))]) hx hb dX0_rangeRoot_81 hl (k := 8) rfl (nI_1 i) (by decide) rfl (fun ls hl => ?_)
          refine lv_goto (tgt := 11) hx hb dX0_rangeRoot_84 (by decide) ?_
          exact ih (i + 1) _ _ _ (by omega) (by rw [e3]; exact rr_join (by omega) (by omega) (by omega) hb0 h0) (by rw [e4, pk_sub k1, k2]) (by unfold ml_rS; rw [rr_yes hb0, if_neg (by have := Nat.two_pow_pos i; omega)]) ls (lv_sub hl [6, 7, 8, 3, 1, 2, 0] rfl)
  refine lv_iconst (v := 0) hx hb dX0_rangeRoot_0 (by decide) ?_
  refine lv_istore_n (lv' := [(3, .int 0), (0, .ref (a 0)), (1, .int (nI x)), (2, .int (nI y))]) hx hb dX0_rangeRoot_1 rfl hl (by decide) rfl (fun ls hl => ?_)
  refine lv_iload_n hx hb dX0_rangeRoot_2 rfl (lv_at hl 3 rfl) ?_
  refine lv_istore (lv' := [(4, .int (nI y)), (3, .int 0), (0, .ref (a 0)), (1, .int (nI x)), (2, .int (nI y))]) hx hb dX0_rangeRoot_3 hl (by decide) rfl (fun ls hl => ?_)
  refine lv_iconst (v := 0) hx hb dX0_rangeRoot_5 (by decide) ?_
  refine lv_istore (lv' := [(5, .int 0), (4, .int (nI y)), (3, .int 0), (0, .ref (a 0)), (1, .int (nI x)), (2, .int (nI y))]) hx hb dX0_rangeRoot_6 hl (by decide) rfl (fun ls hl => ?_)
  refine lv_iconst (v := 0) hx hb dX0_rangeRoot_8 (by decide) ?_
  refine lv_istore (lv' := [(6, .int 0), (5, .int 0), (4, .int (nI y)), (3, .int 0), (0, .ref (a 0)), (1, .int (nI x)), (2, .int (nI y))]) hx hb dX0_rangeRoot_9 hl (by decide) rfl (fun ls hl => ?_)
  exact loop 6 0 _ _ _ (by omega) (by simp [ml_rI, Nat.mod_one]) (by simp [Nat.mod_one]) (by simp [ml_rS, Nat.mod_one]) ls (lv_sub hl [4, 5, 6, 3, 2, 1, 0] rfl)
section
variable {p : Program} {l : Launch} {e : Env} {R : Room} {s : State} {m : MethodId} {args : Array Value} {below : List Frame} {meth : Method} {c : Code} {H : Heap} {locs : List Loc} {cells slots : Nat} {Q : State → Prop} {cc : ByteArray} {pc nL : Nat} {ls : Array Slot} {rest : List Value} {A : Nat → Prop} {H0 : Heap}
theorem xc_rangeRoot {D : va_G} {d : ClassId} {a : Nat → Nat} (hD0 : xD (fun _ => True) a) {n cnt fnd : Int32} {part nums downs : Nat → Int32} {g : Nat → Int32} {N x y : Nat} (hI : ml_pI part g N) (hN : N ≤ 40) (hxy : x < y) (hy : y ≤ N) (hal : ml_al 6 x (y - x)) (S : CallFix p m c cc nL s args lw_all RX0) (hR : 2 + 1 ≤ R.frames ∧ 8 + (9 + 11) + 44 ≤ R.locals) (hc : cells ≤ R.cells ∧ slots ≤ R.slots) (hK : va_K D ml_cl [(d, .int)] s) (hP : va_P D ml_cl (wX d a n cnt fnd part nums downs) H) (hl : ls.size = nL) (hw : (rest.map fun v => v.category).sum ≤ 8) (hdg : decode cc pc = .ok (.invokevirtual 34, 3)) (k : W p l e R s m args below meth c H locs cells slots Q (F0 m (pc + 3) ls (.int (ml_r g x (y - x)) :: rest))) : W p l e R s m args below meth c H locs cells slots Q (F0 m pc ls (.int (nI y) :: .int (nI x) :: .ref (a 0) :: rest)) :=
  ml_pure (va_runV (As := [.int (nI x), .int (nI y)]) (b := a 0) (rest := rest) S (xm_rangeRoot l D d a hD0 n cnt fnd part nums downs g N x y hI hN hxy hy hal) (cwV 2 S.2.2.2.2 (lw_V q60 q62 qs0 q8 q63) rfl rfl rfl (by decide +kernel) hR) ⟨ml_blind, va_recv hK hP (ci := 0) (q0 := 0) (q := (RX0, TX0, 6)) rfl rfl, ml_pre hP hK⟩ rfl rfl hl rfl (lv_room hw) hdg hc) k
end
set_option maxHeartbeats 4000000 in
set_option maxRecDepth 100000 in
/-- note(x, y): one more number found -/
theorem xm_note (l : Launch) (D : va_G) (d : ClassId) (a : Nat → Nat) (hD0 : xD (fun _ => True) a) (n cnt : Int32) (part nums downs : Nat → Int32) (j : Nat) (hj : j < 16) (g : Nat → Int32) (N x y : Nat) (hI : ml_pI part g N) (hN : N ≤ 40) (hxy : x < y) (hy : y ≤ N) (hal : ml_al 6 x (y - x)) : Met l yX0_note (ws_ yX0_note cX0_note 3 none) ({ frames := 3, cells := 0, slots := 0, locals := 72 }) (ml_Pc D d [.ref (a 0), .int (nI x), .int (nI y)] (fun H => va_P D ml_cl (wX d a n cnt (nI j) part nums downs) H)) (ml_Qv (fun H => va_P D ml_cl (wX d a n cnt (nI (j + 1)) part nums (upd downs j (ml_r g x (y - x)))) H) (xA a)) 0 0 (xA a) := by
  refine Met.ofW (cc := cX0_note) (maxL := 3) (ret := none) (by decide) rfl ?_
  intro p e s m args below meth c s₁ B hml hv
  obtain ⟨rfl, hP, hK⟩ := hv
  have hx := B.exec
  have hb := B.bytes
  have hr := B.returns
  have hts0 := atoms_spec (ws := (ws_ yX0_note cX0_note 3 none)) B.pre
  have hts : ∀ w ∈ lw_all, w.before _ s = true := fun w h => hts0 w (List.mem_cons_of_mem _ h)
  have hown : s.vm.findClass RX0 = some m.cls := findClass_of_methodNamed B.named
  have hlocks := B.notSynchronized
  have S : CallFix p m c cX0_note 3 s _ lw_all RX0 := ⟨hx, hb, hml, hown, hts⟩
  have hl := lv_entry ([.ref (a 0), .int (nI x), .int (nI y)]) (n := 3) (Nat.le_of_ble_eq_true rfl)
  rw [lg_entry_eq]
  generalize (lg_sl ([.ref (a 0), .int (nI x), .int (nI y)]) ++ List.replicate (3 - (lg_sl ([.ref (a 0), .int (nI x), .int (nI y)])).length) Slot.unset).toArray = ls at hl ⊢
  have hl : lv_has ls 3 [(0, .ref (a 0)), (1, .int (nI x)), (2, .int (nI y))] := hl
  have hP : va_P D ml_cl (wX d a n cnt (nI j) part nums downs) s.heap := hP
  have hD : xD (xA a) a := hD0.self
  have hS : va_S (xA a) s.heap s.heap [] := va_S.rf
  refine lv_aload_n hx hb dX0_note_0 rfl (lv_at hl 0 rfl) ?_
  refine xg_downs S hK hP dX0_note_1 ?_
  refine lv_aload_n hx hb dX0_note_4 rfl (lv_at hl 0 rfl) ?_
  refine xg_fnd S hK hP dX0_note_5 ?_
  refine lv_aload_n hx hb dX0_note_8 rfl (lv_at hl 0 rfl) ?_
  refine lv_iload_n hx hb dX0_note_9 rfl (lv_at hl 1 rfl) ?_
  refine lv_iload_n hx hb dX0_note_10 rfl (lv_at hl 2 rfl) ?_
  refine xc_rangeRoot hD0 hI hN hxy hy hal S ⟨Nat.le_of_ble_eq_true rfl, Nat.le_of_ble_eq_true rfl⟩ ⟨Nat.zero_le _, Nat.zero_le _⟩ hK hP hl.1 (Nat.le_of_ble_eq_true rfl) dX0_note_11 ?_
  refine xs_downs (j := j) (hj) S hK hP hD hS dX0_note_14 (fun H locs hP hS => ?_)
  refine lv_aload_n hx hb dX0_note_15 rfl (lv_at hl 0 rfl) ?_
  refine lv_dup hx hb dX0_note_16 rfl ?_
  refine xg_fnd S hK hP dX0_note_17 ?_
  refine lv_iconst (v := 1) hx hb dX0_note_20 (by decide) ?_
  refine lv_iadd hx hb dX0_note_21 ?_
  refine ml_top (y := nI (j + 1)) (nI_1 j) ?_
  refine xp_fnd S hK hP hD hS dX0_note_22 (fun H locs hP hS => ?_)
  exact ml_vret hx hb hr hlocks hP hS dX0_note_25
section
variable {p : Program} {l : Launch} {e : Env} {R : Room} {s : State} {m : MethodId} {args : Array Value} {below : List Frame} {meth : Method} {c : Code} {H : Heap} {locs : List Loc} {cells slots : Nat} {Q : State → Prop} {cc : ByteArray} {pc nL : Nat} {ls : Array Slot} {rest : List Value} {A : Nat → Prop} {H0 : Heap}
theorem xc_note {D : va_G} {d : ClassId} {a : Nat → Nat} (hD0 : xD (fun _ => True) a) {n cnt : Int32} {part nums downs : Nat → Int32} {j : Nat} (hj : j < 16) {g : Nat → Int32} {N x y : Nat} (hI : ml_pI part g N) (hN : N ≤ 40) (hxy : x < y) (hy : y ≤ N) (hal : ml_al 6 x (y - x)) (S : CallFix p m c cc nL s args lw_all RX0) (hR : 3 + 1 ≤ R.frames ∧ 8 + (3 + 11) + 72 ≤ R.locals) (hc : cells ≤ R.cells ∧ slots ≤ R.slots) (hK : va_K D ml_cl [(d, .int)] s) (hP : va_P D ml_cl (wX d a n cnt (nI j) part nums downs) H) (hS : va_S A H0 H locs) (hA : ∀ q, xA a q → A q) (hl : ls.size = nL) (hw : (rest.map fun v => v.category).sum ≤ 8) (hdg : decode cc pc = .ok (.invokevirtual 43, 3)) (k : ∀ (H1 : Heap) (locs1 : List Loc), va_P D ml_cl (wX d a n cnt (nI (j + 1)) part nums (upd downs j (ml_r g x (y - x)))) H1 → (∀ q : Nat, q < H.size → ¬ xA a q → H1[q]? = H[q]?) → va_S A H0 H1 locs1 → W p l e R s m args below meth c H1 locs1 cells slots Q (F0 m (pc + 3) ls rest)) : W p l e R s m args below meth c H locs cells slots Q (F0 m pc ls (.int (nI y) :: .int (nI x) :: .ref (a 0) :: rest)) :=
  ml_callv (va_runV (As := [.int (nI x), .int (nI y)]) (b := a 0) (rest := rest) S (xm_note l D d a hD0 n cnt part nums downs j hj g N x y hI hN hxy hy hal) (cwV 2 S.2.2.2.2 (lw_V q71 q73 qs1 q8 q74) rfl rfl rfl (by decide +kernel) hR) ⟨ml_blind, va_recv hK hP (ci := 0) (q0 := 0) (q := (RX0, TX0, 6)) rfl rfl, ml_pre hP hK⟩ rfl rfl hl rfl (lv_room hw) hdg hc) hS hA hA k
end
set_option maxHeartbeats 4000000 in
set_option maxRecDepth 100000 in
/-- turnRound(): the found numbers, turned, are the hand -/
theorem xm_turnRound (l : Launch) (D : va_G) (d : ClassId) (a : Nat → Nat) (hD0 : xD (fun _ => True) a) (n cnt : Int32) (part nums downs : Nat → Int32) (j : Nat) (hj : j ≤ 16) : Met l yX0_turnRound (ws_ yX0_turnRound cX0_turnRound 2 none) ({ frames := 0, cells := 0, slots := 0, locals := 0 }) (ml_Pc D d [.ref (a 0)] (fun H => va_P D ml_cl (wX d a n cnt (nI j) part nums downs) H)) (ml_Qv (fun H => ∃ nums' : Nat → Int32, (∀ i, i < j → nums' i = downs (j - 1 - i)) ∧ va_P D ml_cl (wX d a n (nI j) (nI j) part nums' downs) H) (xA a)) 0 0 (xA a) := by
  refine Met.ofW (cc := cX0_turnRound) (maxL := 2) (ret := none) (by decide) rfl ?_
  intro p e s m args below meth c s₁ B hml hv
  obtain ⟨rfl, hP, hK⟩ := hv
  have hx := B.exec
  have hb := B.bytes
  have hr := B.returns
  have hts0 := atoms_spec (ws := (ws_ yX0_turnRound cX0_turnRound 2 none)) B.pre
  have hts : ∀ w ∈ lw_all, w.before _ s = true := fun w h => hts0 w (List.mem_cons_of_mem _ h)
  have hown : s.vm.findClass RX0 = some m.cls := findClass_of_methodNamed B.named
  have hlocks := B.notSynchronized
  have S : CallFix p m c cX0_turnRound 2 s _ lw_all RX0 := ⟨hx, hb, hml, hown, hts⟩
  have hl := lv_entry ([.ref (a 0)]) (n := 2) (Nat.le_of_ble_eq_true rfl)
  rw [lg_entry_eq]
  generalize (lg_sl ([.ref (a 0)]) ++ List.replicate (2 - (lg_sl ([.ref (a 0)])).length) Slot.unset).toArray = ls at hl ⊢
  have hl : lv_has ls 2 [(0, .ref (a 0))] := hl
  have hP : va_P D ml_cl (wX d a n cnt (nI j) part nums downs) s.heap := hP
  have hD : xD (xA a) a := hD0.self
  have hS : va_S (xA a) s.heap s.heap [] := va_S.rf
  refine lv_aload_n hx hb dX0_turnRound_0 rfl (lv_at hl 0 rfl) ?_
  refine lv_aload_n hx hb dX0_turnRound_1 rfl (lv_at hl 0 rfl) ?_
  refine xg_fnd S hK hP dX0_turnRound_2 ?_
  refine xp_cnt S hK hP hD hS dX0_turnRound_5 (fun H locs hP hS => ?_)
  have loop : ∀ (k i : Nat) (nums : Nat → Int32), i + k = j → (∀ q, q < i → nums q = downs (j - 1 - q)) → ∀ (H : Heap) (locs : List Loc), va_P D ml_cl (wX d a n (nI j) (nI j) part nums downs) H → va_S (xA a) s.heap H locs → ∀ ls : Array Slot, lv_has ls 2 [(0, .ref (a 0)), (1, .int (nI i))] → W p l e (headSpec (ws_ yX0_turnRound cX0_turnRound 2 none) ({ frames := 0, cells := 0, slots := 0, locals := 0 })).room s m ([.ref (a 0)] : List Value).toArray below meth c H locs 0 0 (MQ below (ml_Qv (fun H => ∃ nums' : Nat → Int32, (∀ i, i < j → nums' i = downs (j - 1 - i)) ∧ va_P D ml_cl (wX d a n (nI j) (nI j) part nums' downs) H) (xA a)) ([.ref (a 0)] : List Value).toArray s 0 0 (xA a)) (F0 m 10 ls []) := by
    intro k
    induction k with
    | zero =>
      intro i nums hk hq H locs hP hS ls hl
      refine lv_iload_n hx hb dX0_turnRound_10 rfl (lv_at hl 1 rfl) ?_
      refine lv_aload_n hx hb dX0_turnRound_11 rfl (lv_at hl 0 rfl) ?_
      refine xg_fnd S hK hP dX0_turnRound_12 ?_
      refine lv_icmp_ge (tgt := 43) hx hb dX0_turnRound_15 (by decide) (fun _ => ?_) (fun q => absurd (nI_le (by omega) (by omega)) q)
      exact ml_vret hx hb hr hlocks ⟨nums, fun q h => hq q (by omega), hP⟩ hS dX0_turnRound_43
    | succ k ih =>
      intro i nums hk hq H locs hP hS ls hl
      refine lv_iload_n hx hb dX0_turnRound_10 rfl (lv_at hl 1 rfl) ?_
      refine lv_aload_n hx hb dX0_turnRound_11 rfl (lv_at hl 0 rfl) ?_
      refine xg_fnd S hK hP dX0_turnRound_12 ?_
      refine lv_icmp_ge (tgt := 43) hx hb dX0_turnRound_15 (by decide) (fun q => absurd q (nI_ge (by omega) (by omega))) (fun _ => ?_)
      refine lv_aload_n hx hb dX0_turnRound_18 rfl (lv_at hl 0 rfl) ?_
      refine xg_nums S hK hP dX0_turnRound_19 ?_
      refine lv_iload_n hx hb dX0_turnRound_22 rfl (lv_at hl 1 rfl) ?_
      refine lv_aload_n hx hb dX0_turnRound_23 rfl (lv_at hl 0 rfl) ?_
      refine xg_downs S hK hP dX0_turnRound_24 ?_
      refine lv_aload_n hx hb dX0_turnRound_27 rfl (lv_at hl 0 rfl) ?_
      refine xg_fnd S hK hP dX0_turnRound_28 ?_
      refine lv_iconst (v := 1) hx hb dX0_turnRound_31 (by decide) ?_
      refine lv_isub hx hb dX0_turnRound_32 ?_
      refine ml_top (y := nI (j - 1)) (nI_minus j 1 (by omega) _ rfl) ?_
      refine lv_iload_n hx hb dX0_turnRound_33 rfl (lv_at hl 1 rfl) ?_
      refine lv_isub hx hb dX0_turnRound_34 ?_
      refine ml_top (y := nI (j - 1 - i)) (pk_sub (by omega)) ?_
      refine xl_downs (j := j - 1 - i) (by omega) S hK hP dX0_turnRound_35 ?_
      refine xs_nums (j := i) (by omega) S hK hP hD hS dX0_turnRound_36 (fun H locs hP hS => ?_)
      refine lv_iinc (v := nI (i + 1)) (lv' := [(1, .int (nI (i + 1))), (0, .ref (a 0))]) hx hb dX0_turnRound_37 hl (k := 1) rfl (nI_1 i) (by decide) rfl (fun ls hl => ?_)
      refine lv_goto (tgt := 10) hx hb dX0_turnRound_40 (by decide) ?_
      refine ih (i + 1) _ (by omega) (fun q h => ?_) H locs hP hS ls (lv_sub hl [1, 0] rfl)
      by_cases hqi : q = i
      · rw [hqi, pk_us]
      · rw [pk_un hqi]; exact hq q (by omega)
  refine lv_iconst (v := 0) hx hb dX0_turnRound_8 (by decide) ?_
  refine lv_istore_n (lv' := [(1, .int 0), (0, .ref (a 0))]) hx hb dX0_turnRound_9 rfl hl (by decide) rfl (fun ls hl => ?_)
  exact loop j 0 nums (by omega) (fun q h => absurd h (Nat.not_lt_zero q)) H locs hP hS ls (lv_sub hl [1, 0] rfl)
section
variable {p : Program} {l : Launch} {e : Env} {R : Room} {s : State} {m : MethodId} {args : Array Value} {below : List Frame} {meth : Method} {c : Code} {H : Heap} {locs : List Loc} {cells slots : Nat} {Q : State → Prop} {cc : ByteArray} {pc nL : Nat} {ls : Array Slot} {rest : List Value} {A : Nat → Prop} {H0 : Heap}
theorem xc_turnRound {D : va_G} {d : ClassId} {a : Nat → Nat} (hD0 : xD (fun _ => True) a) {n cnt : Int32} {part nums downs : Nat → Int32} {j : Nat} (hj : j ≤ 16) (S : CallFix p m c cc nL s args lw_all RX0) (hR : 0 + 1 ≤ R.frames ∧ 8 + (2 + 11) + 0 ≤ R.locals) (hc : cells ≤ R.cells ∧ slots ≤ R.slots) (hK : va_K D ml_cl [(d, .int)] s) (hP : va_P D ml_cl (wX d a n cnt (nI j) part nums downs) H) (hS : va_S A H0 H locs) (hA : ∀ q, xA a q → A q) (hl : ls.size = nL) (hw : (rest.map fun v => v.category).sum ≤ 8) (hdg : decode cc pc = .ok (.invokevirtual 47, 3)) (k : ∀ (H1 : Heap) (locs1 : List Loc), (∃ nums' : Nat → Int32, (∀ i, i < j → nums' i = downs (j - 1 - i)) ∧ va_P D ml_cl (wX d a n (nI j) (nI j) part nums' downs) H1) → (∀ q : Nat, q < H.size → ¬ xA a q → H1[q]? = H[q]?) → va_S A H0 H1 locs1 → W p l e R s m args below meth c H1 locs1 cells slots Q (F0 m (pc + 3) ls rest)) : W p l e R s m args below meth c H locs cells slots Q (F0 m pc ls (.ref (a 0) :: rest)) :=
  ml_callv (va_runV (As := []) (b := a 0) (rest := rest) S (xm_turnRound l D d a hD0 n cnt part nums downs j hj) (cwV 0 S.2.2.2.2 (lw_V q75 q77 qs2 q8 q78) rfl rfl rfl (by decide +kernel) hR) ⟨ml_blind, va_recv hK hP (ci := 0) (q0 := 0) (q := (RX0, TX0, 6)) rfl rfl, ml_pre hP hK⟩ rfl rfl hl rfl (lv_room hw) hdg hc) hS hA hA k
end
end
section
set_option maxHeartbeats 4000000 in
set_option maxRecDepth 100000 in
/-- root(size) -/
theorem xm_root (l : Launch) (D : va_G) (d : ClassId) (a : Nat → Nat) (hD0 : xD (fun _ => True) a) (st : ml_S) (p0 : Int32) : Met l yX0_root (ws_ yX0_root cX0_root 2 (some .int)) ({ frames := 3, cells := 0, slots := 0, locals := 72 }) (ml_Pc D d [.ref (a 0), .int p0] (xH D d a st)) (ml_Q (op_root st p0)) 0 0 (ml_no) := by
  refine Met.ofW (cc := cX0_root) (maxL := 2) (ret := (some .int)) (by decide) rfl ?_
  intro p e s m args below meth c s₁ B hml hv
  obtain ⟨rfl, hH, hK⟩ := hv
  have hx := B.exec
  have hb := B.bytes
  have hr := B.returns
  have hts0 := atoms_spec (ws := (ws_ yX0_root cX0_root 2 (some .int))) B.pre
  have hts : ∀ w ∈ lw_all, w.before _ s = true := fun w h => hts0 w (List.mem_cons_of_mem _ h)
  have hown : s.vm.findClass RX0 = some m.cls := findClass_of_methodNamed B.named
  have hlocks := B.notSynchronized
  have S : CallFix p m c cX0_root 2 s _ lw_all RX0 := ⟨hx, hb, hml, hown, hts⟩
  have hl := lv_entry ([.ref (a 0), .int p0]) (n := 2) (Nat.le_of_ble_eq_true rfl)
  rw [lg_entry_eq]
  generalize (lg_sl ([.ref (a 0), .int p0]) ++ List.replicate (2 - (lg_sl ([.ref (a 0), .int p0])).length) Slot.unset).toArray = ls at hl ⊢
  have hl : lv_has ls 2 [(0, .ref (a 0)), (1, .int p0)] := hl
  obtain ⟨n, cnt, fnd, part, nums, downs, ⟨r1, r2, r3, r4, r5, r6⟩, hP⟩ := hH
  subst r1; subst r4
  have hD : xD (xA a) a := hD0.self
  have hS : va_S (xA a) s.heap s.heap [] := va_S.rf
  refine lv_iload_n hx hb dX0_root_0 rfl (lv_at hl 1 rfl) ?_
  refine lv_iconst (v := 1) hx hb dX0_root_1 (by decide) ?_
  refine lv_icmp_lt (tgt := 13) hx hb dX0_root_2 (by decide) (fun c1 => ?_) (fun c1 => ?_)
  · refine lv_iconst (v := 0) hx hb dX0_root_13 (by decide) ?_
    refine lv_goto (tgt := 23) hx hb dX0_root_14 (by decide) ?_
    exact ml_pret hx hb hr rfl hlocks ((op_root_bad (Or.inl c1)).symm) dX0_root_23
  · refine lv_iload_n hx hb dX0_root_5 rfl (lv_at hl 1 rfl) ?_
    refine lv_aload_n hx hb dX0_root_6 rfl (lv_at hl 0 rfl) ?_
    refine xg_n S hK hP dX0_root_7 ?_
    refine lv_icmp_le (tgt := 17) hx hb dX0_root_10 (by decide) (fun c2 => ?_) (fun c2 => ?_)
    · obtain ⟨k, e0, k1, k2⟩ := nat_of (by omega) c1 (fun h => absurd c2 (Int32.not_le.mpr h))
      subst e0
      refine lv_aload_n hx hb dX0_root_17 rfl (lv_at hl 0 rfl) ?_
      refine lv_iconst (v := 0) hx hb dX0_root_18 (by decide) ?_
      refine ml_top (y := nI 0) (rfl) ?_
      refine lv_iload_n hx hb dX0_root_19 rfl (lv_at hl 1 rfl) ?_
      refine xc_rangeRoot (x := 0) (y := k) hD0 r3 r2 (by omega) k2 (al_0 (by omega)) S ⟨Nat.le_of_ble_eq_true rfl, Nat.le_of_ble_eq_true rfl⟩ ⟨Nat.zero_le _, Nat.zero_le _⟩ hK hP hl.1 (Nat.le_of_ble_eq_true rfl) dX0_root_20 ?_
      exact ml_pret hx hb hr rfl hlocks (by rw [op_root_ok k1 k2 r2, Nat.sub_zero]) dX0_root_23
    · refine lv_iconst (v := 0) hx hb dX0_root_13 (by decide) ?_
      refine lv_goto (tgt := 23) hx hb dX0_root_14 (by decide) ?_
      exact ml_pret hx hb hr rfl hlocks ((op_root_bad (Or.inr (Int32.not_le.mp c2))).symm) dX0_root_23
set_option maxHeartbeats 4000000 in
set_option maxRecDepth 100000 in
/-- held() -/
theorem xm_held (l : Launch) (D : va_G) (d : ClassId) (a : Nat → Nat) (hD0 : xD (fun _ => True) a) (st : ml_S)  : Met l yX0_held (ws_ yX0_held cX0_held 1 (some .int)) ({ frames := 0, cells := 0, slots := 0, locals := 0 }) (ml_Pc D d [.ref (a 0)] (xH D d a st)) (ml_Q (op_held st)) 0 0 (ml_no) := by
  refine Met.ofW (cc := cX0_held) (maxL := 1) (ret := (some .int)) (by decide) rfl ?_
  intro p e s m args below meth c s₁ B hml hv
  obtain ⟨rfl, hH, hK⟩ := hv
  have hx := B.exec
  have hb := B.bytes
  have hr := B.returns
  have hts0 := atoms_spec (ws := (ws_ yX0_held cX0_held 1 (some .int))) B.pre
  have hts : ∀ w ∈ lw_all, w.before _ s = true := fun w h => hts0 w (List.mem_cons_of_mem _ h)
  have hown : s.vm.findClass RX0 = some m.cls := findClass_of_methodNamed B.named
  have hlocks := B.notSynchronized
  have S : CallFix p m c cX0_held 1 s _ lw_all RX0 := ⟨hx, hb, hml, hown, hts⟩
  have hl := lv_entry ([.ref (a 0)]) (n := 1) (Nat.le_of_ble_eq_true rfl)
  rw [lg_entry_eq]
  generalize (lg_sl ([.ref (a 0)]) ++ List.replicate (1 - (lg_sl ([.ref (a 0)])).length) Slot.unset).toArray = ls at hl ⊢
  have hl : lv_has ls 1 [(0, .ref (a 0))] := hl
  obtain ⟨n, cnt, fnd, part, nums, downs, ⟨r1, r2, r3, r4, r5, r6⟩, hP⟩ := hH
  subst r1; subst r4
  have hD : xD (xA a) a := hD0.self
  have hS : va_S (xA a) s.heap s.heap [] := va_S.rf
  refine lv_aload_n hx hb dX0_held_0 rfl (lv_at hl 0 rfl) ?_
  refine xg_cnt S hK hP dX0_held_1 ?_
  exact ml_pret hx hb hr rfl hlocks (rfl) dX0_held_4
set_option maxHeartbeats 4000000 in
set_option maxRecDepth 100000 in
/-- hand(place) -/
theorem xm_hand (l : Launch) (D : va_G) (d : ClassId) (a : Nat → Nat) (hD0 : xD (fun _ => True) a) (st : ml_S) (p0 : Int32) : Met l yX0_hand (ws_ yX0_hand cX0_hand 2 (some .int)) ({ frames := 0, cells := 0, slots := 0, locals := 0 }) (ml_Pc D d [.ref (a 0), .int p0] (xH D d a st)) (ml_Q (op_hand st p0)) 0 0 (ml_no) := by
  refine Met.ofW (cc := cX0_hand) (maxL := 2) (ret := (some .int)) (by decide) rfl ?_
  intro p e s m args below meth c s₁ B hml hv
  obtain ⟨rfl, hH, hK⟩ := hv
  have hx := B.exec
  have hb := B.bytes
  have hr := B.returns
  have hts0 := atoms_spec (ws := (ws_ yX0_hand cX0_hand 2 (some .int))) B.pre
  have hts : ∀ w ∈ lw_all, w.before _ s = true := fun w h => hts0 w (List.mem_cons_of_mem _ h)
  have hown : s.vm.findClass RX0 = some m.cls := findClass_of_methodNamed B.named
  have hlocks := B.notSynchronized
  have S : CallFix p m c cX0_hand 2 s _ lw_all RX0 := ⟨hx, hb, hml, hown, hts⟩
  have hl := lv_entry ([.ref (a 0), .int p0]) (n := 2) (Nat.le_of_ble_eq_true rfl)
  rw [lg_entry_eq]
  generalize (lg_sl ([.ref (a 0), .int p0]) ++ List.replicate (2 - (lg_sl ([.ref (a 0), .int p0])).length) Slot.unset).toArray = ls at hl ⊢
  have hl : lv_has ls 2 [(0, .ref (a 0)), (1, .int p0)] := hl
  obtain ⟨n, cnt, fnd, part, nums, downs, ⟨r1, r2, r3, r4, r5, r6⟩, hP⟩ := hH
  subst r1; subst r4
  have hD : xD (xA a) a := hD0.self
  have hS : va_S (xA a) s.heap s.heap [] := va_S.rf
  refine lv_iload_n hx hb dX0_hand_0 rfl (lv_at hl 1 rfl) ?_
  refine lv_if_lt (tgt := 12) hx hb dX0_hand_1 (by decide) (fun c1 => ?_) (fun c1 => ?_)
  · refine lv_iconst (v := 0) hx hb dX0_hand_12 (by decide) ?_
    refine lv_goto (tgt := 22) hx hb dX0_hand_13 (by decide) ?_
    exact ml_pret hx hb hr rfl hlocks ((op_hand_bad (Or.inl c1)).symm) dX0_hand_22
  · refine lv_iload_n hx hb dX0_hand_4 rfl (lv_at hl 1 rfl) ?_
    refine lv_aload_n hx hb dX0_hand_5 rfl (lv_at hl 0 rfl) ?_
    refine xg_cnt S hK hP dX0_hand_6 ?_
    refine lv_icmp_lt (tgt := 16) hx hb dX0_hand_9 (by decide) (fun c2 => ?_) (fun c2 => ?_)
    · obtain ⟨k, e0, k1⟩ := nat_lt (by omega) c1 (Int32.not_le.mpr c2)
      subst e0
      refine lv_aload_n hx hb dX0_hand_16 rfl (lv_at hl 0 rfl) ?_
      refine xg_nums S hK hP dX0_hand_17 ?_
      refine lv_iload_n hx hb dX0_hand_20 rfl (lv_at hl 1 rfl) ?_
      refine xl_nums (j := k) (by omega) S hK hP dX0_hand_21 ?_
      exact ml_pret hx hb hr rfl hlocks (by rw [op_hand_ok k1 r5]; exact r6 k k1) dX0_hand_22
    · refine lv_iconst (v := 0) hx hb dX0_hand_12 (by decide) ?_
      refine lv_goto (tgt := 22) hx hb dX0_hand_13 (by decide) ?_
      exact ml_pret hx hb hr rfl hlocks ((op_hand_bad (Or.inr (Int32.not_lt.mp c2))).symm) dX0_hand_22
set_option maxHeartbeats 4000000 in
set_option maxRecDepth 100000 in
/-- alter(place, value) -/
theorem xm_alter (l : Launch) (D : va_G) (d : ClassId) (a : Nat → Nat) (hD0 : xD (fun _ => True) a) (st : ml_S) (p0 p1 : Int32) : Met l yX0_alter (ws_ yX0_alter cX0_alter 3 (some .int)) ({ frames := 0, cells := 0, slots := 0, locals := 0 }) (ml_Pc D d [.ref (a 0), .int p0, .int p1] (xH D d a st)) (ml_Qi (op_alter st p0 p1).1 (xH D d a (op_alter st p0 p1).2) (xA a)) 0 0 (xA a) := by
  refine Met.ofW (cc := cX0_alter) (maxL := 3) (ret := (some .int)) (by decide) rfl ?_
  intro p e s m args below meth c s₁ B hml hv
  obtain ⟨rfl, hH, hK⟩ := hv
  have hx := B.exec
  have hb := B.bytes
  have hr := B.returns
  have hts0 := atoms_spec (ws := (ws_ yX0_alter cX0_alter 3 (some .int))) B.pre
  have hts : ∀ w ∈ lw_all, w.before _ s = true := fun w h => hts0 w (List.mem_cons_of_mem _ h)
  have hown : s.vm.findClass RX0 = some m.cls := findClass_of_methodNamed B.named
  have hlocks := B.notSynchronized
  have S : CallFix p m c cX0_alter 3 s _ lw_all RX0 := ⟨hx, hb, hml, hown, hts⟩
  have hl := lv_entry ([.ref (a 0), .int p0, .int p1]) (n := 3) (Nat.le_of_ble_eq_true rfl)
  rw [lg_entry_eq]
  generalize (lg_sl ([.ref (a 0), .int p0, .int p1]) ++ List.replicate (3 - (lg_sl ([.ref (a 0), .int p0, .int p1])).length) Slot.unset).toArray = ls at hl ⊢
  have hl : lv_has ls 3 [(0, .ref (a 0)), (1, .int p0), (2, .int p1)] := hl
  obtain ⟨n, cnt, fnd, part, nums, downs, ⟨r1, r2, r3, r4, r5, r6⟩, hP⟩ := hH
  subst r1; subst r4
  have hD : xD (xA a) a := hD0.self
  have hS : va_S (xA a) s.heap s.heap [] := va_S.rf
  refine lv_iload_n hx hb dX0_alter_0 rfl (lv_at hl 1 rfl) ?_
  refine lv_if_lt (tgt := 12) hx hb dX0_alter_1 (by decide) (fun c1 => ?_) (fun c1 => ?_)
  · refine lv_iconst (v := (-1)) hx hb dX0_alter_12 (by decide) ?_
    have hop := op_alter_bad (st := st) (p := p0) (v := p1) (Or.inl c1)
    exact ml_iret hx hb hr hlocks (by rw [hop]) (by rw [hop]; exact ⟨_, _, _, _, _, _, ⟨rfl, r2, r3, rfl, r5, r6⟩, hP⟩) hS dX0_alter_13
  · refine lv_iload_n hx hb dX0_alter_4 rfl (lv_at hl 1 rfl) ?_
    refine lv_aload_n hx hb dX0_alter_5 rfl (lv_at hl 0 rfl) ?_
    refine xg_cnt S hK hP dX0_alter_6 ?_
    refine lv_icmp_lt (tgt := 14) hx hb dX0_alter_9 (by decide) (fun c2 => ?_) (fun c2 => ?_)
    · obtain ⟨k, e0, k1⟩ := nat_lt (by omega) c1 (Int32.not_le.mpr c2)
      subst e0
      refine lv_aload_n hx hb dX0_alter_14 rfl (lv_at hl 0 rfl) ?_
      refine xg_nums S hK hP dX0_alter_15 ?_
      refine lv_iload_n hx hb dX0_alter_18 rfl (lv_at hl 1 rfl) ?_
      refine lv_iload_n hx hb dX0_alter_19 rfl (lv_at hl 2 rfl) ?_
      refine xs_nums (j := k) (by omega) S hK hP hD hS dX0_alter_20 (fun H locs hP hS => ?_)
      refine lv_iconst (v := 0) hx hb dX0_alter_21 (by decide) ?_
      have hop := op_alter_ok (st := st) (v := p1) k1 r5
      exact ml_iret hx hb hr hlocks (by rw [hop]) (by rw [hop]; exact ⟨_, _, _, _, _, _, ⟨rfl, r2, r3, by rw [List.length_set], by rw [List.length_set]; exact r5, ho_set r6⟩, hP⟩) hS dX0_alter_22
    · refine lv_iconst (v := (-1)) hx hb dX0_alter_12 (by decide) ?_
      have hop := op_alter_bad (st := st) (p := p0) (v := p1) (Or.inr (Int32.not_lt.mp c2))
      exact ml_iret hx hb hr hlocks (by rw [hop]) (by rw [hop]; exact ⟨_, _, _, _, _, _, ⟨rfl, r2, r3, rfl, r5, r6⟩, hP⟩) hS dX0_alter_13
set_option maxHeartbeats 4000000 in
set_option maxRecDepth 100000 in
/-- drop() -/
theorem xm_drop (l : Launch) (D : va_G) (d : ClassId) (a : Nat → Nat) (hD0 : xD (fun _ => True) a) (st : ml_S)  : Met l yX0_drop (ws_ yX0_drop cX0_drop 1 none) ({ frames := 0, cells := 0, slots := 0, locals := 0 }) (ml_Pc D d [.ref (a 0)] (xH D d a st)) (ml_Qv (xH D d a (op_drop st)) (xA a)) 0 0 (xA a) := by
  refine Met.ofW (cc := cX0_drop) (maxL := 1) (ret := none) (by decide) rfl ?_
  intro p e s m args below meth c s₁ B hml hv
  obtain ⟨rfl, hH, hK⟩ := hv
  have hx := B.exec
  have hb := B.bytes
  have hr := B.returns
  have hts0 := atoms_spec (ws := (ws_ yX0_drop cX0_drop 1 none)) B.pre
  have hts : ∀ w ∈ lw_all, w.before _ s = true := fun w h => hts0 w (List.mem_cons_of_mem _ h)
  have hown : s.vm.findClass RX0 = some m.cls := findClass_of_methodNamed B.named
  have hlocks := B.notSynchronized
  have S : CallFix p m c cX0_drop 1 s _ lw_all RX0 := ⟨hx, hb, hml, hown, hts⟩
  have hl := lv_entry ([.ref (a 0)]) (n := 1) (Nat.le_of_ble_eq_true rfl)
  rw [lg_entry_eq]
  generalize (lg_sl ([.ref (a 0)]) ++ List.replicate (1 - (lg_sl ([.ref (a 0)])).length) Slot.unset).toArray = ls at hl ⊢
  have hl : lv_has ls 1 [(0, .ref (a 0))] := hl
  obtain ⟨n, cnt, fnd, part, nums, downs, ⟨r1, r2, r3, r4, r5, r6⟩, hP⟩ := hH
  subst r1; subst r4
  have hD : xD (xA a) a := hD0.self
  have hS : va_S (xA a) s.heap s.heap [] := va_S.rf
  refine lv_aload_n hx hb dX0_drop_0 rfl (lv_at hl 0 rfl) ?_
  refine lv_iconst (v := 0) hx hb dX0_drop_1 (by decide) ?_
  refine xp_cnt S hK hP hD hS dX0_drop_2 (fun H locs hP hS => ?_)
  exact ml_vret hx hb hr hlocks ⟨_, _, _, _, _, _, ⟨rfl, r2, r3, rfl, Nat.zero_le _, ho_nil _⟩, hP⟩ hS dX0_drop_5
set_option maxHeartbeats 4000000 in
set_option maxRecDepth 100000 in
/-- take(value) -/
theorem xm_take (l : Launch) (D : va_G) (d : ClassId) (a : Nat → Nat) (hD0 : xD (fun _ => True) a) (st : ml_S) (p0 : Int32) : Met l yX0_take (ws_ yX0_take cX0_take 2 (some .int)) ({ frames := 0, cells := 0, slots := 0, locals := 0 }) (ml_Pc D d [.ref (a 0), .int p0] (xH D d a st)) (ml_Qi (op_take st p0).1 (xH D d a (op_take st p0).2) (xA a)) 0 0 (xA a) := by
  refine Met.ofW (cc := cX0_take) (maxL := 2) (ret := (some .int)) (by decide) rfl ?_
  intro p e s m args below meth c s₁ B hml hv
  obtain ⟨rfl, hH, hK⟩ := hv
  have hx := B.exec
  have hb := B.bytes
  have hr := B.returns
  have hts0 := atoms_spec (ws := (ws_ yX0_take cX0_take 2 (some .int))) B.pre
  have hts : ∀ w ∈ lw_all, w.before _ s = true := fun w h => hts0 w (List.mem_cons_of_mem _ h)
  have hown : s.vm.findClass RX0 = some m.cls := findClass_of_methodNamed B.named
  have hlocks := B.notSynchronized
  have S : CallFix p m c cX0_take 2 s _ lw_all RX0 := ⟨hx, hb, hml, hown, hts⟩
  have hl := lv_entry ([.ref (a 0), .int p0]) (n := 2) (Nat.le_of_ble_eq_true rfl)
  rw [lg_entry_eq]
  generalize (lg_sl ([.ref (a 0), .int p0]) ++ List.replicate (2 - (lg_sl ([.ref (a 0), .int p0])).length) Slot.unset).toArray = ls at hl ⊢
  have hl : lv_has ls 2 [(0, .ref (a 0)), (1, .int p0)] := hl
  obtain ⟨n, cnt, fnd, part, nums, downs, ⟨r1, r2, r3, r4, r5, r6⟩, hP⟩ := hH
  subst r1; subst r4
  have hD : xD (xA a) a := hD0.self
  have hS : va_S (xA a) s.heap s.heap [] := va_S.rf
  refine lv_aload_n hx hb dX0_take_0 rfl (lv_at hl 0 rfl) ?_
  refine xg_cnt S hK hP dX0_take_1 ?_
  refine lv_bipush (v := 16) hx hb dX0_take_4 (by decide) ?_
  refine lv_icmp_lt (tgt := 11) hx hb dX0_take_6 (by decide) (fun c1 => ?_) (fun c1 => ?_)
  · have hlt : st.2.2.length < 16 := (nI_ltI (b := 16) (by omega) (by decide)).mp c1
    refine lv_aload_n hx hb dX0_take_11 rfl (lv_at hl 0 rfl) ?_
    refine xg_nums S hK hP dX0_take_12 ?_
    refine lv_aload_n hx hb dX0_take_15 rfl (lv_at hl 0 rfl) ?_
    refine xg_cnt S hK hP dX0_take_16 ?_
    refine lv_iload_n hx hb dX0_take_19 rfl (lv_at hl 1 rfl) ?_
    refine xs_nums (j := st.2.2.length) (hlt) S hK hP hD hS dX0_take_20 (fun H locs hP hS => ?_)
    refine lv_aload_n hx hb dX0_take_21 rfl (lv_at hl 0 rfl) ?_
    refine lv_dup hx hb dX0_take_22 rfl ?_
    refine xg_cnt S hK hP dX0_take_23 ?_
    refine lv_iconst (v := 1) hx hb dX0_take_26 (by decide) ?_
    refine lv_iadd hx hb dX0_take_27 ?_
    refine ml_top (y := nI (st.2.2.length + 1)) (nI_1 _) ?_
    refine xp_cnt S hK hP hD hS dX0_take_28 (fun H locs hP hS => ?_)
    refine lv_aload_n hx hb dX0_take_31 rfl (lv_at hl 0 rfl) ?_
    refine xg_cnt S hK hP dX0_take_32 ?_
    have hop := op_take_ok (st := st) (v := p0) hlt
    exact ml_iret hx hb hr hlocks (by rw [hop]) (by rw [hop]; exact ⟨_, _, _, _, _, _, ⟨rfl, r2, r3, by rw [List.length_append]; rfl, by rw [List.length_append]; exact hlt, ho_push r6⟩, hP⟩) hS dX0_take_35
  · have hge : st.2.2.length = 16 := by
      rcases Nat.lt_or_ge st.2.2.length 16 with h | h
      · exact absurd ((nI_ltI (a := st.2.2.length) (b := 16) (by omega) (by decide)).mpr h) c1
      · omega
    refine lv_iconst (v := (-1)) hx hb dX0_take_9 (by decide) ?_
    have hop := op_take_full (st := st) (v := p0) hge
    exact ml_iret hx hb hr hlocks (by rw [hop]) (by rw [hop]; exact ⟨_, _, _, _, _, _, ⟨rfl, r2, r3, rfl, r5, r6⟩, hP⟩) hS dX0_take_10
set_option maxHeartbeats 4000000 in
set_option maxRecDepth 100000 in
/-- append(entry) -/
theorem xm_append (l : Launch) (D : va_G) (d : ClassId) (a : Nat → Nat) (hD0 : xD (fun _ => True) a) (st : ml_S) (p0 : Int32) : Met l yX0_append (ws_ yX0_append cX0_append 6 (some .int)) ({ frames := 2, cells := 0, slots := 0, locals := 44 }) (ml_Pc D d [.ref (a 0), .int p0] (xH D d a st)) (ml_Qi (op_append st p0).1 (xH D d a (op_append st p0).2) (xA a)) 0 0 (xA a) := by
  refine Met.ofW (cc := cX0_append) (maxL := 6) (ret := (some .int)) (by decide) rfl ?_
  intro p e s m args below meth c s₁ B hml hv
  obtain ⟨rfl, hH, hK⟩ := hv
  have hx := B.exec
  have hb := B.bytes
  have hr := B.returns
  have hts0 := atoms_spec (ws := (ws_ yX0_append cX0_append 6 (some .int))) B.pre
  have hts : ∀ w ∈ lw_all, w.before _ s = true := fun w h => hts0 w (List.mem_cons_of_mem _ h)
  have hown : s.vm.findClass RX0 = some m.cls := findClass_of_methodNamed B.named
  have hlocks := B.notSynchronized
  have S : CallFix p m c cX0_append 6 s _ lw_all RX0 := ⟨hx, hb, hml, hown, hts⟩
  have hl := lv_entry ([.ref (a 0), .int p0]) (n := 6) (Nat.le_of_ble_eq_true rfl)
  rw [lg_entry_eq]
  generalize (lg_sl ([.ref (a 0), .int p0]) ++ List.replicate (6 - (lg_sl ([.ref (a 0), .int p0])).length) Slot.unset).toArray = ls at hl ⊢
  have hl : lv_has ls 6 [(0, .ref (a 0)), (1, .int p0)] := hl
  obtain ⟨n, cnt, fnd, part, nums, downs, ⟨r1, r2, r3, r4, r5, r6⟩, hP⟩ := hH
  subst r1; subst r4
  have hD : xD (xA a) a := hD0.self
  have hS : va_S (xA a) s.heap s.heap [] := va_S.rf
  refine lv_aload_n hx hb dX0_append_0 rfl (lv_at hl 0 rfl) ?_
  refine xg_n S hK hP dX0_append_1 ?_
  refine lv_bipush (v := 40) hx hb dX0_append_4 (by decide) ?_
  refine lv_icmp_lt (tgt := 11) hx hb dX0_append_6 (by decide) (fun c1 => ?_) (fun c1 => ?_)
  · have hlt : st.1 < 40 := (nI_ltI (b := 40) (by omega) (by decide)).mp c1
    have hop := op_append_ok (st := st) (x := p0) hlt
    refine lv_aload_n hx hb dX0_append_11 rfl (lv_at hl 0 rfl) ?_
    refine xg_part S hK hP dX0_append_12 ?_
    refine lv_aload_n hx hb dX0_append_15 rfl (lv_at hl 0 rfl) ?_
    refine xg_n S hK hP dX0_append_16 ?_
    refine lv_iload_n hx hb dX0_append_19 rfl (lv_at hl 1 rfl) ?_
    refine xc_leaf S ⟨Nat.le_of_ble_eq_true rfl, Nat.le_of_ble_eq_true rfl⟩ ⟨Nat.zero_le _, Nat.zero_le _⟩ hl.1 (Nat.le_of_ble_eq_true rfl) dX0_append_20 ?_
    refine xs_part (j := st.1) (by omega) S hK hP hD hS dX0_append_23 (fun H locs hP hS => ?_)
    refine lv_aload_n hx hb dX0_append_24 rfl (lv_at hl 0 rfl) ?_
    refine lv_dup hx hb dX0_append_25 rfl ?_
    refine xg_n S hK hP dX0_append_26 ?_
    refine lv_iconst (v := 1) hx hb dX0_append_29 (by decide) ?_
    refine lv_iadd hx hb dX0_append_30 ?_
    refine ml_top (y := nI (st.1 + 1)) (nI_1 _) ?_
    refine xp_n S hK hP hD hS dX0_append_31 (fun H locs hP hS => ?_)
    refine lv_aload_n hx hb dX0_append_34 rfl (lv_at hl 0 rfl) ?_
    refine xg_n S hK hP dX0_append_35 ?_
    refine lv_istore_n (lv' := [(2, .int (nI (st.1 + 1))), (0, .ref (a 0)), (1, .int p0)]) hx hb dX0_append_38 rfl hl (by decide) rfl (fun ls hl => ?_)
    refine lv_iconst (v := 0) hx hb dX0_append_39 (by decide) ?_
    refine lv_istore_n (lv' := [(3, .int 0), (2, .int (nI (st.1 + 1))), (0, .ref (a 0)), (1, .int p0)]) hx hb dX0_append_40 rfl hl (by decide) rfl (fun ls hl => ?_)
    have hI0 := aI_0 (x := ml_leaf p0) hlt r3
    rw [← g_upd] at hI0
    have hend : ∀ (part : Nat → Int32) (H : Heap) (locs : List Loc), ml_pI part (ml_g (upd st.2.1 st.1 p0)) (st.1 + 1) → va_P D ml_cl (wX d a (nI (st.1 + 1)) (nI st.2.2.length) fnd part nums downs) H → va_S (xA a) s.heap H locs → ∀ ls : Array Slot, lv_has ls 6 [(0, .ref (a 0))] → W p l e (headSpec (ws_ yX0_append cX0_append 6 (some .int)) ({ frames := 2, cells := 0, slots := 0, locals := 44 })).room s m ([.ref (a 0), .int p0] : List Value).toArray below meth c H locs 0 0 (MQ below (ml_Qi (op_append st p0).1 (xH D d a (op_append st p0).2) (xA a)) ([.ref (a 0), .int p0] : List Value).toArray s 0 0 (xA a)) (F0 m 118 ls []) := by
      intro part H locs hI hP hS ls hl
      refine lv_aload_n hx hb dX0_append_118 rfl (lv_at hl 0 rfl) ?_
      refine xg_n S hK hP dX0_append_119 ?_
      exact ml_iret hx hb hr hlocks (by rw [hop]) (by rw [hop]; exact ⟨_, _, _, _, _, _, ⟨rfl, hlt, hI, rfl, r5, r6⟩, hP⟩) hS dX0_append_122
    have loop : ∀ (k i j : Nat) (part : Nat → Int32), i + k = 5 → j * 2 ^ i = st.1 + 1 → ml_aI part (ml_g (upd st.2.1 st.1 p0)) st.1 i → ∀ (H : Heap) (locs : List Loc), va_P D ml_cl (wX d a (nI (st.1 + 1)) (nI st.2.2.length) fnd part nums downs) H → va_S (xA a) s.heap H locs → ∀ ls : Array Slot, lv_has ls 6 [(0, .ref (a 0)), (1, .int p0), (2, .int (nI j)), (3, .int (nI i))] → W p l e (headSpec (ws_ yX0_append cX0_append 6 (some .int)) ({ frames := 2, cells := 0, slots := 0, locals := 44 })).room s m ([.ref (a 0), .int p0] : List Value).toArray below meth c H locs 0 0 (MQ below (ml_Qi (op_append st p0).1 (xH D d a (op_append st p0).2) (xA a)) ([.ref (a 0), .int p0] : List Value).toArray s 0 0 (xA a)) (F0 m 41 ls []) := by
      intro k
      induction k with
      | zero =>
        intro i j part hk hj hI H locs hP hS ls hl
        have hi : i = 5 := by omega
        subst hi
        refine lv_iload_n hx hb dX0_append_41 rfl (lv_at hl 3 rfl) ?_
        refine lv_iconst (v := 5) hx hb dX0_append_42 (by decide) ?_
        refine lv_icmp_ge (tgt := 118) hx hb dX0_append_43 (by decide) (fun _ => ?_) (fun q => absurd (by decide) q)
        exact hend part H locs (aI_end (by omega) hj (Or.inl rfl) hI) hP hS ls (lv_sub hl [0] rfl)
      | succ k ih =>
        intro i j part hk hj hI H locs hP hS ls hl
        have hj41 : j < 41 := by
          have := Nat.le_mul_of_pos_right j (Nat.two_pow_pos i)
          omega
        refine lv_iload_n hx hb dX0_append_41 rfl (lv_at hl 3 rfl) ?_
        refine lv_iconst (v := 5) hx hb dX0_append_42 (by decide) ?_
        refine lv_icmp_ge (tgt := 118) hx hb dX0_append_43 (by decide) (fun q => absurd q (fun h => absurd ((nI_leI (a := 5) (b := i) (by decide) (by omega)).mp h) (by omega))) (fun _ => ?_)
        refine lv_iload_n hx hb dX0_append_46 rfl (lv_at hl 2 rfl) ?_
        refine lv_iconst (v := 1) hx hb dX0_append_47 (by decide) ?_
        refine lv_iand hx hb dX0_append_48 ?_
        refine ml_top (y := nI (j % 2)) (ml_and1 j hj41) ?_
        refine lv_if_ne (tgt := 118) hx hb dX0_append_49 (by decide) (fun c2 => ?_) (fun c2 => ?_)
        · have hodd : j % 2 = 1 := by
            rcases Nat.mod_two_eq_zero_or_one j with h | h
            · rw [h] at c2; exact absurd rfl c2
            · exact h
          exact hend part H locs (aI_end (by omega) hj (Or.inr hodd) hI) hP hS ls (lv_sub hl [0] rfl)
        · obtain ⟨t, rfl⟩ : ∃ t, j = 2 * t := ⟨j / 2, by have h := (nI_eq (a := j % 2) (b := 0) (by omega) (by decide)).mp c2; omega⟩
          obtain ⟨x1, x2, x3, x4, x5⟩ := ap_ix hlt (by omega : i < 5) hj
          refine lv_iload_n hx hb dX0_append_52 rfl (lv_at hl 2 rfl) ?_
          refine lv_iconst (v := 2) hx hb dX0_append_53 (by decide) ?_
          refine lv_idiv hx hb dX0_append_54 (by decide) ?_
          refine ml_top (y := nI t) (by rw [ml_div2 _ hj41, Nat.mul_div_cancel_left t (by decide)]) ?_
          refine lv_istore_n (lv' := [(2, .int (nI t)), (0, .ref (a 0)), (1, .int p0), (3, .int (nI i))]) hx hb dX0_append_55 rfl hl (by decide) rfl (fun ls hl => ?_)
          refine lv_aload_n hx hb dX0_append_56 rfl (lv_at hl 1 rfl) ?_
          refine xg_part S hK hP dX0_append_57 ?_
          refine lv_iload_n hx hb dX0_append_60 rfl (lv_at hl 3 rfl) ?_
          refine xc_firstN (by omega : i < 6) S ⟨Nat.le_of_ble_eq_true rfl, Nat.le_of_ble_eq_true rfl⟩ ⟨Nat.zero_le _, Nat.zero_le _⟩ hl.1 (Nat.le_of_ble_eq_true rfl) dX0_append_61 ?_
          refine lv_iconst (v := 2) hx hb dX0_append_64 (by decide) ?_
          refine lv_iload_n hx hb dX0_append_65 rfl (lv_at hl 0 rfl) ?_
          refine lv_imul hx hb dX0_append_66 ?_
          refine ml_top (y := nI (2 * t)) (pk_mul 2 t) ?_
          refine lv_iadd hx hb dX0_append_67 ?_
          refine ml_top (y := nI (ml_fst i + 2 * t)) (nI_add _ _) ?_
          refine lv_iconst (v := 2) hx hb dX0_append_68 (by decide) ?_
          refine lv_isub hx hb dX0_append_69 ?_
          refine ml_top (y := nI (ml_fst i + 2 * t - 2)) (nI_minus _ 2 (by omega) _ rfl) ?_
          refine xl_part (j := ml_fst i + 2 * t - 2) (x3) S hK hP dX0_append_70 ?_
          refine lv_istore (lv' := [(4, .int (part (ml_fst i + 2 * t - 2))), (2, .int (nI t)), (0, .ref (a 0)), (1, .int p0), (3, .int (nI i))]) hx hb dX0_append_71 hl (by decide) rfl (fun ls hl => ?_)
          refine lv_aload_n hx hb dX0_append_73 rfl (lv_at hl 2 rfl) ?_
          refine xg_part S hK hP dX0_append_74 ?_
          refine lv_iload_n hx hb dX0_append_77 rfl (lv_at hl 4 rfl) ?_
          refine xc_firstN (by omega : i < 6) S ⟨Nat.le_of_ble_eq_true rfl, Nat.le_of_ble_eq_true rfl⟩ ⟨Nat.zero_le _, Nat.zero_le _⟩ hl.1 (Nat.le_of_ble_eq_true rfl) dX0_append_78 ?_
          refine lv_iconst (v := 2) hx hb dX0_append_81 (by decide) ?_
          refine lv_iload_n hx hb dX0_append_82 rfl (lv_at hl 1 rfl) ?_
          refine lv_imul hx hb dX0_append_83 ?_
          refine ml_top (y := nI (2 * t)) (pk_mul 2 t) ?_
          refine lv_iadd hx hb dX0_append_84 ?_
          refine ml_top (y := nI (ml_fst i + 2 * t)) (nI_add _ _) ?_
          refine lv_iconst (v := 1) hx hb dX0_append_85 (by decide) ?_
          refine lv_isub hx hb dX0_append_86 ?_
          refine ml_top (y := nI (ml_fst i + 2 * t - 1)) (nI_minus _ 1 (by omega) _ rfl) ?_
          refine xl_part (j := ml_fst i + 2 * t - 1) (x4) S hK hP dX0_append_87 ?_
          refine lv_istore (lv' := [(5, .int (part (ml_fst i + 2 * t - 1))), (4, .int (part (ml_fst i + 2 * t - 2))), (2, .int (nI t)), (0, .ref (a 0)), (1, .int p0), (3, .int (nI i))]) hx hb dX0_append_88 hl (by decide) rfl (fun ls hl => ?_)
          refine lv_aload_n hx hb dX0_append_90 rfl (lv_at hl 3 rfl) ?_
          refine xg_part S hK hP dX0_append_91 ?_
          refine lv_iload_n hx hb dX0_append_94 rfl (lv_at hl 5 rfl) ?_
          refine lv_iconst (v := 1) hx hb dX0_append_95 (by decide) ?_
          refine lv_iadd hx hb dX0_append_96 ?_
          refine ml_top (y := nI (i + 1)) (nI_1 i) ?_
          refine xc_firstN (by omega : i + 1 < 6) S ⟨Nat.le_of_ble_eq_true rfl, Nat.le_of_ble_eq_true rfl⟩ ⟨Nat.zero_le _, Nat.zero_le _⟩ hl.1 (Nat.le_of_ble_eq_true rfl) dX0_append_97 ?_
          refine lv_iload_n hx hb dX0_append_100 rfl (lv_at hl 2 rfl) ?_
          refine lv_iadd hx hb dX0_append_101 ?_
          refine ml_top (y := nI (ml_fst (i + 1) + t)) (nI_add _ _) ?_
          refine lv_iconst (v := 1) hx hb dX0_append_102 (by decide) ?_
          refine lv_isub hx hb dX0_append_103 ?_
          refine ml_top (y := nI (ml_fst (i + 1) + t - 1)) (nI_minus _ 1 (by omega) _ rfl) ?_
          refine lv_iload hx hb dX0_append_104 (lv_at hl 1 rfl) ?_
          refine lv_iload hx hb dX0_append_106 (lv_at hl 0 rfl) ?_
          refine xc_node S ⟨Nat.le_of_ble_eq_true rfl, Nat.le_of_ble_eq_true rfl⟩ ⟨Nat.zero_le _, Nat.zero_le _⟩ hl.1 (Nat.le_of_ble_eq_true rfl) dX0_append_108 ?_
          refine xs_part (j := ml_fst (i + 1) + t - 1) (x5) S hK hP hD hS dX0_append_111 (fun H locs hP hS => ?_)
          refine lv_iinc (v := nI (i + 1)) (lv' := [(3, .int (nI (i + 1))), (5, .int (part (ml_fst i + 2 * t - 1))), (4, .int (part (ml_fst i + 2 * t - 2))), (2, .int (nI t)), (0, .ref (a 0)), (1, .int p0)]) hx hb dX0_append_112 hl (k := 5) rfl (nI_1 i) (by decide) rfl (fun ls hl => ?_)
          refine lv_goto (tgt := 41) hx hb dX0_append_115 (by decide) ?_
          exact ih (i + 1) t _ (by omega) (by rw [Nat.pow_succ, Nat.mul_comm (2 ^ i) 2, ← Nat.mul_assoc, Nat.mul_comm t 2]; exact hj) (aI_step hlt (by omega) hj hI) H locs hP hS ls (lv_sub hl [4, 5, 3, 0] rfl)
    exact loop 5 0 (st.1 + 1) _ (by omega) (by simp) hI0 H locs hP hS ls (lv_sub hl [2, 3, 1, 0] rfl)
  · have hge : st.1 = 40 := by
      rcases Nat.lt_or_ge st.1 40 with h | h
      · exact absurd ((nI_ltI (a := st.1) (b := 40) (by omega) (by decide)).mpr h) c1
      · omega
    refine lv_iconst (v := (-1)) hx hb dX0_append_9 (by decide) ?_
    have hop := op_append_full (st := st) (x := p0) hge
    exact ml_iret hx hb hr hlocks (by rw [hop]) (by rw [hop]; exact ⟨_, _, _, _, _, _, ⟨rfl, r2, r3, rfl, r5, r6⟩, hP⟩) hS dX0_append_10
end
section
set_option maxHeartbeats 4000000 in
set_option maxRecDepth 100000 in
/-- path(entry, size) -/
theorem xm_path (l : Launch) (D : va_G) (d : ClassId) (a : Nat → Nat) (hD0 : xD (fun _ => True) a) (st : ml_S) (p0 p1 : Int32) : Met l yX0_path (ws_ yX0_path cX0_path 7 (some .int)) ({ frames := 4, cells := 0, slots := 0, locals := 94 }) (ml_Pc D d [.ref (a 0), .int p0, .int p1] (xH D d a st)) (ml_Qi (op_path st p0 p1).1 (xH D d a (op_path st p0 p1).2) (xA a)) 0 0 (xA a) := by
  refine Met.ofW (cc := cX0_path) (maxL := 7) (ret := (some .int)) (by decide) rfl ?_
  intro p e s m args below meth c s₁ B hml hv
  obtain ⟨rfl, hH, hK⟩ := hv
  have hx := B.exec
  have hb := B.bytes
  have hr := B.returns
  have hts0 := atoms_spec (ws := (ws_ yX0_path cX0_path 7 (some .int))) B.pre
  have hts : ∀ w ∈ lw_all, w.before _ s = true := fun w h => hts0 w (List.mem_cons_of_mem _ h)
  have hown : s.vm.findClass RX0 = some m.cls := findClass_of_methodNamed B.named
  have hlocks := B.notSynchronized
  have S : CallFix p m c cX0_path 7 s _ lw_all RX0 := ⟨hx, hb, hml, hown, hts⟩
  have hl := lv_entry ([.ref (a 0), .int p0, .int p1]) (n := 7) (Nat.le_of_ble_eq_true rfl)
  rw [lg_entry_eq]
  generalize (lg_sl ([.ref (a 0), .int p0, .int p1]) ++ List.replicate (7 - (lg_sl ([.ref (a 0), .int p0, .int p1])).length) Slot.unset).toArray = ls at hl ⊢
  have hl : lv_has ls 7 [(0, .ref (a 0)), (1, .int p0), (2, .int p1)] := hl
  obtain ⟨n, cnt, fnd, part, nums, downs, ⟨r1, r2, r3, r4, r5, r6⟩, hP⟩ := hH
  subst r1; subst r4
  have hD : xD (xA a) a := hD0.self
  have hS : va_S (xA a) s.heap s.heap [] := va_S.rf
  refine lv_iload_n hx hb dX0_path_0 rfl (lv_at hl 2 rfl) ?_
  refine lv_iconst (v := 1) hx hb dX0_path_1 (by decide) ?_
  refine lv_icmp_lt (tgt := 22) hx hb dX0_path_2 (by decide) (fun c1 => ?_) (fun c1 => ?_)
  · refine lv_iconst (v := (-1)) hx hb dX0_path_22 (by decide) ?_
    have hop := op_path_bad (st := st) (e := p0) (n := p1) (Or.inl c1)
    exact ml_iret hx hb hr hlocks (by rw [hop]) (by rw [hop]; exact ⟨_, _, _, _, _, _, ⟨rfl, r2, r3, rfl, r5, r6⟩, hP⟩) hS dX0_path_23
  · refine lv_iload_n hx hb dX0_path_5 rfl (lv_at hl 2 rfl) ?_
    refine lv_aload_n hx hb dX0_path_6 rfl (lv_at hl 0 rfl) ?_
    refine xg_n S hK hP dX0_path_7 ?_
    refine lv_icmp_gt (tgt := 22) hx hb dX0_path_10 (by decide) (fun c2 => ?_) (fun c2 => ?_)
    · refine lv_iconst (v := (-1)) hx hb dX0_path_22 (by decide) ?_
      have hop := op_path_bad (st := st) (e := p0) (n := p1) (Or.inr (Or.inl c2))
      exact ml_iret hx hb hr hlocks (by rw [hop]) (by rw [hop]; exact ⟨_, _, _, _, _, _, ⟨rfl, r2, r3, rfl, r5, r6⟩, hP⟩) hS dX0_path_23
    · refine lv_iload_n hx hb dX0_path_13 rfl (lv_at hl 1 rfl) ?_
      refine lv_if_lt (tgt := 22) hx hb dX0_path_14 (by decide) (fun c3 => ?_) (fun c3 => ?_)
      · refine lv_iconst (v := (-1)) hx hb dX0_path_22 (by decide) ?_
        have hop := op_path_bad (st := st) (e := p0) (n := p1) (Or.inr (Or.inr (Or.inl c3)))
        exact ml_iret hx hb hr hlocks (by rw [hop]) (by rw [hop]; exact ⟨_, _, _, _, _, _, ⟨rfl, r2, r3, rfl, r5, r6⟩, hP⟩) hS dX0_path_23
      · refine lv_iload_n hx hb dX0_path_17 rfl (lv_at hl 1 rfl) ?_
        refine lv_iload_n hx hb dX0_path_18 rfl (lv_at hl 2 rfl) ?_
        refine lv_icmp_lt (tgt := 24) hx hb dX0_path_19 (by decide) (fun c4 => ?_) (fun c4 => ?_)
        · obtain ⟨z, e1, k1, k2⟩ := nat_of (by omega) c1 c2
          subst e1
          obtain ⟨y, e0, k3⟩ := nat_lt (by omega) c3 (Int32.not_le.mpr c4)
          subst e0
          have hop := op_path_ok (st := st) k3 k2 r2
          generalize hL : ml_pth (ml_g st.2.1) 6 0 z y = Lx at hop
          have hlen : Lx.length ≤ 6 := by rw [← hL]; exact pth_len _ 6 0 z y
          have hend : ∀ (downs : Nat → Int32) (H : Heap) (locs : List Loc), ml_ho downs Lx → va_P D ml_cl (wX d a (nI st.1) (nI st.2.2.length) (nI Lx.length) part nums downs) H → va_S (xA a) s.heap H locs → ∀ ls : Array Slot, lv_has ls 7 [(0, .ref (a 0))] → W p l e (headSpec (ws_ yX0_path cX0_path 7 (some .int)) ({ frames := 4, cells := 0, slots := 0, locals := 94 })).room s m ([.ref (a 0), .int (nI y), .int (nI z)] : List Value).toArray below meth c H locs 0 0 (MQ below (ml_Qi (op_path st (nI y) (nI z)).1 (xH D d a (op_path st (nI y) (nI z)).2) (xA a)) ([.ref (a 0), .int (nI y), .int (nI z)] : List Value).toArray s 0 0 (xA a)) (F0 m 100 ls []) := by
            intro downs H locs hh hP hS ls hl
            refine lv_aload_n hx hb dX0_path_100 rfl (lv_at hl 0 rfl) ?_
            refine xc_turnRound hD0 (by have := hlen; omega) S ⟨Nat.le_of_ble_eq_true rfl, Nat.le_of_ble_eq_true rfl⟩ ⟨Nat.zero_le _, Nat.zero_le _⟩ hK hP hS (fun _ h => h) hl.1 (Nat.le_of_ble_eq_true rfl) dX0_path_101 (fun H locs hT _ hS => ?_)
            obtain ⟨nums', hn, hP⟩ := hT
            refine lv_aload_n hx hb dX0_path_104 rfl (lv_at hl 0 rfl) ?_
            refine xg_cnt S hK hP dX0_path_105 ?_
            exact ml_iret hx hb hr hlocks (by rw [hop]) (by rw [hop]; exact ⟨_, _, _, _, _, _, ⟨rfl, r2, r3, by rw [List.length_reverse], by rw [List.length_reverse]; have := hlen; omega, ho_rev hh hn⟩, hP⟩) hS dX0_path_108
          have loop : ∀ (k i u v : Nat) (Lp : List Int32) (downs : Nat → Int32), i + k = 6 → u ≤ y → y < v → v ≤ st.1 → ml_al k u (v - u) → Lp.length ≤ i → ml_ho downs Lp → Lp ++ ml_pth (ml_g st.2.1) k u (v - u) (y - u) = Lx → ∀ (H : Heap) (locs : List Loc), va_P D ml_cl (wX d a (nI st.1) (nI st.2.2.length) (nI Lp.length) part nums downs) H → va_S (xA a) s.heap H locs → ∀ ls : Array Slot, lv_has ls 7 [(0, .ref (a 0)), (1, .int (nI y)), (2, .int (nI z)), (3, .int (nI u)), (4, .int (nI v)), (5, .int (nI i))] → W p l e (headSpec (ws_ yX0_path cX0_path 7 (some .int)) ({ frames := 4, cells := 0, slots := 0, locals := 94 })).room s m ([.ref (a 0), .int (nI y), .int (nI z)] : List Value).toArray below meth c H locs 0 0 (MQ below (ml_Qi (op_path st (nI y) (nI z)).1 (xH D d a (op_path st (nI y) (nI z)).2) (xA a)) ([.ref (a 0), .int (nI y), .int (nI z)] : List Value).toArray s 0 0 (xA a)) (F0 m 37 ls []) := by
            intro k
            induction k with
            | zero =>
              intro i u v Lp downs hk h1 h2 h3 h4 h5 h6 h7 H locs hP hS ls hl
              have hi : i = 6 := by omega
              subst hi
              have e7 : Lp = Lx := by rw [← h7, ml_pth, List.append_nil]
              subst e7
              refine lv_iload hx hb dX0_path_37 (lv_at hl 5 rfl) ?_
              refine lv_bipush (v := 6) hx hb dX0_path_39 (by decide) ?_
              refine lv_icmp_ge (tgt := 100) hx hb dX0_path_41 (by decide) (fun _ => ?_) (fun q => absurd (by decide) q)
              exact hend downs H locs h6 hP hS ls (lv_sub hl [0] rfl)
            | succ k ih =>
              intro i u v Lp downs hk h1 h2 h3 h4 h5 h6 h7 H locs hP hS ls hl
              refine lv_iload hx hb dX0_path_37 (lv_at hl 5 rfl) ?_
              refine lv_bipush (v := 6) hx hb dX0_path_39 (by decide) ?_
              refine lv_icmp_ge (tgt := 100) hx hb dX0_path_41 (by decide) (fun q => absurd q (fun h => absurd ((nI_leI (a := 6) (b := i) (by decide) (by omega)).mp h) (by omega))) (fun _ => ?_)
              refine lv_iload hx hb dX0_path_44 (lv_at hl 4 rfl) ?_
              refine lv_iload_n hx hb dX0_path_46 rfl (lv_at hl 3 rfl) ?_
              refine lv_isub hx hb dX0_path_47 ?_
              refine ml_top (y := nI (v - u)) (pk_sub (by omega)) ?_
              refine lv_iconst (v := 1) hx hb dX0_path_48 (by decide) ?_
              refine lv_icmp_le (tgt := 100) hx hb dX0_path_49 (by decide) (fun c5 => ?_) (fun c5 => ?_)
              · have hn1 : v - u ≤ 1 := (nI_leI (b := 1) (by omega) (by decide)).mp c5
                have e7 : Lp = Lx := by rw [← h7, ml_pth, if_pos hn1, List.append_nil]
                subst e7
                exact hend downs H locs h6 hP hS ls (lv_sub hl [0] rfl)
              · have hn2 : 2 ≤ v - u := by
                  rcases Nat.lt_or_ge (v - u) 2 with h | h
                  · exact absurd ((nI_leI (a := v - u) (b := 1) (by omega) (by decide)).mpr (by omega)) c5
                  · exact h
                obtain ⟨f1, f2⟩ := hf_lt hn2
                obtain ⟨a1, a2⟩ := al_step (by omega) h4 hn2
                rw [ml_pth, if_neg (by omega)] at h7
                have e9 : v - u - ml_hf (v - u) = v - (u + ml_hf (v - u)) := by omega
                have e10 : u + ml_hf (v - u) - u = ml_hf (v - u) := by omega
                refine lv_iload_n hx hb dX0_path_52 rfl (lv_at hl 3 rfl) ?_
                refine lv_iload hx hb dX0_path_53 (lv_at hl 4 rfl) ?_
                refine lv_iload_n hx hb dX0_path_55 rfl (lv_at hl 3 rfl) ?_
                refine lv_isub hx hb dX0_path_56 ?_
                refine ml_top (y := nI (v - u)) (pk_sub (by omega)) ?_
                refine xc_cut (by omega) S ⟨Nat.le_of_ble_eq_true rfl, Nat.le_of_ble_eq_true rfl⟩ ⟨Nat.zero_le _, Nat.zero_le _⟩ hl.1 (Nat.le_of_ble_eq_true rfl) dX0_path_57 ?_
                refine lv_iadd hx hb dX0_path_60 ?_
                refine ml_top (y := nI (u + ml_hf (v - u))) (nI_add _ _) ?_
                refine lv_istore (lv' := [(6, .int (nI (u + ml_hf (v - u)))), (0, .ref (a 0)), (1, .int (nI y)), (2, .int (nI z)), (3, .int (nI u)), (4, .int (nI v)), (5, .int (nI i))]) hx hb dX0_path_61 hl (by decide) rfl (fun ls hl => ?_)
                refine lv_iload_n hx hb dX0_path_63 rfl (lv_at hl 2 rfl) ?_
                refine lv_iload hx hb dX0_path_64 (lv_at hl 0 rfl) ?_
                refine lv_icmp_ge (tgt := 84) hx hb dX0_path_66 (by decide) (fun c6 => ?_) (fun c6 => ?_)
                · have hy : u + ml_hf (v - u) ≤ y := (nI_leI (by omega) (by omega)).mp c6
                  rw [if_neg (by omega), e9] at h7
                  refine lv_aload_n hx hb dX0_path_84 rfl (lv_at hl 1 rfl) ?_
                  refine lv_iload_n hx hb dX0_path_85 rfl (lv_at hl 4 rfl) ?_
                  refine lv_iload hx hb dX0_path_86 (lv_at hl 0 rfl) ?_
                  refine xc_note hD0 (by omega) r3 r2 (by omega) (by omega) (by rw [e10]; exact al_le a1 (by omega)) S ⟨Nat.le_of_ble_eq_true rfl, Nat.le_of_ble_eq_true rfl⟩ ⟨Nat.zero_le _, Nat.zero_le _⟩ hK hP hS (fun _ h => h) hl.1 (Nat.le_of_ble_eq_true rfl) dX0_path_88 (fun H locs hP _ hS => ?_)
                  refine lv_iload hx hb dX0_path_91 (lv_at hl 0 rfl) ?_
                  refine lv_istore_n (lv' := [(3, .int (nI (u + ml_hf (v - u)))), (6, .int (nI (u + ml_hf (v - u)))), (0, .ref (a 0)), (1, .int (nI y)), (2, .int (nI z)), (4, .int (nI v)), (5, .int (nI i))]) hx hb dX0_path_93 rfl hl (by decide) rfl (fun ls hl => ?_)
                  refine lv_iinc (v := nI (i + 1)) (lv' := [(5, .int (nI (i + 1))), (3, .int (nI (u + ml_hf (v - u)))), (6, .int (nI (u + ml_hf (v - u)))), (0, .ref (a 0)), (1, .int (nI y)), (2, .int (nI z)), (4, .int (nI v))]) hx hb dX0_path_94 hl (k := 6) rfl (nI_1 i) (by decide) rfl (fun ls hl => ?_)
                  refine lv_goto (tgt := 37) hx hb dX0_path_97 (by decide) ?_
                  exact ih (i + 1) (u + ml_hf (v - u)) v (Lp ++ [ml_r (ml_g st.2.1) u (u + ml_hf (v - u) - u)]) _ (by omega) hy h2 h3 (by rw [← e9]; exact a2) (by rw [List.length_append, List.length_singleton]; omega) (ho_push h6) (by rw [← h7, List.append_assoc, e10, Nat.sub_sub y u]; rfl) H locs (by rw [List.length_append, List.length_singleton]; exact hP) hS ls (lv_sub hl [3, 4, 5, 1, 6, 0] rfl)
                · have hy : y < u + ml_hf (v - u) := by
                    rcases Nat.lt_or_ge y (u + ml_hf (v - u)) with h | h
                    · exact h
                    · exact absurd (nI_le h (by omega)) c6
                  rw [if_pos (by omega), e9] at h7
                  refine lv_aload_n hx hb dX0_path_69 rfl (lv_at hl 1 rfl) ?_
                  refine lv_iload hx hb dX0_path_70 (lv_at hl 0 rfl) ?_
                  refine lv_iload hx hb dX0_path_72 (lv_at hl 5 rfl) ?_
                  refine xc_note hD0 (by omega) r3 r2 (by omega) h3 (by rw [← e9]; exact al_le a2 (by omega)) S ⟨Nat.le_of_ble_eq_true rfl, Nat.le_of_ble_eq_true rfl⟩ ⟨Nat.zero_le _, Nat.zero_le _⟩ hK hP hS (fun _ h => h) hl.1 (Nat.le_of_ble_eq_true rfl) dX0_path_74 (fun H locs hP _ hS => ?_)
                  refine lv_iload hx hb dX0_path_77 (lv_at hl 0 rfl) ?_
                  refine lv_istore (lv' := [(4, .int (nI (u + ml_hf (v - u)))), (6, .int (nI (u + ml_hf (v - u)))), (0, .ref (a 0)), (1, .int (nI y)), (2, .int (nI z)), (3, .int (nI u)), (5, .int (nI i))]) hx hb dX0_path_79 hl (by decide) rfl (fun ls hl => ?_)
                  refine lv_goto (tgt := 94) hx hb dX0_path_81 (by decide) ?_
                  refine lv_iinc (v := nI (i + 1)) (lv' := [(5, .int (nI (i + 1))), (4, .int (nI (u + ml_hf (v - u)))), (6, .int (nI (u + ml_hf (v - u)))), (0, .ref (a 0)), (1, .int (nI y)), (2, .int (nI z)), (3, .int (nI u))]) hx hb dX0_path_94 hl (k := 6) rfl (nI_1 i) (by decide) rfl (fun ls hl => ?_)
                  refine lv_goto (tgt := 37) hx hb dX0_path_97 (by decide) ?_
                  exact ih (i + 1) u (u + ml_hf (v - u)) (Lp ++ [ml_r (ml_g st.2.1) (u + ml_hf (v - u)) (v - (u + ml_hf (v - u)))]) _ (by omega) h1 hy (by omega) (by rw [e10]; exact a1) (by rw [List.length_append, List.length_singleton]; omega) (ho_push h6) (by rw [← h7, List.append_assoc, e10]; rfl) H locs (by rw [List.length_append, List.length_singleton]; exact hP) hS ls (lv_sub hl [3, 4, 5, 6, 1, 0] rfl)
          refine lv_iconst (v := 0) hx hb dX0_path_24 (by decide) ?_
          refine lv_istore_n (lv' := [(3, .int 0), (0, .ref (a 0)), (1, .int (nI y)), (2, .int (nI z))]) hx hb dX0_path_25 rfl hl (by decide) rfl (fun ls hl => ?_)
          refine lv_iload_n hx hb dX0_path_26 rfl (lv_at hl 3 rfl) ?_
          refine lv_istore (lv' := [(4, .int (nI z)), (3, .int 0), (0, .ref (a 0)), (1, .int (nI y)), (2, .int (nI z))]) hx hb dX0_path_27 hl (by decide) rfl (fun ls hl => ?_)
          refine lv_aload_n hx hb dX0_path_29 rfl (lv_at hl 2 rfl) ?_
          refine lv_iconst (v := 0) hx hb dX0_path_30 (by decide) ?_
          refine xp_fnd S hK hP hD hS dX0_path_31 (fun H locs hP hS => ?_)
          refine lv_iconst (v := 0) hx hb dX0_path_34 (by decide) ?_
          refine lv_istore (lv' := [(5, .int 0), (4, .int (nI z)), (3, .int 0), (0, .ref (a 0)), (1, .int (nI y)), (2, .int (nI z))]) hx hb dX0_path_35 hl (by decide) rfl (fun ls hl => ?_)
          exact loop 6 0 0 z [] downs (by omega) (by omega) k3 k2 (al_0 (by omega)) (Nat.le_refl 0) (ho_nil _) (by rw [List.nil_append, Nat.sub_zero, Nat.sub_zero]; exact hL) H locs hP hS ls (lv_sub hl [3, 4, 5, 2, 1, 0] rfl)
        · refine lv_iconst (v := (-1)) hx hb dX0_path_22 (by decide) ?_
          have hop := op_path_bad (st := st) (e := p0) (n := p1) (Or.inr (Or.inr (Or.inr (Int32.not_lt.mp c4))))
          exact ml_iret hx hb hr hlocks (by rw [hop]) (by rw [hop]; exact ⟨_, _, _, _, _, _, ⟨rfl, r2, r3, rfl, r5, r6⟩, hP⟩) hS dX0_path_23
end
section
set_option maxHeartbeats 4000000 in
set_option maxRecDepth 100000 in
/-- steps(from, to) -/
theorem xm_steps (l : Launch) (D : va_G) (d : ClassId) (a : Nat → Nat) (hD0 : xD (fun _ => True) a) (st : ml_S) (p0 p1 : Int32) : Met l yX0_steps (ws_ yX0_steps cX0_steps 7 (some .int)) ({ frames := 4, cells := 0, slots := 0, locals := 94 }) (ml_Pc D d [.ref (a 0), .int p0, .int p1] (xH D d a st)) (ml_Qi (op_steps st p0 p1).1 (xH D d a (op_steps st p0 p1).2) (xA a)) 0 0 (xA a) := by
  refine Met.ofW (cc := cX0_steps) (maxL := 7) (ret := (some .int)) (by decide) rfl ?_
  intro p e s m args below meth c s₁ B hml hv
  obtain ⟨rfl, hH, hK⟩ := hv
  have hx := B.exec
  have hb := B.bytes
  have hr := B.returns
  have hts0 := atoms_spec (ws := (ws_ yX0_steps cX0_steps 7 (some .int))) B.pre
  have hts : ∀ w ∈ lw_all, w.before _ s = true := fun w h => hts0 w (List.mem_cons_of_mem _ h)
  have hown : s.vm.findClass RX0 = some m.cls := findClass_of_methodNamed B.named
  have hlocks := B.notSynchronized
  have S : CallFix p m c cX0_steps 7 s _ lw_all RX0 := ⟨hx, hb, hml, hown, hts⟩
  have hl := lv_entry ([.ref (a 0), .int p0, .int p1]) (n := 7) (Nat.le_of_ble_eq_true rfl)
  rw [lg_entry_eq]
  generalize (lg_sl ([.ref (a 0), .int p0, .int p1]) ++ List.replicate (7 - (lg_sl ([.ref (a 0), .int p0, .int p1])).length) Slot.unset).toArray = ls at hl ⊢
  have hl : lv_has ls 7 [(0, .ref (a 0)), (1, .int p0), (2, .int p1)] := hl
  obtain ⟨n, cnt, fnd, part, nums, downs, ⟨r1, r2, r3, r4, r5, r6⟩, hP⟩ := hH
  subst r1; subst r4
  have hD : xD (xA a) a := hD0.self
  have hS : va_S (xA a) s.heap s.heap [] := va_S.rf
  refine lv_iload_n hx hb dX0_steps_0 rfl (lv_at hl 1 rfl) ?_
  refine lv_iconst (v := 1) hx hb dX0_steps_1 (by decide) ?_
  refine lv_icmp_lt (tgt := 18) hx hb dX0_steps_2 (by decide) (fun c1 => ?_) (fun c1 => ?_)
  · refine lv_iconst (v := (-1)) hx hb dX0_steps_18 (by decide) ?_
    have hop := op_steps_bad (st := st) (a := p0) (b := p1) (Or.inl c1)
    exact ml_iret hx hb hr hlocks (by rw [hop]) (by rw [hop]; exact ⟨_, _, _, _, _, _, ⟨rfl, r2, r3, rfl, r5, r6⟩, hP⟩) hS dX0_steps_19
  · refine lv_iload_n hx hb dX0_steps_5 rfl (lv_at hl 1 rfl) ?_
    refine lv_iload_n hx hb dX0_steps_6 rfl (lv_at hl 2 rfl) ?_
    refine lv_icmp_gt (tgt := 18) hx hb dX0_steps_7 (by decide) (fun c2 => ?_) (fun c2 => ?_)
    · refine lv_iconst (v := (-1)) hx hb dX0_steps_18 (by decide) ?_
      have hop := op_steps_bad (st := st) (a := p0) (b := p1) (Or.inr (Or.inl c2))
      exact ml_iret hx hb hr hlocks (by rw [hop]) (by rw [hop]; exact ⟨_, _, _, _, _, _, ⟨rfl, r2, r3, rfl, r5, r6⟩, hP⟩) hS dX0_steps_19
    · refine lv_iload_n hx hb dX0_steps_10 rfl (lv_at hl 2 rfl) ?_
      refine lv_aload_n hx hb dX0_steps_11 rfl (lv_at hl 0 rfl) ?_
      refine xg_n S hK hP dX0_steps_12 ?_
      refine lv_icmp_le (tgt := 20) hx hb dX0_steps_15 (by decide) (fun c3 => ?_) (fun c3 => ?_)
      · obtain ⟨z, e1, k1, k2⟩ := nat_of (n := p1) (N := st.1) (by omega) (fun h => c1 (Int32.lt_of_le_of_lt (Int32.not_lt.mp c2) h)) (Int32.not_lt.mpr c3)
        subst e1
        obtain ⟨y, e0, k0, k3⟩ := nat_of (n := p0) (N := z) (by omega) c1 c2
        subst e0
        have hop := op_steps_ok (st := st) k0 k3 k2 r2
        generalize hL : ml_stp (ml_g st.2.1) 6 0 z y = Lx at hop
        have hlen : Lx.length ≤ 7 := by rw [← hL]; exact stp_len _ 6 0 z y
        have hend : ∀ (downs : Nat → Int32) (H : Heap) (locs : List Loc), ml_ho downs Lx → va_P D ml_cl (wX d a (nI st.1) (nI st.2.2.length) (nI Lx.length) part nums downs) H → va_S (xA a) s.heap H locs → ∀ ls : Array Slot, lv_has ls 7 [(0, .ref (a 0))] → W p l e (headSpec (ws_ yX0_steps cX0_steps 7 (some .int)) ({ frames := 4, cells := 0, slots := 0, locals := 94 })).room s m ([.ref (a 0), .int (nI y), .int (nI z)] : List Value).toArray below meth c H locs 0 0 (MQ below (ml_Qi (op_steps st (nI y) (nI z)).1 (xH D d a (op_steps st (nI y) (nI z)).2) (xA a)) ([.ref (a 0), .int (nI y), .int (nI z)] : List Value).toArray s 0 0 (xA a)) (F0 m 105 ls []) := by
          intro downs H locs hh hP hS ls hl
          refine lv_aload_n hx hb dX0_steps_105 rfl (lv_at hl 0 rfl) ?_
          refine xc_turnRound hD0 (by have := hlen; omega) S ⟨Nat.le_of_ble_eq_true rfl, Nat.le_of_ble_eq_true rfl⟩ ⟨Nat.zero_le _, Nat.zero_le _⟩ hK hP hS (fun _ h => h) hl.1 (Nat.le_of_ble_eq_true rfl) dX0_steps_106 (fun H locs hT _ hS => ?_)
          obtain ⟨nums', hn, hP⟩ := hT
          refine lv_aload_n hx hb dX0_steps_109 rfl (lv_at hl 0 rfl) ?_
          refine xg_cnt S hK hP dX0_steps_110 ?_
          exact ml_iret hx hb hr hlocks (by rw [hop]) (by rw [hop]; exact ⟨_, _, _, _, _, _, ⟨rfl, r2, r3, by rw [List.length_reverse], by rw [List.length_reverse]; have := hlen; omega, ho_rev hh hn⟩, hP⟩) hS dX0_steps_113
        have hlast : ∀ (u v : Nat) (Lp : List Int32) (downs : Nat → Int32), u < v → v ≤ st.1 → ml_al 6 u (v - u) → Lp.length ≤ 6 → ml_ho downs Lp → Lp ++ (if 0 < u then [ml_r (ml_g st.2.1) u (v - u)] else []) = Lx → ∀ (H : Heap) (locs : List Loc), va_P D ml_cl (wX d a (nI st.1) (nI st.2.2.length) (nI Lp.length) part nums downs) H → va_S (xA a) s.heap H locs → ∀ ls : Array Slot, lv_has ls 7 [(0, .ref (a 0)), (3, .int (nI u)), (4, .int (nI v))] → W p l e (headSpec (ws_ yX0_steps cX0_steps 7 (some .int)) ({ frames := 4, cells := 0, slots := 0, locals := 94 })).room s m ([.ref (a 0), .int (nI y), .int (nI z)] : List Value).toArray below meth c H locs 0 0 (MQ below (ml_Qi (op_steps st (nI y) (nI z)).1 (xH D d a (op_steps st (nI y) (nI z)).2) (xA a)) ([.ref (a 0), .int (nI y), .int (nI z)] : List Value).toArray s 0 0 (xA a)) (F0 m 94 ls []) := by
          intro u v Lp downs h2 h3 h4 h5 h6 h7 H locs hP hS ls hl
          refine lv_iload_n hx hb dX0_steps_94 rfl (lv_at hl 1 rfl) ?_
          refine lv_if_le (tgt := 105) hx hb dX0_steps_95 (by decide) (fun c5 => ?_) (fun c5 => ?_)
          · have hu : u = 0 := by
              have := (nI_leI (a := u) (b := 0) (by omega) (by decide)).mp c5
              omega
            have e7 : Lp = Lx := by rw [← h7, if_neg (by omega), List.append_nil]
            subst e7
            exact hend downs H locs h6 hP hS ls (lv_sub hl [0] rfl)
          · have hu : 0 < u := by
              rcases Nat.eq_zero_or_pos u with h | h
              · subst h; exact absurd (by decide) c5
              · exact h
            rw [if_pos hu] at h7
            subst h7
            refine lv_aload_n hx hb dX0_steps_98 rfl (lv_at hl 0 rfl) ?_
            refine lv_iload_n hx hb dX0_steps_99 rfl (lv_at hl 1 rfl) ?_
            refine lv_iload hx hb dX0_steps_100 (lv_at hl 2 rfl) ?_
            refine xc_note hD0 (by omega) r3 r2 h2 h3 h4 S ⟨Nat.le_of_ble_eq_true rfl, Nat.le_of_ble_eq_true rfl⟩ ⟨Nat.zero_le _, Nat.zero_le _⟩ hK hP hS (fun _ h => h) hl.1 (Nat.le_of_ble_eq_true rfl) dX0_steps_102 (fun H locs hP _ hS => ?_)
            exact hend _ H locs (ho_push h6) (by rw [List.length_append, List.length_singleton]; exact hP) hS ls (lv_sub hl [0] rfl)
        have loop : ∀ (k i u v : Nat) (Lp : List Int32) (downs : Nat → Int32), i + k = 6 → u < y → y ≤ v → v ≤ st.1 → ml_al k u (v - u) → Lp.length ≤ i → ml_ho downs Lp → Lp ++ ml_stp (ml_g st.2.1) k u (v - u) (y - u) = Lx → ∀ (H : Heap) (locs : List Loc), va_P D ml_cl (wX d a (nI st.1) (nI st.2.2.length) (nI Lp.length) part nums downs) H → va_S (xA a) s.heap H locs → ∀ ls : Array Slot, lv_has ls 7 [(0, .ref (a 0)), (1, .int (nI y)), (2, .int (nI z)), (3, .int (nI u)), (4, .int (nI v)), (5, .int (nI i))] → W p l e (headSpec (ws_ yX0_steps cX0_steps 7 (some .int)) ({ frames := 4, cells := 0, slots := 0, locals := 94 })).room s m ([.ref (a 0), .int (nI y), .int (nI z)] : List Value).toArray below meth c H locs 0 0 (MQ below (ml_Qi (op_steps st (nI y) (nI z)).1 (xH D d a (op_steps st (nI y) (nI z)).2) (xA a)) ([.ref (a 0), .int (nI y), .int (nI z)] : List Value).toArray s 0 0 (xA a)) (F0 m 33 ls []) := by
          intro k
          induction k with
          | zero =>
            intro i u v Lp downs hk h1 h2 h3 h4 h5 h6 h7 H locs hP hS ls hl
            have hi : i = 6 := by omega
            subst hi
            refine lv_iload hx hb dX0_steps_33 (lv_at hl 5 rfl) ?_
            refine lv_bipush (v := 6) hx hb dX0_steps_35 (by decide) ?_
            refine lv_icmp_ge (tgt := 94) hx hb dX0_steps_37 (by decide) (fun _ => ?_) (fun q => absurd (by decide) q)
            exact hlast u v Lp downs (by omega) h3 (al_le h4 (by omega)) h5 h6 (by rw [← h7, ml_stp]) H locs hP hS ls (lv_sub hl [0, 3, 4] rfl)
          | succ k ih =>
            intro i u v Lp downs hk h1 h2 h3 h4 h5 h6 h7 H locs hP hS ls hl
            refine lv_iload hx hb dX0_steps_33 (lv_at hl 5 rfl) ?_
            refine lv_bipush (v := 6) hx hb dX0_steps_35 (by decide) ?_
            refine lv_icmp_ge (tgt := 94) hx hb dX0_steps_37 (by decide) (fun q => absurd q (fun h => absurd ((nI_leI (a := 6) (b := i) (by decide) (by omega)).mp h) (by omega))) (fun _ => ?_)
            refine lv_iload hx hb dX0_steps_40 (lv_at hl 4 rfl) ?_
            refine lv_iload_n hx hb dX0_steps_42 rfl (lv_at hl 1 rfl) ?_
            refine lv_icmp_eq (tgt := 94) hx hb dX0_steps_43 (by decide) (fun c6 => ?_) (fun c6 => ?_)
            · have hvy : v = y := (nI_eq (by omega) (by omega)).mp c6
              exact hlast u v Lp downs (by omega) h3 (al_le h4 (by omega)) (by omega) h6 (by rw [← h7, ml_stp, if_pos (show v - u ≤ y - u by omega)]) H locs hP hS ls (lv_sub hl [0, 3, 4] rfl)
            · have hvy : y < v := by
                rcases Nat.lt_or_ge y v with h | h
                · exact h
                · exact absurd (by rw [show v = y by omega]) c6
              have hn2 : 2 ≤ v - u := by omega
              obtain ⟨f1, f2⟩ := hf_lt hn2
              obtain ⟨a1, a2⟩ := al_step (by omega) h4 hn2
              rw [ml_stp, if_neg (by omega)] at h7
              have e9 : v - u - ml_hf (v - u) = v - (u + ml_hf (v - u)) := by omega
              have e10 : u + ml_hf (v - u) - u = ml_hf (v - u) := by omega
              refine lv_iload_n hx hb dX0_steps_46 rfl (lv_at hl 3 rfl) ?_
              refine lv_iload hx hb dX0_steps_47 (lv_at hl 4 rfl) ?_
              refine lv_iload_n hx hb dX0_steps_49 rfl (lv_at hl 3 rfl) ?_
              refine lv_isub hx hb dX0_steps_50 ?_
              refine ml_top (y := nI (v - u)) (pk_sub (by omega)) ?_
              refine xc_cut (by omega) S ⟨Nat.le_of_ble_eq_true rfl, Nat.le_of_ble_eq_true rfl⟩ ⟨Nat.zero_le _, Nat.zero_le _⟩ hl.1 (Nat.le_of_ble_eq_true rfl) dX0_steps_51 ?_
              refine lv_iadd hx hb dX0_steps_54 ?_
              refine ml_top (y := nI (u + ml_hf (v - u))) (nI_add _ _) ?_
              refine lv_istore (lv' := [(6, .int (nI (u + ml_hf (v - u)))), (0, .ref (a 0)), (1, .int (nI y)), (2, .int (nI z)), (3, .int (nI u)), (4, .int (nI v)), (5, .int (nI i))]) hx hb dX0_steps_55 hl (by decide) rfl (fun ls hl => ?_)
              refine lv_iload_n hx hb dX0_steps_57 rfl (lv_at hl 2 rfl) ?_
              refine lv_iload hx hb dX0_steps_58 (lv_at hl 0 rfl) ?_
              refine lv_icmp_gt (tgt := 78) hx hb dX0_steps_60 (by decide) (fun c7 => ?_) (fun c7 => ?_)
              · have hy : u + ml_hf (v - u) < y := (nI_ltI (by omega) (by omega)).mp c7
                rw [if_neg (by omega), e9] at h7
                refine lv_aload_n hx hb dX0_steps_78 rfl (lv_at hl 1 rfl) ?_
                refine lv_iload_n hx hb dX0_steps_79 rfl (lv_at hl 4 rfl) ?_
                refine lv_iload hx hb dX0_steps_80 (lv_at hl 0 rfl) ?_
                refine xc_note hD0 (by omega) r3 r2 (by omega) (by omega) (by rw [e10]; exact al_le a1 (by omega)) S ⟨Nat.le_of_ble_eq_true rfl, Nat.le_of_ble_eq_true rfl⟩ ⟨Nat.zero_le _, Nat.zero_le _⟩ hK hP hS (fun _ h => h) hl.1 (Nat.le_of_ble_eq_true rfl) dX0_steps_82 (fun H locs hP _ hS => ?_)
                refine lv_iload hx hb dX0_steps_85 (lv_at hl 0 rfl) ?_
                refine lv_istore_n (lv' := [(3, .int (nI (u + ml_hf (v - u)))), (6, .int (nI (u + ml_hf (v - u)))), (0, .ref (a 0)), (1, .int (nI y)), (2, .int (nI z)), (4, .int (nI v)), (5, .int (nI i))]) hx hb dX0_steps_87 rfl hl (by decide) rfl (fun ls hl => ?_)
                refine lv_iinc (v := nI (i + 1)) (lv' := [(5, .int (nI (i + 1))), (3, .int (nI (u + ml_hf (v - u)))), (6, .int (nI (u + ml_hf (v - u)))), (0, .ref (a 0)), (1, .int (nI y)), (2, .int (nI z)), (4, .int (nI v))]) hx hb dX0_steps_88 hl (k := 6) rfl (nI_1 i) (by decide) rfl (fun ls hl => ?_)
                refine lv_goto (tgt := 33) hx hb dX0_steps_91 (by decide) ?_
                exact ih (i + 1) (u + ml_hf (v - u)) v (Lp ++ [ml_r (ml_g st.2.1) u (u + ml_hf (v - u) - u)]) _ (by omega) hy h2 h3 (by rw [← e9]; exact a2) (by rw [List.length_append, List.length_singleton]; omega) (ho_push h6) (by rw [← h7, List.append_assoc, e10, Nat.sub_sub y u]; rfl) H locs (by rw [List.length_append, List.length_singleton]; exact hP) hS ls (lv_sub hl [3, 4, 5, 1, 6, 0] rfl)
              · have hy : y ≤ u + ml_hf (v - u) := by
                  rcases Nat.lt_or_ge (u + ml_hf (v - u)) y with h | h
                  · exact absurd (nI_lt h (by omega)) c7
                  · exact h
                rw [if_pos (by omega), e9] at h7
                refine lv_aload_n hx hb dX0_steps_63 rfl (lv_at hl 1 rfl) ?_
                refine lv_iload hx hb dX0_steps_64 (lv_at hl 0 rfl) ?_
                refine lv_iload hx hb dX0_steps_66 (lv_at hl 5 rfl) ?_
                refine xc_note hD0 (by omega) r3 r2 (by omega) h3 (by rw [← e9]; exact al_le a2 (by omega)) S ⟨Nat.le_of_ble_eq_true rfl, Nat.le_of_ble_eq_true rfl⟩ ⟨Nat.zero_le _, Nat.zero_le _⟩ hK hP hS (fun _ h => h) hl.1 (Nat.le_of_ble_eq_true rfl) dX0_steps_68 (fun H locs hP _ hS => ?_)
                refine lv_iload hx hb dX0_steps_71 (lv_at hl 0 rfl) ?_
                refine lv_istore (lv' := [(4, .int (nI (u + ml_hf (v - u)))), (6, .int (nI (u + ml_hf (v - u)))), (0, .ref (a 0)), (1, .int (nI y)), (2, .int (nI z)), (3, .int (nI u)), (5, .int (nI i))]) hx hb dX0_steps_73 hl (by decide) rfl (fun ls hl => ?_)
                refine lv_goto (tgt := 88) hx hb dX0_steps_75 (by decide) ?_
                refine lv_iinc (v := nI (i + 1)) (lv' := [(5, .int (nI (i + 1))), (4, .int (nI (u + ml_hf (v - u)))), (6, .int (nI (u + ml_hf (v - u)))), (0, .ref (a 0)), (1, .int (nI y)), (2, .int (nI z)), (3, .int (nI u))]) hx hb dX0_steps_88 hl (k := 6) rfl (nI_1 i) (by decide) rfl (fun ls hl => ?_)
                refine lv_goto (tgt := 33) hx hb dX0_steps_91 (by decide) ?_
                exact ih (i + 1) u (u + ml_hf (v - u)) (Lp ++ [ml_r (ml_g st.2.1) (u + ml_hf (v - u)) (v - (u + ml_hf (v - u)))]) _ (by omega) h1 hy (by omega) (by rw [e10]; exact a1) (by rw [List.length_append, List.length_singleton]; omega) (ho_push h6) (by rw [← h7, List.append_assoc, e10]; rfl) H locs (by rw [List.length_append, List.length_singleton]; exact hP) hS ls (lv_sub hl [3, 4, 5, 6, 1, 0] rfl)
        refine lv_iconst (v := 0) hx hb dX0_steps_20 (by decide) ?_
        refine lv_istore_n (lv' := [(3, .int 0), (0, .ref (a 0)), (1, .int (nI y)), (2, .int (nI z))]) hx hb dX0_steps_21 rfl hl (by decide) rfl (fun ls hl => ?_)
        refine lv_iload_n hx hb dX0_steps_22 rfl (lv_at hl 3 rfl) ?_
        refine lv_istore (lv' := [(4, .int (nI z)), (3, .int 0), (0, .ref (a 0)), (1, .int (nI y)), (2, .int (nI z))]) hx hb dX0_steps_23 hl (by decide) rfl (fun ls hl => ?_)
        refine lv_aload_n hx hb dX0_steps_25 rfl (lv_at hl 2 rfl) ?_
        refine lv_iconst (v := 0) hx hb dX0_steps_26 (by decide) ?_
        refine xp_fnd S hK hP hD hS dX0_steps_27 (fun H locs hP hS => ?_)
        refine lv_iconst (v := 0) hx hb dX0_steps_30 (by decide) ?_
        refine lv_istore (lv' := [(5, .int 0), (4, .int (nI z)), (3, .int 0), (0, .ref (a 0)), (1, .int (nI y)), (2, .int (nI z))]) hx hb dX0_steps_31 hl (by decide) rfl (fun ls hl => ?_)
        exact loop 6 0 0 z [] downs (by omega) k0 k3 k2 (al_0 (by omega)) (Nat.le_refl 0) (ho_nil _) (by rw [List.nil_append, Nat.sub_zero, Nat.sub_zero]; exact hL) H locs hP hS ls (lv_sub hl [3, 4, 5, 2, 1, 0] rfl)
      · refine lv_iconst (v := (-1)) hx hb dX0_steps_18 (by decide) ?_
        have hop := op_steps_bad (st := st) (a := p0) (b := p1) (Or.inr (Or.inr (Int32.not_le.mp c3)))
        exact ml_iret hx hb hr hlocks (by rw [hop]) (by rw [hop]; exact ⟨_, _, _, _, _, _, ⟨rfl, r2, r3, rfl, r5, r6⟩, hP⟩) hS dX0_steps_19
end
section
set_option maxHeartbeats 4000000 in
set_option maxRecDepth 100000 in
/-- rootFrom(entry, size, value) -/
theorem xm_rootFrom (l : Launch) (D : va_G) (d : ClassId) (a : Nat → Nat) (hD0 : xD (fun _ => True) a) (st : ml_S) (p0 p1 p2 : Int32) : Met l yX0_rootFrom (ws_ yX0_rootFrom cX0_rootFrom 9 (some .int)) ({ frames := 2, cells := 0, slots := 0, locals := 44 }) (ml_Pc D d [.ref (a 0), .int p0, .int p1, .int p2] (xH D d a st)) (ml_Q (op_rootFrom st p0 p1 p2)) 0 0 (ml_no) := by
  refine Met.ofW (cc := cX0_rootFrom) (maxL := 9) (ret := (some .int)) (by decide) rfl ?_
  intro p e s m args below meth c s₁ B hml hv
  obtain ⟨rfl, hH, hK⟩ := hv
  have hx := B.exec
  have hb := B.bytes
  have hr := B.returns
  have hts0 := atoms_spec (ws := (ws_ yX0_rootFrom cX0_rootFrom 9 (some .int))) B.pre
  have hts : ∀ w ∈ lw_all, w.before _ s = true := fun w h => hts0 w (List.mem_cons_of_mem _ h)
  have hown : s.vm.findClass RX0 = some m.cls := findClass_of_methodNamed B.named
  have hlocks := B.notSynchronized
  have S : CallFix p m c cX0_rootFrom 9 s _ lw_all RX0 := ⟨hx, hb, hml, hown, hts⟩
  have hl := lv_entry ([.ref (a 0), .int p0, .int p1, .int p2]) (n := 9) (Nat.le_of_ble_eq_true rfl)
  rw [lg_entry_eq]
  generalize (lg_sl ([.ref (a 0), .int p0, .int p1, .int p2]) ++ List.replicate (9 - (lg_sl ([.ref (a 0), .int p0, .int p1, .int p2])).length) Slot.unset).toArray = ls at hl ⊢
  have hl : lv_has ls 9 [(0, .ref (a 0)), (1, .int p0), (2, .int p1), (3, .int p2)] := hl
  obtain ⟨n, cnt, fnd, part, nums, downs, ⟨r1, r2, r3, r4, r5, r6⟩, hP⟩ := hH
  subst r1; subst r4
  have hD : xD (xA a) a := hD0.self
  have hS : va_S (xA a) s.heap s.heap [] := va_S.rf
  refine lv_iload_n hx hb dX0_rootFrom_0 rfl (lv_at hl 2 rfl) ?_
  refine lv_iconst (v := 1) hx hb dX0_rootFrom_1 (by decide) ?_
  refine lv_icmp_lt (tgt := 20) hx hb dX0_rootFrom_2 (by decide) (fun c1 => ?_) (fun c1 => ?_)
  · refine lv_iconst (v := 0) hx hb dX0_rootFrom_20 (by decide) ?_
    exact ml_pret hx hb hr rfl hlocks ((op_rootFrom_bad (Or.inl c1)).symm) dX0_rootFrom_21
  · refine lv_iload_n hx hb dX0_rootFrom_5 rfl (lv_at hl 2 rfl) ?_
    refine lv_bipush (v := 40) hx hb dX0_rootFrom_6 (by decide) ?_
    refine lv_icmp_gt (tgt := 20) hx hb dX0_rootFrom_8 (by decide) (fun c2 => ?_) (fun c2 => ?_)
    · refine lv_iconst (v := 0) hx hb dX0_rootFrom_20 (by decide) ?_
      exact ml_pret hx hb hr rfl hlocks ((op_rootFrom_bad (Or.inr (Or.inl c2))).symm) dX0_rootFrom_21
    · refine lv_iload_n hx hb dX0_rootFrom_11 rfl (lv_at hl 1 rfl) ?_
      refine lv_if_lt (tgt := 20) hx hb dX0_rootFrom_12 (by decide) (fun c3 => ?_) (fun c3 => ?_)
      · refine lv_iconst (v := 0) hx hb dX0_rootFrom_20 (by decide) ?_
        exact ml_pret hx hb hr rfl hlocks ((op_rootFrom_bad (Or.inr (Or.inr (Or.inl c3)))).symm) dX0_rootFrom_21
      · refine lv_iload_n hx hb dX0_rootFrom_15 rfl (lv_at hl 1 rfl) ?_
        refine lv_iload_n hx hb dX0_rootFrom_16 rfl (lv_at hl 2 rfl) ?_
        refine lv_icmp_lt (tgt := 22) hx hb dX0_rootFrom_17 (by decide) (fun c4 => ?_) (fun c4 => ?_)
        · obtain ⟨z, e1, k1, k2⟩ := nat_of (N := 40) (by decide) c1 c2
          subst e1
          obtain ⟨y0, e0, k3⟩ := nat_lt (by omega) c3 (Int32.not_le.mpr c4)
          subst e0
          have hop := rf_op (v := p2) k3 k2 r6
          rw [← ml_dir z (by omega) y0 k3] at hop
          generalize op_rootFrom st (nI y0) (nI z) p2 = R0 at hop ⊢
          have loop : ∀ (f x y k : Nat) (r : Int32), x ≤ 40 → y ≤ 40 → y < 2 ^ f → k ≤ st.2.2.length → R0 = ml_rf nums st.2.2.length (ml_xd f x y) k r → ∀ ls : Array Slot, lv_has ls 9 [(0, .ref (a 0)), (4, .int (nI x)), (5, .int (nI y)), (6, .int r), (7, .int (nI k))] → W p l e (headSpec (ws_ yX0_rootFrom cX0_rootFrom 9 (some .int)) ({ frames := 2, cells := 0, slots := 0, locals := 44 })).room s m ([.ref (a 0), .int (nI y0), .int (nI z), .int p2] : List Value).toArray below meth c s.heap [] 0 0 (MQ below (ml_Q (R0)) ([.ref (a 0), .int (nI y0), .int (nI z), .int p2] : List Value).toArray s 0 0 (ml_no)) (F0 m 39 ls []) := by
            intro f
            induction f with
            | zero =>
              intro x y k r hx40 hy40 hyf hk hres ls hl
              have hy0 : y = 0 := by simpa using hyf
              rw [ml_xd] at hres
              refine lv_iload hx hb dX0_rootFrom_39 (lv_at hl 4 rfl) ?_
              refine lv_aload_n hx hb dX0_rootFrom_41 rfl (lv_at hl 0 rfl) ?_
              refine xg_cnt S hK hP dX0_rootFrom_42 ?_
              refine lv_icmp_ge (tgt := 153) hx hb dX0_rootFrom_45 (by decide) (fun c5 => ?_) (fun c5 => ?_)
              · have hkl : k = st.2.2.length := by have := (nI_leI (by omega) (by omega)).mp c5; omega
                refine lv_iload hx hb dX0_rootFrom_153 (lv_at hl 2 rfl) ?_
                refine lv_if_ne (tgt := 163) hx hb dX0_rootFrom_155 (by decide) (fun c6 => ?_) (fun c6 => ?_)
                · exact absurd (by rw [hy0]; rfl) c6
                · have hy0 : y = 0 := (nI_eq (b := 0) (by omega) (by decide)).mp c6
                  refine lv_iload hx hb dX0_rootFrom_158 (lv_at hl 3 rfl) ?_
                  refine lv_goto (tgt := 164) hx hb dX0_rootFrom_160 (by decide) ?_
                  exact ml_pret hx hb hr rfl hlocks (by rw [hres, rf_nil hkl]) dX0_rootFrom_164
              · have hkl : k < st.2.2.length := by
                  rcases Nat.lt_or_ge k st.2.2.length with h | h
                  · exact h
                  · exact absurd (nI_le h (by omega)) c5
                refine lv_iload hx hb dX0_rootFrom_48 (lv_at hl 2 rfl) ?_
                refine lv_if_ne (tgt := 55) hx hb dX0_rootFrom_50 (by decide) (fun c6 => ?_) (fun c6 => ?_)
                · exact absurd (by rw [hy0]; rfl) c6
                · have hy0 : y = 0 := (nI_eq (b := 0) (by omega) (by decide)).mp c6
                  refine lv_iconst (v := 0) hx hb dX0_rootFrom_53 (by decide) ?_
                  exact ml_pret hx hb hr rfl hlocks (by rw [hres, rf_nil0 (by omega)]) dX0_rootFrom_54
            | succ f ih =>
              intro x y k r hx40 hy40 hyf hk hres ls hl
              refine lv_iload hx hb dX0_rootFrom_39 (lv_at hl 4 rfl) ?_
              refine lv_aload_n hx hb dX0_rootFrom_41 rfl (lv_at hl 0 rfl) ?_
              refine xg_cnt S hK hP dX0_rootFrom_42 ?_
              refine lv_icmp_ge (tgt := 153) hx hb dX0_rootFrom_45 (by decide) (fun c5 => ?_) (fun c5 => ?_)
              · have hkl : k = st.2.2.length := by have := (nI_leI (by omega) (by omega)).mp c5; omega
                refine lv_iload hx hb dX0_rootFrom_153 (lv_at hl 2 rfl) ?_
                refine lv_if_ne (tgt := 163) hx hb dX0_rootFrom_155 (by decide) (fun c6 => ?_) (fun c6 => ?_)
                · have hy0 : ¬ y = 0 := fun h => c6 (by rw [h]; rfl)
                  refine lv_iconst (v := 0) hx hb dX0_rootFrom_163 (by decide) ?_
                  rw [ml_xd, if_neg hy0] at hres
                  exact ml_pret hx hb hr rfl hlocks (by rw [hres]; split <;> rw [rf_cons0 (by omega)]) dX0_rootFrom_164
                · have hy0 : y = 0 := (nI_eq (b := 0) (by omega) (by decide)).mp c6
                  rw [ml_xd, if_pos hy0] at hres
                  refine lv_iload hx hb dX0_rootFrom_158 (lv_at hl 3 rfl) ?_
                  refine lv_goto (tgt := 164) hx hb dX0_rootFrom_160 (by decide) ?_
                  exact ml_pret hx hb hr rfl hlocks (by rw [hres, rf_nil hkl]) dX0_rootFrom_164
              · have hkl : k < st.2.2.length := by
                  rcases Nat.lt_or_ge k st.2.2.length with h | h
                  · exact h
                  · exact absurd (nI_le h (by omega)) c5
                refine lv_iload hx hb dX0_rootFrom_48 (lv_at hl 2 rfl) ?_
                refine lv_if_ne (tgt := 55) hx hb dX0_rootFrom_50 (by decide) (fun c6 => ?_) (fun c6 => ?_)
                · have hy0 : ¬ y = 0 := fun h => c6 (by rw [h]; rfl)
                  rw [ml_xd, if_neg hy0] at hres
                  have tail : ∀ (x2 y2 : Nat) (r2 : Int32), x2 ≤ 40 → y2 ≤ y → R0 = ml_rf nums st.2.2.length (ml_xd f (x2 / 2) (y2 / 2)) (k + 1) r2 → ∀ ls : Array Slot, lv_has ls 9 [(0, .ref (a 0)), (4, .int (nI x2)), (5, .int (nI y2)), (6, .int r2), (7, .int (nI k))] → W p l e (headSpec (ws_ yX0_rootFrom cX0_rootFrom 9 (some .int)) ({ frames := 2, cells := 0, slots := 0, locals := 44 })).room s m ([.ref (a 0), .int (nI y0), .int (nI z), .int p2] : List Value).toArray below meth c s.heap [] 0 0 (MQ below (ml_Q (R0)) ([.ref (a 0), .int (nI y0), .int (nI z), .int p2] : List Value).toArray s 0 0 (ml_no)) (F0 m 135 ls []) := by
                    intro x2 y2 r2 b1 b2 hres ls hl
                    refine lv_iload hx hb dX0_rootFrom_135 (lv_at hl 1 rfl) ?_
                    refine lv_iconst (v := 1) hx hb dX0_rootFrom_137 (by decide) ?_
                    refine lv_ishr hx hb dX0_rootFrom_138 ?_
                    refine ml_top (y := nI (x2 / 2)) (ml_shr1 x2 (by omega)) ?_
                    refine lv_istore (lv' := [(4, .int (nI (x2 / 2))), (0, .ref (a 0)), (5, .int (nI y2)), (6, .int r2), (7, .int (nI k))]) hx hb dX0_rootFrom_139 hl (by decide) rfl (fun ls hl => ?_)
                    refine lv_iload hx hb dX0_rootFrom_141 (lv_at hl 2 rfl) ?_
                    refine lv_iconst (v := 1) hx hb dX0_rootFrom_143 (by decide) ?_
                    refine lv_ishr hx hb dX0_rootFrom_144 ?_
                    refine ml_top (y := nI (y2 / 2)) (ml_shr1 y2 (by omega)) ?_
                    refine lv_istore (lv' := [(5, .int (nI (y2 / 2))), (4, .int (nI (x2 / 2))), (0, .ref (a 0)), (6, .int r2), (7, .int (nI k))]) hx hb dX0_rootFrom_145 hl (by decide) rfl (fun ls hl => ?_)
                    refine lv_iinc (v := nI (k + 1)) (lv' := [(7, .int (nI (k + 1))), (5, .int (nI (y2 / 2))), (4, .int (nI (x2 / 2))), (0, .ref (a 0)), (6, .int r2)]) hx hb dX0_rootFrom_147 hl (k := 4) rfl (nI_1 k) (by decide) rfl (fun ls hl => ?_)
                    refine lv_goto (tgt := 39) hx hb dX0_rootFrom_150 (by decide) ?_
                    have hp2 : 2 ^ (f + 1) = 2 * 2 ^ f := by rw [Nat.pow_succ]; omega
                    exact ih (x2 / 2) (y2 / 2) (k + 1) r2 (by omega) (by omega) (by omega) (by omega) hres ls (lv_sub hl [3, 2, 1, 4, 0] rfl)
                  have side : (x % 2 = 1 ∨ x = y) → ∀ ls : Array Slot, lv_has ls 9 [(0, .ref (a 0)), (4, .int (nI x)), (5, .int (nI y)), (6, .int r), (7, .int (nI k))] → W p l e (headSpec (ws_ yX0_rootFrom cX0_rootFrom 9 (some .int)) ({ frames := 2, cells := 0, slots := 0, locals := 44 })).room s m ([.ref (a 0), .int (nI y0), .int (nI z), .int p2] : List Value).toArray below meth c s.heap [] 0 0 (MQ below (ml_Q (R0)) ([.ref (a 0), .int (nI y0), .int (nI z), .int p2] : List Value).toArray s 0 0 (ml_no)) (F0 m 69 ls []) := by
                    intro hc ls hl
                    rw [if_pos hc, rf_step, if_neg (by decide)] at hres
                    refine lv_aload_n hx hb dX0_rootFrom_69 rfl (lv_at hl 0 rfl) ?_
                    refine xg_nums S hK hP dX0_rootFrom_70 ?_
                    refine lv_iload hx hb dX0_rootFrom_73 (lv_at hl 4 rfl) ?_
                    refine xl_nums (j := k) (by omega) S hK hP dX0_rootFrom_75 ?_
                    refine lv_iload hx hb dX0_rootFrom_76 (lv_at hl 3 rfl) ?_
                    refine xc_node S ⟨Nat.le_of_ble_eq_true rfl, Nat.le_of_ble_eq_true rfl⟩ ⟨Nat.zero_le _, Nat.zero_le _⟩ hl.1 (Nat.le_of_ble_eq_true rfl) dX0_rootFrom_78 ?_
                    have inner : ∀ (g i x3 y3 : Nat), i + g = 6 → x3 ≤ 40 → y3 ≤ 40 → ml_st g x3 y3 = ml_st 6 x y → ∀ ls : Array Slot, lv_has ls 9 [(0, .ref (a 0)), (4, .int (nI x3)), (5, .int (nI y3)), (6, .int (ml_node (nums k) r)), (7, .int (nI k)), (8, .int (nI i))] → W p l e (headSpec (ws_ yX0_rootFrom cX0_rootFrom 9 (some .int)) ({ frames := 2, cells := 0, slots := 0, locals := 44 })).room s m ([.ref (a 0), .int (nI y0), .int (nI z), .int p2] : List Value).toArray below meth c s.heap [] 0 0 (MQ below (ml_Q (R0)) ([.ref (a 0), .int (nI y0), .int (nI z), .int p2] : List Value).toArray s 0 0 (ml_no)) (F0 m 86 ls []) := by
                      intro g
                      induction g with
                      | zero =>
                        intro i x3 y3 hi b1 b2 hst ls hl
                        have hi6 : i = 6 := by omega
                        subst hi6
                        refine lv_iload hx hb dX0_rootFrom_86 (lv_at hl 5 rfl) ?_
                        refine lv_bipush (v := 6) hx hb dX0_rootFrom_88 (by decide) ?_
                        refine lv_icmp_ge (tgt := 118) hx hb dX0_rootFrom_90 (by decide) (fun _ => ?_) (fun q => absurd (by decide) q)
                        refine lv_goto (tgt := 135) hx hb dX0_rootFrom_118 (by decide) ?_
                        obtain ⟨l1, l2⟩ := st_le 6 x y
                        rw [← hst, ml_st] at hres l1 l2
                        exact tail x3 y3 _ b1 l2 hres ls (lv_sub hl [0, 1, 2, 3, 4] rfl)
                      | succ g ihg =>
                        intro i x3 y3 hi b1 b2 hst ls hl
                        refine lv_iload hx hb dX0_rootFrom_86 (lv_at hl 5 rfl) ?_
                        refine lv_bipush (v := 6) hx hb dX0_rootFrom_88 (by decide) ?_
                        refine lv_icmp_ge (tgt := 118) hx hb dX0_rootFrom_90 (by decide) (fun q => absurd q (fun h => absurd ((nI_leI (a := 6) (b := i) (by decide) (by omega)).mp h) (by omega))) (fun _ => ?_)
                        refine lv_iload hx hb dX0_rootFrom_93 (lv_at hl 1 rfl) ?_
                        refine lv_iconst (v := 1) hx hb dX0_rootFrom_95 (by decide) ?_
                        refine lv_iand hx hb dX0_rootFrom_96 ?_
                        refine ml_top (y := nI (x3 % 2)) (ml_and1 x3 (by omega)) ?_
                        refine lv_if_ne (tgt := 118) hx hb dX0_rootFrom_97 (by decide) (fun c9 => ?_) (fun c9 => ?_)
                        · have ho : x3 % 2 = 1 := by
                            rcases Nat.mod_two_eq_zero_or_one x3 with h | h
                            · rw [h] at c9; exact absurd rfl c9
                            · exact h
                          refine lv_goto (tgt := 135) hx hb dX0_rootFrom_118 (by decide) ?_
                          obtain ⟨l1, l2⟩ := st_le 6 x y
                          rw [← hst, ml_st, if_pos ho] at hres l1 l2
                          exact tail x3 y3 _ b1 l2 hres ls (lv_sub hl [0, 1, 2, 3, 4] rfl)
                        · have ho : ¬ x3 % 2 = 1 := by have h := (nI_eq (a := x3 % 2) (b := 0) (by omega) (by decide)).mp c9; omega
                          refine lv_iload hx hb dX0_rootFrom_100 (lv_at hl 1 rfl) ?_
                          refine lv_iconst (v := 1) hx hb dX0_rootFrom_102 (by decide) ?_
                          refine lv_ishr hx hb dX0_rootFrom_103 ?_
                          refine ml_top (y := nI (x3 / 2)) (ml_shr1 x3 (by omega)) ?_
                          refine lv_istore (lv' := [(4, .int (nI (x3 / 2))), (0, .ref (a 0)), (5, .int (nI y3)), (6, .int (ml_node (nums k) r)), (7, .int (nI k)), (8, .int (nI i))]) hx hb dX0_rootFrom_104 hl (by decide) rfl (fun ls hl => ?_)
                          refine lv_iload hx hb dX0_rootFrom_106 (lv_at hl 2 rfl) ?_
                          refine lv_iconst (v := 1) hx hb dX0_rootFrom_108 (by decide) ?_
                          refine lv_ishr hx hb dX0_rootFrom_109 ?_
                          refine ml_top (y := nI (y3 / 2)) (ml_shr1 y3 (by omega)) ?_
                          refine lv_istore (lv' := [(5, .int (nI (y3 / 2))), (4, .int (nI (x3 / 2))), (0, .ref (a 0)), (6, .int (ml_node (nums k) r)), (7, .int (nI k)), (8, .int (nI i))]) hx hb dX0_rootFrom_110 hl (by decide) rfl (fun ls hl => ?_)
                          refine lv_iinc (v := nI (i + 1)) (lv' := [(8, .int (nI (i + 1))), (5, .int (nI (y3 / 2))), (4, .int (nI (x3 / 2))), (0, .ref (a 0)), (6, .int (ml_node (nums k) r)), (7, .int (nI k))]) hx hb dX0_rootFrom_112 hl (k := 5) rfl (nI_1 i) (by decide) rfl (fun ls hl => ?_)
                          refine lv_goto (tgt := 86) hx hb dX0_rootFrom_115 (by decide) ?_
                          exact ihg (i + 1) (x3 / 2) (y3 / 2) (by omega) (by omega) (by omega) (by rw [← hst, ml_st, if_neg ho]) ls (lv_sub hl [3, 2, 1, 4, 5, 0] rfl)
                    refine lv_istore (lv' := [(6, .int (ml_node (nums k) r)), (0, .ref (a 0)), (4, .int (nI x)), (5, .int (nI y)), (7, .int (nI k))]) hx hb dX0_rootFrom_81 hl (by decide) rfl (fun ls hl => ?_)
                    refine lv_iconst (v := 0) hx hb dX0_rootFrom_83 (by decide) ?_
                    refine lv_istore (lv' := [(8, .int 0), (6, .int (ml_node (nums k) r)), (0, .ref (a 0)), (4, .int (nI x)), (5, .int (nI y)), (7, .int (nI k))]) hx hb dX0_rootFrom_84 hl (by decide) rfl (fun ls hl => ?_)
                    exact inner 6 0 x y (by omega) hx40 hy40 rfl ls (lv_sub hl [2, 3, 4, 1, 5, 0] rfl)
                  refine lv_iload hx hb dX0_rootFrom_55 (lv_at hl 1 rfl) ?_
                  refine lv_iconst (v := 1) hx hb dX0_rootFrom_57 (by decide) ?_
                  refine lv_iand hx hb dX0_rootFrom_58 ?_
                  refine ml_top (y := nI (x % 2)) (ml_and1 x (by omega)) ?_
                  refine lv_if_ne (tgt := 69) hx hb dX0_rootFrom_59 (by decide) (fun c7 => ?_) (fun c7 => ?_)
                  · have ho : x % 2 = 1 := by
                      rcases Nat.mod_two_eq_zero_or_one x with h | h
                      · rw [h] at c7; exact absurd rfl c7
                      · exact h
                    exact side (Or.inl ho) ls (lv_sub hl [0, 1, 2, 3, 4] rfl)
                  · have ho : ¬ x % 2 = 1 := by have h := (nI_eq (a := x % 2) (b := 0) (by omega) (by decide)).mp c7; omega
                    refine lv_iload hx hb dX0_rootFrom_62 (lv_at hl 1 rfl) ?_
                    refine lv_iload hx hb dX0_rootFrom_64 (lv_at hl 2 rfl) ?_
                    refine lv_icmp_ne (tgt := 121) hx hb dX0_rootFrom_66 (by decide) (fun c8 => ?_) (fun c8 => ?_)
                    · have hne : ¬ x = y := fun h => c8 (by rw [h])
                      rw [if_neg (by omega), rf_step, if_pos rfl] at hres
                      refine lv_iload hx hb dX0_rootFrom_121 (lv_at hl 3 rfl) ?_
                      refine lv_aload_n hx hb dX0_rootFrom_123 rfl (lv_at hl 0 rfl) ?_
                      refine xg_nums S hK hP dX0_rootFrom_124 ?_
                      refine lv_iload hx hb dX0_rootFrom_127 (lv_at hl 4 rfl) ?_
                      refine xl_nums (j := k) (by omega) S hK hP dX0_rootFrom_129 ?_
                      refine xc_node S ⟨Nat.le_of_ble_eq_true rfl, Nat.le_of_ble_eq_true rfl⟩ ⟨Nat.zero_le _, Nat.zero_le _⟩ hl.1 (Nat.le_of_ble_eq_true rfl) dX0_rootFrom_130 ?_
                      refine lv_istore (lv' := [(6, .int (ml_node r (nums k))), (0, .ref (a 0)), (4, .int (nI x)), (5, .int (nI y)), (7, .int (nI k))]) hx hb dX0_rootFrom_133 hl (by decide) rfl (fun ls hl => ?_)
                      exact tail x y _ hx40 (Nat.le_refl _) hres ls (lv_sub hl [1, 2, 3, 0, 4] rfl)
                    · have he : x = y := (nI_eq (by omega) (by omega)).mp c8
                      exact side (Or.inr he) ls (lv_sub hl [0, 1, 2, 3, 4] rfl)
                · have hy0 : y = 0 := (nI_eq (b := 0) (by omega) (by decide)).mp c6
                  rw [ml_xd, if_pos hy0] at hres
                  refine lv_iconst (v := 0) hx hb dX0_rootFrom_53 (by decide) ?_
                  exact ml_pret hx hb hr rfl hlocks (by rw [hres, rf_nil0 (by omega)]) dX0_rootFrom_54
          refine lv_iload_n hx hb dX0_rootFrom_22 rfl (lv_at hl 1 rfl) ?_
          refine lv_istore (lv' := [(4, .int (nI y0)), (0, .ref (a 0)), (1, .int (nI y0)), (2, .int (nI z)), (3, .int p2)]) hx hb dX0_rootFrom_23 hl (by decide) rfl (fun ls hl => ?_)
          refine lv_iload_n hx hb dX0_rootFrom_25 rfl (lv_at hl 3 rfl) ?_
          refine lv_iconst (v := 1) hx hb dX0_rootFrom_26 (by decide) ?_
          refine lv_isub hx hb dX0_rootFrom_27 ?_
          refine ml_top (y := nI (z - 1)) (nI_minus z 1 k1 _ rfl) ?_
          refine lv_istore (lv' := [(5, .int (nI (z - 1))), (4, .int (nI y0)), (0, .ref (a 0)), (1, .int (nI y0)), (2, .int (nI z)), (3, .int p2)]) hx hb dX0_rootFrom_28 hl (by decide) rfl (fun ls hl => ?_)
          refine lv_iload_n hx hb dX0_rootFrom_30 rfl (lv_at hl 5 rfl) ?_
          refine xc_leaf S ⟨Nat.le_of_ble_eq_true rfl, Nat.le_of_ble_eq_true rfl⟩ ⟨Nat.zero_le _, Nat.zero_le _⟩ hl.1 (Nat.le_of_ble_eq_true rfl) dX0_rootFrom_31 ?_
          refine lv_istore (lv' := [(6, .int (ml_leaf p2)), (5, .int (nI (z - 1))), (4, .int (nI y0)), (0, .ref (a 0)), (1, .int (nI y0)), (2, .int (nI z)), (3, .int p2)]) hx hb dX0_rootFrom_34 hl (by decide) rfl (fun ls hl => ?_)
          refine lv_iconst (v := 0) hx hb dX0_rootFrom_36 (by decide) ?_
          refine lv_istore (lv' := [(7, .int 0), (6, .int (ml_leaf p2)), (5, .int (nI (z - 1))), (4, .int (nI y0)), (0, .ref (a 0)), (1, .int (nI y0)), (2, .int (nI z)), (3, .int p2)]) hx hb dX0_rootFrom_37 hl (by decide) rfl (fun ls hl => ?_)
          exact loop 6 y0 (z - 1) 0 _ (by omega) (by omega) (by omega) (Nat.zero_le _) hop ls (lv_sub hl [4, 3, 2, 1, 0] rfl)
        · refine lv_iconst (v := 0) hx hb dX0_rootFrom_20 (by decide) ?_
          exact ml_pret hx hb hr rfl hlocks ((op_rootFrom_bad (Or.inr (Or.inr (Or.inr (Int32.not_lt.mp c4))))).symm) dX0_rootFrom_21
end
section
set_option maxHeartbeats 4000000 in
set_option maxRecDepth 100000 in
/-- open(place, f, n) -/
theorem mm_open (l : Launch) (D : va_G) (d : ClassId) (a : Nat → Nat) (hD0 : mD (fun _ => True) a) (n h : Int32) (lg hd fr co sa va : Nat → Int32) (t : Nat) (ht : t < 100) (x y : Int32) : Met l yX1_open (ws_ yX1_open cX1_open 4 none) ({ frames := 0, cells := 0, slots := 0, locals := 0 }) (ml_Pc D d [.ref (a 0), .int (nI t), .int x, .int y] (fun H => va_P D ml_cl (wM d a n h lg hd fr co sa va) H)) (ml_Qv (fun H => va_P D ml_cl (wM d a n h lg hd (upd fr t x) (upd co t y) (upd sa t 0) va) H) (mA a)) 0 0 (mA a) := by
  refine Met.ofW (cc := cX1_open) (maxL := 4) (ret := none) (by decide) rfl ?_
  intro p e s m args below meth c s₁ B hml hv
  obtain ⟨rfl, hP, hK⟩ := hv
  have hx := B.exec
  have hb := B.bytes
  have hr := B.returns
  have hts0 := atoms_spec (ws := (ws_ yX1_open cX1_open 4 none)) B.pre
  have hts : ∀ w ∈ lw_all, w.before _ s = true := fun w h => hts0 w (List.mem_cons_of_mem _ h)
  have hown : s.vm.findClass RX1 = some m.cls := findClass_of_methodNamed B.named
  have hlocks := B.notSynchronized
  have S : CallFix p m c cX1_open 4 s _ lw_all RX1 := ⟨hx, hb, hml, hown, hts⟩
  have hl := lv_entry ([.ref (a 0), .int (nI t), .int x, .int y]) (n := 4) (Nat.le_of_ble_eq_true rfl)
  rw [lg_entry_eq]
  generalize (lg_sl ([.ref (a 0), .int (nI t), .int x, .int y]) ++ List.replicate (4 - (lg_sl ([.ref (a 0), .int (nI t), .int x, .int y])).length) Slot.unset).toArray = ls at hl ⊢
  have hl : lv_has ls 4 [(0, .ref (a 0)), (1, .int (nI t)), (2, .int x), (3, .int y)] := hl
  have hP : va_P D ml_cl (wM d a n h lg hd fr co sa va) s.heap := hP
  have hD : mD (mA a) a := hD0.self
  have hS : va_S (mA a) s.heap s.heap [] := va_S.rf
  refine lv_aload_n hx hb dX1_open_0 rfl (lv_at hl 0 rfl) ?_
  refine mg_fr S hK hP dX1_open_1 ?_
  refine lv_iload_n hx hb dX1_open_4 rfl (lv_at hl 1 rfl) ?_
  refine lv_iload_n hx hb dX1_open_5 rfl (lv_at hl 2 rfl) ?_
  refine ms_fr (j := t) (ht) S hK hP hD hS dX1_open_6 (fun H locs hP hS => ?_)
  refine lv_aload_n hx hb dX1_open_7 rfl (lv_at hl 0 rfl) ?_
  refine mg_co S hK hP dX1_open_8 ?_
  refine lv_iload_n hx hb dX1_open_11 rfl (lv_at hl 1 rfl) ?_
  refine lv_iload_n hx hb dX1_open_12 rfl (lv_at hl 3 rfl) ?_
  refine ms_co (j := t) (ht) S hK hP hD hS dX1_open_13 (fun H locs hP hS => ?_)
  refine lv_aload_n hx hb dX1_open_14 rfl (lv_at hl 0 rfl) ?_
  refine mg_sa S hK hP dX1_open_15 ?_
  refine lv_iload_n hx hb dX1_open_18 rfl (lv_at hl 1 rfl) ?_
  refine lv_iconst (v := 0) hx hb dX1_open_19 (by decide) ?_
  refine ms_sa (j := t) (ht) S hK hP hD hS dX1_open_20 (fun H locs hP hS => ?_)
  exact ml_vret hx hb hr hlocks hP hS dX1_open_21
section
variable {p : Program} {l : Launch} {e : Env} {R : Room} {s : State} {m : MethodId} {args : Array Value} {below : List Frame} {meth : Method} {c : Code} {H : Heap} {locs : List Loc} {cells slots : Nat} {Q : State → Prop} {cc : ByteArray} {pc nL : Nat} {ls : Array Slot} {rest : List Value} {A : Nat → Prop} {H0 : Heap}
theorem mc_open {D : va_G} {d : ClassId} {a : Nat → Nat} (hD0 : mD (fun _ => True) a) {n h : Int32} {lg hd fr co sa va : Nat → Int32} {t : Nat} (ht : t < 100) {x y : Int32} (S : CallFix p m c cc nL s args lw_all RX1) (hR : 0 + 1 ≤ R.frames ∧ 8 + (4 + 11) + 0 ≤ R.locals) (hc : cells ≤ R.cells ∧ slots ≤ R.slots) (hK : va_K D ml_cl [(d, .int)] s) (hP : va_P D ml_cl (wM d a n h lg hd fr co sa va) H) (hS : va_S A H0 H locs) (hA : ∀ q, mA a q → A q) (hl : ls.size = nL) (hw : (rest.map fun v => v.category).sum ≤ 8) (hdg : decode cc pc = .ok (.invokevirtual 38, 3)) (k : ∀ (H1 : Heap) (locs1 : List Loc), va_P D ml_cl (wM d a n h lg hd (upd fr t x) (upd co t y) (upd sa t 0) va) H1 → (∀ q : Nat, q < H.size → ¬ mA a q → H1[q]? = H[q]?) → va_S A H0 H1 locs1 → W p l e R s m args below meth c H1 locs1 cells slots Q (F0 m (pc + 3) ls rest)) : W p l e R s m args below meth c H locs cells slots Q (F0 m pc ls (.int y :: .int x :: .int (nI t) :: .ref (a 0) :: rest)) :=
  ml_callv (va_runV (As := [.int (nI t), .int x, .int y]) (b := a 0) (rest := rest) S (mm_open l D d a hD0 n h lg hd fr co sa va t ht x y) (cwV 3 S.2.2.2.2 (lw_V q150 q152 qs4 q9 q153) rfl rfl rfl (by decide +kernel) hR) ⟨ml_blind, va_recv hK hP (ci := 1) (q0 := 0) (q := (RX1, TX1, 8)) rfl rfl, ml_pre hP hK⟩ rfl rfl hl rfl (lv_room hw) hdg hc) hS hA hA k
end
set_option maxHeartbeats 4000000 in
set_option maxRecDepth 100000 in
/-- hold(v) -/
theorem mm_hold (l : Launch) (D : va_G) (d : ClassId) (a : Nat → Nat) (hD0 : mD (fun _ => True) a) (n : Int32) (lg hd : Nat → Int32) (j : Nat) (hj : j < 16) (x : Int32) : Met l yX1_hold (ws_ yX1_hold cX1_hold 2 none) ({ frames := 0, cells := 0, slots := 0, locals := 0 }) (ml_Pc D d [.ref (a 0), .int x] (mW D d a n (nI j) lg hd)) (ml_Qv (mW D d a n (nI (j + 1)) lg (upd hd j x)) (mA a)) 0 0 (mA a) := by
  refine Met.ofW (cc := cX1_hold) (maxL := 2) (ret := none) (by decide) rfl ?_
  intro p e s m args below meth c s₁ B hml hv
  obtain ⟨rfl, ⟨fr, co, sa, va, hP⟩, hK⟩ := hv
  have hx := B.exec
  have hb := B.bytes
  have hr := B.returns
  have hts0 := atoms_spec (ws := (ws_ yX1_hold cX1_hold 2 none)) B.pre
  have hts : ∀ w ∈ lw_all, w.before _ s = true := fun w h => hts0 w (List.mem_cons_of_mem _ h)
  have hown : s.vm.findClass RX1 = some m.cls := findClass_of_methodNamed B.named
  have hlocks := B.notSynchronized
  have S : CallFix p m c cX1_hold 2 s _ lw_all RX1 := ⟨hx, hb, hml, hown, hts⟩
  have hl := lv_entry ([.ref (a 0), .int x]) (n := 2) (Nat.le_of_ble_eq_true rfl)
  rw [lg_entry_eq]
  generalize (lg_sl ([.ref (a 0), .int x]) ++ List.replicate (2 - (lg_sl ([.ref (a 0), .int x])).length) Slot.unset).toArray = ls at hl ⊢
  have hl : lv_has ls 2 [(0, .ref (a 0)), (1, .int x)] := hl
  have hP : va_P D ml_cl (wM d a n (nI j) lg hd fr co sa va) s.heap := hP
  have hD : mD (mA a) a := hD0.self
  have hS : va_S (mA a) s.heap s.heap [] := va_S.rf
  refine lv_aload_n hx hb dX1_hold_0 rfl (lv_at hl 0 rfl) ?_
  refine mg_hl S hK hP dX1_hold_1 ?_
  refine lv_bipush (v := 16) hx hb dX1_hold_4 (by decide) ?_
  refine lv_icmp_ge (tgt := 29) hx hb dX1_hold_6 (by decide) (fun q => absurd q (nI_ge (a := j) (b := 16) hj (by decide))) (fun _ => ?_)
  refine lv_aload_n hx hb dX1_hold_9 rfl (lv_at hl 0 rfl) ?_
  refine mg_hd S hK hP dX1_hold_10 ?_
  refine lv_aload_n hx hb dX1_hold_13 rfl (lv_at hl 0 rfl) ?_
  refine mg_hl S hK hP dX1_hold_14 ?_
  refine lv_iload_n hx hb dX1_hold_17 rfl (lv_at hl 1 rfl) ?_
  refine ms_hd (j := j) (hj) S hK hP hD hS dX1_hold_18 (fun H locs hP hS => ?_)
  refine lv_aload_n hx hb dX1_hold_19 rfl (lv_at hl 0 rfl) ?_
  refine lv_dup hx hb dX1_hold_20 rfl ?_
  refine mg_hl S hK hP dX1_hold_21 ?_
  refine lv_iconst (v := 1) hx hb dX1_hold_24 (by decide) ?_
  refine lv_iadd hx hb dX1_hold_25 ?_
  refine ml_top (y := nI (j + 1)) (nI_1 j) ?_
  refine mp_hl S hK hP hD hS dX1_hold_26 (fun H locs hP hS => ?_)
  exact ml_vret hx hb hr hlocks ⟨_, _, _, _, hP⟩ hS dX1_hold_29
section
variable {p : Program} {l : Launch} {e : Env} {R : Room} {s : State} {m : MethodId} {args : Array Value} {below : List Frame} {meth : Method} {c : Code} {H : Heap} {locs : List Loc} {cells slots : Nat} {Q : State → Prop} {cc : ByteArray} {pc nL : Nat} {ls : Array Slot} {rest : List Value} {A : Nat → Prop} {H0 : Heap}
theorem mc_hold {D : va_G} {d : ClassId} {a : Nat → Nat} (hD0 : mD (fun _ => True) a) {n : Int32} {lg hd : Nat → Int32} {j : Nat} (hj : j < 16) {x : Int32} (S : CallFix p m c cc nL s args lw_all RX1) (hR : 0 + 1 ≤ R.frames ∧ 8 + (2 + 11) + 0 ≤ R.locals) (hc : cells ≤ R.cells ∧ slots ≤ R.slots) (hK : va_K D ml_cl [(d, .int)] s) (hP : mW D d a n (nI j) lg hd H) (hS : va_S A H0 H locs) (hA : ∀ q, mA a q → A q) (hl : ls.size = nL) (hw : (rest.map fun v => v.category).sum ≤ 8) (hdg : decode cc pc = .ok (.invokevirtual 58, 3)) (k : ∀ (H1 : Heap) (locs1 : List Loc), mW D d a n (nI (j + 1)) lg (upd hd j x) H1 → (∀ q : Nat, q < H.size → ¬ mA a q → H1[q]? = H[q]?) → va_S A H0 H1 locs1 → W p l e R s m args below meth c H1 locs1 cells slots Q (F0 m (pc + 3) ls rest)) : W p l e R s m args below meth c H locs cells slots Q (F0 m pc ls (.int x :: .ref (a 0) :: rest)) :=
  ml_callv (va_runV (As := [.int x]) (b := a 0) (rest := rest) S (mm_hold l D d a hD0 n lg hd j hj x) (cwV 1 S.2.2.2.2 (lw_V q172 q174 qs5 q9 q175) rfl rfl rfl (by decide +kernel) hR) ⟨ml_blind, hP.recv hK, ml_pre hP hK⟩ rfl rfl hl rfl (lv_room hw) hdg hc) hS hA hA k
end
set_option maxHeartbeats 4000000 in
set_option maxRecDepth 100000 in
/-- turnHand(): the hand, turned -/
theorem mm_turnHand (l : Launch) (D : va_G) (d : ClassId) (a : Nat → Nat) (hD0 : mD (fun _ => True) a) (n : Int32) (lg hd : Nat → Int32) (j : Nat) (hj : j ≤ 16) : Met l yX1_turnHand (ws_ yX1_turnHand cX1_turnHand 3 none) ({ frames := 0, cells := 0, slots := 0, locals := 0 }) (ml_Pc D d [.ref (a 0)] (mW D d a n (nI j) lg hd)) (ml_Qv (fun H => ∃ hd' : Nat → Int32, (∀ i, i < j → hd' i = hd (j - 1 - i)) ∧ mW D d a n (nI j) lg hd' H) (mA a)) 0 0 (mA a) := by
  refine Met.ofW (cc := cX1_turnHand) (maxL := 3) (ret := none) (by decide) rfl ?_
  intro p e s m args below meth c s₁ B hml hv
  obtain ⟨rfl, ⟨fr, co, sa, va, hP⟩, hK⟩ := hv
  have hx := B.exec
  have hb := B.bytes
  have hr := B.returns
  have hts0 := atoms_spec (ws := (ws_ yX1_turnHand cX1_turnHand 3 none)) B.pre
  have hts : ∀ w ∈ lw_all, w.before _ s = true := fun w h => hts0 w (List.mem_cons_of_mem _ h)
  have hown : s.vm.findClass RX1 = some m.cls := findClass_of_methodNamed B.named
  have hlocks := B.notSynchronized
  have S : CallFix p m c cX1_turnHand 3 s _ lw_all RX1 := ⟨hx, hb, hml, hown, hts⟩
  have hl := lv_entry ([.ref (a 0)]) (n := 3) (Nat.le_of_ble_eq_true rfl)
  rw [lg_entry_eq]
  generalize (lg_sl ([.ref (a 0)]) ++ List.replicate (3 - (lg_sl ([.ref (a 0)])).length) Slot.unset).toArray = ls at hl ⊢
  have hl : lv_has ls 3 [(0, .ref (a 0))] := hl
  have hP : va_P D ml_cl (wM d a n (nI j) lg hd fr co sa va) s.heap := hP
  have hD : mD (mA a) a := hD0.self
  have hS : va_S (mA a) s.heap s.heap [] := va_S.rf
  rcases Nat.eq_zero_or_pos j with hj0 | hj0
  · subst hj0
    refine lv_iconst (v := 0) hx hb dX1_turnHand_0 (by decide) ?_
    refine lv_istore_n (lv' := [(1, .int 0), (0, .ref (a 0))]) hx hb dX1_turnHand_1 rfl hl (by decide) rfl (fun ls hl => ?_)
    refine lv_iload_n hx hb dX1_turnHand_2 rfl (lv_at hl 0 rfl) ?_
    refine lv_aload_n hx hb dX1_turnHand_3 rfl (lv_at hl 1 rfl) ?_
    refine mg_hl S hK hP dX1_turnHand_4 ?_
    refine lv_iconst (v := 1) hx hb dX1_turnHand_7 (by decide) ?_
    refine lv_isub hx hb dX1_turnHand_8 ?_
    refine lv_iload_n hx hb dX1_turnHand_9 rfl (lv_at hl 0 rfl) ?_
    refine lv_isub hx hb dX1_turnHand_10 ?_
    refine lv_icmp_ge (tgt := 60) hx hb dX1_turnHand_11 (by decide) (fun _ => ?_) (fun q => absurd (by decide) q)
    exact ml_vret hx hb hr hlocks ⟨hd, fun i h => absurd h (Nat.not_lt_zero i), ⟨_, _, _, _, hP⟩⟩ hS dX1_turnHand_60
  · have loop : ∀ (k i : Nat) (hq fr co sa va : Nat → Int32), i + k = j → 2 * i ≤ j → (∀ q, q < j → hq q = if q < i ∨ j - 1 - i < q then hd (j - 1 - q) else hd q) → ∀ (H : Heap) (locs : List Loc), va_P D ml_cl (wM d a n (nI j) lg hq fr co sa va) H → va_S (mA a) s.heap H locs → ∀ ls : Array Slot, lv_has ls 3 [(0, .ref (a 0)), (1, .int (nI i))] → W p l e (headSpec (ws_ yX1_turnHand cX1_turnHand 3 none) ({ frames := 0, cells := 0, slots := 0, locals := 0 })).room s m ([.ref (a 0)] : List Value).toArray below meth c H locs 0 0 (MQ below (ml_Qv (fun H => ∃ hd' : Nat → Int32, (∀ i, i < j → hd' i = hd (j - 1 - i)) ∧ mW D d a n (nI j) lg hd' H) (mA a)) ([.ref (a 0)] : List Value).toArray s 0 0 (mA a)) (F0 m 2 ls []) := by
      intro k
      induction k with
      | zero => intro i hq fr co sa va hk h2; omega
      | succ k ih =>
        intro i hq fr co sa va hk h2 hh H locs hP hS ls hl
        refine lv_iload_n hx hb dX1_turnHand_2 rfl (lv_at hl 1 rfl) ?_
        refine lv_aload_n hx hb dX1_turnHand_3 rfl (lv_at hl 0 rfl) ?_
        refine mg_hl S hK hP dX1_turnHand_4 ?_
        refine lv_iconst (v := 1) hx hb dX1_turnHand_7 (by decide) ?_
        refine lv_isub hx hb dX1_turnHand_8 ?_
        refine ml_top (y := nI (j - 1)) (nI_minus j 1 (by omega) _ rfl) ?_
        refine lv_iload_n hx hb dX1_turnHand_9 rfl (lv_at hl 1 rfl) ?_
        refine lv_isub hx hb dX1_turnHand_10 ?_
        refine ml_top (y := nI (j - 1 - i)) (pk_sub (by omega)) ?_
        refine lv_icmp_ge (tgt := 60) hx hb dX1_turnHand_11 (by decide) (fun c1 => ?_) (fun c1 => ?_)
        · have h3 := (nI_leI (a := j - 1 - i) (b := i) (by omega) (by omega)).mp c1
          refine ml_vret hx hb hr hlocks ⟨hq, fun q h => ?_, ⟨_, _, _, _, hP⟩⟩ hS dX1_turnHand_60
          rw [hh q h]
          by_cases hc : q < i ∨ j - 1 - i < q
          · rw [if_pos hc]
          · rw [if_neg hc, show j - 1 - q = q by omega]
        · have h3 : i < j - 1 - i := by
            rcases Nat.lt_or_ge i (j - 1 - i) with h | h
            · exact h
            · exact absurd (nI_le h (by omega)) c1
          refine lv_aload_n hx hb dX1_turnHand_14 rfl (lv_at hl 0 rfl) ?_
          refine mg_hd S hK hP dX1_turnHand_15 ?_
          refine lv_iload_n hx hb dX1_turnHand_18 rfl (lv_at hl 1 rfl) ?_
          refine ml_hd (j := i) (by omega) S hK hP dX1_turnHand_19 ?_
          refine lv_istore_n (lv' := [(2, .int (hq i)), (0, .ref (a 0)), (1, .int (nI i))]) hx hb dX1_turnHand_20 rfl hl (by decide) rfl (fun ls hl => ?_)
          refine lv_aload_n hx hb dX1_turnHand_21 rfl (lv_at hl 1 rfl) ?_
          refine mg_hd S hK hP dX1_turnHand_22 ?_
          refine lv_iload_n hx hb dX1_turnHand_25 rfl (lv_at hl 2 rfl) ?_
          refine lv_aload_n hx hb dX1_turnHand_26 rfl (lv_at hl 1 rfl) ?_
          refine mg_hd S hK hP dX1_turnHand_27 ?_
          refine lv_aload_n hx hb dX1_turnHand_30 rfl (lv_at hl 1 rfl) ?_
          refine mg_hl S hK hP dX1_turnHand_31 ?_
          refine lv_iconst (v := 1) hx hb dX1_turnHand_34 (by decide) ?_
          refine lv_isub hx hb dX1_turnHand_35 ?_
          refine ml_top (y := nI (j - 1)) (nI_minus j 1 (by omega) _ rfl) ?_
          refine lv_iload_n hx hb dX1_turnHand_36 rfl (lv_at hl 2 rfl) ?_
          refine lv_isub hx hb dX1_turnHand_37 ?_
          refine ml_top (y := nI (j - 1 - i)) (pk_sub (by omega)) ?_
          refine ml_hd (j := j - 1 - i) (by omega) S hK hP dX1_turnHand_38 ?_
          refine ms_hd (j := i) (by omega) S hK hP hD hS dX1_turnHand_39 (fun H locs hP hS => ?_)
          refine lv_aload_n hx hb dX1_turnHand_40 rfl (lv_at hl 1 rfl) ?_
          refine mg_hd S hK hP dX1_turnHand_41 ?_
          refine lv_aload_n hx hb dX1_turnHand_44 rfl (lv_at hl 1 rfl) ?_
          refine mg_hl S hK hP dX1_turnHand_45 ?_
          refine lv_iconst (v := 1) hx hb dX1_turnHand_48 (by decide) ?_
          refine lv_isub hx hb dX1_turnHand_49 ?_
          refine ml_top (y := nI (j - 1)) (nI_minus j 1 (by omega) _ rfl) ?_
          refine lv_iload_n hx hb dX1_turnHand_50 rfl (lv_at hl 2 rfl) ?_
          refine lv_isub hx hb dX1_turnHand_51 ?_
          refine ml_top (y := nI (j - 1 - i)) (pk_sub (by omega)) ?_
          refine lv_iload_n hx hb dX1_turnHand_52 rfl (lv_at hl 0 rfl) ?_
          refine ms_hd (j := j - 1 - i) (by omega) S hK hP hD hS dX1_turnHand_53 (fun H locs hP hS => ?_)
          refine lv_iinc (v := nI (i + 1)) (lv' := [(1, .int (nI (i + 1))), (2, .int (hq i)), (0, .ref (a 0))]) hx hb dX1_turnHand_54 hl (k := 2) rfl (nI_1 i) (by decide) rfl (fun ls hl => ?_)
          refine lv_goto (tgt := 2) hx hb dX1_turnHand_57 (by decide) ?_
          refine ih (i + 1) _ fr co sa va (by omega) (by omega) (fun q h => ?_) H locs hP hS ls (lv_sub hl [2, 0] rfl)
          by_cases e1 : q = j - 1 - i
          · rw [e1, pk_us, hh i (by omega), if_neg (by omega), if_pos (by omega), show j - 1 - (j - 1 - i) = i by omega]
          · rw [pk_un e1]
            by_cases e2 : q = i
            · rw [e2, pk_us, hh (j - 1 - i) (by omega), if_neg (by omega), if_pos (by omega)]
            · rw [pk_un e2, hh q h]
              by_cases hc : q < i ∨ j - 1 - i < q
              · rw [if_pos hc, if_pos (by omega)]
              · rw [if_neg hc, if_neg (by omega)]
    refine lv_iconst (v := 0) hx hb dX1_turnHand_0 (by decide) ?_
    refine lv_istore_n (lv' := [(1, .int 0), (0, .ref (a 0))]) hx hb dX1_turnHand_1 rfl hl (by decide) rfl (fun ls hl => ?_)
    exact loop j 0 hd fr co sa va (by omega) (by omega) (fun q h => by rw [if_neg (by omega)]) s.heap [] hP hS ls (lv_sub hl [1, 0] rfl)
section
variable {p : Program} {l : Launch} {e : Env} {R : Room} {s : State} {m : MethodId} {args : Array Value} {below : List Frame} {meth : Method} {c : Code} {H : Heap} {locs : List Loc} {cells slots : Nat} {Q : State → Prop} {cc : ByteArray} {pc nL : Nat} {ls : Array Slot} {rest : List Value} {A : Nat → Prop} {H0 : Heap}
theorem mc_turnHand {D : va_G} {d : ClassId} {a : Nat → Nat} (hD0 : mD (fun _ => True) a) {n : Int32} {lg hd : Nat → Int32} {j : Nat} (hj : j ≤ 16) (S : CallFix p m c cc nL s args lw_all RX1) (hR : 0 + 1 ≤ R.frames ∧ 8 + (3 + 11) + 0 ≤ R.locals) (hc : cells ≤ R.cells ∧ slots ≤ R.slots) (hK : va_K D ml_cl [(d, .int)] s) (hP : mW D d a n (nI j) lg hd H) (hS : va_S A H0 H locs) (hA : ∀ q, mA a q → A q) (hl : ls.size = nL) (hw : (rest.map fun v => v.category).sum ≤ 8) (hdg : decode cc pc = .ok (.invokevirtual 62, 3)) (k : ∀ (H1 : Heap) (locs1 : List Loc), (∃ hd' : Nat → Int32, (∀ i, i < j → hd' i = hd (j - 1 - i)) ∧ mW D d a n (nI j) lg hd' H1) → (∀ q : Nat, q < H.size → ¬ mA a q → H1[q]? = H[q]?) → va_S A H0 H1 locs1 → W p l e R s m args below meth c H1 locs1 cells slots Q (F0 m (pc + 3) ls rest)) : W p l e R s m args below meth c H locs cells slots Q (F0 m pc ls (.ref (a 0) :: rest)) :=
  ml_callv (va_runV (As := []) (b := a 0) (rest := rest) S (mm_turnHand l D d a hD0 n lg hd j hj) (cwV 0 S.2.2.2.2 (lw_V q176 q178 qs6 q9 q179) rfl rfl rfl (by decide +kernel) hR) ⟨ml_blind, hP.recv hK, ml_pre hP hK⟩ rfl rfl hl rfl (lv_room hw) hdg hc) hS hA hA k
end
end
section
set_option maxHeartbeats 4000000 in
set_option maxRecDepth 100000 in
/-- rootOf(x, y): the root of y entries from x on -/
theorem mm_rootOf (l : Launch) (D : va_G) (d : ClassId) (a : Nat → Nat) (hD0 : mD (fun _ => True) a) (n h : Int32) (lg hd : Nat → Int32) (x y : Nat) (hy : 1 ≤ y) (hxy : x + y ≤ 40) : Met l yX1_rootOf (ws_ yX1_rootOf cX1_rootOf 7 (some .int)) ({ frames := 2, cells := 0, slots := 0, locals := 44 }) (ml_Pc D d [.ref (a 0), .int (nI x), .int (nI y)] (mW D d a n h lg hd)) (ml_Qi (ml_r (ml_g lg) x y) (mW D d a n h lg hd) (mA a)) 0 0 (mA a) := by
  refine Met.ofW (cc := cX1_rootOf) (maxL := 7) (ret := (some .int)) (by decide) rfl ?_
  intro p e s m args below meth c s₁ B hml hv
  obtain ⟨rfl, ⟨fr, co, sa, va, hP⟩, hK⟩ := hv
  have hx := B.exec
  have hb := B.bytes
  have hr := B.returns
  have hts0 := atoms_spec (ws := (ws_ yX1_rootOf cX1_rootOf 7 (some .int))) B.pre
  have hts : ∀ w ∈ lw_all, w.before _ s = true := fun w h => hts0 w (List.mem_cons_of_mem _ h)
  have hown : s.vm.findClass RX1 = some m.cls := findClass_of_methodNamed B.named
  have hlocks := B.notSynchronized
  have S : CallFix p m c cX1_rootOf 7 s _ lw_all RX1 := ⟨hx, hb, hml, hown, hts⟩
  have hl := lv_entry ([.ref (a 0), .int (nI x), .int (nI y)]) (n := 7) (Nat.le_of_ble_eq_true rfl)
  rw [lg_entry_eq]
  generalize (lg_sl ([.ref (a 0), .int (nI x), .int (nI y)]) ++ List.replicate (7 - (lg_sl ([.ref (a 0), .int (nI x), .int (nI y)])).length) Slot.unset).toArray = ls at hl ⊢
  have hl : lv_has ls 7 [(0, .ref (a 0)), (1, .int (nI x)), (2, .int (nI y))] := hl
  have hP : va_P D ml_cl (wM d a n h lg hd fr co sa va) s.heap := hP
  have hD : mD (mA a) a := hD0.self
  have hS : va_S (mA a) s.heap s.heap [] := va_S.rf
  have one : ∀ (k f t i : Nat) (dn : Int32) (fr co sa va : Nat → Int32), k = 1 → f + k ≤ 40 → t ≤ 90 → i + 4 * k ≤ 303 → fr t = nI f → co t = nI k → (∀ (fr' co' sa' va' : Nat → Int32), (∀ q, q < t → fr' q = fr q ∧ co' q = co q ∧ sa' q = sa q ∧ va' q = va q) → ∀ (H : Heap) (locs : List Loc), va_P D ml_cl (wM d a n h lg hd fr' co' sa' va') H → va_S (mA a) s.heap H locs → ∀ ls : Array Slot, lv_has ls 7 [(0, .ref (a 0)), (3, .int (nI t + (-1))), (4, .int (ml_r (ml_g lg) f k)), (5, .int (nI (i + 4 * k - 3)))] → W p l e (headSpec (ws_ yX1_rootOf cX1_rootOf 7 (some .int)) ({ frames := 2, cells := 0, slots := 0, locals := 44 })).room s m ([.ref (a 0), .int (nI x), .int (nI y)] : List Value).toArray below meth c H locs 0 0 (MQ below (ml_Qi (ml_r (ml_g lg) x y) (mW D d a n h lg hd) (mA a)) ([.ref (a 0), .int (nI x), .int (nI y)] : List Value).toArray s 0 0 (mA a)) (F0 m 15 ls [])) → ∀ (H : Heap) (locs : List Loc), va_P D ml_cl (wM d a n h lg hd fr co sa va) H → va_S (mA a) s.heap H locs → ∀ ls : Array Slot, lv_has ls 7 [(0, .ref (a 0)), (3, .int (nI t)), (4, .int dn), (5, .int (nI i))] → W p l e (headSpec (ws_ yX1_rootOf cX1_rootOf 7 (some .int)) ({ frames := 2, cells := 0, slots := 0, locals := 44 })).room s m ([.ref (a 0), .int (nI x), .int (nI y)] : List Value).toArray below meth c H locs 0 0 (MQ below (ml_Qi (ml_r (ml_g lg) x y) (mW D d a n h lg hd) (mA a)) ([.ref (a 0), .int (nI x), .int (nI y)] : List Value).toArray s 0 0 (mA a)) (F0 m 15 ls []) := by
    intro k f t i dn fr co sa va hk hf ht hi hfr hco hcont H locs hP hS ls hl
    subst hk
    refine lv_iload hx hb dX1_rootOf_15 (lv_at hl 3 rfl) ?_
    refine lv_sipush (v := 300) hx hb dX1_rootOf_17 (by decide) ?_
    refine lv_icmp_ge (tgt := 211) hx hb dX1_rootOf_20 (by decide) (fun q => absurd q (nI_ge (a := i) (b := 300) (by omega) (by decide))) (fun _ => ?_)
    refine lv_iload_n hx hb dX1_rootOf_23 rfl (lv_at hl 1 rfl) ?_
    refine lv_if_lt (tgt := 211) hx hb dX1_rootOf_24 (by decide) (fun q => absurd q (nI_pos (by omega))) (fun _ => ?_)
    refine lv_aload_n hx hb dX1_rootOf_27 rfl (lv_at hl 0 rfl) ?_
    refine mg_co S hK hP dX1_rootOf_28 ?_
    refine lv_iload_n hx hb dX1_rootOf_31 rfl (lv_at hl 1 rfl) ?_
    refine ml_co (j := t) (by omega) S hK hP dX1_rootOf_32 ?_
    refine ml_top (y := nI 1) (hco) ?_
    refine lv_iconst (v := 1) hx hb dX1_rootOf_33 (by decide) ?_
    refine lv_icmp_ne (tgt := 74) hx hb dX1_rootOf_34 (by decide) (fun q => absurd (rfl) q) (fun _ => ?_)
    refine lv_aload_n hx hb dX1_rootOf_37 rfl (lv_at hl 0 rfl) ?_
    refine mg_fr S hK hP dX1_rootOf_38 ?_
    refine lv_iload_n hx hb dX1_rootOf_41 rfl (lv_at hl 1 rfl) ?_
    refine ml_fr (j := t) (by omega) S hK hP dX1_rootOf_42 ?_
    refine ml_top (y := nI f) (hfr) ?_
    refine lv_bipush (v := 40) hx hb dX1_rootOf_43 (by decide) ?_
    refine lv_icmp_ge (tgt := 65) hx hb dX1_rootOf_45 (by decide) (fun q => absurd q (nI_ge (a := f) (b := 40) (by omega) (by decide))) (fun _ => ?_)
    refine lv_aload_n hx hb dX1_rootOf_48 rfl (lv_at hl 0 rfl) ?_
    refine mg_lg S hK hP dX1_rootOf_49 ?_
    refine lv_aload_n hx hb dX1_rootOf_52 rfl (lv_at hl 0 rfl) ?_
    refine mg_fr S hK hP dX1_rootOf_53 ?_
    refine lv_iload_n hx hb dX1_rootOf_56 rfl (lv_at hl 1 rfl) ?_
    refine ml_fr (j := t) (by omega) S hK hP dX1_rootOf_57 ?_
    refine ml_top (y := nI f) (hfr) ?_
    refine ml_lg (j := f) (by omega) S hK hP dX1_rootOf_58 ?_
    refine mc_leaf S ⟨Nat.le_of_ble_eq_true rfl, Nat.le_of_ble_eq_true rfl⟩ ⟨Nat.zero_le _, Nat.zero_le _⟩ hl.1 (Nat.le_of_ble_eq_true rfl) dX1_rootOf_59 ?_
    refine lv_goto (tgt := 66) hx hb dX1_rootOf_62 (by decide) ?_
    refine lv_istore (lv' := [(4, .int (ml_leaf (lg f))), (0, .ref (a 0)), (3, .int (nI t)), (5, .int (nI i))]) hx hb dX1_rootOf_66 hl (by decide) rfl (fun ls hl => ?_)
    refine lv_iinc (v := nI t + (-1)) (lv' := [(3, .int (nI t + (-1))), (4, .int (ml_leaf (lg f))), (0, .ref (a 0)), (5, .int (nI i))]) hx hb dX1_rootOf_68 hl (k := 2) rfl (rfl) (by decide) rfl (fun ls hl => ?_)
    refine lv_goto (tgt := 205) hx hb dX1_rootOf_71 (by decide) ?_
    refine lv_iinc (v := nI (i + 1)) (lv' := [(5, .int (nI (i + 1))), (3, .int (nI t + (-1))), (4, .int (ml_leaf (lg f))), (0, .ref (a 0))]) hx hb dX1_rootOf_205 hl (k := 3) rfl (nI_1 i) (by decide) rfl (fun ls hl => ?_)
    refine lv_goto (tgt := 15) hx hb dX1_rootOf_208 (by decide) ?_
    refine hcont fr co sa va (fun q _ => ⟨rfl, rfl, rfl, rfl⟩) H locs hP hS ls ?_
    rw [r_1 (ml_g lg) f (Nat.le_refl 1), show i + 4 * 1 - 3 = i + 1 by omega]
    exact (lv_sub hl [3, 1, 2, 0] rfl)
  have recu : ∀ (dp k f t i : Nat) (dn : Int32) (fr co sa va : Nat → Int32), dp ≤ 6 → 1 ≤ k → k ≤ 2 ^ dp → f + k ≤ 40 → t + dp ≤ 90 → i + 4 * k ≤ 303 → fr t = nI f → co t = nI k → sa t = 0 → (∀ (fr' co' sa' va' : Nat → Int32), (∀ q, q < t → fr' q = fr q ∧ co' q = co q ∧ sa' q = sa q ∧ va' q = va q) → ∀ (H : Heap) (locs : List Loc), va_P D ml_cl (wM d a n h lg hd fr' co' sa' va') H → va_S (mA a) s.heap H locs → ∀ ls : Array Slot, lv_has ls 7 [(0, .ref (a 0)), (3, .int (nI t + (-1))), (4, .int (ml_r (ml_g lg) f k)), (5, .int (nI (i + 4 * k - 3)))] → W p l e (headSpec (ws_ yX1_rootOf cX1_rootOf 7 (some .int)) ({ frames := 2, cells := 0, slots := 0, locals := 44 })).room s m ([.ref (a 0), .int (nI x), .int (nI y)] : List Value).toArray below meth c H locs 0 0 (MQ below (ml_Qi (ml_r (ml_g lg) x y) (mW D d a n h lg hd) (mA a)) ([.ref (a 0), .int (nI x), .int (nI y)] : List Value).toArray s 0 0 (mA a)) (F0 m 15 ls [])) → ∀ (H : Heap) (locs : List Loc), va_P D ml_cl (wM d a n h lg hd fr co sa va) H → va_S (mA a) s.heap H locs → ∀ ls : Array Slot, lv_has ls 7 [(0, .ref (a 0)), (3, .int (nI t)), (4, .int dn), (5, .int (nI i))] → W p l e (headSpec (ws_ yX1_rootOf cX1_rootOf 7 (some .int)) ({ frames := 2, cells := 0, slots := 0, locals := 44 })).room s m ([.ref (a 0), .int (nI x), .int (nI y)] : List Value).toArray below meth c H locs 0 0 (MQ below (ml_Qi (ml_r (ml_g lg) x y) (mW D d a n h lg hd) (mA a)) ([.ref (a 0), .int (nI x), .int (nI y)] : List Value).toArray s 0 0 (mA a)) (F0 m 15 ls []) := by
    intro dp
    induction dp with
    | zero => exact fun k f t i dn fr co sa va _ h1 h2 hf ht hi hfr hco _ hcont H locs hP hS ls hl => one k f t i dn fr co sa va (by have : k ≤ 1 := h2; omega) hf (by omega) hi hfr hco hcont H locs hP hS ls hl
    | succ dp ih =>
      intro k f t i dn fr co sa va he h1 h2 hf ht hi hfr hco hsa hcont H locs hP hS ls hl
      rcases (show k = 1 ∨ 2 ≤ k by omega) with hk | hk
      · exact one k f t i dn fr co sa va hk hf (by omega) hi hfr hco hcont H locs hP hS ls hl
      · obtain ⟨p1, p2⟩ := hf_pow (by omega) hk h2
        obtain ⟨p3, p4⟩ := hf_lt hk
        refine lv_iload hx hb dX1_rootOf_15 (lv_at hl 3 rfl) ?_
        refine lv_sipush (v := 300) hx hb dX1_rootOf_17 (by decide) ?_
        refine lv_icmp_ge (tgt := 211) hx hb dX1_rootOf_20 (by decide) (fun q => absurd q (nI_ge (a := i) (b := 300) (by omega) (by decide))) (fun _ => ?_)
        refine lv_iload_n hx hb dX1_rootOf_23 rfl (lv_at hl 1 rfl) ?_
        refine lv_if_lt (tgt := 211) hx hb dX1_rootOf_24 (by decide) (fun q => absurd q (nI_pos (by omega))) (fun _ => ?_)
        refine lv_aload_n hx hb dX1_rootOf_27 rfl (lv_at hl 0 rfl) ?_
        refine mg_co S hK hP dX1_rootOf_28 ?_
        refine lv_iload_n hx hb dX1_rootOf_31 rfl (lv_at hl 1 rfl) ?_
        refine ml_co (j := t) (by omega) S hK hP dX1_rootOf_32 ?_
        refine ml_top (y := nI k) (hco) ?_
        refine lv_iconst (v := 1) hx hb dX1_rootOf_33 (by decide) ?_
        refine lv_icmp_ne (tgt := 74) hx hb dX1_rootOf_34 (by decide) (fun _ => ?_) (fun q => absurd q (fun q => absurd ((nI_eq (a := k) (b := 1) (by omega) (by decide)).mp q) (by omega)))
        refine lv_aload_n hx hb dX1_rootOf_74 rfl (lv_at hl 0 rfl) ?_
        refine mg_sa S hK hP dX1_rootOf_75 ?_
        refine lv_iload_n hx hb dX1_rootOf_78 rfl (lv_at hl 1 rfl) ?_
        refine ml_sa (j := t) (by omega) S hK hP dX1_rootOf_79 ?_
        refine ml_top (y := 0) (hsa) ?_
        refine lv_if_ne (tgt := 122) hx hb dX1_rootOf_80 (by decide) (fun q => absurd (rfl) q) (fun _ => ?_)
        refine lv_aload_n hx hb dX1_rootOf_83 rfl (lv_at hl 0 rfl) ?_
        refine mg_sa S hK hP dX1_rootOf_84 ?_
        refine lv_iload_n hx hb dX1_rootOf_87 rfl (lv_at hl 1 rfl) ?_
        refine lv_iconst (v := 1) hx hb dX1_rootOf_88 (by decide) ?_
        refine ms_sa (j := t) (by omega) S hK hP hD hS dX1_rootOf_89 (fun H locs hP hS => ?_)
        refine lv_aload_n hx hb dX1_rootOf_90 rfl (lv_at hl 0 rfl) ?_
        refine mg_co S hK hP dX1_rootOf_91 ?_
        refine lv_iload_n hx hb dX1_rootOf_94 rfl (lv_at hl 1 rfl) ?_
        refine ml_co (j := t) (by omega) S hK hP dX1_rootOf_95 ?_
        refine ml_top (y := nI k) (hco) ?_
        refine mc_half (by omega) S ⟨Nat.le_of_ble_eq_true rfl, Nat.le_of_ble_eq_true rfl⟩ ⟨Nat.zero_le _, Nat.zero_le _⟩ hl.1 (Nat.le_of_ble_eq_true rfl) dX1_rootOf_96 ?_
        refine lv_istore (lv' := [(6, .int (nI (ml_hf k))), (0, .ref (a 0)), (3, .int (nI t)), (4, .int dn), (5, .int (nI i))]) hx hb dX1_rootOf_99 hl (by decide) rfl (fun ls hl => ?_)
        refine lv_aload_n hx hb dX1_rootOf_101 rfl (lv_at hl 1 rfl) ?_
        refine lv_iload_n hx hb dX1_rootOf_102 rfl (lv_at hl 2 rfl) ?_
        refine lv_iconst (v := 1) hx hb dX1_rootOf_103 (by decide) ?_
        refine lv_iadd hx hb dX1_rootOf_104 ?_
        refine ml_top (y := nI (t + 1)) (nI_1 t) ?_
        refine lv_aload_n hx hb dX1_rootOf_105 rfl (lv_at hl 1 rfl) ?_
        refine mg_fr S hK hP dX1_rootOf_106 ?_
        refine lv_iload_n hx hb dX1_rootOf_109 rfl (lv_at hl 2 rfl) ?_
        refine ml_fr (j := t) (by omega) S hK hP dX1_rootOf_110 ?_
        refine ml_top (y := nI f) (hfr) ?_
        refine lv_iload hx hb dX1_rootOf_111 (lv_at hl 0 rfl) ?_
        refine mc_open hD0 (by omega) S ⟨Nat.le_of_ble_eq_true rfl, Nat.le_of_ble_eq_true rfl⟩ ⟨Nat.zero_le _, Nat.zero_le _⟩ hK hP hS (fun _ h => h) hl.1 (Nat.le_of_ble_eq_true rfl) dX1_rootOf_113 (fun H locs hP _ hS => ?_)
        refine lv_iinc (v := nI (t + 1)) (lv' := [(3, .int (nI (t + 1))), (6, .int (nI (ml_hf k))), (0, .ref (a 0)), (4, .int dn), (5, .int (nI i))]) hx hb dX1_rootOf_116 hl (k := 2) rfl (nI_1 t) (by decide) rfl (fun ls hl => ?_)
        refine lv_goto (tgt := 205) hx hb dX1_rootOf_119 (by decide) ?_
        refine lv_iinc (v := nI (i + 1)) (lv' := [(5, .int (nI (i + 1))), (3, .int (nI (t + 1))), (6, .int (nI (ml_hf k))), (0, .ref (a 0)), (4, .int dn)]) hx hb dX1_rootOf_205 hl (k := 4) rfl (nI_1 i) (by decide) rfl (fun ls hl => ?_)
        refine lv_goto (tgt := 15) hx hb dX1_rootOf_208 (by decide) ?_
        refine ih (ml_hf k) f (t + 1) (i + 1) dn _ _ _ _ (by omega) p3 p1 (by omega) (by omega) (by omega) pk_us pk_us pk_us ?_ H locs hP hS ls (lv_sub hl [3, 1, 4, 0] rfl)
        clear hl hS hP
        intro fr1 co1 sa1 va1 hag H locs hP hS ls hl
        obtain ⟨g1, g2, g3, g4⟩ := hag t (by omega)
        rw [pk_un (by omega)] at g1 g2 g3
        rw [pk_us] at g3
        rw [pk_m1] at hl
        refine lv_iload hx hb dX1_rootOf_15 (lv_at hl 3 rfl) ?_
        refine lv_sipush (v := 300) hx hb dX1_rootOf_17 (by decide) ?_
        refine lv_icmp_ge (tgt := 211) hx hb dX1_rootOf_20 (by decide) (fun q => absurd q (nI_ge (a := (i + 1 + 4 * ml_hf k - 3)) (b := 300) (by omega) (by decide))) (fun _ => ?_)
        refine lv_iload_n hx hb dX1_rootOf_23 rfl (lv_at hl 1 rfl) ?_
        refine lv_if_lt (tgt := 211) hx hb dX1_rootOf_24 (by decide) (fun q => absurd q (nI_pos (by omega))) (fun _ => ?_)
        refine lv_aload_n hx hb dX1_rootOf_27 rfl (lv_at hl 0 rfl) ?_
        refine mg_co S hK hP dX1_rootOf_28 ?_
        refine lv_iload_n hx hb dX1_rootOf_31 rfl (lv_at hl 1 rfl) ?_
        refine ml_co (j := t) (by omega) S hK hP dX1_rootOf_32 ?_
        refine ml_top (y := nI k) (g2.trans hco) ?_
        refine lv_iconst (v := 1) hx hb dX1_rootOf_33 (by decide) ?_
        refine lv_icmp_ne (tgt := 74) hx hb dX1_rootOf_34 (by decide) (fun _ => ?_) (fun q => absurd q (fun q => absurd ((nI_eq (a := k) (b := 1) (by omega) (by decide)).mp q) (by omega)))
        refine lv_aload_n hx hb dX1_rootOf_74 rfl (lv_at hl 0 rfl) ?_
        refine mg_sa S hK hP dX1_rootOf_75 ?_
        refine lv_iload_n hx hb dX1_rootOf_78 rfl (lv_at hl 1 rfl) ?_
        refine ml_sa (j := t) (by omega) S hK hP dX1_rootOf_79 ?_
        refine ml_top (y := 1) (g3) ?_
        refine lv_if_ne (tgt := 122) hx hb dX1_rootOf_80 (by decide) (fun _ => ?_) (fun q => absurd q (by decide))
        refine lv_aload_n hx hb dX1_rootOf_122 rfl (lv_at hl 0 rfl) ?_
        refine mg_sa S hK hP dX1_rootOf_123 ?_
        refine lv_iload_n hx hb dX1_rootOf_126 rfl (lv_at hl 1 rfl) ?_
        refine ml_sa (j := t) (by omega) S hK hP dX1_rootOf_127 ?_
        refine ml_top (y := 1) (g3) ?_
        refine lv_iconst (v := 1) hx hb dX1_rootOf_128 (by decide) ?_
        refine lv_icmp_ne (tgt := 189) hx hb dX1_rootOf_129 (by decide) (fun q => absurd (rfl) q) (fun _ => ?_)
        refine lv_aload_n hx hb dX1_rootOf_132 rfl (lv_at hl 0 rfl) ?_
        refine mg_va S hK hP dX1_rootOf_133 ?_
        refine lv_iload_n hx hb dX1_rootOf_136 rfl (lv_at hl 1 rfl) ?_
        refine lv_iload hx hb dX1_rootOf_137 (lv_at hl 2 rfl) ?_
        refine ms_va (j := t) (by omega) S hK hP hD hS dX1_rootOf_139 (fun H locs hP hS => ?_)
        refine lv_aload_n hx hb dX1_rootOf_140 rfl (lv_at hl 0 rfl) ?_
        refine mg_sa S hK hP dX1_rootOf_141 ?_
        refine lv_iload_n hx hb dX1_rootOf_144 rfl (lv_at hl 1 rfl) ?_
        refine lv_iconst (v := 2) hx hb dX1_rootOf_145 (by decide) ?_
        refine ms_sa (j := t) (by omega) S hK hP hD hS dX1_rootOf_146 (fun H locs hP hS => ?_)
        refine lv_aload_n hx hb dX1_rootOf_147 rfl (lv_at hl 0 rfl) ?_
        refine mg_co S hK hP dX1_rootOf_148 ?_
        refine lv_iload_n hx hb dX1_rootOf_151 rfl (lv_at hl 1 rfl) ?_
        refine ml_co (j := t) (by omega) S hK hP dX1_rootOf_152 ?_
        refine ml_top (y := nI k) (g2.trans hco) ?_
        refine mc_half (by omega) S ⟨Nat.le_of_ble_eq_true rfl, Nat.le_of_ble_eq_true rfl⟩ ⟨Nat.zero_le _, Nat.zero_le _⟩ hl.1 (Nat.le_of_ble_eq_true rfl) dX1_rootOf_153 ?_
        refine lv_istore (lv' := [(6, .int (nI (ml_hf k))), (0, .ref (a 0)), (3, .int (nI t)), (4, .int (ml_r (ml_g lg) f (ml_hf k))), (5, .int (nI (i + 1 + 4 * ml_hf k - 3)))]) hx hb dX1_rootOf_156 hl (by decide) rfl (fun ls hl => ?_)
        refine lv_aload_n hx hb dX1_rootOf_158 rfl (lv_at hl 1 rfl) ?_
        refine lv_iload_n hx hb dX1_rootOf_159 rfl (lv_at hl 2 rfl) ?_
        refine lv_iconst (v := 1) hx hb dX1_rootOf_160 (by decide) ?_
        refine lv_iadd hx hb dX1_rootOf_161 ?_
        refine ml_top (y := nI (t + 1)) (nI_1 t) ?_
        refine lv_aload_n hx hb dX1_rootOf_162 rfl (lv_at hl 1 rfl) ?_
        refine mg_fr S hK hP dX1_rootOf_163 ?_
        refine lv_iload_n hx hb dX1_rootOf_166 rfl (lv_at hl 2 rfl) ?_
        refine ml_fr (j := t) (by omega) S hK hP dX1_rootOf_167 ?_
        refine ml_top (y := nI f) (g1.trans hfr) ?_
        refine lv_iload hx hb dX1_rootOf_168 (lv_at hl 0 rfl) ?_
        refine lv_iadd hx hb dX1_rootOf_170 ?_
        refine ml_top (y := nI (f + ml_hf k)) (nI_add _ _) ?_
        refine lv_aload_n hx hb dX1_rootOf_171 rfl (lv_at hl 1 rfl) ?_
        refine mg_co S hK hP dX1_rootOf_172 ?_
        refine lv_iload_n hx hb dX1_rootOf_175 rfl (lv_at hl 2 rfl) ?_
        refine ml_co (j := t) (by omega) S hK hP dX1_rootOf_176 ?_
        refine ml_top (y := nI k) (g2.trans hco) ?_
        refine lv_iload hx hb dX1_rootOf_177 (lv_at hl 0 rfl) ?_
        refine lv_isub hx hb dX1_rootOf_179 ?_
        refine ml_top (y := nI (k - ml_hf k)) (pk_sub (by omega)) ?_
        refine mc_open hD0 (by omega) S ⟨Nat.le_of_ble_eq_true rfl, Nat.le_of_ble_eq_true rfl⟩ ⟨Nat.zero_le _, Nat.zero_le _⟩ hK hP hS (fun _ h => h) hl.1 (Nat.le_of_ble_eq_true rfl) dX1_rootOf_180 (fun H locs hP _ hS => ?_)
        refine lv_iinc (v := nI (t + 1)) (lv' := [(3, .int (nI (t + 1))), (6, .int (nI (ml_hf k))), (0, .ref (a 0)), (4, .int (ml_r (ml_g lg) f (ml_hf k))), (5, .int (nI (i + 1 + 4 * ml_hf k - 3)))]) hx hb dX1_rootOf_183 hl (k := 2) rfl (nI_1 t) (by decide) rfl (fun ls hl => ?_)
        refine lv_goto (tgt := 205) hx hb dX1_rootOf_186 (by decide) ?_
        refine lv_iinc (v := nI (i + 1 + 4 * ml_hf k - 3 + 1)) (lv' := [(5, .int (nI (i + 1 + 4 * ml_hf k - 3 + 1))), (3, .int (nI (t + 1))), (6, .int (nI (ml_hf k))), (0, .ref (a 0)), (4, .int (ml_r (ml_g lg) f (ml_hf k)))]) hx hb dX1_rootOf_205 hl (k := 4) rfl (nI_1 _) (by decide) rfl (fun ls hl => ?_)
        refine lv_goto (tgt := 15) hx hb dX1_rootOf_208 (by decide) ?_
        refine ih (k - ml_hf k) (f + ml_hf k) (t + 1) (i + 1 + 4 * ml_hf k - 3 + 1) _ _ _ _ _ (by omega) (by omega) p2 (by omega) (by omega) (by omega) pk_us pk_us pk_us ?_ H locs hP hS ls (lv_sub hl [3, 1, 4, 0] rfl)
        clear hl hS hP
        intro fr2 co2 sa2 va2 hag2 H locs hP hS ls hl
        obtain ⟨j1, j2, j3, j4⟩ := hag2 t (by omega)
        rw [pk_un (by omega)] at j1 j2 j3
        rw [pk_us] at j3 j4
        rw [pk_m1] at hl
        refine lv_iload hx hb dX1_rootOf_15 (lv_at hl 3 rfl) ?_
        refine lv_sipush (v := 300) hx hb dX1_rootOf_17 (by decide) ?_
        refine lv_icmp_ge (tgt := 211) hx hb dX1_rootOf_20 (by decide) (fun q => absurd q (nI_ge (a := (i + 1 + 4 * ml_hf k - 3 + 1 + 4 * (k - ml_hf k) - 3)) (b := 300) (by omega) (by decide))) (fun _ => ?_)
        refine lv_iload_n hx hb dX1_rootOf_23 rfl (lv_at hl 1 rfl) ?_
        refine lv_if_lt (tgt := 211) hx hb dX1_rootOf_24 (by decide) (fun q => absurd q (nI_pos (by omega))) (fun _ => ?_)
        refine lv_aload_n hx hb dX1_rootOf_27 rfl (lv_at hl 0 rfl) ?_
        refine mg_co S hK hP dX1_rootOf_28 ?_
        refine lv_iload_n hx hb dX1_rootOf_31 rfl (lv_at hl 1 rfl) ?_
        refine ml_co (j := t) (by omega) S hK hP dX1_rootOf_32 ?_
        refine ml_top (y := nI k) (j2.trans (g2.trans hco)) ?_
        refine lv_iconst (v := 1) hx hb dX1_rootOf_33 (by decide) ?_
        refine lv_icmp_ne (tgt := 74) hx hb dX1_rootOf_34 (by decide) (fun _ => ?_) (fun q => absurd q (fun q => absurd ((nI_eq (a := k) (b := 1) (by omega) (by decide)).mp q) (by omega)))
        refine lv_aload_n hx hb dX1_rootOf_74 rfl (lv_at hl 0 rfl) ?_
        refine mg_sa S hK hP dX1_rootOf_75 ?_
        refine lv_iload_n hx hb dX1_rootOf_78 rfl (lv_at hl 1 rfl) ?_
        refine ml_sa (j := t) (by omega) S hK hP dX1_rootOf_79 ?_
        refine ml_top (y := 2) (j3) ?_
        refine lv_if_ne (tgt := 122) hx hb dX1_rootOf_80 (by decide) (fun _ => ?_) (fun q => absurd q (by decide))
        refine lv_aload_n hx hb dX1_rootOf_122 rfl (lv_at hl 0 rfl) ?_
        refine mg_sa S hK hP dX1_rootOf_123 ?_
        refine lv_iload_n hx hb dX1_rootOf_126 rfl (lv_at hl 1 rfl) ?_
        refine ml_sa (j := t) (by omega) S hK hP dX1_rootOf_127 ?_
        refine ml_top (y := 2) (j3) ?_
        refine lv_iconst (v := 1) hx hb dX1_rootOf_128 (by decide) ?_
        refine lv_icmp_ne (tgt := 189) hx hb dX1_rootOf_129 (by decide) (fun _ => ?_) (fun q => absurd q (by decide))
        refine lv_aload_n hx hb dX1_rootOf_189 rfl (lv_at hl 0 rfl) ?_
        refine mg_va S hK hP dX1_rootOf_190 ?_
        refine lv_iload_n hx hb dX1_rootOf_193 rfl (lv_at hl 1 rfl) ?_
        refine ml_va (j := t) (by omega) S hK hP dX1_rootOf_194 ?_
        refine ml_top (y := ml_r (ml_g lg) f (ml_hf k)) (j4) ?_
        refine lv_iload hx hb dX1_rootOf_195 (lv_at hl 2 rfl) ?_
        refine mc_node S ⟨Nat.le_of_ble_eq_true rfl, Nat.le_of_ble_eq_true rfl⟩ ⟨Nat.zero_le _, Nat.zero_le _⟩ hl.1 (Nat.le_of_ble_eq_true rfl) dX1_rootOf_197 ?_
        refine lv_istore (lv' := [(4, .int (ml_node (ml_r (ml_g lg) f (ml_hf k)) (ml_r (ml_g lg) (f + ml_hf k) (k - ml_hf k)))), (0, .ref (a 0)), (3, .int (nI t)), (5, .int (nI (i + 1 + 4 * ml_hf k - 3 + 1 + 4 * (k - ml_hf k) - 3)))]) hx hb dX1_rootOf_200 hl (by decide) rfl (fun ls hl => ?_)
        refine lv_iinc (v := nI t + (-1)) (lv' := [(3, .int (nI t + (-1))), (4, .int (ml_node (ml_r (ml_g lg) f (ml_hf k)) (ml_r (ml_g lg) (f + ml_hf k) (k - ml_hf k)))), (0, .ref (a 0)), (5, .int (nI (i + 1 + 4 * ml_hf k - 3 + 1 + 4 * (k - ml_hf k) - 3)))]) hx hb dX1_rootOf_202 hl (k := 2) rfl (rfl) (by decide) rfl (fun ls hl => ?_)
        refine lv_iinc (v := nI (i + 1 + 4 * ml_hf k - 3 + 1 + 4 * (k - ml_hf k) - 3 + 1)) (lv' := [(5, .int (nI (i + 1 + 4 * ml_hf k - 3 + 1 + 4 * (k - ml_hf k) - 3 + 1))), (3, .int (nI t + (-1))), (4, .int (ml_node (ml_r (ml_g lg) f (ml_hf k)) (ml_r (ml_g lg) (f + ml_hf k) (k - ml_hf k)))), (0, .ref (a 0))]) hx hb dX1_rootOf_205 hl (k := 3) rfl (nI_1 _) (by decide) rfl (fun ls hl => ?_)
        refine lv_goto (tgt := 15) hx hb dX1_rootOf_208 (by decide) ?_
        refine hcont fr2 co2 sa2 va2 (fun q hq => ?_) H locs hP hS ls ?_
        · obtain ⟨x1, x2, x3, x4⟩ := hag q (by omega)
          obtain ⟨y1, y2, y3, y4⟩ := hag2 q (by omega)
          rw [pk_un (by omega)] at x1 x2 x3 y1 y2 y3
          rw [pk_un (by omega)] at x3 y3 y4
          exact ⟨y1.trans x1, y2.trans x2, y3.trans x3, y4.trans x4⟩
        · rw [r_node (ml_g lg) f hk (by omega), show i + 4 * k - 3 = i + 1 + 4 * ml_hf k - 3 + 1 + 4 * (k - ml_hf k) - 3 + 1 by omega]
          exact (lv_sub hl [3, 1, 2, 0] rfl)
  refine lv_iconst (v := 0) hx hb dX1_rootOf_0 (by decide) ?_
  refine lv_istore_n (lv' := [(3, .int 0), (0, .ref (a 0)), (1, .int (nI x)), (2, .int (nI y))]) hx hb dX1_rootOf_1 rfl hl (by decide) rfl (fun ls hl => ?_)
  refine lv_iconst (v := 0) hx hb dX1_rootOf_2 (by decide) ?_
  refine lv_istore (lv' := [(4, .int 0), (3, .int 0), (0, .ref (a 0)), (1, .int (nI x)), (2, .int (nI y))]) hx hb dX1_rootOf_3 hl (by decide) rfl (fun ls hl => ?_)
  refine lv_aload_n hx hb dX1_rootOf_5 rfl (lv_at hl 2 rfl) ?_
  refine lv_iconst (v := 0) hx hb dX1_rootOf_6 (by decide) ?_
  refine ml_top (y := nI 0) (rfl) ?_
  refine lv_iload_n hx hb dX1_rootOf_7 rfl (lv_at hl 3 rfl) ?_
  refine lv_iload_n hx hb dX1_rootOf_8 rfl (lv_at hl 4 rfl) ?_
  refine mc_open hD0 (by omega) S ⟨Nat.le_of_ble_eq_true rfl, Nat.le_of_ble_eq_true rfl⟩ ⟨Nat.zero_le _, Nat.zero_le _⟩ hK hP hS (fun _ h => h) hl.1 (Nat.le_of_ble_eq_true rfl) dX1_rootOf_9 (fun H locs hP _ hS => ?_)
  refine lv_iconst (v := 0) hx hb dX1_rootOf_12 (by decide) ?_
  refine lv_istore (lv' := [(5, .int 0), (4, .int 0), (3, .int 0), (0, .ref (a 0)), (1, .int (nI x)), (2, .int (nI y))]) hx hb dX1_rootOf_13 hl (by decide) rfl (fun ls hl => ?_)
  refine recu 6 y x 0 0 _ _ _ _ _ (Nat.le_refl 6) hy (by omega) hxy (by omega) (by omega) pk_us pk_us pk_us ?_ H locs hP hS ls (lv_sub hl [3, 2, 1, 0] rfl)
  clear hl hS hP
  intro fr co sa va _ H locs hP hS ls hl
  refine lv_iload hx hb dX1_rootOf_15 (lv_at hl 3 rfl) ?_
  refine lv_sipush (v := 300) hx hb dX1_rootOf_17 (by decide) ?_
  refine lv_icmp_ge (tgt := 211) hx hb dX1_rootOf_20 (by decide) (fun q => absurd q (nI_ge (a := 0 + 4 * y - 3) (b := 300) (by omega) (by decide))) (fun _ => ?_)
  refine lv_iload_n hx hb dX1_rootOf_23 rfl (lv_at hl 1 rfl) ?_
  refine lv_if_lt (tgt := 211) hx hb dX1_rootOf_24 (by decide) (fun _ => ?_) (fun q => absurd (by decide) q)
  refine lv_iload hx hb dX1_rootOf_211 (lv_at hl 2 rfl) ?_
  exact ml_iret hx hb hr hlocks rfl ⟨_, _, _, _, hP⟩ hS dX1_rootOf_213
section
variable {p : Program} {l : Launch} {e : Env} {R : Room} {s : State} {m : MethodId} {args : Array Value} {below : List Frame} {meth : Method} {c : Code} {H : Heap} {locs : List Loc} {cells slots : Nat} {Q : State → Prop} {cc : ByteArray} {pc nL : Nat} {ls : Array Slot} {rest : List Value} {A : Nat → Prop} {H0 : Heap}
theorem mc_rootOf {D : va_G} {d : ClassId} {a : Nat → Nat} (hD0 : mD (fun _ => True) a) {n h : Int32} {lg hd : Nat → Int32} {x y : Nat} (hy : 1 ≤ y) (hxy : x + y ≤ 40) (S : CallFix p m c cc nL s args lw_all RX1) (hR : 2 + 1 ≤ R.frames ∧ 8 + (7 + 11) + 44 ≤ R.locals) (hc : cells ≤ R.cells ∧ slots ≤ R.slots) (hK : va_K D ml_cl [(d, .int)] s) (hP : mW D d a n h lg hd H) (hS : va_S A H0 H locs) (hA : ∀ q, mA a q → A q) (hl : ls.size = nL) (hw : (rest.map fun v => v.category).sum ≤ 8) (hdg : decode cc pc = .ok (.invokevirtual 52, 3)) (k : ∀ (H1 : Heap) (locs1 : List Loc), mW D d a n h lg hd H1 → (∀ q : Nat, q < H.size → ¬ mA a q → H1[q]? = H[q]?) → va_S A H0 H1 locs1 → W p l e R s m args below meth c H1 locs1 cells slots Q (F0 m (pc + 3) ls (.int (ml_r (ml_g lg) x y) :: rest))) : W p l e R s m args below meth c H locs cells slots Q (F0 m pc ls (.int (nI y) :: .int (nI x) :: .ref (a 0) :: rest)) :=
  ml_calli (va_runV (As := [.int (nI x), .int (nI y)]) (b := a 0) (rest := rest) S (mm_rootOf l D d a hD0 n h lg hd x y hy hxy) (cwV 2 S.2.2.2.2 (lw_V q146 q148 qs3 q9 q149) rfl rfl rfl (by decide +kernel) hR) ⟨ml_blind, hP.recv hK, ml_pre hP hK⟩ rfl rfl hl rfl (lv_room hw) hdg hc) hS hA hA k
end
end
section
set_option maxHeartbeats 4000000 in
set_option maxRecDepth 100000 in
/-- depth(entry, size) -/
theorem mm_depth (l : Launch) (ee nn : Nat) (hn : nn ≤ 40) (he : ee < nn) : Met l yX1_depth (ws_ yX1_depth cX1_depth 7 (some .int)) ({ frames := 1, cells := 0, slots := 0, locals := 21 }) (va_Pc [.int (nI ee), .int (nI nn)] (fun _ => True)) (ml_Q (nI (ml_td 6 nn ee).length)) 0 0 (ml_no) := by
  refine Met.ofW (cc := cX1_depth) (maxL := 7) (ret := (some .int)) (by decide) rfl ?_
  intro p e s m args below meth c s₁ B hml hv
  obtain ⟨rfl, -⟩ := hv
  have hx := B.exec
  have hb := B.bytes
  have hr := B.returns
  have hts0 := atoms_spec (ws := (ws_ yX1_depth cX1_depth 7 (some .int))) B.pre
  have hts : ∀ w ∈ lw_all, w.before _ s = true := fun w h => hts0 w (List.mem_cons_of_mem _ h)
  have hown : s.vm.findClass RX1 = some m.cls := findClass_of_methodNamed B.named
  have hlocks := B.notSynchronized
  have S : CallFix p m c cX1_depth 7 s _ lw_all RX1 := ⟨hx, hb, hml, hown, hts⟩
  have hl := lv_entry ([.int (nI ee), .int (nI nn)]) (n := 7) (Nat.le_of_ble_eq_true rfl)
  rw [lg_entry_eq]
  generalize (lg_sl ([.int (nI ee), .int (nI nn)]) ++ List.replicate (7 - (lg_sl ([.int (nI ee), .int (nI nn)])).length) Slot.unset).toArray = ls at hl ⊢
  have hl : lv_has ls 7 [(0, .int (nI ee)), (1, .int (nI nn))] := hl
  generalize hT : (ml_td 6 nn ee).length = T
  have loop : ∀ (k i q u v : Nat), i + k = 6 → u ≤ 40 → v ≤ 40 → q + (ml_td k u v).length = T → ∀ ls : Array Slot, lv_has ls 7 [(2, .int (nI q)), (3, .int (nI u)), (4, .int (nI v)), (5, .int (nI i))] → W p l e (headSpec (ws_ yX1_depth cX1_depth 7 (some .int)) ({ frames := 1, cells := 0, slots := 0, locals := 21 })).room s m ([.int (nI ee), .int (nI nn)] : List Value).toArray below meth c s.heap [] 0 0 (MQ below (ml_Q (nI T)) ([.int (nI ee), .int (nI nn)] : List Value).toArray s 0 0 (ml_no)) (F0 m 10 ls []) := by
    intro k
    induction k with
    | zero =>
      intro i q u v hk hu hv hq ls hl
      have hi : i = 6 := by omega
      subst hi
      refine lv_iload hx hb dX1_depth_10 (lv_at hl 3 rfl) ?_
      refine lv_bipush (v := 6) hx hb dX1_depth_12 (by decide) ?_
      refine lv_icmp_ge (tgt := 73) hx hb dX1_depth_14 (by decide) (fun _ => ?_) (fun q => absurd (by decide) q)
      refine lv_iload_n hx hb dX1_depth_73 rfl (lv_at hl 0 rfl) ?_
      exact ml_pret hx hb hr rfl hlocks (by rw [← hq, ml_td, List.length_nil, Nat.add_zero]) dX1_depth_74
    | succ k ih =>
      intro i q u v hk hu hv hq ls hl
      refine lv_iload hx hb dX1_depth_10 (lv_at hl 3 rfl) ?_
      refine lv_bipush (v := 6) hx hb dX1_depth_12 (by decide) ?_
      refine lv_icmp_ge (tgt := 73) hx hb dX1_depth_14 (by decide) (fun q => absurd q (fun h => absurd ((nI_leI (a := 6) (b := i) (by decide) (by omega)).mp h) (by omega))) (fun _ => ?_)
      refine lv_iload_n hx hb dX1_depth_17 rfl (lv_at hl 1 rfl) ?_
      refine lv_iconst (v := 1) hx hb dX1_depth_18 (by decide) ?_
      refine lv_icmp_le (tgt := 73) hx hb dX1_depth_19 (by decide) (fun c1 => ?_) (fun c1 => ?_)
      · have h1 : u ≤ 1 := (nI_leI (b := 1) (by omega) (by decide)).mp c1
        refine lv_iload_n hx hb dX1_depth_73 rfl (lv_at hl 0 rfl) ?_
        exact ml_pret hx hb hr rfl hlocks (by rw [← hq, ml_td, if_pos h1, List.length_nil, Nat.add_zero]) dX1_depth_74
      · have h2u : 2 ≤ u := by
          rcases Nat.lt_or_ge (u) 2 with h | h
          · exact absurd ((nI_leI (a := u) (b := 1) (by omega) (by decide)).mpr (by omega)) c1
          · exact h
        obtain ⟨f1, f2⟩ := hf_lt h2u
        rw [ml_td, if_neg (by omega)] at hq
        refine lv_iload_n hx hb dX1_depth_22 rfl (lv_at hl 1 rfl) ?_
        refine mc_half (by omega) S ⟨Nat.le_of_ble_eq_true rfl, Nat.le_of_ble_eq_true rfl⟩ ⟨Nat.zero_le _, Nat.zero_le _⟩ hl.1 (Nat.le_of_ble_eq_true rfl) dX1_depth_23 ?_
        refine lv_istore (lv' := [(6, .int (nI (ml_hf u))), (2, .int (nI q)), (3, .int (nI u)), (4, .int (nI v)), (5, .int (nI i))]) hx hb dX1_depth_26 hl (by decide) rfl (fun ls hl => ?_)
        refine lv_iinc (v := nI (q + 1)) (lv' := [(2, .int (nI (q + 1))), (6, .int (nI (ml_hf u))), (3, .int (nI u)), (4, .int (nI v)), (5, .int (nI i))]) hx hb dX1_depth_28 hl (k := 1) rfl (nI_1 q) (by decide) rfl (fun ls hl => ?_)
        refine lv_iload hx hb dX1_depth_31 (lv_at hl 3 rfl) ?_
        refine lv_iload hx hb dX1_depth_33 (lv_at hl 1 rfl) ?_
        refine lv_icmp_ge (tgt := 43) hx hb dX1_depth_35 (by decide) (fun c2 => ?_) (fun c2 => ?_)
        · have h3 : ml_hf u ≤ v := (nI_leI (by omega) (by omega)).mp c2
          rw [if_neg (by omega), List.length_cons] at hq
          refine lv_iload_n hx hb dX1_depth_43 rfl (lv_at hl 2 rfl) ?_
          refine lv_iload hx hb dX1_depth_44 (lv_at hl 1 rfl) ?_
          refine lv_isub hx hb dX1_depth_46 ?_
          refine ml_top (y := nI (u - ml_hf u)) (pk_sub (by omega)) ?_
          refine lv_istore_n (lv' := [(3, .int (nI (u - ml_hf u))), (2, .int (nI (q + 1))), (6, .int (nI (ml_hf u))), (4, .int (nI v)), (5, .int (nI i))]) hx hb dX1_depth_47 rfl hl (by decide) rfl (fun ls hl => ?_)
          refine lv_iload hx hb dX1_depth_48 (lv_at hl 3 rfl) ?_
          refine lv_iload hx hb dX1_depth_50 (lv_at hl 2 rfl) ?_
          refine lv_icmp_ge (tgt := 60) hx hb dX1_depth_52 (by decide) (fun _ => ?_) (fun q => absurd (c2) q)
          refine lv_iload hx hb dX1_depth_60 (lv_at hl 3 rfl) ?_
          refine lv_iload hx hb dX1_depth_62 (lv_at hl 2 rfl) ?_
          refine lv_isub hx hb dX1_depth_64 ?_
          refine ml_top (y := nI (v - ml_hf u)) (pk_sub (by omega)) ?_
          refine lv_istore (lv' := [(4, .int (nI (v - ml_hf u))), (3, .int (nI (u - ml_hf u))), (2, .int (nI (q + 1))), (6, .int (nI (ml_hf u))), (5, .int (nI i))]) hx hb dX1_depth_65 hl (by decide) rfl (fun ls hl => ?_)
          refine lv_iinc (v := nI (i + 1)) (lv' := [(5, .int (nI (i + 1))), (4, .int (nI (v - ml_hf u))), (3, .int (nI (u - ml_hf u))), (2, .int (nI (q + 1))), (6, .int (nI (ml_hf u)))]) hx hb dX1_depth_67 hl (k := 4) rfl (nI_1 i) (by decide) rfl (fun ls hl => ?_)
          refine lv_goto (tgt := 10) hx hb dX1_depth_70 (by decide) ?_
          exact ih (i + 1) (q + 1) _ _ (by omega) (by omega) (by omega) (by omega) ls (lv_sub hl [3, 2, 1, 0] rfl)
        · have h3 : v < ml_hf u := by
            rcases Nat.lt_or_ge (v) (ml_hf u) with h | h
            · exact h
            · exact absurd (nI_le h (by omega)) c2
          rw [if_pos h3, List.length_cons] at hq
          refine lv_iload hx hb dX1_depth_38 (lv_at hl 1 rfl) ?_
          refine lv_goto (tgt := 47) hx hb dX1_depth_40 (by decide) ?_
          refine lv_istore_n (lv' := [(3, .int (nI (ml_hf u))), (2, .int (nI (q + 1))), (6, .int (nI (ml_hf u))), (4, .int (nI v)), (5, .int (nI i))]) hx hb dX1_depth_47 rfl hl (by decide) rfl (fun ls hl => ?_)
          refine lv_iload hx hb dX1_depth_48 (lv_at hl 3 rfl) ?_
          refine lv_iload hx hb dX1_depth_50 (lv_at hl 2 rfl) ?_
          refine lv_icmp_ge (tgt := 60) hx hb dX1_depth_52 (by decide) (fun q => absurd q (c2)) (fun _ => ?_)
          refine lv_iload hx hb dX1_depth_55 (lv_at hl 3 rfl) ?_
          refine lv_goto (tgt := 65) hx hb dX1_depth_57 (by decide) ?_
          refine lv_istore (lv' := [(4, .int (nI v)), (3, .int (nI (ml_hf u))), (2, .int (nI (q + 1))), (6, .int (nI (ml_hf u))), (5, .int (nI i))]) hx hb dX1_depth_65 hl (by decide) rfl (fun ls hl => ?_)
          refine lv_iinc (v := nI (i + 1)) (lv' := [(5, .int (nI (i + 1))), (4, .int (nI v)), (3, .int (nI (ml_hf u))), (2, .int (nI (q + 1))), (6, .int (nI (ml_hf u)))]) hx hb dX1_depth_67 hl (k := 4) rfl (nI_1 i) (by decide) rfl (fun ls hl => ?_)
          refine lv_goto (tgt := 10) hx hb dX1_depth_70 (by decide) ?_
          exact ih (i + 1) (q + 1) _ _ (by omega) (by omega) (by omega) (by omega) ls (lv_sub hl [3, 2, 1, 0] rfl)
  refine lv_iconst (v := 0) hx hb dX1_depth_0 (by decide) ?_
  refine lv_istore_n (lv' := [(2, .int 0), (0, .int (nI ee)), (1, .int (nI nn))]) hx hb dX1_depth_1 rfl hl (by decide) rfl (fun ls hl => ?_)
  refine lv_iload_n hx hb dX1_depth_2 rfl (lv_at hl 2 rfl) ?_
  refine lv_istore_n (lv' := [(3, .int (nI nn)), (2, .int 0), (0, .int (nI ee)), (1, .int (nI nn))]) hx hb dX1_depth_3 rfl hl (by decide) rfl (fun ls hl => ?_)
  refine lv_iload_n hx hb dX1_depth_4 rfl (lv_at hl 2 rfl) ?_
  refine lv_istore (lv' := [(4, .int (nI ee)), (3, .int (nI nn)), (2, .int 0), (0, .int (nI ee)), (1, .int (nI nn))]) hx hb dX1_depth_5 hl (by decide) rfl (fun ls hl => ?_)
  refine lv_iconst (v := 0) hx hb dX1_depth_7 (by decide) ?_
  refine lv_istore (lv' := [(5, .int 0), (4, .int (nI ee)), (3, .int (nI nn)), (2, .int 0), (0, .int (nI ee)), (1, .int (nI nn))]) hx hb dX1_depth_8 hl (by decide) rfl (fun ls hl => ?_)
  exact loop 6 0 0 nn ee (by omega) hn (by omega) (by rw [Nat.zero_add]; exact hT) ls (lv_sub hl [3, 2, 1, 0] rfl)
section
variable {p : Program} {l : Launch} {e : Env} {R : Room} {s : State} {m : MethodId} {args : Array Value} {below : List Frame} {meth : Method} {c : Code} {H : Heap} {locs : List Loc} {cells slots : Nat} {Q : State → Prop} {cc : ByteArray} {pc nL : Nat} {ls : Array Slot} {rest : List Value}
theorem mc_depth {ee nn : Nat} (hn : nn ≤ 40) (he : ee < nn) (S : CallFix p m c cc nL s args lw_all RX1) (hR : 1 + 1 ≤ R.frames ∧ 8 + (7 + 11) + 21 ≤ R.locals) (hc : cells ≤ R.cells ∧ slots ≤ R.slots) (hl : ls.size = nL) (hw : (rest.map fun v => v.category).sum ≤ 8) (hdg : decode cc pc = .ok (.invokestatic 65, 3)) (k : W p l e R s m args below meth c H locs cells slots Q (F0 m (pc + 3) ls (.int (nI (ml_td 6 nn ee).length) :: rest))) : W p l e R s m args below meth c H locs cells slots Q (F0 m pc ls (.int (nI nn) :: .int (nI ee) :: rest)) :=
  ml_pure (va_runS (As := [.int (nI ee), .int (nI nn)]) (rest := rest) S (mm_depth l ee nn hn he) (va_cwS 2 S.2.2.2.2 (lw_S q208 q209 q9 q210) rfl rfl rfl (by decide +kernel) hR) ⟨fun _ _ _ _ q => q, fun U hU hW => ⟨rfl, trivial⟩⟩ rfl rfl hl rfl (lv_room hw) hdg hc) k
end
set_option maxHeartbeats 4000000 in
set_option maxRecDepth 100000 in
/-- first(entry, size, down) -/
theorem mm_first (l : Launch) (ee nn dn : Nat) (hn : nn ≤ 40) (he : ee < nn) (hd : dn < 6) : Met l yX1_first (ws_ yX1_first cX1_first 7 (some .boolean)) ({ frames := 1, cells := 0, slots := 0, locals := 21 }) (va_Pc [.int (nI ee), .int (nI nn), .int (nI dn)] (fun _ => True)) (ml_Q (if (ml_td 6 nn ee).getD dn false = true then 1 else 0)) 0 0 (ml_no) := by
  refine Met.ofW (cc := cX1_first) (maxL := 7) (ret := (some .boolean)) (by decide) rfl ?_
  intro p e s m args below meth c s₁ B hml hv
  obtain ⟨rfl, -⟩ := hv
  have hx := B.exec
  have hb := B.bytes
  have hr := B.returns
  have hts0 := atoms_spec (ws := (ws_ yX1_first cX1_first 7 (some .boolean))) B.pre
  have hts : ∀ w ∈ lw_all, w.before _ s = true := fun w h => hts0 w (List.mem_cons_of_mem _ h)
  have hown : s.vm.findClass RX1 = some m.cls := findClass_of_methodNamed B.named
  have hlocks := B.notSynchronized
  have S : CallFix p m c cX1_first 7 s _ lw_all RX1 := ⟨hx, hb, hml, hown, hts⟩
  have hl := lv_entry ([.int (nI ee), .int (nI nn), .int (nI dn)]) (n := 7) (Nat.le_of_ble_eq_true rfl)
  rw [lg_entry_eq]
  generalize (lg_sl ([.int (nI ee), .int (nI nn), .int (nI dn)]) ++ List.replicate (7 - (lg_sl ([.int (nI ee), .int (nI nn), .int (nI dn)])).length) Slot.unset).toArray = ls at hl ⊢
  have hl : lv_has ls 7 [(0, .int (nI ee)), (1, .int (nI nn)), (2, .int (nI dn))] := hl
  have hexit : ∀ (u v : Nat), u ≤ 40 → v ≤ 40 → (((ml_td 6 nn ee).getD dn false = true) ↔ (2 ≤ u ∧ v < ml_hf u)) → ∀ ls : Array Slot, lv_has ls 7 [(3, .int (nI u)), (4, .int (nI v))] → W p l e (headSpec (ws_ yX1_first cX1_first 7 (some .boolean)) ({ frames := 1, cells := 0, slots := 0, locals := 21 })).room s m ([.int (nI ee), .int (nI nn), .int (nI dn)] : List Value).toArray below meth c s.heap [] 0 0 (MQ below (ml_Q (if (ml_td 6 nn ee).getD dn false = true then 1 else 0)) ([.int (nI ee), .int (nI nn), .int (nI dn)] : List Value).toArray s 0 0 (ml_no)) (F0 m 67 ls []) := by
    intro u v hu hv hT ls hl
    refine lv_iload_n hx hb dX1_first_67 rfl (lv_at hl 0 rfl) ?_
    refine lv_iconst (v := 1) hx hb dX1_first_68 (by decide) ?_
    refine lv_icmp_le (tgt := 85) hx hb dX1_first_69 (by decide) (fun c1 => ?_) (fun c1 => ?_)
    · have h1 : u ≤ 1 := (nI_leI (b := 1) (by omega) (by decide)).mp c1
      refine lv_iconst (v := 0) hx hb dX1_first_85 (by decide) ?_
      exact ml_pret hx hb hr rfl hlocks (by rw [if_neg (fun h => absurd (hT.mp h) (by omega))]) dX1_first_86
    · have h2u : 2 ≤ u := by
        rcases Nat.lt_or_ge (u) 2 with h | h
        · exact absurd ((nI_leI (a := u) (b := 1) (by omega) (by decide)).mpr (by omega)) c1
        · exact h
      refine lv_iload hx hb dX1_first_72 (lv_at hl 1 rfl) ?_
      refine lv_iload_n hx hb dX1_first_74 rfl (lv_at hl 0 rfl) ?_
      refine mc_half (by omega) S ⟨Nat.le_of_ble_eq_true rfl, Nat.le_of_ble_eq_true rfl⟩ ⟨Nat.zero_le _, Nat.zero_le _⟩ hl.1 (Nat.le_of_ble_eq_true rfl) dX1_first_75 ?_
      have f1 := hf_le32 u
      refine lv_icmp_ge (tgt := 85) hx hb dX1_first_78 (by decide) (fun c2 => ?_) (fun c2 => ?_)
      · have h3 : ml_hf u ≤ v := (nI_leI (by omega) (by omega)).mp c2
        refine lv_iconst (v := 0) hx hb dX1_first_85 (by decide) ?_
        exact ml_pret hx hb hr rfl hlocks (by rw [if_neg (fun h => absurd (hT.mp h) (by omega))]) dX1_first_86
      · have h3 : v < ml_hf u := by
          rcases Nat.lt_or_ge (v) (ml_hf u) with h | h
          · exact h
          · exact absurd (nI_le h (by omega)) c2
        refine lv_iconst (v := 1) hx hb dX1_first_81 (by decide) ?_
        refine lv_goto (tgt := 86) hx hb dX1_first_82 (by decide) ?_
        exact ml_pret hx hb hr rfl hlocks (by rw [if_pos (hT.mpr ⟨h2u, h3⟩)]) dX1_first_86
  have loop : ∀ (k i u v : Nat), i + k = dn → u ≤ 40 → v ≤ 40 → (ml_td 6 nn ee).drop i = ml_td (6 - i) u v → ∀ ls : Array Slot, lv_has ls 7 [(2, .int (nI dn)), (3, .int (nI u)), (4, .int (nI v)), (5, .int (nI i))] → W p l e (headSpec (ws_ yX1_first cX1_first 7 (some .boolean)) ({ frames := 1, cells := 0, slots := 0, locals := 21 })).room s m ([.int (nI ee), .int (nI nn), .int (nI dn)] : List Value).toArray below meth c s.heap [] 0 0 (MQ below (ml_Q (if (ml_td 6 nn ee).getD dn false = true then 1 else 0)) ([.int (nI ee), .int (nI nn), .int (nI dn)] : List Value).toArray s 0 0 (ml_no)) (F0 m 8 ls []) := by
    intro k
    induction k with
    | zero =>
      intro i u v hk hu hv hq ls hl
      have hi : i = dn := by omega
      subst hi
      refine lv_iload hx hb dX1_first_8 (lv_at hl 3 rfl) ?_
      refine lv_iload_n hx hb dX1_first_10 rfl (lv_at hl 0 rfl) ?_
      refine lv_icmp_ge (tgt := 67) hx hb dX1_first_11 (by decide) (fun _ => ?_) (fun q => absurd (Int32.le_refl _) q)
      exact hexit u v hu hv (td_T hd hq) ls (lv_sub hl [1, 2] rfl)
    | succ k ih =>
      intro i u v hk hu hv hq ls hl
      refine lv_iload hx hb dX1_first_8 (lv_at hl 3 rfl) ?_
      refine lv_iload_n hx hb dX1_first_10 rfl (lv_at hl 0 rfl) ?_
      refine lv_icmp_ge (tgt := 67) hx hb dX1_first_11 (by decide) (fun q => absurd q (nI_ge (by omega) (by omega))) (fun _ => ?_)
      refine lv_iload_n hx hb dX1_first_14 rfl (lv_at hl 1 rfl) ?_
      refine lv_iconst (v := 1) hx hb dX1_first_15 (by decide) ?_
      refine lv_icmp_le (tgt := 67) hx hb dX1_first_16 (by decide) (fun c1 => ?_) (fun c1 => ?_)
      · have h1 : u ≤ 1 := (nI_leI (b := 1) (by omega) (by decide)).mp c1
        exact hexit u v hu hv (td_T0 (by omega) hd h1 hq) ls (lv_sub hl [1, 2] rfl)
      · have h2u : 2 ≤ u := by
          rcases Nat.lt_or_ge (u) 2 with h | h
          · exact absurd ((nI_leI (a := u) (b := 1) (by omega) (by decide)).mpr (by omega)) c1
          · exact h
        obtain ⟨f1, f2⟩ := hf_lt h2u
        refine lv_iload_n hx hb dX1_first_19 rfl (lv_at hl 1 rfl) ?_
        refine mc_half (by omega) S ⟨Nat.le_of_ble_eq_true rfl, Nat.le_of_ble_eq_true rfl⟩ ⟨Nat.zero_le _, Nat.zero_le _⟩ hl.1 (Nat.le_of_ble_eq_true rfl) dX1_first_20 ?_
        refine lv_istore (lv' := [(6, .int (nI (ml_hf u))), (2, .int (nI dn)), (3, .int (nI u)), (4, .int (nI v)), (5, .int (nI i))]) hx hb dX1_first_23 hl (by decide) rfl (fun ls hl => ?_)
        refine lv_iload hx hb dX1_first_25 (lv_at hl 3 rfl) ?_
        refine lv_iload hx hb dX1_first_27 (lv_at hl 0 rfl) ?_
        refine lv_icmp_ge (tgt := 37) hx hb dX1_first_29 (by decide) (fun c2 => ?_) (fun c2 => ?_)
        · have h3 : ml_hf u ≤ v := (nI_leI (by omega) (by omega)).mp c2
          refine lv_iload_n hx hb dX1_first_37 rfl (lv_at hl 2 rfl) ?_
          refine lv_iload hx hb dX1_first_38 (lv_at hl 0 rfl) ?_
          refine lv_isub hx hb dX1_first_40 ?_
          refine ml_top (y := nI (u - ml_hf u)) (pk_sub (by omega)) ?_
          refine lv_istore_n (lv' := [(3, .int (nI (u - ml_hf u))), (6, .int (nI (ml_hf u))), (2, .int (nI dn)), (4, .int (nI v)), (5, .int (nI i))]) hx hb dX1_first_41 rfl hl (by decide) rfl (fun ls hl => ?_)
          refine lv_iload hx hb dX1_first_42 (lv_at hl 3 rfl) ?_
          refine lv_iload hx hb dX1_first_44 (lv_at hl 1 rfl) ?_
          refine lv_icmp_ge (tgt := 54) hx hb dX1_first_46 (by decide) (fun _ => ?_) (fun q => absurd (c2) q)
          refine lv_iload hx hb dX1_first_54 (lv_at hl 3 rfl) ?_
          refine lv_iload hx hb dX1_first_56 (lv_at hl 1 rfl) ?_
          refine lv_isub hx hb dX1_first_58 ?_
          refine ml_top (y := nI (v - ml_hf u)) (pk_sub (by omega)) ?_
          refine lv_istore (lv' := [(4, .int (nI (v - ml_hf u))), (3, .int (nI (u - ml_hf u))), (6, .int (nI (ml_hf u))), (2, .int (nI dn)), (5, .int (nI i))]) hx hb dX1_first_59 hl (by decide) rfl (fun ls hl => ?_)
          refine lv_iinc (v := nI (i + 1)) (lv' := [(5, .int (nI (i + 1))), (4, .int (nI (v - ml_hf u))), (3, .int (nI (u - ml_hf u))), (6, .int (nI (ml_hf u))), (2, .int (nI dn))]) hx hb dX1_first_61 hl (k := 4) rfl (nI_1 i) (by decide) rfl (fun ls hl => ?_)
          refine lv_goto (tgt := 8) hx hb dX1_first_64 (by decide) ?_
          exact ih (i + 1) _ _ (by omega) (by omega) (by omega) (td_R (by omega) h2u (by omega) hq) ls (lv_sub hl [4, 2, 1, 0] rfl)
        · have h3 : v < ml_hf u := by
            rcases Nat.lt_or_ge (v) (ml_hf u) with h | h
            · exact h
            · exact absurd (nI_le h (by omega)) c2
          refine lv_iload hx hb dX1_first_32 (lv_at hl 0 rfl) ?_
          refine lv_goto (tgt := 41) hx hb dX1_first_34 (by decide) ?_
          refine lv_istore_n (lv' := [(3, .int (nI (ml_hf u))), (6, .int (nI (ml_hf u))), (2, .int (nI dn)), (4, .int (nI v)), (5, .int (nI i))]) hx hb dX1_first_41 rfl hl (by decide) rfl (fun ls hl => ?_)
          refine lv_iload hx hb dX1_first_42 (lv_at hl 3 rfl) ?_
          refine lv_iload hx hb dX1_first_44 (lv_at hl 1 rfl) ?_
          refine lv_icmp_ge (tgt := 54) hx hb dX1_first_46 (by decide) (fun q => absurd q (c2)) (fun _ => ?_)
          refine lv_iload hx hb dX1_first_49 (lv_at hl 3 rfl) ?_
          refine lv_goto (tgt := 59) hx hb dX1_first_51 (by decide) ?_
          refine lv_istore (lv' := [(4, .int (nI v)), (3, .int (nI (ml_hf u))), (6, .int (nI (ml_hf u))), (2, .int (nI dn)), (5, .int (nI i))]) hx hb dX1_first_59 hl (by decide) rfl (fun ls hl => ?_)
          refine lv_iinc (v := nI (i + 1)) (lv' := [(5, .int (nI (i + 1))), (4, .int (nI v)), (3, .int (nI (ml_hf u))), (6, .int (nI (ml_hf u))), (2, .int (nI dn))]) hx hb dX1_first_61 hl (k := 4) rfl (nI_1 i) (by decide) rfl (fun ls hl => ?_)
          refine lv_goto (tgt := 8) hx hb dX1_first_64 (by decide) ?_
          exact ih (i + 1) _ _ (by omega) (by omega) (by omega) (td_L (by omega) h2u h3 hq) ls (lv_sub hl [4, 2, 1, 0] rfl)
  refine lv_iload_n hx hb dX1_first_0 rfl (lv_at hl 1 rfl) ?_
  refine lv_istore_n (lv' := [(3, .int (nI nn)), (0, .int (nI ee)), (1, .int (nI nn)), (2, .int (nI dn))]) hx hb dX1_first_1 rfl hl (by decide) rfl (fun ls hl => ?_)
  refine lv_iload_n hx hb dX1_first_2 rfl (lv_at hl 1 rfl) ?_
  refine lv_istore (lv' := [(4, .int (nI ee)), (3, .int (nI nn)), (0, .int (nI ee)), (1, .int (nI nn)), (2, .int (nI dn))]) hx hb dX1_first_3 hl (by decide) rfl (fun ls hl => ?_)
  refine lv_iconst (v := 0) hx hb dX1_first_5 (by decide) ?_
  refine lv_istore (lv' := [(5, .int 0), (4, .int (nI ee)), (3, .int (nI nn)), (0, .int (nI ee)), (1, .int (nI nn)), (2, .int (nI dn))]) hx hb dX1_first_6 hl (by decide) rfl (fun ls hl => ?_)
  exact loop dn 0 nn ee (by omega) hn (by omega) rfl ls (lv_sub hl [5, 2, 1, 0] rfl)
section
variable {p : Program} {l : Launch} {e : Env} {R : Room} {s : State} {m : MethodId} {args : Array Value} {below : List Frame} {meth : Method} {c : Code} {H : Heap} {locs : List Loc} {cells slots : Nat} {Q : State → Prop} {cc : ByteArray} {pc nL : Nat} {ls : Array Slot} {rest : List Value}
theorem mc_first {ee nn dn : Nat} (hn : nn ≤ 40) (he : ee < nn) (hd : dn < 6) (S : CallFix p m c cc nL s args lw_all RX1) (hR : 1 + 1 ≤ R.frames ∧ 8 + (7 + 11) + 21 ≤ R.locals) (hc : cells ≤ R.cells ∧ slots ≤ R.slots) (hl : ls.size = nL) (hw : (rest.map fun v => v.category).sum ≤ 8) (hdg : decode cc pc = .ok (.invokestatic 68, 3)) (k : W p l e R s m args below meth c H locs cells slots Q (F0 m (pc + 3) ls (.int (if (ml_td 6 nn ee).getD dn false = true then 1 else 0) :: rest))) : W p l e R s m args below meth c H locs cells slots Q (F0 m pc ls (.int (nI dn) :: .int (nI nn) :: .int (nI ee) :: rest)) :=
  ml_pure (va_runS (As := [.int (nI ee), .int (nI nn), .int (nI dn)]) (rest := rest) S (mm_first l ee nn dn hn he hd) (va_cwS 3 S.2.2.2.2 (lw_S q211 q212 q9 q213) rfl rfl rfl (by decide +kernel) hR) ⟨fun _ _ _ _ q => q, fun U hU hW => ⟨rfl, trivial⟩⟩ rfl rfl hl rfl (lv_room hw) hdg hc) k
end
end
section
set_option maxHeartbeats 4000000 in
set_option maxRecDepth 100000 in
/-- append(entry) -/
theorem mm_append (l : Launch) (D : va_G) (d : ClassId) (a : Nat → Nat) (hD0 : mD (fun _ => True) a) (st : ml_S) (p0 : Int32) : Met l yX1_append (ws_ yX1_append cX1_append 2 (some .int)) ({ frames := 0, cells := 0, slots := 0, locals := 0 }) (ml_Pc D d [.ref (a 0), .int p0] (mH D d a st)) (ml_Qi (op_append st p0).1 (mH D d a (op_append st p0).2) (mA a)) 0 0 (mA a) := by
  refine Met.ofW (cc := cX1_append) (maxL := 2) (ret := (some .int)) (by decide) rfl ?_
  intro p e s m args below meth c s₁ B hml hv
  obtain ⟨rfl, hH, hK⟩ := hv
  have hx := B.exec
  have hb := B.bytes
  have hr := B.returns
  have hts0 := atoms_spec (ws := (ws_ yX1_append cX1_append 2 (some .int))) B.pre
  have hts : ∀ w ∈ lw_all, w.before _ s = true := fun w h => hts0 w (List.mem_cons_of_mem _ h)
  have hown : s.vm.findClass RX1 = some m.cls := findClass_of_methodNamed B.named
  have hlocks := B.notSynchronized
  have S : CallFix p m c cX1_append 2 s _ lw_all RX1 := ⟨hx, hb, hml, hown, hts⟩
  have hl := lv_entry ([.ref (a 0), .int p0]) (n := 2) (Nat.le_of_ble_eq_true rfl)
  rw [lg_entry_eq]
  generalize (lg_sl ([.ref (a 0), .int p0]) ++ List.replicate (2 - (lg_sl ([.ref (a 0), .int p0])).length) Slot.unset).toArray = ls at hl ⊢
  have hl : lv_has ls 2 [(0, .ref (a 0)), (1, .int p0)] := hl
  obtain ⟨n, hl, lg, hd, ⟨r1, r2, r3, r4, r5, r6⟩, fr, co, sa, va, hP⟩ := hH
  subst r1; subst r3; subst r4
  have hD : mD (mA a) a := hD0.self
  have hS : va_S (mA a) s.heap s.heap [] := va_S.rf
  refine lv_aload_n hx hb dX1_append_0 rfl (lv_at hl 0 rfl) ?_
  refine mg_n S hK hP dX1_append_1 ?_
  refine lv_bipush (v := 40) hx hb dX1_append_4 (by decide) ?_
  refine lv_icmp_ne (tgt := 11) hx hb dX1_append_6 (by decide) (fun c1 => ?_) (fun c1 => ?_)
  · have hlt : st.1 < 40 := by
      rcases Nat.lt_or_ge st.1 40 with h | h
      · exact h
      · exact absurd (by rw [show st.1 = 40 by omega]; rfl) c1
    refine lv_aload_n hx hb dX1_append_11 rfl (lv_at hl 0 rfl) ?_
    refine mg_lg S hK hP dX1_append_12 ?_
    refine lv_aload_n hx hb dX1_append_15 rfl (lv_at hl 0 rfl) ?_
    refine mg_n S hK hP dX1_append_16 ?_
    refine lv_iload_n hx hb dX1_append_19 rfl (lv_at hl 1 rfl) ?_
    refine ms_lg (j := st.1) (hlt) S hK hP hD hS dX1_append_20 (fun H locs hP hS => ?_)
    refine lv_aload_n hx hb dX1_append_21 rfl (lv_at hl 0 rfl) ?_
    refine lv_dup hx hb dX1_append_22 rfl ?_
    refine mg_n S hK hP dX1_append_23 ?_
    refine lv_iconst (v := 1) hx hb dX1_append_26 (by decide) ?_
    refine lv_iadd hx hb dX1_append_27 ?_
    refine ml_top (y := nI (st.1 + 1)) (nI_1 _) ?_
    refine mp_n S hK hP hD hS dX1_append_28 (fun H locs hP hS => ?_)
    refine lv_aload_n hx hb dX1_append_31 rfl (lv_at hl 0 rfl) ?_
    refine mg_n S hK hP dX1_append_32 ?_
    have hop := op_append_ok (st := st) (x := p0) hlt
    exact ml_iret hx hb hr hlocks (by rw [hop]) (by rw [hop]; exact ⟨_, _, _, _, ⟨rfl, hlt, rfl, rfl, r5, r6⟩, _, _, _, _, hP⟩) hS dX1_append_35
  · have hge : st.1 = 40 := (nI_eq (b := 40) (by omega) (by decide)).mp c1
    refine lv_iconst (v := (-1)) hx hb dX1_append_9 (by decide) ?_
    have hop := op_append_full (st := st) (x := p0) hge
    exact ml_iret hx hb hr hlocks (by rw [hop]) (by rw [hop]; exact ⟨_, _, _, _, ⟨rfl, r2, rfl, rfl, r5, r6⟩, _, _, _, _, hP⟩) hS dX1_append_10
set_option maxHeartbeats 4000000 in
set_option maxRecDepth 100000 in
/-- root(size) -/
theorem mm_root (l : Launch) (D : va_G) (d : ClassId) (a : Nat → Nat) (hD0 : mD (fun _ => True) a) (st : ml_S) (p0 : Int32) : Met l yX1_root (ws_ yX1_root cX1_root 2 (some .int)) ({ frames := 3, cells := 0, slots := 0, locals := 70 }) (ml_Pc D d [.ref (a 0), .int p0] (mH D d a st)) (ml_Qi (op_root st p0) (mH D d a st) (mA a)) 0 0 (mA a) := by
  refine Met.ofW (cc := cX1_root) (maxL := 2) (ret := (some .int)) (by decide) rfl ?_
  intro p e s m args below meth c s₁ B hml hv
  obtain ⟨rfl, hH, hK⟩ := hv
  have hx := B.exec
  have hb := B.bytes
  have hr := B.returns
  have hts0 := atoms_spec (ws := (ws_ yX1_root cX1_root 2 (some .int))) B.pre
  have hts : ∀ w ∈ lw_all, w.before _ s = true := fun w h => hts0 w (List.mem_cons_of_mem _ h)
  have hown : s.vm.findClass RX1 = some m.cls := findClass_of_methodNamed B.named
  have hlocks := B.notSynchronized
  have S : CallFix p m c cX1_root 2 s _ lw_all RX1 := ⟨hx, hb, hml, hown, hts⟩
  have hl := lv_entry ([.ref (a 0), .int p0]) (n := 2) (Nat.le_of_ble_eq_true rfl)
  rw [lg_entry_eq]
  generalize (lg_sl ([.ref (a 0), .int p0]) ++ List.replicate (2 - (lg_sl ([.ref (a 0), .int p0])).length) Slot.unset).toArray = ls at hl ⊢
  have hl : lv_has ls 2 [(0, .ref (a 0)), (1, .int p0)] := hl
  obtain ⟨n, hl, lg, hd, ⟨r1, r2, r3, r4, r5, r6⟩, fr, co, sa, va, hP⟩ := hH
  subst r1; subst r3; subst r4
  have hD : mD (mA a) a := hD0.self
  have hS : va_S (mA a) s.heap s.heap [] := va_S.rf
  refine lv_iload_n hx hb dX1_root_0 rfl (lv_at hl 1 rfl) ?_
  refine lv_iconst (v := 1) hx hb dX1_root_1 (by decide) ?_
  refine lv_icmp_lt (tgt := 13) hx hb dX1_root_2 (by decide) (fun c1 => ?_) (fun c1 => ?_)
  · refine lv_iconst (v := 0) hx hb dX1_root_13 (by decide) ?_
    exact ml_iret hx hb hr hlocks ((op_root_bad (Or.inl c1)).symm) (⟨_, _, _, _, ⟨rfl, r2, rfl, rfl, r5, r6⟩, _, _, _, _, hP⟩) hS dX1_root_14
  · refine lv_iload_n hx hb dX1_root_5 rfl (lv_at hl 1 rfl) ?_
    refine lv_aload_n hx hb dX1_root_6 rfl (lv_at hl 0 rfl) ?_
    refine mg_n S hK hP dX1_root_7 ?_
    refine lv_icmp_le (tgt := 15) hx hb dX1_root_10 (by decide) (fun c2 => ?_) (fun c2 => ?_)
    · obtain ⟨k, e0, k1, k2⟩ := nat_of (by omega) c1 (fun h => absurd c2 (Int32.not_le.mpr h))
      subst e0
      refine lv_aload_n hx hb dX1_root_15 rfl (lv_at hl 0 rfl) ?_
      refine lv_iconst (v := 0) hx hb dX1_root_16 (by decide) ?_
      refine ml_top (y := nI 0) (rfl) ?_
      refine lv_iload_n hx hb dX1_root_17 rfl (lv_at hl 1 rfl) ?_
      refine mc_rootOf (x := 0) (y := k) hD0 k1 (by omega) S ⟨Nat.le_of_ble_eq_true rfl, Nat.le_of_ble_eq_true rfl⟩ ⟨Nat.zero_le _, Nat.zero_le _⟩ hK ⟨_, _, _, _, hP⟩ hS (fun _ h => h) hl.1 (Nat.le_of_ble_eq_true rfl) dX1_root_18 (fun H locs ⟨fr, co, sa, va, hP⟩ _ hS => ?_)
      exact ml_iret hx hb hr hlocks (by rw [op_root_ok k1 k2 r2]) (⟨_, _, _, _, ⟨rfl, r2, rfl, rfl, r5, r6⟩, _, _, _, _, hP⟩) hS dX1_root_21
    · refine lv_iconst (v := 0) hx hb dX1_root_13 (by decide) ?_
      exact ml_iret hx hb hr hlocks ((op_root_bad (Or.inr (Int32.not_le.mp c2))).symm) (⟨_, _, _, _, ⟨rfl, r2, rfl, rfl, r5, r6⟩, _, _, _, _, hP⟩) hS dX1_root_14
set_option maxHeartbeats 4000000 in
set_option maxRecDepth 100000 in
/-- held() -/
theorem mm_held (l : Launch) (D : va_G) (d : ClassId) (a : Nat → Nat) (hD0 : mD (fun _ => True) a) (st : ml_S)  : Met l yX1_held (ws_ yX1_held cX1_held 1 (some .int)) ({ frames := 0, cells := 0, slots := 0, locals := 0 }) (ml_Pc D d [.ref (a 0)] (mH D d a st)) (ml_Q (op_held st)) 0 0 (ml_no) := by
  refine Met.ofW (cc := cX1_held) (maxL := 1) (ret := (some .int)) (by decide) rfl ?_
  intro p e s m args below meth c s₁ B hml hv
  obtain ⟨rfl, hH, hK⟩ := hv
  have hx := B.exec
  have hb := B.bytes
  have hr := B.returns
  have hts0 := atoms_spec (ws := (ws_ yX1_held cX1_held 1 (some .int))) B.pre
  have hts : ∀ w ∈ lw_all, w.before _ s = true := fun w h => hts0 w (List.mem_cons_of_mem _ h)
  have hown : s.vm.findClass RX1 = some m.cls := findClass_of_methodNamed B.named
  have hlocks := B.notSynchronized
  have S : CallFix p m c cX1_held 1 s _ lw_all RX1 := ⟨hx, hb, hml, hown, hts⟩
  have hl := lv_entry ([.ref (a 0)]) (n := 1) (Nat.le_of_ble_eq_true rfl)
  rw [lg_entry_eq]
  generalize (lg_sl ([.ref (a 0)]) ++ List.replicate (1 - (lg_sl ([.ref (a 0)])).length) Slot.unset).toArray = ls at hl ⊢
  have hl : lv_has ls 1 [(0, .ref (a 0))] := hl
  obtain ⟨n, hl, lg, hd, ⟨r1, r2, r3, r4, r5, r6⟩, fr, co, sa, va, hP⟩ := hH
  subst r1; subst r3; subst r4
  have hD : mD (mA a) a := hD0.self
  have hS : va_S (mA a) s.heap s.heap [] := va_S.rf
  refine lv_aload_n hx hb dX1_held_0 rfl (lv_at hl 0 rfl) ?_
  refine mg_hl S hK hP dX1_held_1 ?_
  exact ml_pret hx hb hr rfl hlocks (rfl) dX1_held_4
set_option maxHeartbeats 4000000 in
set_option maxRecDepth 100000 in
/-- hand(place) -/
theorem mm_hand (l : Launch) (D : va_G) (d : ClassId) (a : Nat → Nat) (hD0 : mD (fun _ => True) a) (st : ml_S) (p0 : Int32) : Met l yX1_hand (ws_ yX1_hand cX1_hand 2 (some .int)) ({ frames := 0, cells := 0, slots := 0, locals := 0 }) (ml_Pc D d [.ref (a 0), .int p0] (mH D d a st)) (ml_Q (op_hand st p0)) 0 0 (ml_no) := by
  refine Met.ofW (cc := cX1_hand) (maxL := 2) (ret := (some .int)) (by decide) rfl ?_
  intro p e s m args below meth c s₁ B hml hv
  obtain ⟨rfl, hH, hK⟩ := hv
  have hx := B.exec
  have hb := B.bytes
  have hr := B.returns
  have hts0 := atoms_spec (ws := (ws_ yX1_hand cX1_hand 2 (some .int))) B.pre
  have hts : ∀ w ∈ lw_all, w.before _ s = true := fun w h => hts0 w (List.mem_cons_of_mem _ h)
  have hown : s.vm.findClass RX1 = some m.cls := findClass_of_methodNamed B.named
  have hlocks := B.notSynchronized
  have S : CallFix p m c cX1_hand 2 s _ lw_all RX1 := ⟨hx, hb, hml, hown, hts⟩
  have hl := lv_entry ([.ref (a 0), .int p0]) (n := 2) (Nat.le_of_ble_eq_true rfl)
  rw [lg_entry_eq]
  generalize (lg_sl ([.ref (a 0), .int p0]) ++ List.replicate (2 - (lg_sl ([.ref (a 0), .int p0])).length) Slot.unset).toArray = ls at hl ⊢
  have hl : lv_has ls 2 [(0, .ref (a 0)), (1, .int p0)] := hl
  obtain ⟨n, hl, lg, hd, ⟨r1, r2, r3, r4, r5, r6⟩, fr, co, sa, va, hP⟩ := hH
  subst r1; subst r3; subst r4
  have hD : mD (mA a) a := hD0.self
  have hS : va_S (mA a) s.heap s.heap [] := va_S.rf
  refine lv_iload_n hx hb dX1_hand_0 rfl (lv_at hl 1 rfl) ?_
  refine lv_if_lt (tgt := 12) hx hb dX1_hand_1 (by decide) (fun c1 => ?_) (fun c1 => ?_)
  · refine lv_iconst (v := 0) hx hb dX1_hand_12 (by decide) ?_
    refine lv_goto (tgt := 22) hx hb dX1_hand_13 (by decide) ?_
    exact ml_pret hx hb hr rfl hlocks ((op_hand_bad (Or.inl c1)).symm) dX1_hand_22
  · refine lv_iload_n hx hb dX1_hand_4 rfl (lv_at hl 1 rfl) ?_
    refine lv_aload_n hx hb dX1_hand_5 rfl (lv_at hl 0 rfl) ?_
    refine mg_hl S hK hP dX1_hand_6 ?_
    refine lv_icmp_lt (tgt := 16) hx hb dX1_hand_9 (by decide) (fun c2 => ?_) (fun c2 => ?_)
    · obtain ⟨k, e0, k1⟩ := nat_lt (by omega) c1 (Int32.not_le.mpr c2)
      subst e0
      refine lv_aload_n hx hb dX1_hand_16 rfl (lv_at hl 0 rfl) ?_
      refine mg_hd S hK hP dX1_hand_17 ?_
      refine lv_iload_n hx hb dX1_hand_20 rfl (lv_at hl 1 rfl) ?_
      refine ml_hd (j := k) (by omega) S hK hP dX1_hand_21 ?_
      exact ml_pret hx hb hr rfl hlocks (by rw [op_hand_ok k1 r5]; exact r6 k k1) dX1_hand_22
    · refine lv_iconst (v := 0) hx hb dX1_hand_12 (by decide) ?_
      refine lv_goto (tgt := 22) hx hb dX1_hand_13 (by decide) ?_
      exact ml_pret hx hb hr rfl hlocks ((op_hand_bad (Or.inr (Int32.not_lt.mp c2))).symm) dX1_hand_22
set_option maxHeartbeats 4000000 in
set_option maxRecDepth 100000 in
/-- alter(place, value) -/
theorem mm_alter (l : Launch) (D : va_G) (d : ClassId) (a : Nat → Nat) (hD0 : mD (fun _ => True) a) (st : ml_S) (p0 p1 : Int32) : Met l yX1_alter (ws_ yX1_alter cX1_alter 3 (some .int)) ({ frames := 0, cells := 0, slots := 0, locals := 0 }) (ml_Pc D d [.ref (a 0), .int p0, .int p1] (mH D d a st)) (ml_Qi (op_alter st p0 p1).1 (mH D d a (op_alter st p0 p1).2) (mA a)) 0 0 (mA a) := by
  refine Met.ofW (cc := cX1_alter) (maxL := 3) (ret := (some .int)) (by decide) rfl ?_
  intro p e s m args below meth c s₁ B hml hv
  obtain ⟨rfl, hH, hK⟩ := hv
  have hx := B.exec
  have hb := B.bytes
  have hr := B.returns
  have hts0 := atoms_spec (ws := (ws_ yX1_alter cX1_alter 3 (some .int))) B.pre
  have hts : ∀ w ∈ lw_all, w.before _ s = true := fun w h => hts0 w (List.mem_cons_of_mem _ h)
  have hown : s.vm.findClass RX1 = some m.cls := findClass_of_methodNamed B.named
  have hlocks := B.notSynchronized
  have S : CallFix p m c cX1_alter 3 s _ lw_all RX1 := ⟨hx, hb, hml, hown, hts⟩
  have hl := lv_entry ([.ref (a 0), .int p0, .int p1]) (n := 3) (Nat.le_of_ble_eq_true rfl)
  rw [lg_entry_eq]
  generalize (lg_sl ([.ref (a 0), .int p0, .int p1]) ++ List.replicate (3 - (lg_sl ([.ref (a 0), .int p0, .int p1])).length) Slot.unset).toArray = ls at hl ⊢
  have hl : lv_has ls 3 [(0, .ref (a 0)), (1, .int p0), (2, .int p1)] := hl
  obtain ⟨n, hl, lg, hd, ⟨r1, r2, r3, r4, r5, r6⟩, fr, co, sa, va, hP⟩ := hH
  subst r1; subst r3; subst r4
  have hD : mD (mA a) a := hD0.self
  have hS : va_S (mA a) s.heap s.heap [] := va_S.rf
  refine lv_iload_n hx hb dX1_alter_0 rfl (lv_at hl 1 rfl) ?_
  refine lv_if_lt (tgt := 12) hx hb dX1_alter_1 (by decide) (fun c1 => ?_) (fun c1 => ?_)
  · refine lv_iconst (v := (-1)) hx hb dX1_alter_12 (by decide) ?_
    have hop := op_alter_bad (st := st) (p := p0) (v := p1) (Or.inl c1)
    exact ml_iret hx hb hr hlocks (by rw [hop]) (by rw [hop]; exact ⟨_, _, _, _, ⟨rfl, r2, rfl, rfl, r5, r6⟩, _, _, _, _, hP⟩) hS dX1_alter_13
  · refine lv_iload_n hx hb dX1_alter_4 rfl (lv_at hl 1 rfl) ?_
    refine lv_aload_n hx hb dX1_alter_5 rfl (lv_at hl 0 rfl) ?_
    refine mg_hl S hK hP dX1_alter_6 ?_
    refine lv_icmp_lt (tgt := 14) hx hb dX1_alter_9 (by decide) (fun c2 => ?_) (fun c2 => ?_)
    · obtain ⟨k, e0, k1⟩ := nat_lt (by omega) c1 (Int32.not_le.mpr c2)
      subst e0
      refine lv_aload_n hx hb dX1_alter_14 rfl (lv_at hl 0 rfl) ?_
      refine mg_hd S hK hP dX1_alter_15 ?_
      refine lv_iload_n hx hb dX1_alter_18 rfl (lv_at hl 1 rfl) ?_
      refine lv_iload_n hx hb dX1_alter_19 rfl (lv_at hl 2 rfl) ?_
      refine ms_hd (j := k) (by omega) S hK hP hD hS dX1_alter_20 (fun H locs hP hS => ?_)
      refine lv_iconst (v := 0) hx hb dX1_alter_21 (by decide) ?_
      have hop := op_alter_ok (st := st) (v := p1) k1 r5
      exact ml_iret hx hb hr hlocks (by rw [hop]) (by rw [hop]; exact ⟨_, _, _, _, ⟨rfl, r2, rfl, by rw [List.length_set], by rw [List.length_set]; exact r5, ho_set r6⟩, _, _, _, _, hP⟩) hS dX1_alter_22
    · refine lv_iconst (v := (-1)) hx hb dX1_alter_12 (by decide) ?_
      have hop := op_alter_bad (st := st) (p := p0) (v := p1) (Or.inr (Int32.not_lt.mp c2))
      exact ml_iret hx hb hr hlocks (by rw [hop]) (by rw [hop]; exact ⟨_, _, _, _, ⟨rfl, r2, rfl, rfl, r5, r6⟩, _, _, _, _, hP⟩) hS dX1_alter_13
set_option maxHeartbeats 4000000 in
set_option maxRecDepth 100000 in
/-- drop() -/
theorem mm_drop (l : Launch) (D : va_G) (d : ClassId) (a : Nat → Nat) (hD0 : mD (fun _ => True) a) (st : ml_S)  : Met l yX1_drop (ws_ yX1_drop cX1_drop 1 none) ({ frames := 0, cells := 0, slots := 0, locals := 0 }) (ml_Pc D d [.ref (a 0)] (mH D d a st)) (ml_Qv (mH D d a (op_drop st)) (mA a)) 0 0 (mA a) := by
  refine Met.ofW (cc := cX1_drop) (maxL := 1) (ret := none) (by decide) rfl ?_
  intro p e s m args below meth c s₁ B hml hv
  obtain ⟨rfl, hH, hK⟩ := hv
  have hx := B.exec
  have hb := B.bytes
  have hr := B.returns
  have hts0 := atoms_spec (ws := (ws_ yX1_drop cX1_drop 1 none)) B.pre
  have hts : ∀ w ∈ lw_all, w.before _ s = true := fun w h => hts0 w (List.mem_cons_of_mem _ h)
  have hown : s.vm.findClass RX1 = some m.cls := findClass_of_methodNamed B.named
  have hlocks := B.notSynchronized
  have S : CallFix p m c cX1_drop 1 s _ lw_all RX1 := ⟨hx, hb, hml, hown, hts⟩
  have hl := lv_entry ([.ref (a 0)]) (n := 1) (Nat.le_of_ble_eq_true rfl)
  rw [lg_entry_eq]
  generalize (lg_sl ([.ref (a 0)]) ++ List.replicate (1 - (lg_sl ([.ref (a 0)])).length) Slot.unset).toArray = ls at hl ⊢
  have hl : lv_has ls 1 [(0, .ref (a 0))] := hl
  obtain ⟨n, hl, lg, hd, ⟨r1, r2, r3, r4, r5, r6⟩, fr, co, sa, va, hP⟩ := hH
  subst r1; subst r3; subst r4
  have hD : mD (mA a) a := hD0.self
  have hS : va_S (mA a) s.heap s.heap [] := va_S.rf
  refine lv_aload_n hx hb dX1_drop_0 rfl (lv_at hl 0 rfl) ?_
  refine lv_iconst (v := 0) hx hb dX1_drop_1 (by decide) ?_
  refine mp_hl S hK hP hD hS dX1_drop_2 (fun H locs hP hS => ?_)
  exact ml_vret hx hb hr hlocks ⟨_, _, _, _, ⟨rfl, r2, rfl, rfl, Nat.zero_le _, ho_nil _⟩, _, _, _, _, hP⟩ hS dX1_drop_5
set_option maxHeartbeats 4000000 in
set_option maxRecDepth 100000 in
/-- take(value) -/
theorem mm_take (l : Launch) (D : va_G) (d : ClassId) (a : Nat → Nat) (hD0 : mD (fun _ => True) a) (st : ml_S) (p0 : Int32) : Met l yX1_take (ws_ yX1_take cX1_take 2 (some .int)) ({ frames := 0, cells := 0, slots := 0, locals := 0 }) (ml_Pc D d [.ref (a 0), .int p0] (mH D d a st)) (ml_Qi (op_take st p0).1 (mH D d a (op_take st p0).2) (mA a)) 0 0 (mA a) := by
  refine Met.ofW (cc := cX1_take) (maxL := 2) (ret := (some .int)) (by decide) rfl ?_
  intro p e s m args below meth c s₁ B hml hv
  obtain ⟨rfl, hH, hK⟩ := hv
  have hx := B.exec
  have hb := B.bytes
  have hr := B.returns
  have hts0 := atoms_spec (ws := (ws_ yX1_take cX1_take 2 (some .int))) B.pre
  have hts : ∀ w ∈ lw_all, w.before _ s = true := fun w h => hts0 w (List.mem_cons_of_mem _ h)
  have hown : s.vm.findClass RX1 = some m.cls := findClass_of_methodNamed B.named
  have hlocks := B.notSynchronized
  have S : CallFix p m c cX1_take 2 s _ lw_all RX1 := ⟨hx, hb, hml, hown, hts⟩
  have hl := lv_entry ([.ref (a 0), .int p0]) (n := 2) (Nat.le_of_ble_eq_true rfl)
  rw [lg_entry_eq]
  generalize (lg_sl ([.ref (a 0), .int p0]) ++ List.replicate (2 - (lg_sl ([.ref (a 0), .int p0])).length) Slot.unset).toArray = ls at hl ⊢
  have hl : lv_has ls 2 [(0, .ref (a 0)), (1, .int p0)] := hl
  obtain ⟨n, hl, lg, hd, ⟨r1, r2, r3, r4, r5, r6⟩, fr, co, sa, va, hP⟩ := hH
  subst r1; subst r3; subst r4
  have hD : mD (mA a) a := hD0.self
  have hS : va_S (mA a) s.heap s.heap [] := va_S.rf
  refine lv_aload_n hx hb dX1_take_0 rfl (lv_at hl 0 rfl) ?_
  refine mg_hl S hK hP dX1_take_1 ?_
  refine lv_bipush (v := 16) hx hb dX1_take_4 (by decide) ?_
  refine lv_icmp_ne (tgt := 11) hx hb dX1_take_6 (by decide) (fun c1 => ?_) (fun c1 => ?_)
  · have hlt : st.2.2.length < 16 := by
      rcases Nat.lt_or_ge st.2.2.length 16 with h | h
      · exact h
      · exact absurd (by rw [show st.2.2.length = 16 by omega]; rfl) c1
    refine lv_aload_n hx hb dX1_take_11 rfl (lv_at hl 0 rfl) ?_
    refine mg_hd S hK hP dX1_take_12 ?_
    refine lv_aload_n hx hb dX1_take_15 rfl (lv_at hl 0 rfl) ?_
    refine mg_hl S hK hP dX1_take_16 ?_
    refine lv_iload_n hx hb dX1_take_19 rfl (lv_at hl 1 rfl) ?_
    refine ms_hd (j := st.2.2.length) (hlt) S hK hP hD hS dX1_take_20 (fun H locs hP hS => ?_)
    refine lv_aload_n hx hb dX1_take_21 rfl (lv_at hl 0 rfl) ?_
    refine lv_dup hx hb dX1_take_22 rfl ?_
    refine mg_hl S hK hP dX1_take_23 ?_
    refine lv_iconst (v := 1) hx hb dX1_take_26 (by decide) ?_
    refine lv_iadd hx hb dX1_take_27 ?_
    refine ml_top (y := nI (st.2.2.length + 1)) (nI_1 _) ?_
    refine mp_hl S hK hP hD hS dX1_take_28 (fun H locs hP hS => ?_)
    refine lv_aload_n hx hb dX1_take_31 rfl (lv_at hl 0 rfl) ?_
    refine mg_hl S hK hP dX1_take_32 ?_
    have hop := op_take_ok (st := st) (v := p0) hlt
    exact ml_iret hx hb hr hlocks (by rw [hop]) (by rw [hop]; exact ⟨_, _, _, _, ⟨rfl, r2, rfl, by rw [List.length_append]; rfl, by rw [List.length_append]; exact hlt, ho_push r6⟩, _, _, _, _, hP⟩) hS dX1_take_35
  · have hge : st.2.2.length = 16 := (nI_eq (b := 16) (by omega) (by decide)).mp c1
    refine lv_iconst (v := (-1)) hx hb dX1_take_9 (by decide) ?_
    have hop := op_take_full (st := st) (v := p0) hge
    exact ml_iret hx hb hr hlocks (by rw [hop]) (by rw [hop]; exact ⟨_, _, _, _, ⟨rfl, r2, rfl, rfl, r5, r6⟩, _, _, _, _, hP⟩) hS dX1_take_10
end
section
set_option maxHeartbeats 4000000 in
set_option maxRecDepth 100000 in
/-- path(entry, size) -/
theorem mm_path (l : Launch) (D : va_G) (d : ClassId) (a : Nat → Nat) (hD0 : mD (fun _ => True) a) (st : ml_S) (p0 p1 : Int32) : Met l yX1_path (ws_ yX1_path cX1_path 9 (some .int)) ({ frames := 3, cells := 0, slots := 0, locals := 70 }) (ml_Pc D d [.ref (a 0), .int p0, .int p1] (mH D d a st)) (ml_Qi (op_path st p0 p1).1 (mH D d a (op_path st p0 p1).2) (mA a)) 0 0 (mA a) := by
  refine Met.ofW (cc := cX1_path) (maxL := 9) (ret := (some .int)) (by decide) rfl ?_
  intro p e s m args below meth c s₁ B hml hv
  obtain ⟨rfl, hH, hK⟩ := hv
  have hx := B.exec
  have hb := B.bytes
  have hr := B.returns
  have hts0 := atoms_spec (ws := (ws_ yX1_path cX1_path 9 (some .int))) B.pre
  have hts : ∀ w ∈ lw_all, w.before _ s = true := fun w h => hts0 w (List.mem_cons_of_mem _ h)
  have hown : s.vm.findClass RX1 = some m.cls := findClass_of_methodNamed B.named
  have hlocks := B.notSynchronized
  have S : CallFix p m c cX1_path 9 s _ lw_all RX1 := ⟨hx, hb, hml, hown, hts⟩
  have hl := lv_entry ([.ref (a 0), .int p0, .int p1]) (n := 9) (Nat.le_of_ble_eq_true rfl)
  rw [lg_entry_eq]
  generalize (lg_sl ([.ref (a 0), .int p0, .int p1]) ++ List.replicate (9 - (lg_sl ([.ref (a 0), .int p0, .int p1])).length) Slot.unset).toArray = ls at hl ⊢
  have hl : lv_has ls 9 [(0, .ref (a 0)), (1, .int p0), (2, .int p1)] := hl
  obtain ⟨n, hl, lg, hd, ⟨r1, r2, r3, r4, r5, r6⟩, fr, co, sa, va, hP⟩ := hH
  subst r1; subst r3; subst r4
  have hD : mD (mA a) a := hD0.self
  have hS : va_S (mA a) s.heap s.heap [] := va_S.rf
  refine lv_iload_n hx hb dX1_path_0 rfl (lv_at hl 2 rfl) ?_
  refine lv_iconst (v := 1) hx hb dX1_path_1 (by decide) ?_
  refine lv_icmp_lt (tgt := 22) hx hb dX1_path_2 (by decide) (fun c1 => ?_) (fun c1 => ?_)
  · refine lv_iconst (v := (-1)) hx hb dX1_path_22 (by decide) ?_
    have hop := op_path_bad (st := st) (e := p0) (n := p1) (Or.inl c1)
    exact ml_iret hx hb hr hlocks (by rw [hop]) (by rw [hop]; exact ⟨_, _, _, _, ⟨rfl, r2, rfl, rfl, r5, r6⟩, _, _, _, _, hP⟩) hS dX1_path_23
  · refine lv_iload_n hx hb dX1_path_5 rfl (lv_at hl 2 rfl) ?_
    refine lv_aload_n hx hb dX1_path_6 rfl (lv_at hl 0 rfl) ?_
    refine mg_n S hK hP dX1_path_7 ?_
    refine lv_icmp_gt (tgt := 22) hx hb dX1_path_10 (by decide) (fun c2 => ?_) (fun c2 => ?_)
    · refine lv_iconst (v := (-1)) hx hb dX1_path_22 (by decide) ?_
      have hop := op_path_bad (st := st) (e := p0) (n := p1) (Or.inr (Or.inl c2))
      exact ml_iret hx hb hr hlocks (by rw [hop]) (by rw [hop]; exact ⟨_, _, _, _, ⟨rfl, r2, rfl, rfl, r5, r6⟩, _, _, _, _, hP⟩) hS dX1_path_23
    · refine lv_iload_n hx hb dX1_path_13 rfl (lv_at hl 1 rfl) ?_
      refine lv_if_lt (tgt := 22) hx hb dX1_path_14 (by decide) (fun c3 => ?_) (fun c3 => ?_)
      · refine lv_iconst (v := (-1)) hx hb dX1_path_22 (by decide) ?_
        have hop := op_path_bad (st := st) (e := p0) (n := p1) (Or.inr (Or.inr (Or.inl c3)))
        exact ml_iret hx hb hr hlocks (by rw [hop]) (by rw [hop]; exact ⟨_, _, _, _, ⟨rfl, r2, rfl, rfl, r5, r6⟩, _, _, _, _, hP⟩) hS dX1_path_23
      · refine lv_iload_n hx hb dX1_path_17 rfl (lv_at hl 1 rfl) ?_
        refine lv_iload_n hx hb dX1_path_18 rfl (lv_at hl 2 rfl) ?_
        refine lv_icmp_lt (tgt := 24) hx hb dX1_path_19 (by decide) (fun c4 => ?_) (fun c4 => ?_)
        · obtain ⟨z, e1, k1, k2⟩ := nat_of (by omega) c1 c2
          subst e1
          obtain ⟨y, e0, k3⟩ := nat_lt (by omega) c3 (Int32.not_le.mpr c4)
          subst e0
          have hop := op_path_ok (st := st) k3 k2 r2
          generalize hL : ml_pth (ml_g st.2.1) 6 0 z y = Lx at hop
          have hlen : Lx.length ≤ 6 := by rw [← hL]; exact pth_len _ 6 0 z y
          have hend : ∀ (hd fr co sa va : Nat → Int32) (H : Heap) (locs : List Loc), ml_ho hd Lx → va_P D ml_cl (wM d a (nI st.1) (nI Lx.length) st.2.1 hd fr co sa va) H → va_S (mA a) s.heap H locs → ∀ ls : Array Slot, lv_has ls 9 [(0, .ref (a 0))] → W p l e (headSpec (ws_ yX1_path cX1_path 9 (some .int)) ({ frames := 3, cells := 0, slots := 0, locals := 70 })).room s m ([.ref (a 0), .int (nI y), .int (nI z)] : List Value).toArray below meth c H locs 0 0 (MQ below (ml_Qi (op_path st (nI y) (nI z)).1 (mH D d a (op_path st (nI y) (nI z)).2) (mA a)) ([.ref (a 0), .int (nI y), .int (nI z)] : List Value).toArray s 0 0 (mA a)) (F0 m 158 ls []) := by
            intro hd fr co sa va H locs hh hP hS ls hl
            refine lv_aload_n hx hb dX1_path_158 rfl (lv_at hl 0 rfl) ?_
            refine mc_turnHand hD0 (by have := hlen; omega) S ⟨Nat.le_of_ble_eq_true rfl, Nat.le_of_ble_eq_true rfl⟩ ⟨Nat.zero_le _, Nat.zero_le _⟩ hK ⟨_, _, _, _, hP⟩ hS (fun _ h => h) hl.1 (Nat.le_of_ble_eq_true rfl) dX1_path_159 (fun H locs hT _ hS => ?_)
            obtain ⟨hd', hn, fr, co, sa, va, hP⟩ := hT
            refine lv_aload_n hx hb dX1_path_162 rfl (lv_at hl 0 rfl) ?_
            refine mg_hl S hK hP dX1_path_163 ?_
            exact ml_iret hx hb hr hlocks (by rw [hop]) (by rw [hop]; exact ⟨_, _, _, _, ⟨rfl, r2, rfl, by rw [List.length_reverse], by rw [List.length_reverse]; have := hlen; omega, ho_rev hh hn⟩, _, _, _, _, hP⟩) hS dX1_path_166
          have loop : ∀ (k i u v x : Nat) (Lp : List Int32) (hd fr co sa va : Nat → Int32), i + k = 6 → x < v → u + v ≤ st.1 → Lp.length ≤ i → ml_ho hd Lp → Lp ++ ml_pth (ml_g st.2.1) k u v x = Lx → ∀ (H : Heap) (locs : List Loc), va_P D ml_cl (wM d a (nI st.1) (nI Lp.length) st.2.1 hd fr co sa va) H → va_S (mA a) s.heap H locs → ∀ ls : Array Slot, lv_has ls 9 [(0, .ref (a 0)), (3, .int (nI u)), (4, .int (nI v)), (5, .int (nI x)), (6, .int (nI i))] → W p l e (headSpec (ws_ yX1_path cX1_path 9 (some .int)) ({ frames := 3, cells := 0, slots := 0, locals := 70 })).room s m ([.ref (a 0), .int (nI y), .int (nI z)] : List Value).toArray below meth c H locs 0 0 (MQ below (ml_Qi (op_path st (nI y) (nI z)).1 (mH D d a (op_path st (nI y) (nI z)).2) (mA a)) ([.ref (a 0), .int (nI y), .int (nI z)] : List Value).toArray s 0 0 (mA a)) (F0 m 40 ls []) := by
            intro k
            induction k with
            | zero =>
              intro i u v x Lp hd fr co sa va hk h2 h3 h5 h6 h7 H locs hP hS ls hl
              have hi : i = 6 := by omega
              subst hi
              have e7 : Lp = Lx := by rw [← h7, ml_pth, List.append_nil]
              subst e7
              refine lv_iload hx hb dX1_path_40 (lv_at hl 4 rfl) ?_
              refine lv_bipush (v := 6) hx hb dX1_path_42 (by decide) ?_
              refine lv_icmp_ge (tgt := 158) hx hb dX1_path_44 (by decide) (fun _ => ?_) (fun q => absurd (by decide) q)
              exact hend hd fr co sa va H locs h6 hP hS ls (lv_sub hl [0] rfl)
            | succ k ih =>
              intro i u v x Lp hd fr co sa va hk h2 h3 h5 h6 h7 H locs hP hS ls hl
              refine lv_iload hx hb dX1_path_40 (lv_at hl 4 rfl) ?_
              refine lv_bipush (v := 6) hx hb dX1_path_42 (by decide) ?_
              refine lv_icmp_ge (tgt := 158) hx hb dX1_path_44 (by decide) (fun q => absurd q (fun h => absurd ((nI_leI (a := 6) (b := i) (by decide) (by omega)).mp h) (by omega))) (fun _ => ?_)
              refine lv_iload hx hb dX1_path_47 (lv_at hl 2 rfl) ?_
              refine lv_iconst (v := 1) hx hb dX1_path_49 (by decide) ?_
              refine lv_icmp_le (tgt := 158) hx hb dX1_path_50 (by decide) (fun c5 => ?_) (fun c5 => ?_)
              · have hn1 : v ≤ 1 := (nI_leI (b := 1) (by omega) (by decide)).mp c5
                have e7 : Lp = Lx := by rw [← h7, ml_pth, if_pos hn1, List.append_nil]
                subst e7
                exact hend hd fr co sa va H locs h6 hP hS ls (lv_sub hl [0] rfl)
              · have h2u : 2 ≤ v := by
                  rcases Nat.lt_or_ge (v) 2 with h | h
                  · exact absurd ((nI_leI (a := v) (b := 1) (by omega) (by decide)).mpr (by omega)) c5
                  · exact h
                obtain ⟨f1, f2⟩ := hf_lt h2u
                rw [ml_pth, if_neg (by omega)] at h7
                refine lv_iload hx hb dX1_path_53 (lv_at hl 2 rfl) ?_
                refine mc_half (by omega) S ⟨Nat.le_of_ble_eq_true rfl, Nat.le_of_ble_eq_true rfl⟩ ⟨Nat.zero_le _, Nat.zero_le _⟩ hl.1 (Nat.le_of_ble_eq_true rfl) dX1_path_55 ?_
                refine lv_istore (lv' := [(7, .int (nI (ml_hf v))), (0, .ref (a 0)), (3, .int (nI u)), (4, .int (nI v)), (5, .int (nI x)), (6, .int (nI i))]) hx hb dX1_path_58 hl (by decide) rfl (fun ls hl => ?_)
                refine lv_iload hx hb dX1_path_60 (lv_at hl 4 rfl) ?_
                refine lv_iload hx hb dX1_path_62 (lv_at hl 0 rfl) ?_
                refine lv_icmp_ge (tgt := 83) hx hb dX1_path_64 (by decide) (fun c6 => ?_) (fun c6 => ?_)
                · have h8 : ml_hf v ≤ x := (nI_leI (by omega) (by omega)).mp c6
                  rw [if_neg (by omega)] at h7
                  refine lv_aload_n hx hb dX1_path_83 rfl (lv_at hl 1 rfl) ?_
                  refine lv_iload_n hx hb dX1_path_84 rfl (lv_at hl 2 rfl) ?_
                  refine lv_iload hx hb dX1_path_85 (lv_at hl 0 rfl) ?_
                  refine mc_rootOf hD0 (by omega) (by omega) S ⟨Nat.le_of_ble_eq_true rfl, Nat.le_of_ble_eq_true rfl⟩ ⟨Nat.zero_le _, Nat.zero_le _⟩ hK ⟨_, _, _, _, hP⟩ hS (fun _ h => h) hl.1 (Nat.le_of_ble_eq_true rfl) dX1_path_87 (fun H locs ⟨fr, co, sa, va, hP⟩ _ hS => ?_)
                  refine lv_istore (lv' := [(8, .int (ml_r (ml_g st.2.1) u (ml_hf v))), (7, .int (nI (ml_hf v))), (0, .ref (a 0)), (3, .int (nI u)), (4, .int (nI v)), (5, .int (nI x)), (6, .int (nI i))]) hx hb dX1_path_90 hl (by decide) rfl (fun ls hl => ?_)
                  refine lv_aload_n hx hb dX1_path_92 rfl (lv_at hl 2 rfl) ?_
                  refine lv_iload hx hb dX1_path_93 (lv_at hl 0 rfl) ?_
                  refine mc_hold hD0 (by omega) S ⟨Nat.le_of_ble_eq_true rfl, Nat.le_of_ble_eq_true rfl⟩ ⟨Nat.zero_le _, Nat.zero_le _⟩ hK ⟨_, _, _, _, hP⟩ hS (fun _ h => h) hl.1 (Nat.le_of_ble_eq_true rfl) dX1_path_95 (fun H locs ⟨fr, co, sa, va, hP⟩ _ hS => ?_)
                  refine lv_iload hx hb dX1_path_98 (lv_at hl 5 rfl) ?_
                  refine lv_iload hx hb dX1_path_100 (lv_at hl 1 rfl) ?_
                  refine lv_icmp_ge (tgt := 109) hx hb dX1_path_102 (by decide) (fun _ => ?_) (fun q => absurd (c6) q)
                  refine lv_iload_n hx hb dX1_path_109 rfl (lv_at hl 3 rfl) ?_
                  refine lv_iload hx hb dX1_path_110 (lv_at hl 1 rfl) ?_
                  refine lv_iadd hx hb dX1_path_112 ?_
                  refine ml_top (y := nI (u + ml_hf v)) (nI_add _ _) ?_
                  refine lv_istore_n (lv' := [(3, .int (nI (u + ml_hf v))), (8, .int (ml_r (ml_g st.2.1) u (ml_hf v))), (7, .int (nI (ml_hf v))), (0, .ref (a 0)), (4, .int (nI v)), (5, .int (nI x)), (6, .int (nI i))]) hx hb dX1_path_113 rfl hl (by decide) rfl (fun ls hl => ?_)
                  refine lv_iload hx hb dX1_path_114 (lv_at hl 5 rfl) ?_
                  refine lv_iload hx hb dX1_path_116 (lv_at hl 2 rfl) ?_
                  refine lv_icmp_ge (tgt := 126) hx hb dX1_path_118 (by decide) (fun _ => ?_) (fun q => absurd (c6) q)
                  refine lv_iload hx hb dX1_path_126 (lv_at hl 4 rfl) ?_
                  refine lv_iload hx hb dX1_path_128 (lv_at hl 2 rfl) ?_
                  refine lv_isub hx hb dX1_path_130 ?_
                  refine ml_top (y := nI (v - ml_hf v)) (pk_sub (by omega)) ?_
                  refine lv_istore (lv' := [(4, .int (nI (v - ml_hf v))), (3, .int (nI (u + ml_hf v))), (8, .int (ml_r (ml_g st.2.1) u (ml_hf v))), (7, .int (nI (ml_hf v))), (0, .ref (a 0)), (5, .int (nI x)), (6, .int (nI i))]) hx hb dX1_path_131 hl (by decide) rfl (fun ls hl => ?_)
                  refine lv_iload hx hb dX1_path_133 (lv_at hl 5 rfl) ?_
                  refine lv_iload hx hb dX1_path_135 (lv_at hl 3 rfl) ?_
                  refine lv_icmp_ge (tgt := 145) hx hb dX1_path_137 (by decide) (fun _ => ?_) (fun q => absurd (c6) q)
                  refine lv_iload hx hb dX1_path_145 (lv_at hl 5 rfl) ?_
                  refine lv_iload hx hb dX1_path_147 (lv_at hl 3 rfl) ?_
                  refine lv_isub hx hb dX1_path_149 ?_
                  refine ml_top (y := nI (x - ml_hf v)) (pk_sub (by omega)) ?_
                  refine lv_istore (lv' := [(5, .int (nI (x - ml_hf v))), (4, .int (nI (v - ml_hf v))), (3, .int (nI (u + ml_hf v))), (8, .int (ml_r (ml_g st.2.1) u (ml_hf v))), (7, .int (nI (ml_hf v))), (0, .ref (a 0)), (6, .int (nI i))]) hx hb dX1_path_150 hl (by decide) rfl (fun ls hl => ?_)
                  refine lv_iinc (v := nI (i + 1)) (lv' := [(6, .int (nI (i + 1))), (5, .int (nI (x - ml_hf v))), (4, .int (nI (v - ml_hf v))), (3, .int (nI (u + ml_hf v))), (8, .int (ml_r (ml_g st.2.1) u (ml_hf v))), (7, .int (nI (ml_hf v))), (0, .ref (a 0))]) hx hb dX1_path_152 hl (k := 6) rfl (nI_1 i) (by decide) rfl (fun ls hl => ?_)
                  refine lv_goto (tgt := 40) hx hb dX1_path_155 (by decide) ?_
                  exact ih (i + 1) (u + ml_hf v) (v - ml_hf v) (x - ml_hf v) (Lp ++ [ml_r (ml_g st.2.1) u (ml_hf v)]) _ fr co sa va (by omega) (by omega) (by omega) (by rw [List.length_append, List.length_singleton]; omega) (ho_push h6) (by rw [← h7, List.append_assoc]; rfl) H locs (by rw [List.length_append, List.length_singleton]; exact hP) hS ls (lv_sub hl [6, 3, 2, 1, 0] rfl)
                · have h8 : x < ml_hf v := by
                    rcases Nat.lt_or_ge (x) (ml_hf v) with h | h
                    · exact h
                    · exact absurd (nI_le h (by omega)) c6
                  rw [if_pos h8] at h7
                  refine lv_aload_n hx hb dX1_path_67 rfl (lv_at hl 1 rfl) ?_
                  refine lv_iload_n hx hb dX1_path_68 rfl (lv_at hl 2 rfl) ?_
                  refine lv_iload hx hb dX1_path_69 (lv_at hl 0 rfl) ?_
                  refine lv_iadd hx hb dX1_path_71 ?_
                  refine ml_top (y := nI (u + ml_hf v)) (nI_add _ _) ?_
                  refine lv_iload hx hb dX1_path_72 (lv_at hl 3 rfl) ?_
                  refine lv_iload hx hb dX1_path_74 (lv_at hl 0 rfl) ?_
                  refine lv_isub hx hb dX1_path_76 ?_
                  refine ml_top (y := nI (v - ml_hf v)) (pk_sub (by omega)) ?_
                  refine mc_rootOf hD0 (by omega) (by omega) S ⟨Nat.le_of_ble_eq_true rfl, Nat.le_of_ble_eq_true rfl⟩ ⟨Nat.zero_le _, Nat.zero_le _⟩ hK ⟨_, _, _, _, hP⟩ hS (fun _ h => h) hl.1 (Nat.le_of_ble_eq_true rfl) dX1_path_77 (fun H locs ⟨fr, co, sa, va, hP⟩ _ hS => ?_)
                  refine lv_goto (tgt := 90) hx hb dX1_path_80 (by decide) ?_
                  refine lv_istore (lv' := [(8, .int (ml_r (ml_g st.2.1) (u + ml_hf v) (v - ml_hf v))), (7, .int (nI (ml_hf v))), (0, .ref (a 0)), (3, .int (nI u)), (4, .int (nI v)), (5, .int (nI x)), (6, .int (nI i))]) hx hb dX1_path_90 hl (by decide) rfl (fun ls hl => ?_)
                  refine lv_aload_n hx hb dX1_path_92 rfl (lv_at hl 2 rfl) ?_
                  refine lv_iload hx hb dX1_path_93 (lv_at hl 0 rfl) ?_
                  refine mc_hold hD0 (by omega) S ⟨Nat.le_of_ble_eq_true rfl, Nat.le_of_ble_eq_true rfl⟩ ⟨Nat.zero_le _, Nat.zero_le _⟩ hK ⟨_, _, _, _, hP⟩ hS (fun _ h => h) hl.1 (Nat.le_of_ble_eq_true rfl) dX1_path_95 (fun H locs ⟨fr, co, sa, va, hP⟩ _ hS => ?_)
                  refine lv_iload hx hb dX1_path_98 (lv_at hl 5 rfl) ?_
                  refine lv_iload hx hb dX1_path_100 (lv_at hl 1 rfl) ?_
                  refine lv_icmp_ge (tgt := 109) hx hb dX1_path_102 (by decide) (fun q => absurd q (c6)) (fun _ => ?_)
                  refine lv_iload_n hx hb dX1_path_105 rfl (lv_at hl 3 rfl) ?_
                  refine lv_goto (tgt := 113) hx hb dX1_path_106 (by decide) ?_
                  refine lv_istore_n (lv' := [(3, .int (nI u)), (8, .int (ml_r (ml_g st.2.1) (u + ml_hf v) (v - ml_hf v))), (7, .int (nI (ml_hf v))), (0, .ref (a 0)), (4, .int (nI v)), (5, .int (nI x)), (6, .int (nI i))]) hx hb dX1_path_113 rfl hl (by decide) rfl (fun ls hl => ?_)
                  refine lv_iload hx hb dX1_path_114 (lv_at hl 5 rfl) ?_
                  refine lv_iload hx hb dX1_path_116 (lv_at hl 2 rfl) ?_
                  refine lv_icmp_ge (tgt := 126) hx hb dX1_path_118 (by decide) (fun q => absurd q (c6)) (fun _ => ?_)
                  refine lv_iload hx hb dX1_path_121 (lv_at hl 2 rfl) ?_
                  refine lv_goto (tgt := 131) hx hb dX1_path_123 (by decide) ?_
                  refine lv_istore (lv' := [(4, .int (nI (ml_hf v))), (3, .int (nI u)), (8, .int (ml_r (ml_g st.2.1) (u + ml_hf v) (v - ml_hf v))), (7, .int (nI (ml_hf v))), (0, .ref (a 0)), (5, .int (nI x)), (6, .int (nI i))]) hx hb dX1_path_131 hl (by decide) rfl (fun ls hl => ?_)
                  refine lv_iload hx hb dX1_path_133 (lv_at hl 5 rfl) ?_
                  refine lv_iload hx hb dX1_path_135 (lv_at hl 3 rfl) ?_
                  refine lv_icmp_ge (tgt := 145) hx hb dX1_path_137 (by decide) (fun q => absurd q (c6)) (fun _ => ?_)
                  refine lv_iload hx hb dX1_path_140 (lv_at hl 5 rfl) ?_
                  refine lv_goto (tgt := 150) hx hb dX1_path_142 (by decide) ?_
                  refine lv_istore (lv' := [(5, .int (nI x)), (4, .int (nI (ml_hf v))), (3, .int (nI u)), (8, .int (ml_r (ml_g st.2.1) (u + ml_hf v) (v - ml_hf v))), (7, .int (nI (ml_hf v))), (0, .ref (a 0)), (6, .int (nI i))]) hx hb dX1_path_150 hl (by decide) rfl (fun ls hl => ?_)
                  refine lv_iinc (v := nI (i + 1)) (lv' := [(6, .int (nI (i + 1))), (5, .int (nI x)), (4, .int (nI (ml_hf v))), (3, .int (nI u)), (8, .int (ml_r (ml_g st.2.1) (u + ml_hf v) (v - ml_hf v))), (7, .int (nI (ml_hf v))), (0, .ref (a 0))]) hx hb dX1_path_152 hl (k := 6) rfl (nI_1 i) (by decide) rfl (fun ls hl => ?_)
                  refine lv_goto (tgt := 40) hx hb dX1_path_155 (by decide) ?_
                  exact ih (i + 1) u (ml_hf v) x (Lp ++ [ml_r (ml_g st.2.1) (u + ml_hf v) (v - ml_hf v)]) _ fr co sa va (by omega) (by omega) (by omega) (by rw [List.length_append, List.length_singleton]; omega) (ho_push h6) (by rw [← h7, List.append_assoc]; rfl) H locs (by rw [List.length_append, List.length_singleton]; exact hP) hS ls (lv_sub hl [6, 3, 2, 1, 0] rfl)
          refine lv_aload_n hx hb dX1_path_24 rfl (lv_at hl 0 rfl) ?_
          refine lv_iconst (v := 0) hx hb dX1_path_25 (by decide) ?_
          refine mp_hl S hK hP hD hS dX1_path_26 (fun H locs hP hS => ?_)
          refine lv_iconst (v := 0) hx hb dX1_path_29 (by decide) ?_
          refine lv_istore_n (lv' := [(3, .int 0), (0, .ref (a 0)), (1, .int (nI y)), (2, .int (nI z))]) hx hb dX1_path_30 rfl hl (by decide) rfl (fun ls hl => ?_)
          refine lv_iload_n hx hb dX1_path_31 rfl (lv_at hl 3 rfl) ?_
          refine lv_istore (lv' := [(4, .int (nI z)), (3, .int 0), (0, .ref (a 0)), (1, .int (nI y)), (2, .int (nI z))]) hx hb dX1_path_32 hl (by decide) rfl (fun ls hl => ?_)
          refine lv_iload_n hx hb dX1_path_34 rfl (lv_at hl 3 rfl) ?_
          refine lv_istore (lv' := [(5, .int (nI y)), (4, .int (nI z)), (3, .int 0), (0, .ref (a 0)), (1, .int (nI y)), (2, .int (nI z))]) hx hb dX1_path_35 hl (by decide) rfl (fun ls hl => ?_)
          refine lv_iconst (v := 0) hx hb dX1_path_37 (by decide) ?_
          refine lv_istore (lv' := [(6, .int 0), (5, .int (nI y)), (4, .int (nI z)), (3, .int 0), (0, .ref (a 0)), (1, .int (nI y)), (2, .int (nI z))]) hx hb dX1_path_38 hl (by decide) rfl (fun ls hl => ?_)
          exact loop 6 0 0 z y [] hd fr co sa va (by omega) k3 (by omega) (Nat.le_refl 0) (ho_nil _) (by rw [List.nil_append]; exact hL) H locs hP hS ls (lv_sub hl [4, 3, 2, 1, 0] rfl)
        · refine lv_iconst (v := (-1)) hx hb dX1_path_22 (by decide) ?_
          have hop := op_path_bad (st := st) (e := p0) (n := p1) (Or.inr (Or.inr (Or.inr (Int32.not_lt.mp c4))))
          exact ml_iret hx hb hr hlocks (by rw [hop]) (by rw [hop]; exact ⟨_, _, _, _, ⟨rfl, r2, rfl, rfl, r5, r6⟩, _, _, _, _, hP⟩) hS dX1_path_23
end
section
set_option maxHeartbeats 4000000 in
set_option maxRecDepth 100000 in
/-- steps(from, to) -/
theorem mm_steps (l : Launch) (D : va_G) (d : ClassId) (a : Nat → Nat) (hD0 : mD (fun _ => True) a) (st : ml_S) (p0 p1 : Int32) : Met l yX1_steps (ws_ yX1_steps cX1_steps 10 (some .int)) ({ frames := 3, cells := 0, slots := 0, locals := 70 }) (ml_Pc D d [.ref (a 0), .int p0, .int p1] (mH D d a st)) (ml_Qi (op_steps st p0 p1).1 (mH D d a (op_steps st p0 p1).2) (mA a)) 0 0 (mA a) := by
  refine Met.ofW (cc := cX1_steps) (maxL := 10) (ret := (some .int)) (by decide) rfl ?_
  intro p e s m args below meth c s₁ B hml hv
  obtain ⟨rfl, hH, hK⟩ := hv
  have hx := B.exec
  have hb := B.bytes
  have hr := B.returns
  have hts0 := atoms_spec (ws := (ws_ yX1_steps cX1_steps 10 (some .int))) B.pre
  have hts : ∀ w ∈ lw_all, w.before _ s = true := fun w h => hts0 w (List.mem_cons_of_mem _ h)
  have hown : s.vm.findClass RX1 = some m.cls := findClass_of_methodNamed B.named
  have hlocks := B.notSynchronized
  have S : CallFix p m c cX1_steps 10 s _ lw_all RX1 := ⟨hx, hb, hml, hown, hts⟩
  have hl := lv_entry ([.ref (a 0), .int p0, .int p1]) (n := 10) (Nat.le_of_ble_eq_true rfl)
  rw [lg_entry_eq]
  generalize (lg_sl ([.ref (a 0), .int p0, .int p1]) ++ List.replicate (10 - (lg_sl ([.ref (a 0), .int p0, .int p1])).length) Slot.unset).toArray = ls at hl ⊢
  have hl : lv_has ls 10 [(0, .ref (a 0)), (1, .int p0), (2, .int p1)] := hl
  obtain ⟨n, hl, lg, hd, ⟨r1, r2, r3, r4, r5, r6⟩, fr, co, sa, va, hP⟩ := hH
  subst r1; subst r3; subst r4
  have hD : mD (mA a) a := hD0.self
  have hS : va_S (mA a) s.heap s.heap [] := va_S.rf
  refine lv_iload_n hx hb dX1_steps_0 rfl (lv_at hl 1 rfl) ?_
  refine lv_iconst (v := 1) hx hb dX1_steps_1 (by decide) ?_
  refine lv_icmp_lt (tgt := 18) hx hb dX1_steps_2 (by decide) (fun c1 => ?_) (fun c1 => ?_)
  · refine lv_iconst (v := (-1)) hx hb dX1_steps_18 (by decide) ?_
    have hop := op_steps_bad (st := st) (a := p0) (b := p1) (Or.inl c1)
    exact ml_iret hx hb hr hlocks (by rw [hop]) (by rw [hop]; exact ⟨_, _, _, _, ⟨rfl, r2, rfl, rfl, r5, r6⟩, _, _, _, _, hP⟩) hS dX1_steps_19
  · refine lv_iload_n hx hb dX1_steps_5 rfl (lv_at hl 2 rfl) ?_
    refine lv_iload_n hx hb dX1_steps_6 rfl (lv_at hl 1 rfl) ?_
    refine lv_icmp_lt (tgt := 18) hx hb dX1_steps_7 (by decide) (fun c2 => ?_) (fun c2 => ?_)
    · refine lv_iconst (v := (-1)) hx hb dX1_steps_18 (by decide) ?_
      have hop := op_steps_bad (st := st) (a := p0) (b := p1) (Or.inr (Or.inl c2))
      exact ml_iret hx hb hr hlocks (by rw [hop]) (by rw [hop]; exact ⟨_, _, _, _, ⟨rfl, r2, rfl, rfl, r5, r6⟩, _, _, _, _, hP⟩) hS dX1_steps_19
    · refine lv_iload_n hx hb dX1_steps_10 rfl (lv_at hl 2 rfl) ?_
      refine lv_aload_n hx hb dX1_steps_11 rfl (lv_at hl 0 rfl) ?_
      refine mg_n S hK hP dX1_steps_12 ?_
      refine lv_icmp_le (tgt := 20) hx hb dX1_steps_15 (by decide) (fun c3 => ?_) (fun c3 => ?_)
      · obtain ⟨z, e1, k1, k2⟩ := nat_of (n := p1) (N := st.1) (by omega) (fun h => c1 (Int32.lt_of_le_of_lt (Int32.not_lt.mp c2) h)) (Int32.not_lt.mpr c3)
        subst e1
        obtain ⟨y, e0, k0, k3⟩ := nat_of (n := p0) (N := z) (by omega) c1 c2
        subst e0
        have hop := op_steps_ok (st := st) k0 k3 k2 r2
        generalize hL : ml_stp (ml_g st.2.1) 6 0 z y = Lx at hop
        have hlen : Lx.length ≤ 7 := by rw [← hL]; exact stp_len _ 6 0 z y
        have hend : ∀ (hd fr co sa va : Nat → Int32) (H : Heap) (locs : List Loc), ml_ho hd Lx → va_P D ml_cl (wM d a (nI st.1) (nI Lx.length) st.2.1 hd fr co sa va) H → va_S (mA a) s.heap H locs → ∀ ls : Array Slot, lv_has ls 10 [(0, .ref (a 0))] → W p l e (headSpec (ws_ yX1_steps cX1_steps 10 (some .int)) ({ frames := 3, cells := 0, slots := 0, locals := 70 })).room s m ([.ref (a 0), .int (nI y), .int (nI z)] : List Value).toArray below meth c H locs 0 0 (MQ below (ml_Qi (op_steps st (nI y) (nI z)).1 (mH D d a (op_steps st (nI y) (nI z)).2) (mA a)) ([.ref (a 0), .int (nI y), .int (nI z)] : List Value).toArray s 0 0 (mA a)) (F0 m 197 ls []) := by
          intro hd fr co sa va H locs hh hP hS ls hl
          refine lv_aload_n hx hb dX1_steps_197 rfl (lv_at hl 0 rfl) ?_
          refine mc_turnHand hD0 (by have := hlen; omega) S ⟨Nat.le_of_ble_eq_true rfl, Nat.le_of_ble_eq_true rfl⟩ ⟨Nat.zero_le _, Nat.zero_le _⟩ hK ⟨_, _, _, _, hP⟩ hS (fun _ h => h) hl.1 (Nat.le_of_ble_eq_true rfl) dX1_steps_198 (fun H locs hT _ hS => ?_)
          obtain ⟨hd', hn, fr, co, sa, va, hP⟩ := hT
          refine lv_aload_n hx hb dX1_steps_201 rfl (lv_at hl 0 rfl) ?_
          refine mg_hl S hK hP dX1_steps_202 ?_
          exact ml_iret hx hb hr hlocks (by rw [hop]) (by rw [hop]; exact ⟨_, _, _, _, ⟨rfl, r2, rfl, by rw [List.length_reverse], by rw [List.length_reverse]; have := hlen; omega, ho_rev hh hn⟩, _, _, _, _, hP⟩) hS dX1_steps_205
        have hlast : ∀ (u v : Nat) (wv : Int32) (Lp : List Int32) (hd fr co sa va : Nat → Int32), wv = (if u = 0 then 1 else 0) → 1 ≤ v → u + v ≤ st.1 → Lp.length ≤ 6 → ml_ho hd Lp → Lp ++ (if 0 < u then [ml_r (ml_g st.2.1) u v] else []) = Lx → ∀ (H : Heap) (locs : List Loc), va_P D ml_cl (wM d a (nI st.1) (nI Lp.length) st.2.1 hd fr co sa va) H → va_S (mA a) s.heap H locs → ∀ ls : Array Slot, lv_has ls 10 [(0, .ref (a 0)), (3, .int (nI u)), (4, .int (nI v)), (6, .int wv)] → W p l e (headSpec (ws_ yX1_steps cX1_steps 10 (some .int)) ({ frames := 3, cells := 0, slots := 0, locals := 70 })).room s m ([.ref (a 0), .int (nI y), .int (nI z)] : List Value).toArray below meth c H locs 0 0 (MQ below (ml_Qi (op_steps st (nI y) (nI z)).1 (mH D d a (op_steps st (nI y) (nI z)).2) (mA a)) ([.ref (a 0), .int (nI y), .int (nI z)] : List Value).toArray s 0 0 (mA a)) (F0 m 177 ls []) := by
          intro u v wv Lp hd fr co sa va hw h2 h3 h5 h6 h7 H locs hP hS ls hl
          refine lv_iload hx hb dX1_steps_177 (lv_at hl 3 rfl) ?_
          refine lv_if_ne (tgt := 197) hx hb dX1_steps_179 (by decide) (fun c5 => ?_) (fun c5 => ?_)
          · have hu : u = 0 := by
              rcases Nat.eq_zero_or_pos u with h | h
              · exact h
              · rw [if_neg (by omega)] at hw; exact absurd hw c5
            have e7 : Lp = Lx := by rw [← h7, if_neg (by omega), List.append_nil]
            subst e7
            exact hend hd fr co sa va H locs h6 hP hS ls (lv_sub hl [0] rfl)
          · have hu : 0 < u := by
              rcases Nat.eq_zero_or_pos u with h | h
              · rw [if_pos h] at hw; rw [hw] at c5; exact absurd c5 (by decide)
              · exact h
            rw [if_pos hu] at h7
            subst h7
            refine lv_aload_n hx hb dX1_steps_182 rfl (lv_at hl 0 rfl) ?_
            refine lv_iload_n hx hb dX1_steps_183 rfl (lv_at hl 1 rfl) ?_
            refine lv_iload hx hb dX1_steps_184 (lv_at hl 2 rfl) ?_
            refine mc_rootOf hD0 h2 (by omega) S ⟨Nat.le_of_ble_eq_true rfl, Nat.le_of_ble_eq_true rfl⟩ ⟨Nat.zero_le _, Nat.zero_le _⟩ hK ⟨_, _, _, _, hP⟩ hS (fun _ h => h) hl.1 (Nat.le_of_ble_eq_true rfl) dX1_steps_186 (fun H locs ⟨fr, co, sa, va, hP⟩ _ hS => ?_)
            refine lv_istore (lv' := [(7, .int (ml_r (ml_g st.2.1) u v)), (0, .ref (a 0)), (3, .int (nI u)), (4, .int (nI v)), (6, .int wv)]) hx hb dX1_steps_189 hl (by decide) rfl (fun ls hl => ?_)
            refine lv_aload_n hx hb dX1_steps_191 rfl (lv_at hl 1 rfl) ?_
            refine lv_iload hx hb dX1_steps_192 (lv_at hl 0 rfl) ?_
            refine mc_hold hD0 (by omega) S ⟨Nat.le_of_ble_eq_true rfl, Nat.le_of_ble_eq_true rfl⟩ ⟨Nat.zero_le _, Nat.zero_le _⟩ hK ⟨_, _, _, _, hP⟩ hS (fun _ h => h) hl.1 (Nat.le_of_ble_eq_true rfl) dX1_steps_194 (fun H locs ⟨fr, co, sa, va, hP⟩ _ hS => ?_)
            exact hend _ fr co sa va H locs (ho_push h6) (by rw [List.length_append, List.length_singleton]; exact hP) hS ls (lv_sub hl [1] rfl)
        have loop : ∀ (k i u v x : Nat) (wv : Int32) (Lp : List Int32) (hd fr co sa va : Nat → Int32), i + k = 6 → wv = (if u = 0 then 1 else 0) → 1 ≤ x → x ≤ v → u + v ≤ st.1 → Lp.length ≤ i → ml_ho hd Lp → Lp ++ ml_stp (ml_g st.2.1) k u v x = Lx → ∀ (H : Heap) (locs : List Loc), va_P D ml_cl (wM d a (nI st.1) (nI Lp.length) st.2.1 hd fr co sa va) H → va_S (mA a) s.heap H locs → ∀ ls : Array Slot, lv_has ls 10 [(0, .ref (a 0)), (3, .int (nI u)), (4, .int (nI v)), (5, .int (nI x)), (6, .int wv), (7, .int (nI i))] → W p l e (headSpec (ws_ yX1_steps cX1_steps 10 (some .int)) ({ frames := 3, cells := 0, slots := 0, locals := 70 })).room s m ([.ref (a 0), .int (nI y), .int (nI z)] : List Value).toArray below meth c H locs 0 0 (MQ below (ml_Qi (op_steps st (nI y) (nI z)).1 (mH D d a (op_steps st (nI y) (nI z)).2) (mA a)) ([.ref (a 0), .int (nI y), .int (nI z)] : List Value).toArray s 0 0 (mA a)) (F0 m 39 ls []) := by
          intro k
          induction k with
          | zero =>
            intro i u v x wv Lp hd fr co sa va hk hw h1 h2 h3 h5 h6 h7 H locs hP hS ls hl
            have hi : i = 6 := by omega
            subst hi
            refine lv_iload hx hb dX1_steps_39 (lv_at hl 5 rfl) ?_
            refine lv_bipush (v := 6) hx hb dX1_steps_41 (by decide) ?_
            refine lv_icmp_ge (tgt := 177) hx hb dX1_steps_43 (by decide) (fun _ => ?_) (fun q => absurd (by decide) q)
            exact hlast u v wv Lp hd fr co sa va hw (by omega) h3 h5 h6 (by rw [← h7, ml_stp]) H locs hP hS ls (lv_sub hl [0, 1, 2, 4] rfl)
          | succ k ih =>
            intro i u v x wv Lp hd fr co sa va hk hw h1 h2 h3 h5 h6 h7 H locs hP hS ls hl
            refine lv_iload hx hb dX1_steps_39 (lv_at hl 5 rfl) ?_
            refine lv_bipush (v := 6) hx hb dX1_steps_41 (by decide) ?_
            refine lv_icmp_ge (tgt := 177) hx hb dX1_steps_43 (by decide) (fun q => absurd q (fun h => absurd ((nI_leI (a := 6) (b := i) (by decide) (by omega)).mp h) (by omega))) (fun _ => ?_)
            refine lv_iload hx hb dX1_steps_46 (lv_at hl 3 rfl) ?_
            refine lv_iload hx hb dX1_steps_48 (lv_at hl 2 rfl) ?_
            refine lv_icmp_ge (tgt := 177) hx hb dX1_steps_50 (by decide) (fun c6 => ?_) (fun c6 => ?_)
            · have hvx : v ≤ x := (nI_leI (by omega) (by omega)).mp c6
              exact hlast u v wv Lp hd fr co sa va hw (by omega) h3 (by omega) h6 (by rw [← h7, ml_stp, if_pos hvx]) H locs hP hS ls (lv_sub hl [0, 1, 2, 4] rfl)
            · have hxv : x < v := by
                rcases Nat.lt_or_ge (x) (v) with h | h
                · exact h
                · exact absurd (nI_le h (by omega)) c6
              have h2u : 2 ≤ v := by omega
              obtain ⟨f1, f2⟩ := hf_lt h2u
              rw [ml_stp, if_neg (show ¬ v ≤ x by omega)] at h7
              refine lv_iload hx hb dX1_steps_53 (lv_at hl 2 rfl) ?_
              refine mc_half (by omega) S ⟨Nat.le_of_ble_eq_true rfl, Nat.le_of_ble_eq_true rfl⟩ ⟨Nat.zero_le _, Nat.zero_le _⟩ hl.1 (Nat.le_of_ble_eq_true rfl) dX1_steps_55 ?_
              refine lv_istore (lv' := [(8, .int (nI (ml_hf v))), (0, .ref (a 0)), (3, .int (nI u)), (4, .int (nI v)), (5, .int (nI x)), (6, .int wv), (7, .int (nI i))]) hx hb dX1_steps_58 hl (by decide) rfl (fun ls hl => ?_)
              refine lv_iload hx hb dX1_steps_60 (lv_at hl 4 rfl) ?_
              refine lv_iload hx hb dX1_steps_62 (lv_at hl 0 rfl) ?_
              refine lv_icmp_gt (tgt := 83) hx hb dX1_steps_64 (by decide) (fun c7 => ?_) (fun c7 => ?_)
              · have h8 : ml_hf v < x := (nI_ltI (by omega) (by omega)).mp c7
                rw [if_neg (show ¬ x ≤ ml_hf v by omega)] at h7
                refine lv_aload_n hx hb dX1_steps_83 rfl (lv_at hl 1 rfl) ?_
                refine lv_iload_n hx hb dX1_steps_84 rfl (lv_at hl 2 rfl) ?_
                refine lv_iload hx hb dX1_steps_85 (lv_at hl 0 rfl) ?_
                refine mc_rootOf hD0 (by omega) (by omega) S ⟨Nat.le_of_ble_eq_true rfl, Nat.le_of_ble_eq_true rfl⟩ ⟨Nat.zero_le _, Nat.zero_le _⟩ hK ⟨_, _, _, _, hP⟩ hS (fun _ h => h) hl.1 (Nat.le_of_ble_eq_true rfl) dX1_steps_87 (fun H locs ⟨fr, co, sa, va, hP⟩ _ hS => ?_)
                refine lv_istore (lv' := [(9, .int (ml_r (ml_g st.2.1) u (ml_hf v))), (8, .int (nI (ml_hf v))), (0, .ref (a 0)), (3, .int (nI u)), (4, .int (nI v)), (5, .int (nI x)), (6, .int wv), (7, .int (nI i))]) hx hb dX1_steps_90 hl (by decide) rfl (fun ls hl => ?_)
                refine lv_aload_n hx hb dX1_steps_92 rfl (lv_at hl 2 rfl) ?_
                refine lv_iload hx hb dX1_steps_93 (lv_at hl 0 rfl) ?_
                refine mc_hold hD0 (by omega) S ⟨Nat.le_of_ble_eq_true rfl, Nat.le_of_ble_eq_true rfl⟩ ⟨Nat.zero_le _, Nat.zero_le _⟩ hK ⟨_, _, _, _, hP⟩ hS (fun _ h => h) hl.1 (Nat.le_of_ble_eq_true rfl) dX1_steps_95 (fun H locs ⟨fr, co, sa, va, hP⟩ _ hS => ?_)
                have fin : ∀ (nw : Int32), nw = (if (u + ml_hf v) = 0 then 1 else 0) → ∀ ls : Array Slot, lv_has ls 10 [(0, .ref (a 0)), (3, .int (nI u)), (4, .int (nI v)), (5, .int (nI x)), (7, .int (nI i)), (8, .int (nI (ml_hf v)))] → W p l e (headSpec (ws_ yX1_steps cX1_steps 10 (some .int)) ({ frames := 3, cells := 0, slots := 0, locals := 70 })).room s m ([.ref (a 0), .int (nI y), .int (nI z)] : List Value).toArray below meth c H locs 0 0 (MQ below (ml_Qi (op_steps st (nI y) (nI z)).1 (mH D d a (op_steps st (nI y) (nI z)).2) (mA a)) ([.ref (a 0), .int (nI y), .int (nI z)] : List Value).toArray s 0 0 (mA a)) (F0 m 115 ls [.int nw]) := by
                  intro nw hnw ls hl
                  refine lv_istore (lv' := [(6, .int nw), (0, .ref (a 0)), (3, .int (nI u)), (4, .int (nI v)), (5, .int (nI x)), (7, .int (nI i)), (8, .int (nI (ml_hf v)))]) hx hb dX1_steps_115 hl (by decide) rfl (fun ls hl => ?_)
                  refine lv_iload hx hb dX1_steps_117 (lv_at hl 4 rfl) ?_
                  refine lv_iload hx hb dX1_steps_119 (lv_at hl 6 rfl) ?_
                  refine lv_icmp_gt (tgt := 128) hx hb dX1_steps_121 (by decide) (fun _ => ?_) (fun q => absurd (c7) q)
                  refine lv_iload_n hx hb dX1_steps_128 rfl (lv_at hl 2 rfl) ?_
                  refine lv_iload hx hb dX1_steps_129 (lv_at hl 6 rfl) ?_
                  refine lv_iadd hx hb dX1_steps_131 ?_
                  refine ml_top (y := nI (u + ml_hf v)) (nI_add _ _) ?_
                  refine lv_istore_n (lv' := [(3, .int (nI (u + ml_hf v))), (6, .int nw), (0, .ref (a 0)), (4, .int (nI v)), (5, .int (nI x)), (7, .int (nI i)), (8, .int (nI (ml_hf v)))]) hx hb dX1_steps_132 rfl hl (by decide) rfl (fun ls hl => ?_)
                  refine lv_iload hx hb dX1_steps_133 (lv_at hl 4 rfl) ?_
                  refine lv_iload hx hb dX1_steps_135 (lv_at hl 6 rfl) ?_
                  refine lv_icmp_gt (tgt := 145) hx hb dX1_steps_137 (by decide) (fun _ => ?_) (fun q => absurd (c7) q)
                  refine lv_iload hx hb dX1_steps_145 (lv_at hl 3 rfl) ?_
                  refine lv_iload hx hb dX1_steps_147 (lv_at hl 6 rfl) ?_
                  refine lv_isub hx hb dX1_steps_149 ?_
                  refine ml_top (y := nI (v - ml_hf v)) (pk_sub (by omega)) ?_
                  refine lv_istore (lv' := [(4, .int (nI (v - ml_hf v))), (3, .int (nI (u + ml_hf v))), (6, .int nw), (0, .ref (a 0)), (5, .int (nI x)), (7, .int (nI i)), (8, .int (nI (ml_hf v)))]) hx hb dX1_steps_150 hl (by decide) rfl (fun ls hl => ?_)
                  refine lv_iload hx hb dX1_steps_152 (lv_at hl 4 rfl) ?_
                  refine lv_iload hx hb dX1_steps_154 (lv_at hl 6 rfl) ?_
                  refine lv_icmp_gt (tgt := 164) hx hb dX1_steps_156 (by decide) (fun _ => ?_) (fun q => absurd (c7) q)
                  refine lv_iload hx hb dX1_steps_164 (lv_at hl 4 rfl) ?_
                  refine lv_iload hx hb dX1_steps_166 (lv_at hl 6 rfl) ?_
                  refine lv_isub hx hb dX1_steps_168 ?_
                  refine ml_top (y := nI (x - ml_hf v)) (pk_sub (by omega)) ?_
                  refine lv_istore (lv' := [(5, .int (nI (x - ml_hf v))), (4, .int (nI (v - ml_hf v))), (3, .int (nI (u + ml_hf v))), (6, .int nw), (0, .ref (a 0)), (7, .int (nI i)), (8, .int (nI (ml_hf v)))]) hx hb dX1_steps_169 hl (by decide) rfl (fun ls hl => ?_)
                  refine lv_iinc (v := nI (i + 1)) (lv' := [(7, .int (nI (i + 1))), (5, .int (nI (x - ml_hf v))), (4, .int (nI (v - ml_hf v))), (3, .int (nI (u + ml_hf v))), (6, .int nw), (0, .ref (a 0)), (8, .int (nI (ml_hf v)))]) hx hb dX1_steps_171 hl (k := 5) rfl (nI_1 i) (by decide) rfl (fun ls hl => ?_)
                  refine lv_goto (tgt := 39) hx hb dX1_steps_174 (by decide) ?_
                  exact ih (i + 1) (u + ml_hf v) (v - ml_hf v) (x - ml_hf v) nw (Lp ++ [ml_r (ml_g st.2.1) u (ml_hf v)]) _ fr co sa va (by omega) hnw (by omega) (by omega) (by omega) (by rw [List.length_append, List.length_singleton]; omega) (ho_push h6) (by rw [← h7, List.append_assoc]; rfl) H locs (by rw [List.length_append, List.length_singleton]; exact hP) hS ls (lv_sub hl [5, 3, 2, 1, 4, 0] rfl)
                by_cases hu : u = 0
                · rw [if_pos hu] at hw
                  refine lv_iload hx hb dX1_steps_98 (lv_at hl 6 rfl) ?_
                  refine lv_if_eq (tgt := 114) hx hb dX1_steps_100 (by decide) (fun q => absurd q (by rw [hw]; decide)) (fun _ => ?_)
                  refine lv_iload hx hb dX1_steps_103 (lv_at hl 5 rfl) ?_
                  refine lv_iload hx hb dX1_steps_105 (lv_at hl 1 rfl) ?_
                  refine lv_icmp_gt (tgt := 114) hx hb dX1_steps_107 (by decide) (fun _ => ?_) (fun q => absurd (c7) q)
                  refine lv_iconst (v := 0) hx hb dX1_steps_114 (by decide) ?_
                  exact fin _ (by rw [if_neg (by omega)]) ls (lv_sub hl [2, 3, 4, 5, 7, 1] rfl)
                · rw [if_neg hu] at hw
                  refine lv_iload hx hb dX1_steps_98 (lv_at hl 6 rfl) ?_
                  refine lv_if_eq (tgt := 114) hx hb dX1_steps_100 (by decide) (fun _ => ?_) (fun q => absurd (hw) q)
                  refine lv_iconst (v := 0) hx hb dX1_steps_114 (by decide) ?_
                  exact fin _ (by rw [if_neg (by omega)]) ls (lv_sub hl [2, 3, 4, 5, 7, 1] rfl)
              · have h8 : x ≤ ml_hf v := by
                  rcases Nat.lt_or_ge (ml_hf v) (x) with h | h
                  · exact absurd (nI_lt h (by omega)) c7
                  · exact h
                rw [if_pos h8] at h7
                refine lv_aload_n hx hb dX1_steps_67 rfl (lv_at hl 1 rfl) ?_
                refine lv_iload_n hx hb dX1_steps_68 rfl (lv_at hl 2 rfl) ?_
                refine lv_iload hx hb dX1_steps_69 (lv_at hl 0 rfl) ?_
                refine lv_iadd hx hb dX1_steps_71 ?_
                refine ml_top (y := nI (u + ml_hf v)) (nI_add _ _) ?_
                refine lv_iload hx hb dX1_steps_72 (lv_at hl 3 rfl) ?_
                refine lv_iload hx hb dX1_steps_74 (lv_at hl 0 rfl) ?_
                refine lv_isub hx hb dX1_steps_76 ?_
                refine ml_top (y := nI (v - ml_hf v)) (pk_sub (by omega)) ?_
                refine mc_rootOf hD0 (by omega) (by omega) S ⟨Nat.le_of_ble_eq_true rfl, Nat.le_of_ble_eq_true rfl⟩ ⟨Nat.zero_le _, Nat.zero_le _⟩ hK ⟨_, _, _, _, hP⟩ hS (fun _ h => h) hl.1 (Nat.le_of_ble_eq_true rfl) dX1_steps_77 (fun H locs ⟨fr, co, sa, va, hP⟩ _ hS => ?_)
                refine lv_goto (tgt := 90) hx hb dX1_steps_80 (by decide) ?_
                refine lv_istore (lv' := [(9, .int (ml_r (ml_g st.2.1) (u + ml_hf v) (v - ml_hf v))), (8, .int (nI (ml_hf v))), (0, .ref (a 0)), (3, .int (nI u)), (4, .int (nI v)), (5, .int (nI x)), (6, .int wv), (7, .int (nI i))]) hx hb dX1_steps_90 hl (by decide) rfl (fun ls hl => ?_)
                refine lv_aload_n hx hb dX1_steps_92 rfl (lv_at hl 2 rfl) ?_
                refine lv_iload hx hb dX1_steps_93 (lv_at hl 0 rfl) ?_
                refine mc_hold hD0 (by omega) S ⟨Nat.le_of_ble_eq_true rfl, Nat.le_of_ble_eq_true rfl⟩ ⟨Nat.zero_le _, Nat.zero_le _⟩ hK ⟨_, _, _, _, hP⟩ hS (fun _ h => h) hl.1 (Nat.le_of_ble_eq_true rfl) dX1_steps_95 (fun H locs ⟨fr, co, sa, va, hP⟩ _ hS => ?_)
                have fin : ∀ (nw : Int32), nw = (if u = 0 then 1 else 0) → ∀ ls : Array Slot, lv_has ls 10 [(0, .ref (a 0)), (3, .int (nI u)), (4, .int (nI v)), (5, .int (nI x)), (7, .int (nI i)), (8, .int (nI (ml_hf v)))] → W p l e (headSpec (ws_ yX1_steps cX1_steps 10 (some .int)) ({ frames := 3, cells := 0, slots := 0, locals := 70 })).room s m ([.ref (a 0), .int (nI y), .int (nI z)] : List Value).toArray below meth c H locs 0 0 (MQ below (ml_Qi (op_steps st (nI y) (nI z)).1 (mH D d a (op_steps st (nI y) (nI z)).2) (mA a)) ([.ref (a 0), .int (nI y), .int (nI z)] : List Value).toArray s 0 0 (mA a)) (F0 m 115 ls [.int nw]) := by
                  intro nw hnw ls hl
                  refine lv_istore (lv' := [(6, .int nw), (0, .ref (a 0)), (3, .int (nI u)), (4, .int (nI v)), (5, .int (nI x)), (7, .int (nI i)), (8, .int (nI (ml_hf v)))]) hx hb dX1_steps_115 hl (by decide) rfl (fun ls hl => ?_)
                  refine lv_iload hx hb dX1_steps_117 (lv_at hl 4 rfl) ?_
                  refine lv_iload hx hb dX1_steps_119 (lv_at hl 6 rfl) ?_
                  refine lv_icmp_gt (tgt := 128) hx hb dX1_steps_121 (by decide) (fun q => absurd q (c7)) (fun _ => ?_)
                  refine lv_iload_n hx hb dX1_steps_124 rfl (lv_at hl 2 rfl) ?_
                  refine lv_goto (tgt := 132) hx hb dX1_steps_125 (by decide) ?_
                  refine lv_istore_n (lv' := [(3, .int (nI u)), (6, .int nw), (0, .ref (a 0)), (4, .int (nI v)), (5, .int (nI x)), (7, .int (nI i)), (8, .int (nI (ml_hf v)))]) hx hb dX1_steps_132 rfl hl (by decide) rfl (fun ls hl => ?_)
                  refine lv_iload hx hb dX1_steps_133 (lv_at hl 4 rfl) ?_
                  refine lv_iload hx hb dX1_steps_135 (lv_at hl 6 rfl) ?_
                  refine lv_icmp_gt (tgt := 145) hx hb dX1_steps_137 (by decide) (fun q => absurd q (c7)) (fun _ => ?_)
                  refine lv_iload hx hb dX1_steps_140 (lv_at hl 6 rfl) ?_
                  refine lv_goto (tgt := 150) hx hb dX1_steps_142 (by decide) ?_
                  refine lv_istore (lv' := [(4, .int (nI (ml_hf v))), (3, .int (nI u)), (6, .int nw), (0, .ref (a 0)), (5, .int (nI x)), (7, .int (nI i)), (8, .int (nI (ml_hf v)))]) hx hb dX1_steps_150 hl (by decide) rfl (fun ls hl => ?_)
                  refine lv_iload hx hb dX1_steps_152 (lv_at hl 4 rfl) ?_
                  refine lv_iload hx hb dX1_steps_154 (lv_at hl 6 rfl) ?_
                  refine lv_icmp_gt (tgt := 164) hx hb dX1_steps_156 (by decide) (fun q => absurd q (c7)) (fun _ => ?_)
                  refine lv_iload hx hb dX1_steps_159 (lv_at hl 4 rfl) ?_
                  refine lv_goto (tgt := 169) hx hb dX1_steps_161 (by decide) ?_
                  refine lv_istore (lv' := [(5, .int (nI x)), (4, .int (nI (ml_hf v))), (3, .int (nI u)), (6, .int nw), (0, .ref (a 0)), (7, .int (nI i)), (8, .int (nI (ml_hf v)))]) hx hb dX1_steps_169 hl (by decide) rfl (fun ls hl => ?_)
                  refine lv_iinc (v := nI (i + 1)) (lv' := [(7, .int (nI (i + 1))), (5, .int (nI x)), (4, .int (nI (ml_hf v))), (3, .int (nI u)), (6, .int nw), (0, .ref (a 0)), (8, .int (nI (ml_hf v)))]) hx hb dX1_steps_171 hl (k := 5) rfl (nI_1 i) (by decide) rfl (fun ls hl => ?_)
                  refine lv_goto (tgt := 39) hx hb dX1_steps_174 (by decide) ?_
                  exact ih (i + 1) u (ml_hf v) x nw (Lp ++ [ml_r (ml_g st.2.1) (u + ml_hf v) (v - ml_hf v)]) _ fr co sa va (by omega) hnw (by omega) (by omega) (by omega) (by rw [List.length_append, List.length_singleton]; omega) (ho_push h6) (by rw [← h7, List.append_assoc]; rfl) H locs (by rw [List.length_append, List.length_singleton]; exact hP) hS ls (lv_sub hl [5, 3, 2, 1, 4, 0] rfl)
                by_cases hu : u = 0
                · rw [if_pos hu] at hw
                  refine lv_iload hx hb dX1_steps_98 (lv_at hl 6 rfl) ?_
                  refine lv_if_eq (tgt := 114) hx hb dX1_steps_100 (by decide) (fun q => absurd q (by rw [hw]; decide)) (fun _ => ?_)
                  refine lv_iload hx hb dX1_steps_103 (lv_at hl 5 rfl) ?_
                  refine lv_iload hx hb dX1_steps_105 (lv_at hl 1 rfl) ?_
                  refine lv_icmp_gt (tgt := 114) hx hb dX1_steps_107 (by decide) (fun q => absurd q (c7)) (fun _ => ?_)
                  refine lv_iconst (v := 1) hx hb dX1_steps_110 (by decide) ?_
                  refine lv_goto (tgt := 115) hx hb dX1_steps_111 (by decide) ?_
                  exact fin _ (by rw [if_pos hu]) ls (lv_sub hl [2, 3, 4, 5, 7, 1] rfl)
                · rw [if_neg hu] at hw
                  refine lv_iload hx hb dX1_steps_98 (lv_at hl 6 rfl) ?_
                  refine lv_if_eq (tgt := 114) hx hb dX1_steps_100 (by decide) (fun _ => ?_) (fun q => absurd (hw) q)
                  refine lv_iconst (v := 0) hx hb dX1_steps_114 (by decide) ?_
                  exact fin _ (by rw [if_neg (by omega)]) ls (lv_sub hl [2, 3, 4, 5, 7, 1] rfl)
        refine lv_aload_n hx hb dX1_steps_20 rfl (lv_at hl 0 rfl) ?_
        refine lv_iconst (v := 0) hx hb dX1_steps_21 (by decide) ?_
        refine mp_hl S hK hP hD hS dX1_steps_22 (fun H locs hP hS => ?_)
        refine lv_iconst (v := 0) hx hb dX1_steps_25 (by decide) ?_
        refine lv_istore_n (lv' := [(3, .int 0), (0, .ref (a 0)), (1, .int (nI y)), (2, .int (nI z))]) hx hb dX1_steps_26 rfl hl (by decide) rfl (fun ls hl => ?_)
        refine lv_iload_n hx hb dX1_steps_27 rfl (lv_at hl 3 rfl) ?_
        refine lv_istore (lv' := [(4, .int (nI z)), (3, .int 0), (0, .ref (a 0)), (1, .int (nI y)), (2, .int (nI z))]) hx hb dX1_steps_28 hl (by decide) rfl (fun ls hl => ?_)
        refine lv_iload_n hx hb dX1_steps_30 rfl (lv_at hl 3 rfl) ?_
        refine lv_istore (lv' := [(5, .int (nI y)), (4, .int (nI z)), (3, .int 0), (0, .ref (a 0)), (1, .int (nI y)), (2, .int (nI z))]) hx hb dX1_steps_31 hl (by decide) rfl (fun ls hl => ?_)
        refine lv_iconst (v := 1) hx hb dX1_steps_33 (by decide) ?_
        refine lv_istore (lv' := [(6, .int 1), (5, .int (nI y)), (4, .int (nI z)), (3, .int 0), (0, .ref (a 0)), (1, .int (nI y)), (2, .int (nI z))]) hx hb dX1_steps_34 hl (by decide) rfl (fun ls hl => ?_)
        refine lv_iconst (v := 0) hx hb dX1_steps_36 (by decide) ?_
        refine lv_istore (lv' := [(7, .int 0), (6, .int 1), (5, .int (nI y)), (4, .int (nI z)), (3, .int 0), (0, .ref (a 0)), (1, .int (nI y)), (2, .int (nI z))]) hx hb dX1_steps_37 hl (by decide) rfl (fun ls hl => ?_)
        exact loop 6 0 0 z y 1 [] hd fr co sa va (by omega) rfl k0 k3 (by omega) (Nat.le_refl 0) (ho_nil _) (by rw [List.nil_append]; exact hL) H locs hP hS ls (lv_sub hl [5, 4, 3, 2, 1, 0] rfl)
      · refine lv_iconst (v := (-1)) hx hb dX1_steps_18 (by decide) ?_
        have hop := op_steps_bad (st := st) (a := p0) (b := p1) (Or.inr (Or.inr (Int32.not_le.mp c3)))
        exact ml_iret hx hb hr hlocks (by rw [hop]) (by rw [hop]; exact ⟨_, _, _, _, ⟨rfl, r2, rfl, rfl, r5, r6⟩, _, _, _, _, hP⟩) hS dX1_steps_19
end
section
set_option maxHeartbeats 4000000 in
set_option maxRecDepth 100000 in
/-- rootFrom(entry, size, value) -/
theorem mm_rootFrom (l : Launch) (D : va_G) (d : ClassId) (a : Nat → Nat) (hD0 : mD (fun _ => True) a) (st : ml_S) (p0 p1 p2 : Int32) : Met l yX1_rootFrom (ws_ yX1_rootFrom cX1_rootFrom 7 (some .int)) ({ frames := 2, cells := 0, slots := 0, locals := 47 }) (ml_Pc D d [.ref (a 0), .int p0, .int p1, .int p2] (mH D d a st)) (ml_Q (op_rootFrom st p0 p1 p2)) 0 0 (ml_no) := by
  refine Met.ofW (cc := cX1_rootFrom) (maxL := 7) (ret := (some .int)) (by decide) rfl ?_
  intro p e s m args below meth c s₁ B hml hv
  obtain ⟨rfl, hH, hK⟩ := hv
  have hx := B.exec
  have hb := B.bytes
  have hr := B.returns
  have hts0 := atoms_spec (ws := (ws_ yX1_rootFrom cX1_rootFrom 7 (some .int))) B.pre
  have hts : ∀ w ∈ lw_all, w.before _ s = true := fun w h => hts0 w (List.mem_cons_of_mem _ h)
  have hown : s.vm.findClass RX1 = some m.cls := findClass_of_methodNamed B.named
  have hlocks := B.notSynchronized
  have S : CallFix p m c cX1_rootFrom 7 s _ lw_all RX1 := ⟨hx, hb, hml, hown, hts⟩
  have hl := lv_entry ([.ref (a 0), .int p0, .int p1, .int p2]) (n := 7) (Nat.le_of_ble_eq_true rfl)
  rw [lg_entry_eq]
  generalize (lg_sl ([.ref (a 0), .int p0, .int p1, .int p2]) ++ List.replicate (7 - (lg_sl ([.ref (a 0), .int p0, .int p1, .int p2])).length) Slot.unset).toArray = ls at hl ⊢
  have hl : lv_has ls 7 [(0, .ref (a 0)), (1, .int p0), (2, .int p1), (3, .int p2)] := hl
  obtain ⟨n, hl, lg, hd, ⟨r1, r2, r3, r4, r5, r6⟩, fr, co, sa, va, hP⟩ := hH
  subst r1; subst r3; subst r4
  have hD : mD (mA a) a := hD0.self
  have hS : va_S (mA a) s.heap s.heap [] := va_S.rf
  refine lv_iload_n hx hb dX1_rootFrom_0 rfl (lv_at hl 2 rfl) ?_
  refine lv_iconst (v := 1) hx hb dX1_rootFrom_1 (by decide) ?_
  refine lv_icmp_lt (tgt := 32) hx hb dX1_rootFrom_2 (by decide) (fun c1 => ?_) (fun c1 => ?_)
  · refine lv_iconst (v := 0) hx hb dX1_rootFrom_32 (by decide) ?_
    exact ml_pret hx hb hr rfl hlocks ((op_rootFrom_bad (Or.inl c1)).symm) dX1_rootFrom_33
  · refine lv_iload_n hx hb dX1_rootFrom_5 rfl (lv_at hl 2 rfl) ?_
    refine lv_bipush (v := 40) hx hb dX1_rootFrom_6 (by decide) ?_
    refine lv_icmp_gt (tgt := 32) hx hb dX1_rootFrom_8 (by decide) (fun c2 => ?_) (fun c2 => ?_)
    · refine lv_iconst (v := 0) hx hb dX1_rootFrom_32 (by decide) ?_
      exact ml_pret hx hb hr rfl hlocks ((op_rootFrom_bad (Or.inr (Or.inl c2))).symm) dX1_rootFrom_33
    · refine lv_iload_n hx hb dX1_rootFrom_11 rfl (lv_at hl 1 rfl) ?_
      refine lv_if_lt (tgt := 32) hx hb dX1_rootFrom_12 (by decide) (fun c3 => ?_) (fun c3 => ?_)
      · refine lv_iconst (v := 0) hx hb dX1_rootFrom_32 (by decide) ?_
        exact ml_pret hx hb hr rfl hlocks ((op_rootFrom_bad (Or.inr (Or.inr (Or.inl c3)))).symm) dX1_rootFrom_33
      · refine lv_iload_n hx hb dX1_rootFrom_15 rfl (lv_at hl 1 rfl) ?_
        refine lv_iload_n hx hb dX1_rootFrom_16 rfl (lv_at hl 2 rfl) ?_
        refine lv_icmp_ge (tgt := 32) hx hb dX1_rootFrom_17 (by decide) (fun c4 => ?_) (fun c4 => ?_)
        · refine lv_iconst (v := 0) hx hb dX1_rootFrom_32 (by decide) ?_
          exact ml_pret hx hb hr rfl hlocks ((op_rootFrom_bad (Or.inr (Or.inr (Or.inr c4)))).symm) dX1_rootFrom_33
        · obtain ⟨z, e1, k1, k2⟩ := nat_of (N := 40) (by decide) c1 c2
          subst e1
          obtain ⟨y, e0, k3⟩ := nat_lt (by omega) c3 c4
          subst e0
          have hop := rf_op (v := p2) k3 k2 r6
          have htl := td_len 6 z y
          generalize op_rootFrom st (nI y) (nI z) p2 = R0 at hop ⊢
          refine lv_aload_n hx hb dX1_rootFrom_20 rfl (lv_at hl 0 rfl) ?_
          refine mg_hl S hK hP dX1_rootFrom_21 ?_
          refine lv_iload_n hx hb dX1_rootFrom_24 rfl (lv_at hl 1 rfl) ?_
          refine lv_iload_n hx hb dX1_rootFrom_25 rfl (lv_at hl 2 rfl) ?_
          refine mc_depth k2 k3 S ⟨Nat.le_of_ble_eq_true rfl, Nat.le_of_ble_eq_true rfl⟩ ⟨Nat.zero_le _, Nat.zero_le _⟩ hl.1 (Nat.le_of_ble_eq_true rfl) dX1_rootFrom_26 ?_
          refine lv_icmp_eq (tgt := 34) hx hb dX1_rootFrom_29 (by decide) (fun c5 => ?_) (fun c5 => ?_)
          · have heq : st.2.2.length = (ml_td 6 z y).length := (nI_eq (by omega) (by omega)).mp c5
            have loop : ∀ (k i : Nat) (r : Int32), i + k = st.2.2.length → R0 = ml_rf hd st.2.2.length ((ml_td 6 z y).reverse.drop i) i r → ∀ ls : Array Slot, lv_has ls 7 [(0, .ref (a 0)), (1, .int (nI y)), (2, .int (nI z)), (4, .int r), (5, .int (nI i))] → W p l e (headSpec (ws_ yX1_rootFrom cX1_rootFrom 7 (some .int)) ({ frames := 2, cells := 0, slots := 0, locals := 47 })).room s m ([.ref (a 0), .int (nI y), .int (nI z), .int p2] : List Value).toArray below meth c s.heap [] 0 0 (MQ below (ml_Q (R0)) ([.ref (a 0), .int (nI y), .int (nI z), .int p2] : List Value).toArray s 0 0 (ml_no)) (F0 m 43 ls []) := by
              intro k
              induction k with
              | zero =>
                intro i r hk hres ls hl
                rw [List.drop_eq_nil_iff.mpr (by rw [List.length_reverse]; omega)] at hres
                refine lv_iload hx hb dX1_rootFrom_43 (lv_at hl 4 rfl) ?_
                refine lv_aload_n hx hb dX1_rootFrom_45 rfl (lv_at hl 0 rfl) ?_
                refine mg_hl S hK hP dX1_rootFrom_46 ?_
                refine lv_icmp_ge (tgt := 108) hx hb dX1_rootFrom_49 (by decide) (fun _ => ?_) (fun q => absurd (nI_le (by omega) (by omega)) q)
                refine lv_iload hx hb dX1_rootFrom_108 (lv_at hl 3 rfl) ?_
                exact ml_pret hx hb hr rfl hlocks (by rw [hres, rf_nil (by omega)]) dX1_rootFrom_110
              | succ k ih =>
                intro i r hk hres ls hl
                rw [rev_drop (by omega), rf_step, ← heq] at hres
                refine lv_iload hx hb dX1_rootFrom_43 (lv_at hl 4 rfl) ?_
                refine lv_aload_n hx hb dX1_rootFrom_45 rfl (lv_at hl 0 rfl) ?_
                refine mg_hl S hK hP dX1_rootFrom_46 ?_
                refine lv_icmp_ge (tgt := 108) hx hb dX1_rootFrom_49 (by decide) (fun q => absurd q (nI_ge (by omega) (by omega))) (fun _ => ?_)
                refine lv_iload_n hx hb dX1_rootFrom_52 rfl (lv_at hl 1 rfl) ?_
                refine lv_iload_n hx hb dX1_rootFrom_53 rfl (lv_at hl 2 rfl) ?_
                refine lv_aload_n hx hb dX1_rootFrom_54 rfl (lv_at hl 0 rfl) ?_
                refine mg_hl S hK hP dX1_rootFrom_55 ?_
                refine lv_iconst (v := 1) hx hb dX1_rootFrom_58 (by decide) ?_
                refine lv_isub hx hb dX1_rootFrom_59 ?_
                refine ml_top (y := nI (st.2.2.length - 1)) (nI_minus _ 1 (by omega) _ rfl) ?_
                refine lv_iload hx hb dX1_rootFrom_60 (lv_at hl 4 rfl) ?_
                refine lv_isub hx hb dX1_rootFrom_62 ?_
                refine ml_top (y := nI (st.2.2.length - 1 - i)) (pk_sub (by omega)) ?_
                refine mc_first k2 k3 (by omega) S ⟨Nat.le_of_ble_eq_true rfl, Nat.le_of_ble_eq_true rfl⟩ ⟨Nat.zero_le _, Nat.zero_le _⟩ hl.1 (Nat.le_of_ble_eq_true rfl) dX1_rootFrom_63 ?_
                generalize (ml_td 6 z y).getD (st.2.2.length - 1 - i) false = bv at hres ⊢
                refine lv_istore (lv' := [(6, .int (if bv = true then 1 else 0)), (0, .ref (a 0)), (1, .int (nI y)), (2, .int (nI z)), (4, .int r), (5, .int (nI i))]) hx hb dX1_rootFrom_66 hl (by decide) rfl (fun ls hl => ?_)
                refine lv_iload hx hb dX1_rootFrom_68 (lv_at hl 0 rfl) ?_
                refine lv_if_eq (tgt := 88) hx hb dX1_rootFrom_70 (by decide) (fun c7 => ?_) (fun c7 => ?_)
                · have hbv : ¬ bv = true := fun h => by rw [if_pos h] at c7; exact absurd c7 (by decide)
                  rw [if_neg hbv] at hres
                  refine lv_aload_n hx hb dX1_rootFrom_88 rfl (lv_at hl 1 rfl) ?_
                  refine mg_hd S hK hP dX1_rootFrom_89 ?_
                  refine lv_iload hx hb dX1_rootFrom_92 (lv_at hl 5 rfl) ?_
                  refine ml_hd (j := i) (by omega) S hK hP dX1_rootFrom_94 ?_
                  refine lv_iload hx hb dX1_rootFrom_95 (lv_at hl 4 rfl) ?_
                  refine mc_node S ⟨Nat.le_of_ble_eq_true rfl, Nat.le_of_ble_eq_true rfl⟩ ⟨Nat.zero_le _, Nat.zero_le _⟩ hl.1 (Nat.le_of_ble_eq_true rfl) dX1_rootFrom_97 ?_
                  refine lv_istore (lv' := [(4, .int (ml_node (hd i) r)), (6, .int (if bv = true then 1 else 0)), (0, .ref (a 0)), (1, .int (nI y)), (2, .int (nI z)), (5, .int (nI i))]) hx hb dX1_rootFrom_100 hl (by decide) rfl (fun ls hl => ?_)
                  refine lv_iinc (v := nI (i + 1)) (lv' := [(5, .int (nI (i + 1))), (4, .int (ml_node (hd i) r)), (6, .int (if bv = true then 1 else 0)), (0, .ref (a 0)), (1, .int (nI y)), (2, .int (nI z))]) hx hb dX1_rootFrom_102 hl (k := 5) rfl (nI_1 i) (by decide) rfl (fun ls hl => ?_)
                  refine lv_goto (tgt := 43) hx hb dX1_rootFrom_105 (by decide) ?_
                  exact ih (i + 1) _ (by omega) hres ls (lv_sub hl [3, 4, 5, 1, 0] rfl)
                · have hbv : bv = true := by
                    cases bv with
                    | true => rfl
                    | false => exact absurd rfl c7
                  rw [if_pos hbv] at hres
                  refine lv_iload hx hb dX1_rootFrom_73 (lv_at hl 4 rfl) ?_
                  refine lv_aload_n hx hb dX1_rootFrom_75 rfl (lv_at hl 1 rfl) ?_
                  refine mg_hd S hK hP dX1_rootFrom_76 ?_
                  refine lv_iload hx hb dX1_rootFrom_79 (lv_at hl 5 rfl) ?_
                  refine ml_hd (j := i) (by omega) S hK hP dX1_rootFrom_81 ?_
                  refine mc_node S ⟨Nat.le_of_ble_eq_true rfl, Nat.le_of_ble_eq_true rfl⟩ ⟨Nat.zero_le _, Nat.zero_le _⟩ hl.1 (Nat.le_of_ble_eq_true rfl) dX1_rootFrom_82 ?_
                  refine lv_goto (tgt := 100) hx hb dX1_rootFrom_85 (by decide) ?_
                  refine lv_istore (lv' := [(4, .int (ml_node r (hd i))), (6, .int (if bv = true then 1 else 0)), (0, .ref (a 0)), (1, .int (nI y)), (2, .int (nI z)), (5, .int (nI i))]) hx hb dX1_rootFrom_100 hl (by decide) rfl (fun ls hl => ?_)
                  refine lv_iinc (v := nI (i + 1)) (lv' := [(5, .int (nI (i + 1))), (4, .int (ml_node r (hd i))), (6, .int (if bv = true then 1 else 0)), (0, .ref (a 0)), (1, .int (nI y)), (2, .int (nI z))]) hx hb dX1_rootFrom_102 hl (k := 5) rfl (nI_1 i) (by decide) rfl (fun ls hl => ?_)
                  refine lv_goto (tgt := 43) hx hb dX1_rootFrom_105 (by decide) ?_
                  exact ih (i + 1) _ (by omega) hres ls (lv_sub hl [3, 4, 5, 1, 0] rfl)
            refine lv_iload_n hx hb dX1_rootFrom_34 rfl (lv_at hl 3 rfl) ?_
            refine mc_leaf S ⟨Nat.le_of_ble_eq_true rfl, Nat.le_of_ble_eq_true rfl⟩ ⟨Nat.zero_le _, Nat.zero_le _⟩ hl.1 (Nat.le_of_ble_eq_true rfl) dX1_rootFrom_35 ?_
            refine lv_istore (lv' := [(4, .int (ml_leaf p2)), (0, .ref (a 0)), (1, .int (nI y)), (2, .int (nI z)), (3, .int p2)]) hx hb dX1_rootFrom_38 hl (by decide) rfl (fun ls hl => ?_)
            refine lv_iconst (v := 0) hx hb dX1_rootFrom_40 (by decide) ?_
            refine lv_istore (lv' := [(5, .int 0), (4, .int (ml_leaf p2)), (0, .ref (a 0)), (1, .int (nI y)), (2, .int (nI z)), (3, .int p2)]) hx hb dX1_rootFrom_41 hl (by decide) rfl (fun ls hl => ?_)
            exact loop st.2.2.length 0 _ (by omega) hop ls (lv_sub hl [2, 3, 4, 1, 0] rfl)
          · have hne : ¬ st.2.2.length = (ml_td 6 z y).length := fun h => c5 (by rw [h])
            refine lv_iconst (v := 0) hx hb dX1_rootFrom_32 (by decide) ?_
            exact ml_pret hx hb hr rfl hlocks (by rw [hop, ml_rf, if_neg (by rw [List.length_reverse]; omega)]) dX1_rootFrom_33
end
section
/-- all int arrays are of one class -/
theorem arr_one {D : va_G} {cl : List vw_C} {tys : List (ClassId × FieldType)} {s : State} (h : va_K D cl tys s) (i j : Nat) {c1 c2 : ClassId} (h1 : tys[i]? = some (c1, .int)) (h2 : tys[j]? = some (c2, .int)) : c1 = c2 := Option.some.inj ((h.2 i _ h1).2.symm.trans (h.2 j _ h2).2)
theorem xD.in {A : Nat → Prop} {a : Nat → Nat} (h : xD A a) : ∀ q, xA a q → A q := by
  intro q hq
  rcases hq with rfl | rfl | rfl | rfl
  · exact h.2 0 _ rfl
  · exact h.2 1 _ rfl
  · exact h.2 2 _ rfl
  · exact h.2 3 _ rfl
theorem mD.in {A : Nat → Prop} {a : Nat → Nat} (h : mD A a) : ∀ q, mA a q → A q := by
  intro q hq
  rcases hq with rfl | rfl | rfl | rfl | rfl | rfl | rfl
  · exact h.2 0 _ rfl
  · exact h.2 1 _ rfl
  · exact h.2 2 _ rfl
  · exact h.2 3 _ rfl
  · exact h.2 4 _ rfl
  · exact h.2 5 _ rfl
  · exact h.2 6 _ rfl
theorem xP.in {D : va_G} {d : ClassId} {a : Nat → Nat} {n cnt fnd : Int32} {part nums downs : Nat → Int32} {H : Heap} (h : va_P D ml_cl (wX d a n cnt fnd part nums downs) H) : ∀ q, xA a q → q < H.size := by
  intro q hq
  rcases hq with rfl | rfl | rfl | rfl
  · exact (h 0 _ rfl).lt
  · exact (h 1 _ rfl).lt
  · exact (h 2 _ rfl).lt
  · exact (h 3 _ rfl).lt
theorem mP.in {D : va_G} {d : ClassId} {a : Nat → Nat} {n hl : Int32} {lg hd fr co sa va : Nat → Int32} {H : Heap} (h : va_P D ml_cl (wM d a n hl lg hd fr co sa va) H) : ∀ q, mA a q → q < H.size := by
  intro q hq
  rcases hq with rfl | rfl | rfl | rfl | rfl | rfl | rfl
  · exact (h 0 _ rfl).lt
  · exact (h 1 _ rfl).lt
  · exact (h 2 _ rfl).lt
  · exact (h 3 _ rfl).lt
  · exact (h 4 _ rfl).lt
  · exact (h 5 _ rfl).lt
  · exact (h 6 _ rfl).lt
theorem xH.lt {D : va_G} {d : ClassId} {a : Nat → Nat} {st : ml_S} {H : Heap} (h : xH D d a st H) : ∀ q, xA a q → q < H.size := by
  obtain ⟨n, cnt, fnd, part, nums, downs, -, hP⟩ := h
  exact xP.in hP
theorem mH.lt {D : va_G} {d : ClassId} {a : Nat → Nat} {st : ml_S} {H : Heap} (h : mH D d a st H) : ∀ q, mA a q → q < H.size := by
  obtain ⟨n, hl, lg, hd, -, fr, co, sa, va, hP⟩ := h
  exact mP.in hP
theorem xH.kept {D : va_G} {d : ClassId} {a : Nat → Nat} {st : ml_S} {H H1 : Heap} (h : xH D d a st H) (hk : ∀ q, xA a q → H1[q]? = H[q]?) : xH D d a st H1 := by
  obtain ⟨n, cnt, fnd, part, nums, downs, hR, hP⟩ := h
  refine ⟨n, cnt, fnd, part, nums, downs, hR, hP.kept (fun k q hq => ?_)⟩
  match k, hq with
  | 0, hq => cases hq; exact hk _ (Or.inl rfl)
  | 1, hq => cases hq; exact hk _ (Or.inr (Or.inl rfl))
  | 2, hq => cases hq; exact hk _ (Or.inr (Or.inr (Or.inl rfl)))
  | 3, hq => cases hq; exact hk _ (Or.inr (Or.inr (Or.inr rfl)))
  | k + 4, hq => simp at hq
theorem mH.kept {D : va_G} {d : ClassId} {a : Nat → Nat} {st : ml_S} {H H1 : Heap} (h : mH D d a st H) (hk : ∀ q, mA a q → H1[q]? = H[q]?) : mH D d a st H1 := by
  obtain ⟨n, hl, lg, hd, hR, fr, co, sa, va, hP⟩ := h
  refine ⟨n, hl, lg, hd, hR, fr, co, sa, va, hP.kept (fun k q hq => ?_)⟩
  match k, hq with
  | 0, hq => cases hq; exact hk _ (Or.inl rfl)
  | 1, hq => cases hq; exact hk _ (Or.inr (Or.inl rfl))
  | 2, hq => cases hq; exact hk _ (Or.inr (Or.inr (Or.inl rfl)))
  | 3, hq => cases hq; exact hk _ (Or.inr (Or.inr (Or.inr (Or.inl rfl))))
  | 4, hq => cases hq; exact hk _ (Or.inr (Or.inr (Or.inr (Or.inr (Or.inl rfl)))))
  | 5, hq => cases hq; exact hk _ (Or.inr (Or.inr (Or.inr (Or.inr (Or.inr (Or.inl rfl))))))
  | 6, hq => cases hq; exact hk _ (Or.inr (Or.inr (Or.inr (Or.inr (Or.inr (Or.inr rfl))))))
  | k + 7, hq => simp at hq
/-- the state of new objects -/
def ml_s0 : ml_S := (0, fun _ => 0, [])
abbrev xB (h0 : Nat) : va_W := [(h0, .inr (0, [.int 0, .null, .int 0, .null, .int 0, .null]))]
abbrev mB (h0 : Nat) : va_W := [(h0, .inr (1, [.int 0, .null, .null, .int 0, .null, .null, .null, .null]))]
set_option maxHeartbeats 4000000 in
set_option maxRecDepth 100000 in
/-- MerkleLog(): no entries, an empty hand -/
theorem xm_init (l : Launch) (D : va_G) (h0 sz : Nat) : Met l yX0_init (ws_ yX0_init cX0_init 1 none) ({ frames := 1, cells := 3, slots := 112, locals := 12 }) (va_Pc [.ref h0] (fun U => U.heap.size = sz ∧ va_P D ml_cl (xB h0) U.heap ∧ va_K D ml_cl [] U ∧ va_D (fun _ => True) (xB h0))) (va_Qv (fun (_ : Unit) => True) (fun (_ : Unit) (t : State) => ∃ (d : ClassId) (a : Nat → Nat), a 0 = h0 ∧ xH D d a ml_s0 t.heap ∧ va_K D ml_cl [(d, .int)] t ∧ xD (va_A (xB h0) sz) a) (va_A (xB h0) sz)) 3 112 (va_A (xB h0) sz) := by
  refine Met.ofW (cc := cX0_init) (maxL := 1) (ret := none) (by decide) rfl ?_
  intro p e s m args below meth c s₁ B hml hv
  obtain ⟨rfl, hsz, hP, hK, hD0⟩ := hv
  have hx := B.exec
  have hb := B.bytes
  have hr := B.returns
  have hts0 := atoms_spec (ws := (ws_ yX0_init cX0_init 1 none)) B.pre
  have hts : ∀ w ∈ lw_all, w.before _ s = true := fun w h => hts0 w (List.mem_cons_of_mem _ h)
  have hown : s.vm.findClass RX0 = some m.cls := findClass_of_methodNamed B.named
  have hlocks := B.notSynchronized
  have hin : meth.name = "<init>" := (name_of_methodNamed B.named B.method).1
  subst hsz
  have hD := hD0.self (sz := s.heap.size)
  generalize hAe : va_A (xB h0) s.heap.size = A at hD ⊢
  have hA : ∀ q : Nat, s.heap.size ≤ q → A q := fun q h => by rw [← hAe]; exact Or.inr h
  have hS : va_S A s.heap s.heap [] := va_S.rf
  have hP : va_P D ml_cl (xB h0) s.heap := hP
  have hl := lv_entry ([.ref h0]) (n := 1) (Nat.le_of_ble_eq_true rfl)
  rw [lg_entry_eq]
  generalize (lg_sl ([.ref h0]) ++ List.replicate (1 - (lg_sl ([.ref h0])).length) Slot.unset).toArray = ls at hl ⊢
  have hl : lv_has ls 1 [(0, .ref h0)] := hl
  refine lv_aload_n hx hb dX0_init_0 rfl (lv_at hl 0 rfl) ?_
  refine W.objInit hx hb hown (hts _ q15) (hts _ q16) (hts _ q17) rfl (by rw [hml]; exact hl.1) rfl dX0_init_1 (Nat.le_of_ble_eq_true rfl) (Nat.le_of_ble_eq_true rfl) ?_
  refine W.eq (g2 := F0 m 4 ls []) rfl ?_
  refine lv_aload_n hx hb dX0_init_4 rfl (lv_at hl 0 rfl) ?_
  refine lv_bipush (v := 80) hx hb dX0_init_5 (by decide) ?_
  refine va_newa (atype := .int) (ty := .int) (N' := 80) (a0 := (80, .inl (fun _ => 0))) hx hb (hts _ q37) rfl hK hP hD hS hA (fun _ => rfl) (by decide) (by decide) (by decide) (Nat.le_of_ble_eq_true rfl) (Nat.le_of_ble_eq_true rfl) dX0_init_7 (fun q1 c1 H hK hP hD hS => ?_)
  have hP : va_P D ml_cl [(h0, .inr (0, [.int 0, .null, .int 0, .null, .int 0, .null])), (q1, .inl (c1, 80, .inl (fun _ => 0)))] H := hP
  have hD : va_D A [(h0, .inr (0, [.int 0, .null, .int 0, .null, .int 0, .null])), (q1, .inl (c1, 80, .inl (fun _ => 0)))] := hD
  refine va_putF (ci := 0) (v := .ref q1) (ty := .array .int) (C := RX0) (T := TX0) (N := 6) hx hb hts in_X0 tyX0 tyX0_ok nmX0 hown hK hP hD hS 0 rfl rfl 1 (by decide) (hts _ q19) (fun _ h9 => h9) rfl hin rfl (by decide +kernel) rfl rfl (Nat.le_of_ble_eq_true rfl) dX0_init_9 (fun H locs hP hD hS => ?_)
  have hP : va_P D ml_cl [(h0, .inr (0, [.int 0, .ref q1, .int 0, .null, .int 0, .null])), (q1, .inl (c1, 80, .inl (fun _ => 0)))] H := hP
  have hD : va_D A [(h0, .inr (0, [.int 0, .ref q1, .int 0, .null, .int 0, .null])), (q1, .inl (c1, 80, .inl (fun _ => 0)))] := hD
  refine lv_aload_n hx hb dX0_init_12 rfl (lv_at hl 0 rfl) ?_
  refine lv_bipush (v := 16) hx hb dX0_init_13 (by decide) ?_
  refine va_newa (atype := .int) (ty := .int) (N' := 16) (a0 := (16, .inl (fun _ => 0))) hx hb (hts _ q37) rfl hK hP hD hS hA (fun _ => rfl) (by decide) (by decide) (by decide) (Nat.le_of_ble_eq_true rfl) (Nat.le_of_ble_eq_true rfl) dX0_init_15 (fun q2 c2 H hK hP hD hS => ?_)
  have hP : va_P D ml_cl [(h0, .inr (0, [.int 0, .ref q1, .int 0, .null, .int 0, .null])), (q1, .inl (c1, 80, .inl (fun _ => 0))), (q2, .inl (c2, 16, .inl (fun _ => 0)))] H := hP
  have hD : va_D A [(h0, .inr (0, [.int 0, .ref q1, .int 0, .null, .int 0, .null])), (q1, .inl (c1, 80, .inl (fun _ => 0))), (q2, .inl (c2, 16, .inl (fun _ => 0)))] := hD
  refine va_putF (ci := 0) (v := .ref q2) (ty := .array .int) (C := RX0) (T := TX0) (N := 6) hx hb hts in_X0 tyX0 tyX0_ok nmX0 hown hK hP hD hS 0 rfl rfl 3 (by decide) (hts _ q21) (fun _ h9 => h9) rfl hin rfl (by decide +kernel) rfl rfl (Nat.le_of_ble_eq_true rfl) dX0_init_17 (fun H locs hP hD hS => ?_)
  have hP : va_P D ml_cl [(h0, .inr (0, [.int 0, .ref q1, .int 0, .ref q2, .int 0, .null])), (q1, .inl (c1, 80, .inl (fun _ => 0))), (q2, .inl (c2, 16, .inl (fun _ => 0)))] H := hP
  have hD : va_D A [(h0, .inr (0, [.int 0, .ref q1, .int 0, .ref q2, .int 0, .null])), (q1, .inl (c1, 80, .inl (fun _ => 0))), (q2, .inl (c2, 16, .inl (fun _ => 0)))] := hD
  refine lv_aload_n hx hb dX0_init_20 rfl (lv_at hl 0 rfl) ?_
  refine lv_bipush (v := 16) hx hb dX0_init_21 (by decide) ?_
  refine va_newa (atype := .int) (ty := .int) (N' := 16) (a0 := (16, .inl (fun _ => 0))) hx hb (hts _ q37) rfl hK hP hD hS hA (fun _ => rfl) (by decide) (by decide) (by decide) (Nat.le_of_ble_eq_true rfl) (Nat.le_of_ble_eq_true rfl) dX0_init_23 (fun q3 c3 H hK hP hD hS => ?_)
  have hP : va_P D ml_cl [(h0, .inr (0, [.int 0, .ref q1, .int 0, .ref q2, .int 0, .null])), (q1, .inl (c1, 80, .inl (fun _ => 0))), (q2, .inl (c2, 16, .inl (fun _ => 0))), (q3, .inl (c3, 16, .inl (fun _ => 0)))] H := hP
  have hD : va_D A [(h0, .inr (0, [.int 0, .ref q1, .int 0, .ref q2, .int 0, .null])), (q1, .inl (c1, 80, .inl (fun _ => 0))), (q2, .inl (c2, 16, .inl (fun _ => 0))), (q3, .inl (c3, 16, .inl (fun _ => 0)))] := hD
  refine va_putF (ci := 0) (v := .ref q3) (ty := .array .int) (C := RX0) (T := TX0) (N := 6) hx hb hts in_X0 tyX0 tyX0_ok nmX0 hown hK hP hD hS 0 rfl rfl 5 (by decide) (hts _ q23) (fun _ h9 => h9) rfl hin rfl (by decide +kernel) rfl rfl (Nat.le_of_ble_eq_true rfl) dX0_init_25 (fun H locs hP hD hS => ?_)
  have hP : va_P D ml_cl [(h0, .inr (0, [.int 0, .ref q1, .int 0, .ref q2, .int 0, .ref q3])), (q1, .inl (c1, 80, .inl (fun _ => 0))), (q2, .inl (c2, 16, .inl (fun _ => 0))), (q3, .inl (c3, 16, .inl (fun _ => 0)))] H := hP
  have hD : va_D A [(h0, .inr (0, [.int 0, .ref q1, .int 0, .ref q2, .int 0, .ref q3])), (q1, .inl (c1, 80, .inl (fun _ => 0))), (q2, .inl (c2, 16, .inl (fun _ => 0))), (q3, .inl (c3, 16, .inl (fun _ => 0)))] := hD
  have hK : va_K D ml_cl [(c1, .int), (c2, .int), (c3, .int)] s := hK
  have e2 : c1 = c2 := arr_one hK 0 1 rfl rfl
  have e3 : c1 = c3 := arr_one hK 0 2 rfl rfl
  subst e2
  subst e3
  have hK9 := hK.sub (tys' := [(c1, .int)]) [0] rfl
  exact W.vret hx hb hr (fun t ht hW => ⟨⟨(), rfl, trivial, c1, (fun k => if k = 0 then h0 else if k = 1 then q1 else if k = 2 then q2 else q3), rfl, ⟨0, 0, 0, (fun _ => 0), (fun _ => 0), (fun _ => 0), ⟨rfl, Nat.zero_le _, pI_0 _ _, rfl, Nat.zero_le _, ho_nil _⟩, by rw [ht]; exact hP⟩, va_K.moved hW.alike hK9, wd_same hD rfl⟩, hS.F ht⟩) hS.2.2 dX0_init_28
set_option maxHeartbeats 4000000 in
set_option maxRecDepth 100000 in
/-- MerkleLogModel(): no entries, an empty hand -/
theorem mm_init (l : Launch) (D : va_G) (h0 sz : Nat) : Met l yX1_init (ws_ yX1_init cX1_init 1 none) ({ frames := 1, cells := 6, slots := 456, locals := 12 }) (va_Pc [.ref h0] (fun U => U.heap.size = sz ∧ va_P D ml_cl (mB h0) U.heap ∧ va_K D ml_cl [] U ∧ va_D (fun _ => True) (mB h0))) (va_Qv (fun (_ : Unit) => True) (fun (_ : Unit) (t : State) => ∃ (d : ClassId) (a : Nat → Nat), a 0 = h0 ∧ mH D d a ml_s0 t.heap ∧ va_K D ml_cl [(d, .int)] t ∧ mD (va_A (mB h0) sz) a) (va_A (mB h0) sz)) 6 456 (va_A (mB h0) sz) := by
  refine Met.ofW (cc := cX1_init) (maxL := 1) (ret := none) (by decide) rfl ?_
  intro p e s m args below meth c s₁ B hml hv
  obtain ⟨rfl, hsz, hP, hK, hD0⟩ := hv
  have hx := B.exec
  have hb := B.bytes
  have hr := B.returns
  have hts0 := atoms_spec (ws := (ws_ yX1_init cX1_init 1 none)) B.pre
  have hts : ∀ w ∈ lw_all, w.before _ s = true := fun w h => hts0 w (List.mem_cons_of_mem _ h)
  have hown : s.vm.findClass RX1 = some m.cls := findClass_of_methodNamed B.named
  have hlocks := B.notSynchronized
  have hin : meth.name = "<init>" := (name_of_methodNamed B.named B.method).1
  subst hsz
  have hD := hD0.self (sz := s.heap.size)
  generalize hAe : va_A (mB h0) s.heap.size = A at hD ⊢
  have hA : ∀ q : Nat, s.heap.size ≤ q → A q := fun q h => by rw [← hAe]; exact Or.inr h
  have hS : va_S A s.heap s.heap [] := va_S.rf
  have hP : va_P D ml_cl (mB h0) s.heap := hP
  have hl := lv_entry ([.ref h0]) (n := 1) (Nat.le_of_ble_eq_true rfl)
  rw [lg_entry_eq]
  generalize (lg_sl ([.ref h0]) ++ List.replicate (1 - (lg_sl ([.ref h0])).length) Slot.unset).toArray = ls at hl ⊢
  have hl : lv_has ls 1 [(0, .ref h0)] := hl
  refine lv_aload_n hx hb dX1_init_0 rfl (lv_at hl 0 rfl) ?_
  refine W.objInit hx hb hown (hts _ q112) (hts _ q16) (hts _ q17) rfl (by rw [hml]; exact hl.1) rfl dX1_init_1 (Nat.le_of_ble_eq_true rfl) (Nat.le_of_ble_eq_true rfl) ?_
  refine W.eq (g2 := F0 m 4 ls []) rfl ?_
  refine lv_aload_n hx hb dX1_init_4 rfl (lv_at hl 0 rfl) ?_
  refine lv_bipush (v := 40) hx hb dX1_init_5 (by decide) ?_
  refine va_newa (atype := .int) (ty := .int) (N' := 40) (a0 := (40, .inl (fun _ => 0))) hx hb (hts _ q37) rfl hK hP hD hS hA (fun _ => rfl) (by decide) (by decide) (by decide) (Nat.le_of_ble_eq_true rfl) (Nat.le_of_ble_eq_true rfl) dX1_init_7 (fun q1 c1 H hK hP hD hS => ?_)
  have hP : va_P D ml_cl [(h0, .inr (1, [.int 0, .null, .null, .int 0, .null, .null, .null, .null])), (q1, .inl (c1, 40, .inl (fun _ => 0)))] H := hP
  have hD : va_D A [(h0, .inr (1, [.int 0, .null, .null, .int 0, .null, .null, .null, .null])), (q1, .inl (c1, 40, .inl (fun _ => 0)))] := hD
  refine va_putF (ci := 1) (v := .ref q1) (ty := .array .int) (C := RX1) (T := TX1) (N := 8) hx hb hts in_X1 tyX1 tyX1_ok nmX1 hown hK hP hD hS 0 rfl rfl 1 (by decide) (hts _ q114) (fun _ h9 => h9) rfl hin rfl (by decide +kernel) rfl rfl (Nat.le_of_ble_eq_true rfl) dX1_init_9 (fun H locs hP hD hS => ?_)
  have hP : va_P D ml_cl [(h0, .inr (1, [.int 0, .ref q1, .null, .int 0, .null, .null, .null, .null])), (q1, .inl (c1, 40, .inl (fun _ => 0)))] H := hP
  have hD : va_D A [(h0, .inr (1, [.int 0, .ref q1, .null, .int 0, .null, .null, .null, .null])), (q1, .inl (c1, 40, .inl (fun _ => 0)))] := hD
  refine lv_aload_n hx hb dX1_init_12 rfl (lv_at hl 0 rfl) ?_
  refine lv_bipush (v := 16) hx hb dX1_init_13 (by decide) ?_
  refine va_newa (atype := .int) (ty := .int) (N' := 16) (a0 := (16, .inl (fun _ => 0))) hx hb (hts _ q37) rfl hK hP hD hS hA (fun _ => rfl) (by decide) (by decide) (by decide) (Nat.le_of_ble_eq_true rfl) (Nat.le_of_ble_eq_true rfl) dX1_init_15 (fun q2 c2 H hK hP hD hS => ?_)
  have hP : va_P D ml_cl [(h0, .inr (1, [.int 0, .ref q1, .null, .int 0, .null, .null, .null, .null])), (q1, .inl (c1, 40, .inl (fun _ => 0))), (q2, .inl (c2, 16, .inl (fun _ => 0)))] H := hP
  have hD : va_D A [(h0, .inr (1, [.int 0, .ref q1, .null, .int 0, .null, .null, .null, .null])), (q1, .inl (c1, 40, .inl (fun _ => 0))), (q2, .inl (c2, 16, .inl (fun _ => 0)))] := hD
  refine va_putF (ci := 1) (v := .ref q2) (ty := .array .int) (C := RX1) (T := TX1) (N := 8) hx hb hts in_X1 tyX1 tyX1_ok nmX1 hown hK hP hD hS 0 rfl rfl 2 (by decide) (hts _ q115) (fun _ h9 => h9) rfl hin rfl (by decide +kernel) rfl rfl (Nat.le_of_ble_eq_true rfl) dX1_init_17 (fun H locs hP hD hS => ?_)
  have hP : va_P D ml_cl [(h0, .inr (1, [.int 0, .ref q1, .ref q2, .int 0, .null, .null, .null, .null])), (q1, .inl (c1, 40, .inl (fun _ => 0))), (q2, .inl (c2, 16, .inl (fun _ => 0)))] H := hP
  have hD : va_D A [(h0, .inr (1, [.int 0, .ref q1, .ref q2, .int 0, .null, .null, .null, .null])), (q1, .inl (c1, 40, .inl (fun _ => 0))), (q2, .inl (c2, 16, .inl (fun _ => 0)))] := hD
  refine lv_aload_n hx hb dX1_init_20 rfl (lv_at hl 0 rfl) ?_
  refine lv_bipush (v := 100) hx hb dX1_init_21 (by decide) ?_
  refine va_newa (atype := .int) (ty := .int) (N' := 100) (a0 := (100, .inl (fun _ => 0))) hx hb (hts _ q37) rfl hK hP hD hS hA (fun _ => rfl) (by decide) (by decide) (by decide) (Nat.le_of_ble_eq_true rfl) (Nat.le_of_ble_eq_true rfl) dX1_init_23 (fun q3 c3 H hK hP hD hS => ?_)
  have hP : va_P D ml_cl [(h0, .inr (1, [.int 0, .ref q1, .ref q2, .int 0, .null, .null, .null, .null])), (q1, .inl (c1, 40, .inl (fun _ => 0))), (q2, .inl (c2, 16, .inl (fun _ => 0))), (q3, .inl (c3, 100, .inl (fun _ => 0)))] H := hP
  have hD : va_D A [(h0, .inr (1, [.int 0, .ref q1, .ref q2, .int 0, .null, .null, .null, .null])), (q1, .inl (c1, 40, .inl (fun _ => 0))), (q2, .inl (c2, 16, .inl (fun _ => 0))), (q3, .inl (c3, 100, .inl (fun _ => 0)))] := hD
  refine va_putF (ci := 1) (v := .ref q3) (ty := .array .int) (C := RX1) (T := TX1) (N := 8) hx hb hts in_X1 tyX1 tyX1_ok nmX1 hown hK hP hD hS 0 rfl rfl 4 (by decide) (hts _ q117) (fun _ h9 => h9) rfl hin rfl (by decide +kernel) rfl rfl (Nat.le_of_ble_eq_true rfl) dX1_init_25 (fun H locs hP hD hS => ?_)
  have hP : va_P D ml_cl [(h0, .inr (1, [.int 0, .ref q1, .ref q2, .int 0, .ref q3, .null, .null, .null])), (q1, .inl (c1, 40, .inl (fun _ => 0))), (q2, .inl (c2, 16, .inl (fun _ => 0))), (q3, .inl (c3, 100, .inl (fun _ => 0)))] H := hP
  have hD : va_D A [(h0, .inr (1, [.int 0, .ref q1, .ref q2, .int 0, .ref q3, .null, .null, .null])), (q1, .inl (c1, 40, .inl (fun _ => 0))), (q2, .inl (c2, 16, .inl (fun _ => 0))), (q3, .inl (c3, 100, .inl (fun _ => 0)))] := hD
  refine lv_aload_n hx hb dX1_init_28 rfl (lv_at hl 0 rfl) ?_
  refine lv_bipush (v := 100) hx hb dX1_init_29 (by decide) ?_
  refine va_newa (atype := .int) (ty := .int) (N' := 100) (a0 := (100, .inl (fun _ => 0))) hx hb (hts _ q37) rfl hK hP hD hS hA (fun _ => rfl) (by decide) (by decide) (by decide) (Nat.le_of_ble_eq_true rfl) (Nat.le_of_ble_eq_true rfl) dX1_init_31 (fun q4 c4 H hK hP hD hS => ?_)
  have hP : va_P D ml_cl [(h0, .inr (1, [.int 0, .ref q1, .ref q2, .int 0, .ref q3, .null, .null, .null])), (q1, .inl (c1, 40, .inl (fun _ => 0))), (q2, .inl (c2, 16, .inl (fun _ => 0))), (q3, .inl (c3, 100, .inl (fun _ => 0))), (q4, .inl (c4, 100, .inl (fun _ => 0)))] H := hP
  have hD : va_D A [(h0, .inr (1, [.int 0, .ref q1, .ref q2, .int 0, .ref q3, .null, .null, .null])), (q1, .inl (c1, 40, .inl (fun _ => 0))), (q2, .inl (c2, 16, .inl (fun _ => 0))), (q3, .inl (c3, 100, .inl (fun _ => 0))), (q4, .inl (c4, 100, .inl (fun _ => 0)))] := hD
  refine va_putF (ci := 1) (v := .ref q4) (ty := .array .int) (C := RX1) (T := TX1) (N := 8) hx hb hts in_X1 tyX1 tyX1_ok nmX1 hown hK hP hD hS 0 rfl rfl 5 (by decide) (hts _ q118) (fun _ h9 => h9) rfl hin rfl (by decide +kernel) rfl rfl (Nat.le_of_ble_eq_true rfl) dX1_init_33 (fun H locs hP hD hS => ?_)
  have hP : va_P D ml_cl [(h0, .inr (1, [.int 0, .ref q1, .ref q2, .int 0, .ref q3, .ref q4, .null, .null])), (q1, .inl (c1, 40, .inl (fun _ => 0))), (q2, .inl (c2, 16, .inl (fun _ => 0))), (q3, .inl (c3, 100, .inl (fun _ => 0))), (q4, .inl (c4, 100, .inl (fun _ => 0)))] H := hP
  have hD : va_D A [(h0, .inr (1, [.int 0, .ref q1, .ref q2, .int 0, .ref q3, .ref q4, .null, .null])), (q1, .inl (c1, 40, .inl (fun _ => 0))), (q2, .inl (c2, 16, .inl (fun _ => 0))), (q3, .inl (c3, 100, .inl (fun _ => 0))), (q4, .inl (c4, 100, .inl (fun _ => 0)))] := hD
  refine lv_aload_n hx hb dX1_init_36 rfl (lv_at hl 0 rfl) ?_
  refine lv_bipush (v := 100) hx hb dX1_init_37 (by decide) ?_
  refine va_newa (atype := .int) (ty := .int) (N' := 100) (a0 := (100, .inl (fun _ => 0))) hx hb (hts _ q37) rfl hK hP hD hS hA (fun _ => rfl) (by decide) (by decide) (by decide) (Nat.le_of_ble_eq_true rfl) (Nat.le_of_ble_eq_true rfl) dX1_init_39 (fun q5 c5 H hK hP hD hS => ?_)
  have hP : va_P D ml_cl [(h0, .inr (1, [.int 0, .ref q1, .ref q2, .int 0, .ref q3, .ref q4, .null, .null])), (q1, .inl (c1, 40, .inl (fun _ => 0))), (q2, .inl (c2, 16, .inl (fun _ => 0))), (q3, .inl (c3, 100, .inl (fun _ => 0))), (q4, .inl (c4, 100, .inl (fun _ => 0))), (q5, .inl (c5, 100, .inl (fun _ => 0)))] H := hP
  have hD : va_D A [(h0, .inr (1, [.int 0, .ref q1, .ref q2, .int 0, .ref q3, .ref q4, .null, .null])), (q1, .inl (c1, 40, .inl (fun _ => 0))), (q2, .inl (c2, 16, .inl (fun _ => 0))), (q3, .inl (c3, 100, .inl (fun _ => 0))), (q4, .inl (c4, 100, .inl (fun _ => 0))), (q5, .inl (c5, 100, .inl (fun _ => 0)))] := hD
  refine va_putF (ci := 1) (v := .ref q5) (ty := .array .int) (C := RX1) (T := TX1) (N := 8) hx hb hts in_X1 tyX1 tyX1_ok nmX1 hown hK hP hD hS 0 rfl rfl 6 (by decide) (hts _ q119) (fun _ h9 => h9) rfl hin rfl (by decide +kernel) rfl rfl (Nat.le_of_ble_eq_true rfl) dX1_init_41 (fun H locs hP hD hS => ?_)
  have hP : va_P D ml_cl [(h0, .inr (1, [.int 0, .ref q1, .ref q2, .int 0, .ref q3, .ref q4, .ref q5, .null])), (q1, .inl (c1, 40, .inl (fun _ => 0))), (q2, .inl (c2, 16, .inl (fun _ => 0))), (q3, .inl (c3, 100, .inl (fun _ => 0))), (q4, .inl (c4, 100, .inl (fun _ => 0))), (q5, .inl (c5, 100, .inl (fun _ => 0)))] H := hP
  have hD : va_D A [(h0, .inr (1, [.int 0, .ref q1, .ref q2, .int 0, .ref q3, .ref q4, .ref q5, .null])), (q1, .inl (c1, 40, .inl (fun _ => 0))), (q2, .inl (c2, 16, .inl (fun _ => 0))), (q3, .inl (c3, 100, .inl (fun _ => 0))), (q4, .inl (c4, 100, .inl (fun _ => 0))), (q5, .inl (c5, 100, .inl (fun _ => 0)))] := hD
  refine lv_aload_n hx hb dX1_init_44 rfl (lv_at hl 0 rfl) ?_
  refine lv_bipush (v := 100) hx hb dX1_init_45 (by decide) ?_
  refine va_newa (atype := .int) (ty := .int) (N' := 100) (a0 := (100, .inl (fun _ => 0))) hx hb (hts _ q37) rfl hK hP hD hS hA (fun _ => rfl) (by decide) (by decide) (by decide) (Nat.le_of_ble_eq_true rfl) (Nat.le_of_ble_eq_true rfl) dX1_init_47 (fun q6 c6 H hK hP hD hS => ?_)
  have hP : va_P D ml_cl [(h0, .inr (1, [.int 0, .ref q1, .ref q2, .int 0, .ref q3, .ref q4, .ref q5, .null])), (q1, .inl (c1, 40, .inl (fun _ => 0))), (q2, .inl (c2, 16, .inl (fun _ => 0))), (q3, .inl (c3, 100, .inl (fun _ => 0))), (q4, .inl (c4, 100, .inl (fun _ => 0))), (q5, .inl (c5, 100, .inl (fun _ => 0))), (q6, .inl (c6, 100, .inl (fun _ => 0)))] H := hP
  have hD : va_D A [(h0, .inr (1, [.int 0, .ref q1, .ref q2, .int 0, .ref q3, .ref q4, .ref q5, .null])), (q1, .inl (c1, 40, .inl (fun _ => 0))), (q2, .inl (c2, 16, .inl (fun _ => 0))), (q3, .inl (c3, 100, .inl (fun _ => 0))), (q4, .inl (c4, 100, .inl (fun _ => 0))), (q5, .inl (c5, 100, .inl (fun _ => 0))), (q6, .inl (c6, 100, .inl (fun _ => 0)))] := hD
  refine va_putF (ci := 1) (v := .ref q6) (ty := .array .int) (C := RX1) (T := TX1) (N := 8) hx hb hts in_X1 tyX1 tyX1_ok nmX1 hown hK hP hD hS 0 rfl rfl 7 (by decide) (hts _ q120) (fun _ h9 => h9) rfl hin rfl (by decide +kernel) rfl rfl (Nat.le_of_ble_eq_true rfl) dX1_init_49 (fun H locs hP hD hS => ?_)
  have hP : va_P D ml_cl [(h0, .inr (1, [.int 0, .ref q1, .ref q2, .int 0, .ref q3, .ref q4, .ref q5, .ref q6])), (q1, .inl (c1, 40, .inl (fun _ => 0))), (q2, .inl (c2, 16, .inl (fun _ => 0))), (q3, .inl (c3, 100, .inl (fun _ => 0))), (q4, .inl (c4, 100, .inl (fun _ => 0))), (q5, .inl (c5, 100, .inl (fun _ => 0))), (q6, .inl (c6, 100, .inl (fun _ => 0)))] H := hP
  have hD : va_D A [(h0, .inr (1, [.int 0, .ref q1, .ref q2, .int 0, .ref q3, .ref q4, .ref q5, .ref q6])), (q1, .inl (c1, 40, .inl (fun _ => 0))), (q2, .inl (c2, 16, .inl (fun _ => 0))), (q3, .inl (c3, 100, .inl (fun _ => 0))), (q4, .inl (c4, 100, .inl (fun _ => 0))), (q5, .inl (c5, 100, .inl (fun _ => 0))), (q6, .inl (c6, 100, .inl (fun _ => 0)))] := hD
  have hK : va_K D ml_cl [(c1, .int), (c2, .int), (c3, .int), (c4, .int), (c5, .int), (c6, .int)] s := hK
  have e2 : c1 = c2 := arr_one hK 0 1 rfl rfl
  have e3 : c1 = c3 := arr_one hK 0 2 rfl rfl
  have e4 : c1 = c4 := arr_one hK 0 3 rfl rfl
  have e5 : c1 = c5 := arr_one hK 0 4 rfl rfl
  have e6 : c1 = c6 := arr_one hK 0 5 rfl rfl
  subst e2
  subst e3
  subst e4
  subst e5
  subst e6
  have hK9 := hK.sub (tys' := [(c1, .int)]) [0] rfl
  exact W.vret hx hb hr (fun t ht hW => ⟨⟨(), rfl, trivial, c1, (fun k => if k = 0 then h0 else if k = 1 then q1 else if k = 2 then q2 else if k = 3 then q3 else if k = 4 then q4 else if k = 5 then q5 else q6), rfl, ⟨0, 0, (fun _ => 0), (fun _ => 0), ⟨rfl, Nat.zero_le _, rfl, rfl, Nat.zero_le _, ho_nil _⟩, (fun _ => 0), (fun _ => 0), (fun _ => 0), (fun _ => 0), by rw [ht]; exact hP⟩, va_K.moved hW.alike hK9, wd_same hD rfl⟩, hS.F ht⟩) hS.2.2 dX1_init_52
end
section
/-! THE CLAIM OUT OF ONE WALK OF THE LAW'S BODY. Your part is whole_start (and what it stands on); all else here is the same for every law, but numbers. -/
def R_law : String := "MerkleLogLaw"
def lw_P (b : Addr) (xs : List Int32) (args : Array Value) (s : State) : Prop := args = #[.ref b] ∧ s.IntsAt b xs ∧ xs.length ≤ 256 ∧ (Jvm.Cond.and given_1 narrow_1).before args s = true
def lw_Q (_ : Array Value) (s : State) (o : Outcome) (t : State) : Prop := o = .returned (some (.int 1)) ∧ Framed s o t [] 600000 7290000
def lw_Z (below : List Frame) (a : Array Value) (s : State) : State → Prop := fun t => ∃ o, t.status = .running ∧ Ended t below o ∧ lw_Q a s o t
/-- the law's own end, with 1 on the stack, nothing written that was there before, its room as the claim has it -/
theorem lw_ret {p : Program} {l : Launch} {e : Env} {s : State} {m : MethodId} {below : List Frame} {meth : Method} {c : Code} {b : Nat} (hx : p.tables.exec = Jvm.exec) (hb : c.code = code) (hr : meth.sig.returnType = ret) (hlocks : meth.locks = false) {pc : Nat} {H : Heap} {ls : Array Slot} (hdg : decode code pc = .ok (.ireturn, 1)) : W p l e room_1 s m #[Value.ref b] below meth c H [] 600000 7290000 (lw_Z below #[Value.ref b] s) (F0 m pc ls [.int 1]) := by
  intro T hT X
  obtain ⟨fs, hret, hrun, hended, hW, hframe⟩ := X.leave (v := some (.int 1)) (hlocks := hlocks) (fun h => by rw [hr] at h; cases h)
  have hmeth' : T.vm.method? m = some meth := X.method'
  refine ⟨T.setFrames fs, ?_, .returned (some (.int 1)), hrun, hended, rfl, ⟨_, rfl⟩, hW, hframe⟩
  jvm_step X.here [X.here.top, hx, hb, hdg, hmeth', hr, ret, narrow_b1]
  (try refine ⟨rfl, ?_⟩); (try refine ⟨rfl, ?_⟩)
  first | (intro acts; rw [hret _ acts rfl rfl rfl]) | rw [hret _ _ rfl rfl rfl]
  exact Steps.refl _
/-- what holds at the law's entry: the machine, the code, the tables' words (any of lw_tbl by 'hts w (by decide +kernel)'), the script of L ints xs at the cell b, what the Statement gives of the start (any of its parts by flat_of_before) -/
def lw_At (p : Program) (s : State) (m : MethodId) (meth : Method) (c : Code) (b L : Nat) (xs : Nat → Int32) : Prop :=
  p.tables.exec = Jvm.exec ∧ c.code = code ∧ meth.sig.returnType = ret ∧ c.maxLocals = 4 ∧ s.vm.findClass R_law = some m.cls ∧ (∀ w ∈ lw_tbl, w.before #[Value.ref b] s = true) ∧ va_X b L xs s s.heap ∧ b < s.heap.size ∧ meth.locks = false ∧ (Jvm.Cond.and given_1 narrow_1).before #[Value.ref b] s = true
end
section
section
variable {p : Program} {l : Launch} {e : Env} {R : Room} {s : State} {m : MethodId} {args : Array Value} {below : List Frame} {meth : Method} {c : Code} {H : Heap} {locs : List Loc} {cells slots : Nat} {Q : State → Prop} {cc : ByteArray} {pc nL : Nat} {ls : Array Slot} {rest : List Value} {A : Nat → Prop} {H0 : Heap}
theorem xq_append {D : va_G} {d : ClassId} {a : Nat → Nat} (hD0 : xD (fun _ => True) a) {st : ml_S} {p0 : Int32} (S : CallFix p m c cc nL s args lw_all R_law) (hR : 2 + 1 ≤ R.frames ∧ 8 + (6 + 11) + 44 ≤ R.locals) (hc : cells ≤ R.cells ∧ slots ≤ R.slots) (hK : va_K D ml_cl [(d, .int)] s) (hP : xH D d a st H) (hS : va_S A H0 H locs) (hA : ∀ q, xA a q → A q) (hl : ls.size = nL) (hw : (rest.map fun v => v.category).sum ≤ 8) (hdg : decode cc pc = .ok (.invokevirtual 13, 3)) (k : ∀ (H1 : Heap) (locs1 : List Loc), xH D d a (op_append st p0).2 H1 → (∀ q : Nat, q < H.size → ¬ xA a q → H1[q]? = H[q]?) → va_S A H0 H1 locs1 → W p l e R s m args below meth c H1 locs1 cells slots Q (F0 m (pc + 3) ls (.int ((op_append st p0).1) :: rest))) : W p l e R s m args below meth c H locs cells slots Q (F0 m pc ls (.int p0 :: .ref (a 0) :: rest)) :=
  ml_calli (va_runV (As := [.int p0]) (b := a 0) (rest := rest) S (xm_append l D d a hD0 st p0) (cwV 1 S.2.2.2.2 (lw_V q38 q39 q40 q8 q41) rfl rfl rfl (by decide +kernel) hR) ⟨ml_blind, hP.recv hK, ml_pre hP hK⟩ rfl rfl hl rfl (lv_room hw) hdg hc) hS hA hA k
end
section
variable {p : Program} {l : Launch} {e : Env} {R : Room} {s : State} {m : MethodId} {args : Array Value} {below : List Frame} {meth : Method} {c : Code} {H : Heap} {locs : List Loc} {cells slots : Nat} {Q : State → Prop} {cc : ByteArray} {pc nL : Nat} {ls : Array Slot} {rest : List Value} {A : Nat → Prop} {H0 : Heap}
theorem mq_append {D : va_G} {d : ClassId} {a : Nat → Nat} (hD0 : mD (fun _ => True) a) {st : ml_S} {p0 : Int32} (S : CallFix p m c cc nL s args lw_all R_law) (hR : 0 + 1 ≤ R.frames ∧ 8 + (2 + 11) + 0 ≤ R.locals) (hc : cells ≤ R.cells ∧ slots ≤ R.slots) (hK : va_K D ml_cl [(d, .int)] s) (hP : mH D d a st H) (hS : va_S A H0 H locs) (hA : ∀ q, mA a q → A q) (hl : ls.size = nL) (hw : (rest.map fun v => v.category).sum ≤ 8) (hdg : decode cc pc = .ok (.invokevirtual 17, 3)) (k : ∀ (H1 : Heap) (locs1 : List Loc), mH D d a (op_append st p0).2 H1 → (∀ q : Nat, q < H.size → ¬ mA a q → H1[q]? = H[q]?) → va_S A H0 H1 locs1 → W p l e R s m args below meth c H1 locs1 cells slots Q (F0 m (pc + 3) ls (.int ((op_append st p0).1) :: rest))) : W p l e R s m args below meth c H locs cells slots Q (F0 m pc ls (.int p0 :: .ref (a 0) :: rest)) :=
  ml_calli (va_runV (As := [.int p0]) (b := a 0) (rest := rest) S (mm_append l D d a hD0 st p0) (cwV 1 S.2.2.2.2 (lw_V q138 q139 q140 q9 q141) rfl rfl rfl (by decide +kernel) hR) ⟨ml_blind, hP.recv hK, ml_pre hP hK⟩ rfl rfl hl rfl (lv_room hw) hdg hc) hS hA hA k
end
section
variable {p : Program} {l : Launch} {e : Env} {R : Room} {s : State} {m : MethodId} {args : Array Value} {below : List Frame} {meth : Method} {c : Code} {H : Heap} {locs : List Loc} {cells slots : Nat} {Q : State → Prop} {cc : ByteArray} {pc nL : Nat} {ls : Array Slot} {rest : List Value} {A : Nat → Prop} {H0 : Heap}
theorem xq_root {D : va_G} {d : ClassId} {a : Nat → Nat} (hD0 : xD (fun _ => True) a) {st : ml_S} {p0 : Int32} (S : CallFix p m c cc nL s args lw_all R_law) (hR : 3 + 1 ≤ R.frames ∧ 8 + (2 + 11) + 72 ≤ R.locals) (hc : cells ≤ R.cells ∧ slots ≤ R.slots) (hK : va_K D ml_cl [(d, .int)] s) (hP : xH D d a st H) (hl : ls.size = nL) (hw : (rest.map fun v => v.category).sum ≤ 8) (hdg : decode cc pc = .ok (.invokevirtual 18, 3)) (k : W p l e R s m args below meth c H locs cells slots Q (F0 m (pc + 3) ls (.int (op_root st p0) :: rest))) : W p l e R s m args below meth c H locs cells slots Q (F0 m pc ls (.int p0 :: .ref (a 0) :: rest)) :=
  ml_pure (va_runV (As := [.int p0]) (b := a 0) (rest := rest) S (xm_root l D d a hD0 st p0) (cwV 1 S.2.2.2.2 (lw_V q56 q57 q58 q8 q59) rfl rfl rfl (by decide +kernel) hR) ⟨ml_blind, hP.recv hK, ml_pre hP hK⟩ rfl rfl hl rfl (lv_room hw) hdg hc) k
end
section
variable {p : Program} {l : Launch} {e : Env} {R : Room} {s : State} {m : MethodId} {args : Array Value} {below : List Frame} {meth : Method} {c : Code} {H : Heap} {locs : List Loc} {cells slots : Nat} {Q : State → Prop} {cc : ByteArray} {pc nL : Nat} {ls : Array Slot} {rest : List Value} {A : Nat → Prop} {H0 : Heap}
theorem mq_root {D : va_G} {d : ClassId} {a : Nat → Nat} (hD0 : mD (fun _ => True) a) {st : ml_S} {p0 : Int32} (S : CallFix p m c cc nL s args lw_all R_law) (hR : 3 + 1 ≤ R.frames ∧ 8 + (2 + 11) + 70 ≤ R.locals) (hc : cells ≤ R.cells ∧ slots ≤ R.slots) (hK : va_K D ml_cl [(d, .int)] s) (hP : mH D d a st H) (hS : va_S A H0 H locs) (hA : ∀ q, mA a q → A q) (hl : ls.size = nL) (hw : (rest.map fun v => v.category).sum ≤ 8) (hdg : decode cc pc = .ok (.invokevirtual 21, 3)) (k : ∀ (H1 : Heap) (locs1 : List Loc), mH D d a st H1 → (∀ q : Nat, q < H.size → ¬ mA a q → H1[q]? = H[q]?) → va_S A H0 H1 locs1 → W p l e R s m args below meth c H1 locs1 cells slots Q (F0 m (pc + 3) ls (.int (op_root st p0) :: rest))) : W p l e R s m args below meth c H locs cells slots Q (F0 m pc ls (.int p0 :: .ref (a 0) :: rest)) :=
  ml_calli (va_runV (As := [.int p0]) (b := a 0) (rest := rest) S (mm_root l D d a hD0 st p0) (cwV 1 S.2.2.2.2 (lw_V q142 q143 q144 q9 q145) rfl rfl rfl (by decide +kernel) hR) ⟨ml_blind, hP.recv hK, ml_pre hP hK⟩ rfl rfl hl rfl (lv_room hw) hdg hc) hS hA hA k
end
section
variable {p : Program} {l : Launch} {e : Env} {R : Room} {s : State} {m : MethodId} {args : Array Value} {below : List Frame} {meth : Method} {c : Code} {H : Heap} {locs : List Loc} {cells slots : Nat} {Q : State → Prop} {cc : ByteArray} {pc nL : Nat} {ls : Array Slot} {rest : List Value} {A : Nat → Prop} {H0 : Heap}
theorem xq_path {D : va_G} {d : ClassId} {a : Nat → Nat} (hD0 : xD (fun _ => True) a) {st : ml_S} {p0 p1 : Int32} (S : CallFix p m c cc nL s args lw_all R_law) (hR : 4 + 1 ≤ R.frames ∧ 8 + (7 + 11) + 94 ≤ R.locals) (hc : cells ≤ R.cells ∧ slots ≤ R.slots) (hK : va_K D ml_cl [(d, .int)] s) (hP : xH D d a st H) (hS : va_S A H0 H locs) (hA : ∀ q, xA a q → A q) (hl : ls.size = nL) (hw : (rest.map fun v => v.category).sum ≤ 8) (hdg : decode cc pc = .ok (.invokevirtual 22, 3)) (k : ∀ (H1 : Heap) (locs1 : List Loc), xH D d a (op_path st p0 p1).2 H1 → (∀ q : Nat, q < H.size → ¬ xA a q → H1[q]? = H[q]?) → va_S A H0 H1 locs1 → W p l e R s m args below meth c H1 locs1 cells slots Q (F0 m (pc + 3) ls (.int ((op_path st p0 p1).1) :: rest))) : W p l e R s m args below meth c H locs cells slots Q (F0 m pc ls (.int p1 :: .int p0 :: .ref (a 0) :: rest)) :=
  ml_calli (va_runV (As := [.int p0, .int p1]) (b := a 0) (rest := rest) S (xm_path l D d a hD0 st p0 p1) (cwV 2 S.2.2.2.2 (lw_V q64 q65 q66 q8 q67) rfl rfl rfl (by decide +kernel) hR) ⟨ml_blind, hP.recv hK, ml_pre hP hK⟩ rfl rfl hl rfl (lv_room hw) hdg hc) hS hA hA k
end
section
variable {p : Program} {l : Launch} {e : Env} {R : Room} {s : State} {m : MethodId} {args : Array Value} {below : List Frame} {meth : Method} {c : Code} {H : Heap} {locs : List Loc} {cells slots : Nat} {Q : State → Prop} {cc : ByteArray} {pc nL : Nat} {ls : Array Slot} {rest : List Value} {A : Nat → Prop} {H0 : Heap}
theorem mq_path {D : va_G} {d : ClassId} {a : Nat → Nat} (hD0 : mD (fun _ => True) a) {st : ml_S} {p0 p1 : Int32} (S : CallFix p m c cc nL s args lw_all R_law) (hR : 3 + 1 ≤ R.frames ∧ 8 + (9 + 11) + 70 ≤ R.locals) (hc : cells ≤ R.cells ∧ slots ≤ R.slots) (hK : va_K D ml_cl [(d, .int)] s) (hP : mH D d a st H) (hS : va_S A H0 H locs) (hA : ∀ q, mA a q → A q) (hl : ls.size = nL) (hw : (rest.map fun v => v.category).sum ≤ 8) (hdg : decode cc pc = .ok (.invokevirtual 26, 3)) (k : ∀ (H1 : Heap) (locs1 : List Loc), mH D d a (op_path st p0 p1).2 H1 → (∀ q : Nat, q < H.size → ¬ mA a q → H1[q]? = H[q]?) → va_S A H0 H1 locs1 → W p l e R s m args below meth c H1 locs1 cells slots Q (F0 m (pc + 3) ls (.int ((op_path st p0 p1).1) :: rest))) : W p l e R s m args below meth c H locs cells slots Q (F0 m pc ls (.int p1 :: .int p0 :: .ref (a 0) :: rest)) :=
  ml_calli (va_runV (As := [.int p0, .int p1]) (b := a 0) (rest := rest) S (mm_path l D d a hD0 st p0 p1) (cwV 2 S.2.2.2.2 (lw_V q168 q169 q170 q9 q171) rfl rfl rfl (by decide +kernel) hR) ⟨ml_blind, hP.recv hK, ml_pre hP hK⟩ rfl rfl hl rfl (lv_room hw) hdg hc) hS hA hA k
end
section
variable {p : Program} {l : Launch} {e : Env} {R : Room} {s : State} {m : MethodId} {args : Array Value} {below : List Frame} {meth : Method} {c : Code} {H : Heap} {locs : List Loc} {cells slots : Nat} {Q : State → Prop} {cc : ByteArray} {pc nL : Nat} {ls : Array Slot} {rest : List Value} {A : Nat → Prop} {H0 : Heap}
theorem xq_steps {D : va_G} {d : ClassId} {a : Nat → Nat} (hD0 : xD (fun _ => True) a) {st : ml_S} {p0 p1 : Int32} (S : CallFix p m c cc nL s args lw_all R_law) (hR : 4 + 1 ≤ R.frames ∧ 8 + (7 + 11) + 94 ≤ R.locals) (hc : cells ≤ R.cells ∧ slots ≤ R.slots) (hK : va_K D ml_cl [(d, .int)] s) (hP : xH D d a st H) (hS : va_S A H0 H locs) (hA : ∀ q, xA a q → A q) (hl : ls.size = nL) (hw : (rest.map fun v => v.category).sum ≤ 8) (hdg : decode cc pc = .ok (.invokevirtual 27, 3)) (k : ∀ (H1 : Heap) (locs1 : List Loc), xH D d a (op_steps st p0 p1).2 H1 → (∀ q : Nat, q < H.size → ¬ xA a q → H1[q]? = H[q]?) → va_S A H0 H1 locs1 → W p l e R s m args below meth c H1 locs1 cells slots Q (F0 m (pc + 3) ls (.int ((op_steps st p0 p1).1) :: rest))) : W p l e R s m args below meth c H locs cells slots Q (F0 m pc ls (.int p1 :: .int p0 :: .ref (a 0) :: rest)) :=
  ml_calli (va_runV (As := [.int p0, .int p1]) (b := a 0) (rest := rest) S (xm_steps l D d a hD0 st p0 p1) (cwV 2 S.2.2.2.2 (lw_V q79 q80 q81 q8 q82) rfl rfl rfl (by decide +kernel) hR) ⟨ml_blind, hP.recv hK, ml_pre hP hK⟩ rfl rfl hl rfl (lv_room hw) hdg hc) hS hA hA k
end
section
variable {p : Program} {l : Launch} {e : Env} {R : Room} {s : State} {m : MethodId} {args : Array Value} {below : List Frame} {meth : Method} {c : Code} {H : Heap} {locs : List Loc} {cells slots : Nat} {Q : State → Prop} {cc : ByteArray} {pc nL : Nat} {ls : Array Slot} {rest : List Value} {A : Nat → Prop} {H0 : Heap}
theorem mq_steps {D : va_G} {d : ClassId} {a : Nat → Nat} (hD0 : mD (fun _ => True) a) {st : ml_S} {p0 p1 : Int32} (S : CallFix p m c cc nL s args lw_all R_law) (hR : 3 + 1 ≤ R.frames ∧ 8 + (10 + 11) + 70 ≤ R.locals) (hc : cells ≤ R.cells ∧ slots ≤ R.slots) (hK : va_K D ml_cl [(d, .int)] s) (hP : mH D d a st H) (hS : va_S A H0 H locs) (hA : ∀ q, mA a q → A q) (hl : ls.size = nL) (hw : (rest.map fun v => v.category).sum ≤ 8) (hdg : decode cc pc = .ok (.invokevirtual 30, 3)) (k : ∀ (H1 : Heap) (locs1 : List Loc), mH D d a (op_steps st p0 p1).2 H1 → (∀ q : Nat, q < H.size → ¬ mA a q → H1[q]? = H[q]?) → va_S A H0 H1 locs1 → W p l e R s m args below meth c H1 locs1 cells slots Q (F0 m (pc + 3) ls (.int ((op_steps st p0 p1).1) :: rest))) : W p l e R s m args below meth c H locs cells slots Q (F0 m pc ls (.int p1 :: .int p0 :: .ref (a 0) :: rest)) :=
  ml_calli (va_runV (As := [.int p0, .int p1]) (b := a 0) (rest := rest) S (mm_steps l D d a hD0 st p0 p1) (cwV 2 S.2.2.2.2 (lw_V q180 q181 q182 q9 q183) rfl rfl rfl (by decide +kernel) hR) ⟨ml_blind, hP.recv hK, ml_pre hP hK⟩ rfl rfl hl rfl (lv_room hw) hdg hc) hS hA hA k
end
section
variable {p : Program} {l : Launch} {e : Env} {R : Room} {s : State} {m : MethodId} {args : Array Value} {below : List Frame} {meth : Method} {c : Code} {H : Heap} {locs : List Loc} {cells slots : Nat} {Q : State → Prop} {cc : ByteArray} {pc nL : Nat} {ls : Array Slot} {rest : List Value} {A : Nat → Prop} {H0 : Heap}
theorem xq_hand {D : va_G} {d : ClassId} {a : Nat → Nat} (hD0 : xD (fun _ => True) a) {st : ml_S} {p0 : Int32} (S : CallFix p m c cc nL s args lw_all R_law) (hR : 0 + 1 ≤ R.frames ∧ 8 + (2 + 11) + 0 ≤ R.locals) (hc : cells ≤ R.cells ∧ slots ≤ R.slots) (hK : va_K D ml_cl [(d, .int)] s) (hP : xH D d a st H) (hl : ls.size = nL) (hw : (rest.map fun v => v.category).sum ≤ 8) (hdg : decode cc pc = .ok (.invokevirtual 31, 3)) (k : W p l e R s m args below meth c H locs cells slots Q (F0 m (pc + 3) ls (.int (op_hand st p0) :: rest))) : W p l e R s m args below meth c H locs cells slots Q (F0 m pc ls (.int p0 :: .ref (a 0) :: rest)) :=
  ml_pure (va_runV (As := [.int p0]) (b := a 0) (rest := rest) S (xm_hand l D d a hD0 st p0) (cwV 1 S.2.2.2.2 (lw_V q83 q84 q85 q8 q86) rfl rfl rfl (by decide +kernel) hR) ⟨ml_blind, hP.recv hK, ml_pre hP hK⟩ rfl rfl hl rfl (lv_room hw) hdg hc) k
end
section
variable {p : Program} {l : Launch} {e : Env} {R : Room} {s : State} {m : MethodId} {args : Array Value} {below : List Frame} {meth : Method} {c : Code} {H : Heap} {locs : List Loc} {cells slots : Nat} {Q : State → Prop} {cc : ByteArray} {pc nL : Nat} {ls : Array Slot} {rest : List Value} {A : Nat → Prop} {H0 : Heap}
theorem mq_hand {D : va_G} {d : ClassId} {a : Nat → Nat} (hD0 : mD (fun _ => True) a) {st : ml_S} {p0 : Int32} (S : CallFix p m c cc nL s args lw_all R_law) (hR : 0 + 1 ≤ R.frames ∧ 8 + (2 + 11) + 0 ≤ R.locals) (hc : cells ≤ R.cells ∧ slots ≤ R.slots) (hK : va_K D ml_cl [(d, .int)] s) (hP : mH D d a st H) (hl : ls.size = nL) (hw : (rest.map fun v => v.category).sum ≤ 8) (hdg : decode cc pc = .ok (.invokevirtual 34, 3)) (k : W p l e R s m args below meth c H locs cells slots Q (F0 m (pc + 3) ls (.int (op_hand st p0) :: rest))) : W p l e R s m args below meth c H locs cells slots Q (F0 m pc ls (.int p0 :: .ref (a 0) :: rest)) :=
  ml_pure (va_runV (As := [.int p0]) (b := a 0) (rest := rest) S (mm_hand l D d a hD0 st p0) (cwV 1 S.2.2.2.2 (lw_V q184 q185 q186 q9 q187) rfl rfl rfl (by decide +kernel) hR) ⟨ml_blind, hP.recv hK, ml_pre hP hK⟩ rfl rfl hl rfl (lv_room hw) hdg hc) k
end
section
variable {p : Program} {l : Launch} {e : Env} {R : Room} {s : State} {m : MethodId} {args : Array Value} {below : List Frame} {meth : Method} {c : Code} {H : Heap} {locs : List Loc} {cells slots : Nat} {Q : State → Prop} {cc : ByteArray} {pc nL : Nat} {ls : Array Slot} {rest : List Value} {A : Nat → Prop} {H0 : Heap}
theorem xq_held {D : va_G} {d : ClassId} {a : Nat → Nat} (hD0 : xD (fun _ => True) a) {st : ml_S}  (S : CallFix p m c cc nL s args lw_all R_law) (hR : 0 + 1 ≤ R.frames ∧ 8 + (1 + 11) + 0 ≤ R.locals) (hc : cells ≤ R.cells ∧ slots ≤ R.slots) (hK : va_K D ml_cl [(d, .int)] s) (hP : xH D d a st H) (hl : ls.size = nL) (hw : (rest.map fun v => v.category).sum ≤ 8) (hdg : decode cc pc = .ok (.invokevirtual 35, 3)) (k : W p l e R s m args below meth c H locs cells slots Q (F0 m (pc + 3) ls (.int (op_held st) :: rest))) : W p l e R s m args below meth c H locs cells slots Q (F0 m pc ls (.ref (a 0) :: rest)) :=
  ml_pure (va_runV (As := []) (b := a 0) (rest := rest) S (xm_held l D d a hD0 st) (cwV 0 S.2.2.2.2 (lw_V q87 q88 q89 q8 q90) rfl rfl rfl (by decide +kernel) hR) ⟨ml_blind, hP.recv hK, ml_pre hP hK⟩ rfl rfl hl rfl (lv_room hw) hdg hc) k
end
section
variable {p : Program} {l : Launch} {e : Env} {R : Room} {s : State} {m : MethodId} {args : Array Value} {below : List Frame} {meth : Method} {c : Code} {H : Heap} {locs : List Loc} {cells slots : Nat} {Q : State → Prop} {cc : ByteArray} {pc nL : Nat} {ls : Array Slot} {rest : List Value} {A : Nat → Prop} {H0 : Heap}
theorem mq_held {D : va_G} {d : ClassId} {a : Nat → Nat} (hD0 : mD (fun _ => True) a) {st : ml_S}  (S : CallFix p m c cc nL s args lw_all R_law) (hR : 0 + 1 ≤ R.frames ∧ 8 + (1 + 11) + 0 ≤ R.locals) (hc : cells ≤ R.cells ∧ slots ≤ R.slots) (hK : va_K D ml_cl [(d, .int)] s) (hP : mH D d a st H) (hl : ls.size = nL) (hw : (rest.map fun v => v.category).sum ≤ 8) (hdg : decode cc pc = .ok (.invokevirtual 39, 3)) (k : W p l e R s m args below meth c H locs cells slots Q (F0 m (pc + 3) ls (.int (op_held st) :: rest))) : W p l e R s m args below meth c H locs cells slots Q (F0 m pc ls (.ref (a 0) :: rest)) :=
  ml_pure (va_runV (As := []) (b := a 0) (rest := rest) S (mm_held l D d a hD0 st) (cwV 0 S.2.2.2.2 (lw_V q188 q189 q190 q9 q191) rfl rfl rfl (by decide +kernel) hR) ⟨ml_blind, hP.recv hK, ml_pre hP hK⟩ rfl rfl hl rfl (lv_room hw) hdg hc) k
end
section
variable {p : Program} {l : Launch} {e : Env} {R : Room} {s : State} {m : MethodId} {args : Array Value} {below : List Frame} {meth : Method} {c : Code} {H : Heap} {locs : List Loc} {cells slots : Nat} {Q : State → Prop} {cc : ByteArray} {pc nL : Nat} {ls : Array Slot} {rest : List Value} {A : Nat → Prop} {H0 : Heap}
theorem xq_alter {D : va_G} {d : ClassId} {a : Nat → Nat} (hD0 : xD (fun _ => True) a) {st : ml_S} {p0 p1 : Int32} (S : CallFix p m c cc nL s args lw_all R_law) (hR : 0 + 1 ≤ R.frames ∧ 8 + (3 + 11) + 0 ≤ R.locals) (hc : cells ≤ R.cells ∧ slots ≤ R.slots) (hK : va_K D ml_cl [(d, .int)] s) (hP : xH D d a st H) (hS : va_S A H0 H locs) (hA : ∀ q, xA a q → A q) (hl : ls.size = nL) (hw : (rest.map fun v => v.category).sum ≤ 8) (hdg : decode cc pc = .ok (.invokevirtual 40, 3)) (k : ∀ (H1 : Heap) (locs1 : List Loc), xH D d a (op_alter st p0 p1).2 H1 → (∀ q : Nat, q < H.size → ¬ xA a q → H1[q]? = H[q]?) → va_S A H0 H1 locs1 → W p l e R s m args below meth c H1 locs1 cells slots Q (F0 m (pc + 3) ls (.int ((op_alter st p0 p1).1) :: rest))) : W p l e R s m args below meth c H locs cells slots Q (F0 m pc ls (.int p1 :: .int p0 :: .ref (a 0) :: rest)) :=
  ml_calli (va_runV (As := [.int p0, .int p1]) (b := a 0) (rest := rest) S (xm_alter l D d a hD0 st p0 p1) (cwV 2 S.2.2.2.2 (lw_V q91 q92 q93 q8 q94) rfl rfl rfl (by decide +kernel) hR) ⟨ml_blind, hP.recv hK, ml_pre hP hK⟩ rfl rfl hl rfl (lv_room hw) hdg hc) hS hA hA k
end
section
variable {p : Program} {l : Launch} {e : Env} {R : Room} {s : State} {m : MethodId} {args : Array Value} {below : List Frame} {meth : Method} {c : Code} {H : Heap} {locs : List Loc} {cells slots : Nat} {Q : State → Prop} {cc : ByteArray} {pc nL : Nat} {ls : Array Slot} {rest : List Value} {A : Nat → Prop} {H0 : Heap}
theorem mq_alter {D : va_G} {d : ClassId} {a : Nat → Nat} (hD0 : mD (fun _ => True) a) {st : ml_S} {p0 p1 : Int32} (S : CallFix p m c cc nL s args lw_all R_law) (hR : 0 + 1 ≤ R.frames ∧ 8 + (3 + 11) + 0 ≤ R.locals) (hc : cells ≤ R.cells ∧ slots ≤ R.slots) (hK : va_K D ml_cl [(d, .int)] s) (hP : mH D d a st H) (hS : va_S A H0 H locs) (hA : ∀ q, mA a q → A q) (hl : ls.size = nL) (hw : (rest.map fun v => v.category).sum ≤ 8) (hdg : decode cc pc = .ok (.invokevirtual 43, 3)) (k : ∀ (H1 : Heap) (locs1 : List Loc), mH D d a (op_alter st p0 p1).2 H1 → (∀ q : Nat, q < H.size → ¬ mA a q → H1[q]? = H[q]?) → va_S A H0 H1 locs1 → W p l e R s m args below meth c H1 locs1 cells slots Q (F0 m (pc + 3) ls (.int ((op_alter st p0 p1).1) :: rest))) : W p l e R s m args below meth c H locs cells slots Q (F0 m pc ls (.int p1 :: .int p0 :: .ref (a 0) :: rest)) :=
  ml_calli (va_runV (As := [.int p0, .int p1]) (b := a 0) (rest := rest) S (mm_alter l D d a hD0 st p0 p1) (cwV 2 S.2.2.2.2 (lw_V q192 q193 q194 q9 q195) rfl rfl rfl (by decide +kernel) hR) ⟨ml_blind, hP.recv hK, ml_pre hP hK⟩ rfl rfl hl rfl (lv_room hw) hdg hc) hS hA hA k
end
section
variable {p : Program} {l : Launch} {e : Env} {R : Room} {s : State} {m : MethodId} {args : Array Value} {below : List Frame} {meth : Method} {c : Code} {H : Heap} {locs : List Loc} {cells slots : Nat} {Q : State → Prop} {cc : ByteArray} {pc nL : Nat} {ls : Array Slot} {rest : List Value} {A : Nat → Prop} {H0 : Heap}
theorem xq_drop {D : va_G} {d : ClassId} {a : Nat → Nat} (hD0 : xD (fun _ => True) a) {st : ml_S}  (S : CallFix p m c cc nL s args lw_all R_law) (hR : 0 + 1 ≤ R.frames ∧ 8 + (1 + 11) + 0 ≤ R.locals) (hc : cells ≤ R.cells ∧ slots ≤ R.slots) (hK : va_K D ml_cl [(d, .int)] s) (hP : xH D d a st H) (hS : va_S A H0 H locs) (hA : ∀ q, xA a q → A q) (hl : ls.size = nL) (hw : (rest.map fun v => v.category).sum ≤ 8) (hdg : decode cc pc = .ok (.invokevirtual 44, 3)) (k : ∀ (H1 : Heap) (locs1 : List Loc), xH D d a (op_drop st) H1 → (∀ q : Nat, q < H.size → ¬ xA a q → H1[q]? = H[q]?) → va_S A H0 H1 locs1 → W p l e R s m args below meth c H1 locs1 cells slots Q (F0 m (pc + 3) ls rest)) : W p l e R s m args below meth c H locs cells slots Q (F0 m pc ls (.ref (a 0) :: rest)) :=
  ml_callv (va_runV (As := []) (b := a 0) (rest := rest) S (xm_drop l D d a hD0 st) (cwV 0 S.2.2.2.2 (lw_V q95 q96 q97 q8 q98) rfl rfl rfl (by decide +kernel) hR) ⟨ml_blind, hP.recv hK, ml_pre hP hK⟩ rfl rfl hl rfl (lv_room hw) hdg hc) hS hA hA k
end
section
variable {p : Program} {l : Launch} {e : Env} {R : Room} {s : State} {m : MethodId} {args : Array Value} {below : List Frame} {meth : Method} {c : Code} {H : Heap} {locs : List Loc} {cells slots : Nat} {Q : State → Prop} {cc : ByteArray} {pc nL : Nat} {ls : Array Slot} {rest : List Value} {A : Nat → Prop} {H0 : Heap}
theorem mq_drop {D : va_G} {d : ClassId} {a : Nat → Nat} (hD0 : mD (fun _ => True) a) {st : ml_S}  (S : CallFix p m c cc nL s args lw_all R_law) (hR : 0 + 1 ≤ R.frames ∧ 8 + (1 + 11) + 0 ≤ R.locals) (hc : cells ≤ R.cells ∧ slots ≤ R.slots) (hK : va_K D ml_cl [(d, .int)] s) (hP : mH D d a st H) (hS : va_S A H0 H locs) (hA : ∀ q, mA a q → A q) (hl : ls.size = nL) (hw : (rest.map fun v => v.category).sum ≤ 8) (hdg : decode cc pc = .ok (.invokevirtual 47, 3)) (k : ∀ (H1 : Heap) (locs1 : List Loc), mH D d a (op_drop st) H1 → (∀ q : Nat, q < H.size → ¬ mA a q → H1[q]? = H[q]?) → va_S A H0 H1 locs1 → W p l e R s m args below meth c H1 locs1 cells slots Q (F0 m (pc + 3) ls rest)) : W p l e R s m args below meth c H locs cells slots Q (F0 m pc ls (.ref (a 0) :: rest)) :=
  ml_callv (va_runV (As := []) (b := a 0) (rest := rest) S (mm_drop l D d a hD0 st) (cwV 0 S.2.2.2.2 (lw_V q196 q197 q198 q9 q199) rfl rfl rfl (by decide +kernel) hR) ⟨ml_blind, hP.recv hK, ml_pre hP hK⟩ rfl rfl hl rfl (lv_room hw) hdg hc) hS hA hA k
end
section
variable {p : Program} {l : Launch} {e : Env} {R : Room} {s : State} {m : MethodId} {args : Array Value} {below : List Frame} {meth : Method} {c : Code} {H : Heap} {locs : List Loc} {cells slots : Nat} {Q : State → Prop} {cc : ByteArray} {pc nL : Nat} {ls : Array Slot} {rest : List Value} {A : Nat → Prop} {H0 : Heap}
theorem xq_take {D : va_G} {d : ClassId} {a : Nat → Nat} (hD0 : xD (fun _ => True) a) {st : ml_S} {p0 : Int32} (S : CallFix p m c cc nL s args lw_all R_law) (hR : 0 + 1 ≤ R.frames ∧ 8 + (2 + 11) + 0 ≤ R.locals) (hc : cells ≤ R.cells ∧ slots ≤ R.slots) (hK : va_K D ml_cl [(d, .int)] s) (hP : xH D d a st H) (hS : va_S A H0 H locs) (hA : ∀ q, xA a q → A q) (hl : ls.size = nL) (hw : (rest.map fun v => v.category).sum ≤ 8) (hdg : decode cc pc = .ok (.invokevirtual 48, 3)) (k : ∀ (H1 : Heap) (locs1 : List Loc), xH D d a (op_take st p0).2 H1 → (∀ q : Nat, q < H.size → ¬ xA a q → H1[q]? = H[q]?) → va_S A H0 H1 locs1 → W p l e R s m args below meth c H1 locs1 cells slots Q (F0 m (pc + 3) ls (.int ((op_take st p0).1) :: rest))) : W p l e R s m args below meth c H locs cells slots Q (F0 m pc ls (.int p0 :: .ref (a 0) :: rest)) :=
  ml_calli (va_runV (As := [.int p0]) (b := a 0) (rest := rest) S (xm_take l D d a hD0 st p0) (cwV 1 S.2.2.2.2 (lw_V q99 q100 q101 q8 q102) rfl rfl rfl (by decide +kernel) hR) ⟨ml_blind, hP.recv hK, ml_pre hP hK⟩ rfl rfl hl rfl (lv_room hw) hdg hc) hS hA hA k
end
section
variable {p : Program} {l : Launch} {e : Env} {R : Room} {s : State} {m : MethodId} {args : Array Value} {below : List Frame} {meth : Method} {c : Code} {H : Heap} {locs : List Loc} {cells slots : Nat} {Q : State → Prop} {cc : ByteArray} {pc nL : Nat} {ls : Array Slot} {rest : List Value} {A : Nat → Prop} {H0 : Heap}
theorem mq_take {D : va_G} {d : ClassId} {a : Nat → Nat} (hD0 : mD (fun _ => True) a) {st : ml_S} {p0 : Int32} (S : CallFix p m c cc nL s args lw_all R_law) (hR : 0 + 1 ≤ R.frames ∧ 8 + (2 + 11) + 0 ≤ R.locals) (hc : cells ≤ R.cells ∧ slots ≤ R.slots) (hK : va_K D ml_cl [(d, .int)] s) (hP : mH D d a st H) (hS : va_S A H0 H locs) (hA : ∀ q, mA a q → A q) (hl : ls.size = nL) (hw : (rest.map fun v => v.category).sum ≤ 8) (hdg : decode cc pc = .ok (.invokevirtual 51, 3)) (k : ∀ (H1 : Heap) (locs1 : List Loc), mH D d a (op_take st p0).2 H1 → (∀ q : Nat, q < H.size → ¬ mA a q → H1[q]? = H[q]?) → va_S A H0 H1 locs1 → W p l e R s m args below meth c H1 locs1 cells slots Q (F0 m (pc + 3) ls (.int ((op_take st p0).1) :: rest))) : W p l e R s m args below meth c H locs cells slots Q (F0 m pc ls (.int p0 :: .ref (a 0) :: rest)) :=
  ml_calli (va_runV (As := [.int p0]) (b := a 0) (rest := rest) S (mm_take l D d a hD0 st p0) (cwV 1 S.2.2.2.2 (lw_V q200 q201 q202 q9 q203) rfl rfl rfl (by decide +kernel) hR) ⟨ml_blind, hP.recv hK, ml_pre hP hK⟩ rfl rfl hl rfl (lv_room hw) hdg hc) hS hA hA k
end
section
variable {p : Program} {l : Launch} {e : Env} {R : Room} {s : State} {m : MethodId} {args : Array Value} {below : List Frame} {meth : Method} {c : Code} {H : Heap} {locs : List Loc} {cells slots : Nat} {Q : State → Prop} {cc : ByteArray} {pc nL : Nat} {ls : Array Slot} {rest : List Value} {A : Nat → Prop} {H0 : Heap}
theorem xq_rootFrom {D : va_G} {d : ClassId} {a : Nat → Nat} (hD0 : xD (fun _ => True) a) {st : ml_S} {p0 p1 p2 : Int32} (S : CallFix p m c cc nL s args lw_all R_law) (hR : 2 + 1 ≤ R.frames ∧ 8 + (9 + 11) + 44 ≤ R.locals) (hc : cells ≤ R.cells ∧ slots ≤ R.slots) (hK : va_K D ml_cl [(d, .int)] s) (hP : xH D d a st H) (hl : ls.size = nL) (hw : (rest.map fun v => v.category).sum ≤ 8) (hdg : decode cc pc = .ok (.invokevirtual 52, 3)) (k : W p l e R s m args below meth c H locs cells slots Q (F0 m (pc + 3) ls (.int (op_rootFrom st p0 p1 p2) :: rest))) : W p l e R s m args below meth c H locs cells slots Q (F0 m pc ls (.int p2 :: .int p1 :: .int p0 :: .ref (a 0) :: rest)) :=
  ml_pure (va_runV (As := [.int p0, .int p1, .int p2]) (b := a 0) (rest := rest) S (xm_rootFrom l D d a hD0 st p0 p1 p2) (cwV 3 S.2.2.2.2 (lw_V q103 q104 q105 q8 q106) rfl rfl rfl (by decide +kernel) hR) ⟨ml_blind, hP.recv hK, ml_pre hP hK⟩ rfl rfl hl rfl (lv_room hw) hdg hc) k
end
section
variable {p : Program} {l : Launch} {e : Env} {R : Room} {s : State} {m : MethodId} {args : Array Value} {below : List Frame} {meth : Method} {c : Code} {H : Heap} {locs : List Loc} {cells slots : Nat} {Q : State → Prop} {cc : ByteArray} {pc nL : Nat} {ls : Array Slot} {rest : List Value} {A : Nat → Prop} {H0 : Heap}
theorem mq_rootFrom {D : va_G} {d : ClassId} {a : Nat → Nat} (hD0 : mD (fun _ => True) a) {st : ml_S} {p0 p1 p2 : Int32} (S : CallFix p m c cc nL s args lw_all R_law) (hR : 2 + 1 ≤ R.frames ∧ 8 + (7 + 11) + 47 ≤ R.locals) (hc : cells ≤ R.cells ∧ slots ≤ R.slots) (hK : va_K D ml_cl [(d, .int)] s) (hP : mH D d a st H) (hl : ls.size = nL) (hw : (rest.map fun v => v.category).sum ≤ 8) (hdg : decode cc pc = .ok (.invokevirtual 56, 3)) (k : W p l e R s m args below meth c H locs cells slots Q (F0 m (pc + 3) ls (.int (op_rootFrom st p0 p1 p2) :: rest))) : W p l e R s m args below meth c H locs cells slots Q (F0 m pc ls (.int p2 :: .int p1 :: .int p0 :: .ref (a 0) :: rest)) :=
  ml_pure (va_runV (As := [.int p0, .int p1, .int p2]) (b := a 0) (rest := rest) S (mm_rootFrom l D d a hD0 st p0 p1 p2) (cwV 3 S.2.2.2.2 (lw_V q204 q205 q206 q9 q207) rfl rfl rfl (by decide +kernel) hR) ⟨ml_blind, hP.recv hK, ml_pre hP hK⟩ rfl rfl hl rfl (lv_room hw) hdg hc) k
end
end
section
theorem lw_cmp {L i : Nat} (hL : L ≤ 256) (hi : i ≤ 256) : nI L - 4 < nI i ↔ L < i + 4 := by
  rw [Int32.lt_iff_toInt_lt, show (4 : Int32) = nI 4 from rfl, pk_sub_toInt (by omega) (by decide), nI_toInt (by omega)]
  omega
/-- the places of the objects' cells: made by the law, apart from each other -/
def lw_O (s : State) (a am : Nat → Nat) : Prop := xD (fun q : Nat => s.heap.size ≤ q) a ∧ mD (fun q : Nat => s.heap.size ≤ q) am ∧ ∀ q, xA a q → ¬ mA am q
set_option maxHeartbeats 8000000 in
set_option maxRecDepth 100000 in
/-- THE LAW, at its loop: both objects hold one state -/
theorem law_loop {p : Program} {l : Launch} {e : Env} {s : State} {m : MethodId} {below : List Frame} {meth : Method} {c : Code} {b L : Nat} {xs : Nat → Int32} (hL : L ≤ 256) (C0 : lw_At p s m meth c b L xs) {D : va_G} {d dm : ClassId} {a am : Nat → Nat} (hO : lw_O s a am) (hK : va_K D ml_cl [(d, .int)] s) (hKm : va_K D ml_cl [(dm, .int)] s) :
    ∀ (n i : Nat) (st : ml_S), i ≤ L → L < i + n → ∀ (H : Heap) (locs : List Loc), xH D d a st H → mH D dm am st H → va_S (fun q : Nat => s.heap.size ≤ q) s.heap H locs → ∀ ls : Array Slot, lv_has ls 4 [(0, .ref b), (1, .ref (a 0)), (2, .ref (am 0)), (3, .int (nI i))] → W p l e room_1 s m #[Value.ref b] below meth c H locs 11 582 (lw_Z below #[Value.ref b] s) (F0 m 18 ls []) := by
  obtain ⟨hx, hb, hr, hml, hown, hts0, hX, hbl, hlocks, hgv⟩ := id C0
  have hts : ∀ w ∈ lw_all, w.before #[Value.ref b] s = true := fun w h => hts0 w (lw_all_tbl h)
  have S : CallFix p m c cL_law 4 s #[Value.ref b] lw_all R_law := ⟨hx, hb, hml, hown, hts⟩
  have hbA : ¬ (fun q : Nat => s.heap.size ≤ q) b := Nat.not_le.mpr hbl
  obtain ⟨hDx, hDm, hdis⟩ := hO
  have hD1 : xD (fun _ => True) a := hDx.wk (fun _ _ => trivial)
  have hD2 : mD (fun _ => True) am := hDm.wk (fun _ _ => trivial)
  have hA1 := hDx.in
  have hA2 := hDm.in
  intro n
  induction n with
  | zero => intro i st h1 h2; omega
  | succ n ih =>
    intro i st hi hn H locs hHx hHm hS ls hl
    refine lv_iload_n hx hb dL_law_18 rfl (lv_at hl 3 rfl) ?_
    refine lv_aload_n hx hb dL_law_19 rfl (lv_at hl 0 rfl) ?_
    refine va_slen hx hb hX hbl hbA hS dL_law_20 ?_
    refine lv_iconst (v := 4) hx hb dL_law_21 (by decide) ?_
    refine lv_isub hx hb dL_law_22 ?_
    refine lv_icmp_gt (tgt := 352) hx hb dL_law_23 (by decide) (fun c0 => ?_) (fun c0 => ?_)
    · refine lv_iconst (v := 1) hx hb dL_law_352 (by decide) ?_
      refine va_forget hS.2.2 ?_
      refine W.widen (k := 600000) (n := 7290000) (by decide) (by decide) ?_
      exact lw_ret hx hb hr hlocks dL_law_353
    · have hlt : i + 4 ≤ L := by
        rcases Nat.lt_or_ge L (i + 4) with h | h
        · exact absurd ((lw_cmp hL (by omega)).mpr h) c0
        · exact h
      refine lv_aload_n hx hb dL_law_26 rfl (lv_at hl 0 rfl) ?_
      refine lv_iload_n hx hb dL_law_27 rfl (lv_at hl 3 rfl) ?_
      refine va_sld hx hb hX hbl hbA hS (vp_in_nI (by omega) (by omega)) dL_law_28 ?_
      refine lv_bipush (v := 15) hx hb dL_law_29 (by decide) ?_
      refine lv_iand hx hb dL_law_31 ?_
      obtain ⟨j, hj, ej⟩ := pk_andE (xs (nI i).toNatClampNeg) (m := 15) 4 (by decide)
      refine ml_top (y := nI j) (ej) ?_
      have next : ∀ (st : ml_S) (H : Heap) (locs : List Loc), xH D d a st H → mH D dm am st H → va_S (fun q : Nat => s.heap.size ≤ q) s.heap H locs → ∀ ls : Array Slot, lv_has ls 4 [(0, .ref b), (1, .ref (a 0)), (2, .ref (am 0)), (3, .int (nI i))] → W p l e room_1 s m #[Value.ref b] below meth c H locs 11 582 (lw_Z below #[Value.ref b] s) (F0 m 346 ls []) := by
        intro st H locs hHx hHm hS ls hl
        refine lv_iinc (v := nI (i + 4)) (lv' := [(3, .int (nI (i + 4))), (0, .ref b), (1, .ref (a 0)), (2, .ref (am 0))]) hx hb dL_law_346 hl (k := 3) rfl (nI_add i 4) (by decide) rfl (fun ls hl => ?_)
        refine lv_goto (tgt := 18) hx hb dL_law_349 (by decide) ?_
        exact ih (i + 4) st hlt (by omega) H locs hHx hHm hS ls (lv_sub hl [1, 2, 3, 0] rfl)
      rcases (show j = 0 ∨ j = 1 ∨ j = 2 ∨ j = 3 ∨ j = 4 ∨ j = 5 ∨ j = 6 ∨ j = 7 ∨ j = 8 ∨ j = 9 ∨ 10 ≤ j by omega) with rfl | rfl | rfl | rfl | rfl | rfl | rfl | rfl | rfl | rfl | hge
      · refine lv_tableIn (off := 56) (tgt := 88) hx hb dL_law_32 (by decide) (by decide) (by decide) (by decide) ?_
        refine lv_aload_n hx hb dL_law_88 rfl (lv_at hl 1 rfl) ?_
        refine lv_aload_n hx hb dL_law_89 rfl (lv_at hl 0 rfl) ?_
        refine lv_iload_n hx hb dL_law_90 rfl (lv_at hl 3 rfl) ?_
        refine lv_iconst (v := 1) hx hb dL_law_91 (by decide) ?_
        refine lv_iadd hx hb dL_law_92 ?_
        refine ml_top (y := nI (i + 1)) (nI_add i 1) ?_
        refine va_sld hx hb hX hbl hbA hS (vp_in_nI (by omega) (by omega)) dL_law_93 ?_
        refine xq_append hD1 S ⟨Nat.le_of_ble_eq_true rfl, Nat.le_of_ble_eq_true rfl⟩ ⟨Nat.le_of_ble_eq_true rfl, Nat.le_of_ble_eq_true rfl⟩ hK hHx hS hA1 hl.1 (Nat.le_of_ble_eq_true rfl) dL_law_94 (fun H1 locs hHx hk hS => ?_)
        have hHm := hHm.kept (fun q hq => hk q (hHm.lt q hq) (fun h => hdis q h hq))
        refine lv_aload_n hx hb dL_law_97 rfl (lv_at hl 2 rfl) ?_
        refine lv_aload_n hx hb dL_law_98 rfl (lv_at hl 0 rfl) ?_
        refine lv_iload_n hx hb dL_law_99 rfl (lv_at hl 3 rfl) ?_
        refine lv_iconst (v := 1) hx hb dL_law_100 (by decide) ?_
        refine lv_iadd hx hb dL_law_101 ?_
        refine ml_top (y := nI (i + 1)) (nI_add i 1) ?_
        refine va_sld hx hb hX hbl hbA hS (vp_in_nI (by omega) (by omega)) dL_law_102 ?_
        refine mq_append hD2 S ⟨Nat.le_of_ble_eq_true rfl, Nat.le_of_ble_eq_true rfl⟩ ⟨Nat.le_of_ble_eq_true rfl, Nat.le_of_ble_eq_true rfl⟩ hKm hHm hS hA2 hl.1 (Nat.le_of_ble_eq_true rfl) dL_law_103 (fun H2 locs hHm hk hS => ?_)
        have hHx := hHx.kept (fun q hq => hk q (hHx.lt q hq) (fun h => hdis q hq h))
        refine lv_icmp_eq (tgt := 346) hx hb dL_law_106 (by decide) (fun _ => ?_) (fun q => absurd (rfl) q)
        exact next (op_append st (xs (nI (i + 1)).toNatClampNeg)).2 _ locs hHx hHm hS ls (lv_sub hl [0, 1, 2, 3] rfl)
      · refine lv_tableIn (off := 79) (tgt := 111) hx hb dL_law_32 (by decide) (by decide) (by decide) (by decide) ?_
        refine lv_aload_n hx hb dL_law_111 rfl (lv_at hl 1 rfl) ?_
        refine lv_aload_n hx hb dL_law_112 rfl (lv_at hl 0 rfl) ?_
        refine lv_iload_n hx hb dL_law_113 rfl (lv_at hl 3 rfl) ?_
        refine lv_iconst (v := 1) hx hb dL_law_114 (by decide) ?_
        refine lv_iadd hx hb dL_law_115 ?_
        refine ml_top (y := nI (i + 1)) (nI_add i 1) ?_
        refine va_sld hx hb hX hbl hbA hS (vp_in_nI (by omega) (by omega)) dL_law_116 ?_
        refine xq_root hD1 S ⟨Nat.le_of_ble_eq_true rfl, Nat.le_of_ble_eq_true rfl⟩ ⟨Nat.le_of_ble_eq_true rfl, Nat.le_of_ble_eq_true rfl⟩ hK hHx hl.1 (Nat.le_of_ble_eq_true rfl) dL_law_117 ?_
        refine lv_aload_n hx hb dL_law_120 rfl (lv_at hl 2 rfl) ?_
        refine lv_aload_n hx hb dL_law_121 rfl (lv_at hl 0 rfl) ?_
        refine lv_iload_n hx hb dL_law_122 rfl (lv_at hl 3 rfl) ?_
        refine lv_iconst (v := 1) hx hb dL_law_123 (by decide) ?_
        refine lv_iadd hx hb dL_law_124 ?_
        refine ml_top (y := nI (i + 1)) (nI_add i 1) ?_
        refine va_sld hx hb hX hbl hbA hS (vp_in_nI (by omega) (by omega)) dL_law_125 ?_
        refine mq_root hD2 S ⟨Nat.le_of_ble_eq_true rfl, Nat.le_of_ble_eq_true rfl⟩ ⟨Nat.le_of_ble_eq_true rfl, Nat.le_of_ble_eq_true rfl⟩ hKm hHm hS hA2 hl.1 (Nat.le_of_ble_eq_true rfl) dL_law_126 (fun H2 locs hHm hk hS => ?_)
        have hHx := hHx.kept (fun q hq => hk q (hHx.lt q hq) (fun h => hdis q hq h))
        refine lv_icmp_eq (tgt := 346) hx hb dL_law_129 (by decide) (fun _ => ?_) (fun q => absurd (rfl) q)
        exact next st _ locs hHx hHm hS ls (lv_sub hl [0, 1, 2, 3] rfl)
      · refine lv_tableIn (off := 102) (tgt := 134) hx hb dL_law_32 (by decide) (by decide) (by decide) (by decide) ?_
        refine lv_aload_n hx hb dL_law_134 rfl (lv_at hl 1 rfl) ?_
        refine lv_aload_n hx hb dL_law_135 rfl (lv_at hl 0 rfl) ?_
        refine lv_iload_n hx hb dL_law_136 rfl (lv_at hl 3 rfl) ?_
        refine lv_iconst (v := 1) hx hb dL_law_137 (by decide) ?_
        refine lv_iadd hx hb dL_law_138 ?_
        refine ml_top (y := nI (i + 1)) (nI_add i 1) ?_
        refine va_sld hx hb hX hbl hbA hS (vp_in_nI (by omega) (by omega)) dL_law_139 ?_
        refine lv_aload_n hx hb dL_law_140 rfl (lv_at hl 0 rfl) ?_
        refine lv_iload_n hx hb dL_law_141 rfl (lv_at hl 3 rfl) ?_
        refine lv_iconst (v := 2) hx hb dL_law_142 (by decide) ?_
        refine lv_iadd hx hb dL_law_143 ?_
        refine ml_top (y := nI (i + 2)) (nI_add i 2) ?_
        refine va_sld hx hb hX hbl hbA hS (vp_in_nI (by omega) (by omega)) dL_law_144 ?_
        refine xq_path hD1 S ⟨Nat.le_of_ble_eq_true rfl, Nat.le_of_ble_eq_true rfl⟩ ⟨Nat.le_of_ble_eq_true rfl, Nat.le_of_ble_eq_true rfl⟩ hK hHx hS hA1 hl.1 (Nat.le_of_ble_eq_true rfl) dL_law_145 (fun H1 locs hHx hk hS => ?_)
        have hHm := hHm.kept (fun q hq => hk q (hHm.lt q hq) (fun h => hdis q h hq))
        refine lv_aload_n hx hb dL_law_148 rfl (lv_at hl 2 rfl) ?_
        refine lv_aload_n hx hb dL_law_149 rfl (lv_at hl 0 rfl) ?_
        refine lv_iload_n hx hb dL_law_150 rfl (lv_at hl 3 rfl) ?_
        refine lv_iconst (v := 1) hx hb dL_law_151 (by decide) ?_
        refine lv_iadd hx hb dL_law_152 ?_
        refine ml_top (y := nI (i + 1)) (nI_add i 1) ?_
        refine va_sld hx hb hX hbl hbA hS (vp_in_nI (by omega) (by omega)) dL_law_153 ?_
        refine lv_aload_n hx hb dL_law_154 rfl (lv_at hl 0 rfl) ?_
        refine lv_iload_n hx hb dL_law_155 rfl (lv_at hl 3 rfl) ?_
        refine lv_iconst (v := 2) hx hb dL_law_156 (by decide) ?_
        refine lv_iadd hx hb dL_law_157 ?_
        refine ml_top (y := nI (i + 2)) (nI_add i 2) ?_
        refine va_sld hx hb hX hbl hbA hS (vp_in_nI (by omega) (by omega)) dL_law_158 ?_
        refine mq_path hD2 S ⟨Nat.le_of_ble_eq_true rfl, Nat.le_of_ble_eq_true rfl⟩ ⟨Nat.le_of_ble_eq_true rfl, Nat.le_of_ble_eq_true rfl⟩ hKm hHm hS hA2 hl.1 (Nat.le_of_ble_eq_true rfl) dL_law_159 (fun H2 locs hHm hk hS => ?_)
        have hHx := hHx.kept (fun q hq => hk q (hHx.lt q hq) (fun h => hdis q hq h))
        refine lv_icmp_eq (tgt := 346) hx hb dL_law_162 (by decide) (fun _ => ?_) (fun q => absurd (rfl) q)
        exact next (op_path st (xs (nI (i + 1)).toNatClampNeg) (xs (nI (i + 2)).toNatClampNeg)).2 _ locs hHx hHm hS ls (lv_sub hl [0, 1, 2, 3] rfl)
      · refine lv_tableIn (off := 135) (tgt := 167) hx hb dL_law_32 (by decide) (by decide) (by decide) (by decide) ?_
        refine lv_aload_n hx hb dL_law_167 rfl (lv_at hl 1 rfl) ?_
        refine lv_aload_n hx hb dL_law_168 rfl (lv_at hl 0 rfl) ?_
        refine lv_iload_n hx hb dL_law_169 rfl (lv_at hl 3 rfl) ?_
        refine lv_iconst (v := 1) hx hb dL_law_170 (by decide) ?_
        refine lv_iadd hx hb dL_law_171 ?_
        refine ml_top (y := nI (i + 1)) (nI_add i 1) ?_
        refine va_sld hx hb hX hbl hbA hS (vp_in_nI (by omega) (by omega)) dL_law_172 ?_
        refine lv_aload_n hx hb dL_law_173 rfl (lv_at hl 0 rfl) ?_
        refine lv_iload_n hx hb dL_law_174 rfl (lv_at hl 3 rfl) ?_
        refine lv_iconst (v := 2) hx hb dL_law_175 (by decide) ?_
        refine lv_iadd hx hb dL_law_176 ?_
        refine ml_top (y := nI (i + 2)) (nI_add i 2) ?_
        refine va_sld hx hb hX hbl hbA hS (vp_in_nI (by omega) (by omega)) dL_law_177 ?_
        refine xq_steps hD1 S ⟨Nat.le_of_ble_eq_true rfl, Nat.le_of_ble_eq_true rfl⟩ ⟨Nat.le_of_ble_eq_true rfl, Nat.le_of_ble_eq_true rfl⟩ hK hHx hS hA1 hl.1 (Nat.le_of_ble_eq_true rfl) dL_law_178 (fun H1 locs hHx hk hS => ?_)
        have hHm := hHm.kept (fun q hq => hk q (hHm.lt q hq) (fun h => hdis q h hq))
        refine lv_aload_n hx hb dL_law_181 rfl (lv_at hl 2 rfl) ?_
        refine lv_aload_n hx hb dL_law_182 rfl (lv_at hl 0 rfl) ?_
        refine lv_iload_n hx hb dL_law_183 rfl (lv_at hl 3 rfl) ?_
        refine lv_iconst (v := 1) hx hb dL_law_184 (by decide) ?_
        refine lv_iadd hx hb dL_law_185 ?_
        refine ml_top (y := nI (i + 1)) (nI_add i 1) ?_
        refine va_sld hx hb hX hbl hbA hS (vp_in_nI (by omega) (by omega)) dL_law_186 ?_
        refine lv_aload_n hx hb dL_law_187 rfl (lv_at hl 0 rfl) ?_
        refine lv_iload_n hx hb dL_law_188 rfl (lv_at hl 3 rfl) ?_
        refine lv_iconst (v := 2) hx hb dL_law_189 (by decide) ?_
        refine lv_iadd hx hb dL_law_190 ?_
        refine ml_top (y := nI (i + 2)) (nI_add i 2) ?_
        refine va_sld hx hb hX hbl hbA hS (vp_in_nI (by omega) (by omega)) dL_law_191 ?_
        refine mq_steps hD2 S ⟨Nat.le_of_ble_eq_true rfl, Nat.le_of_ble_eq_true rfl⟩ ⟨Nat.le_of_ble_eq_true rfl, Nat.le_of_ble_eq_true rfl⟩ hKm hHm hS hA2 hl.1 (Nat.le_of_ble_eq_true rfl) dL_law_192 (fun H2 locs hHm hk hS => ?_)
        have hHx := hHx.kept (fun q hq => hk q (hHx.lt q hq) (fun h => hdis q hq h))
        refine lv_icmp_eq (tgt := 346) hx hb dL_law_195 (by decide) (fun _ => ?_) (fun q => absurd (rfl) q)
        exact next (op_steps st (xs (nI (i + 1)).toNatClampNeg) (xs (nI (i + 2)).toNatClampNeg)).2 _ locs hHx hHm hS ls (lv_sub hl [0, 1, 2, 3] rfl)
      · refine lv_tableIn (off := 168) (tgt := 200) hx hb dL_law_32 (by decide) (by decide) (by decide) (by decide) ?_
        refine lv_aload_n hx hb dL_law_200 rfl (lv_at hl 1 rfl) ?_
        refine lv_aload_n hx hb dL_law_201 rfl (lv_at hl 0 rfl) ?_
        refine lv_iload_n hx hb dL_law_202 rfl (lv_at hl 3 rfl) ?_
        refine lv_iconst (v := 1) hx hb dL_law_203 (by decide) ?_
        refine lv_iadd hx hb dL_law_204 ?_
        refine ml_top (y := nI (i + 1)) (nI_add i 1) ?_
        refine va_sld hx hb hX hbl hbA hS (vp_in_nI (by omega) (by omega)) dL_law_205 ?_
        refine xq_hand hD1 S ⟨Nat.le_of_ble_eq_true rfl, Nat.le_of_ble_eq_true rfl⟩ ⟨Nat.le_of_ble_eq_true rfl, Nat.le_of_ble_eq_true rfl⟩ hK hHx hl.1 (Nat.le_of_ble_eq_true rfl) dL_law_206 ?_
        refine lv_aload_n hx hb dL_law_209 rfl (lv_at hl 2 rfl) ?_
        refine lv_aload_n hx hb dL_law_210 rfl (lv_at hl 0 rfl) ?_
        refine lv_iload_n hx hb dL_law_211 rfl (lv_at hl 3 rfl) ?_
        refine lv_iconst (v := 1) hx hb dL_law_212 (by decide) ?_
        refine lv_iadd hx hb dL_law_213 ?_
        refine ml_top (y := nI (i + 1)) (nI_add i 1) ?_
        refine va_sld hx hb hX hbl hbA hS (vp_in_nI (by omega) (by omega)) dL_law_214 ?_
        refine mq_hand hD2 S ⟨Nat.le_of_ble_eq_true rfl, Nat.le_of_ble_eq_true rfl⟩ ⟨Nat.le_of_ble_eq_true rfl, Nat.le_of_ble_eq_true rfl⟩ hKm hHm hl.1 (Nat.le_of_ble_eq_true rfl) dL_law_215 ?_
        refine lv_icmp_eq (tgt := 346) hx hb dL_law_218 (by decide) (fun _ => ?_) (fun q => absurd (rfl) q)
        exact next st _ locs hHx hHm hS ls (lv_sub hl [0, 1, 2, 3] rfl)
      · refine lv_tableIn (off := 191) (tgt := 223) hx hb dL_law_32 (by decide) (by decide) (by decide) (by decide) ?_
        refine lv_aload_n hx hb dL_law_223 rfl (lv_at hl 1 rfl) ?_
        refine xq_held hD1 S ⟨Nat.le_of_ble_eq_true rfl, Nat.le_of_ble_eq_true rfl⟩ ⟨Nat.le_of_ble_eq_true rfl, Nat.le_of_ble_eq_true rfl⟩ hK hHx hl.1 (Nat.le_of_ble_eq_true rfl) dL_law_224 ?_
        refine lv_aload_n hx hb dL_law_227 rfl (lv_at hl 2 rfl) ?_
        refine mq_held hD2 S ⟨Nat.le_of_ble_eq_true rfl, Nat.le_of_ble_eq_true rfl⟩ ⟨Nat.le_of_ble_eq_true rfl, Nat.le_of_ble_eq_true rfl⟩ hKm hHm hl.1 (Nat.le_of_ble_eq_true rfl) dL_law_228 ?_
        refine lv_icmp_eq (tgt := 346) hx hb dL_law_231 (by decide) (fun _ => ?_) (fun q => absurd (rfl) q)
        exact next st _ locs hHx hHm hS ls (lv_sub hl [0, 1, 2, 3] rfl)
      · refine lv_tableIn (off := 204) (tgt := 236) hx hb dL_law_32 (by decide) (by decide) (by decide) (by decide) ?_
        refine lv_aload_n hx hb dL_law_236 rfl (lv_at hl 1 rfl) ?_
        refine lv_aload_n hx hb dL_law_237 rfl (lv_at hl 0 rfl) ?_
        refine lv_iload_n hx hb dL_law_238 rfl (lv_at hl 3 rfl) ?_
        refine lv_iconst (v := 1) hx hb dL_law_239 (by decide) ?_
        refine lv_iadd hx hb dL_law_240 ?_
        refine ml_top (y := nI (i + 1)) (nI_add i 1) ?_
        refine va_sld hx hb hX hbl hbA hS (vp_in_nI (by omega) (by omega)) dL_law_241 ?_
        refine lv_aload_n hx hb dL_law_242 rfl (lv_at hl 0 rfl) ?_
        refine lv_iload_n hx hb dL_law_243 rfl (lv_at hl 3 rfl) ?_
        refine lv_iconst (v := 2) hx hb dL_law_244 (by decide) ?_
        refine lv_iadd hx hb dL_law_245 ?_
        refine ml_top (y := nI (i + 2)) (nI_add i 2) ?_
        refine va_sld hx hb hX hbl hbA hS (vp_in_nI (by omega) (by omega)) dL_law_246 ?_
        refine xq_alter hD1 S ⟨Nat.le_of_ble_eq_true rfl, Nat.le_of_ble_eq_true rfl⟩ ⟨Nat.le_of_ble_eq_true rfl, Nat.le_of_ble_eq_true rfl⟩ hK hHx hS hA1 hl.1 (Nat.le_of_ble_eq_true rfl) dL_law_247 (fun H1 locs hHx hk hS => ?_)
        have hHm := hHm.kept (fun q hq => hk q (hHm.lt q hq) (fun h => hdis q h hq))
        refine lv_aload_n hx hb dL_law_250 rfl (lv_at hl 2 rfl) ?_
        refine lv_aload_n hx hb dL_law_251 rfl (lv_at hl 0 rfl) ?_
        refine lv_iload_n hx hb dL_law_252 rfl (lv_at hl 3 rfl) ?_
        refine lv_iconst (v := 1) hx hb dL_law_253 (by decide) ?_
        refine lv_iadd hx hb dL_law_254 ?_
        refine ml_top (y := nI (i + 1)) (nI_add i 1) ?_
        refine va_sld hx hb hX hbl hbA hS (vp_in_nI (by omega) (by omega)) dL_law_255 ?_
        refine lv_aload_n hx hb dL_law_256 rfl (lv_at hl 0 rfl) ?_
        refine lv_iload_n hx hb dL_law_257 rfl (lv_at hl 3 rfl) ?_
        refine lv_iconst (v := 2) hx hb dL_law_258 (by decide) ?_
        refine lv_iadd hx hb dL_law_259 ?_
        refine ml_top (y := nI (i + 2)) (nI_add i 2) ?_
        refine va_sld hx hb hX hbl hbA hS (vp_in_nI (by omega) (by omega)) dL_law_260 ?_
        refine mq_alter hD2 S ⟨Nat.le_of_ble_eq_true rfl, Nat.le_of_ble_eq_true rfl⟩ ⟨Nat.le_of_ble_eq_true rfl, Nat.le_of_ble_eq_true rfl⟩ hKm hHm hS hA2 hl.1 (Nat.le_of_ble_eq_true rfl) dL_law_261 (fun H2 locs hHm hk hS => ?_)
        have hHx := hHx.kept (fun q hq => hk q (hHx.lt q hq) (fun h => hdis q hq h))
        refine lv_icmp_eq (tgt := 346) hx hb dL_law_264 (by decide) (fun _ => ?_) (fun q => absurd (rfl) q)
        exact next (op_alter st (xs (nI (i + 1)).toNatClampNeg) (xs (nI (i + 2)).toNatClampNeg)).2 _ locs hHx hHm hS ls (lv_sub hl [0, 1, 2, 3] rfl)
      · refine lv_tableIn (off := 237) (tgt := 269) hx hb dL_law_32 (by decide) (by decide) (by decide) (by decide) ?_
        refine lv_aload_n hx hb dL_law_269 rfl (lv_at hl 1 rfl) ?_
        refine xq_drop hD1 S ⟨Nat.le_of_ble_eq_true rfl, Nat.le_of_ble_eq_true rfl⟩ ⟨Nat.le_of_ble_eq_true rfl, Nat.le_of_ble_eq_true rfl⟩ hK hHx hS hA1 hl.1 (Nat.le_of_ble_eq_true rfl) dL_law_270 (fun H1 locs hHx hk hS => ?_)
        have hHm := hHm.kept (fun q hq => hk q (hHm.lt q hq) (fun h => hdis q h hq))
        refine lv_aload_n hx hb dL_law_273 rfl (lv_at hl 2 rfl) ?_
        refine mq_drop hD2 S ⟨Nat.le_of_ble_eq_true rfl, Nat.le_of_ble_eq_true rfl⟩ ⟨Nat.le_of_ble_eq_true rfl, Nat.le_of_ble_eq_true rfl⟩ hKm hHm hS hA2 hl.1 (Nat.le_of_ble_eq_true rfl) dL_law_274 (fun H2 locs hHm hk hS => ?_)
        have hHx := hHx.kept (fun q hq => hk q (hHx.lt q hq) (fun h => hdis q hq h))
        refine lv_goto (tgt := 346) hx hb dL_law_277 (by decide) ?_
        exact next (op_drop st) _ locs hHx hHm hS ls (lv_sub hl [0, 1, 2, 3] rfl)
      · refine lv_tableIn (off := 248) (tgt := 280) hx hb dL_law_32 (by decide) (by decide) (by decide) (by decide) ?_
        refine lv_aload_n hx hb dL_law_280 rfl (lv_at hl 1 rfl) ?_
        refine lv_aload_n hx hb dL_law_281 rfl (lv_at hl 0 rfl) ?_
        refine lv_iload_n hx hb dL_law_282 rfl (lv_at hl 3 rfl) ?_
        refine lv_iconst (v := 1) hx hb dL_law_283 (by decide) ?_
        refine lv_iadd hx hb dL_law_284 ?_
        refine ml_top (y := nI (i + 1)) (nI_add i 1) ?_
        refine va_sld hx hb hX hbl hbA hS (vp_in_nI (by omega) (by omega)) dL_law_285 ?_
        refine xq_take hD1 S ⟨Nat.le_of_ble_eq_true rfl, Nat.le_of_ble_eq_true rfl⟩ ⟨Nat.le_of_ble_eq_true rfl, Nat.le_of_ble_eq_true rfl⟩ hK hHx hS hA1 hl.1 (Nat.le_of_ble_eq_true rfl) dL_law_286 (fun H1 locs hHx hk hS => ?_)
        have hHm := hHm.kept (fun q hq => hk q (hHm.lt q hq) (fun h => hdis q h hq))
        refine lv_aload_n hx hb dL_law_289 rfl (lv_at hl 2 rfl) ?_
        refine lv_aload_n hx hb dL_law_290 rfl (lv_at hl 0 rfl) ?_
        refine lv_iload_n hx hb dL_law_291 rfl (lv_at hl 3 rfl) ?_
        refine lv_iconst (v := 1) hx hb dL_law_292 (by decide) ?_
        refine lv_iadd hx hb dL_law_293 ?_
        refine ml_top (y := nI (i + 1)) (nI_add i 1) ?_
        refine va_sld hx hb hX hbl hbA hS (vp_in_nI (by omega) (by omega)) dL_law_294 ?_
        refine mq_take hD2 S ⟨Nat.le_of_ble_eq_true rfl, Nat.le_of_ble_eq_true rfl⟩ ⟨Nat.le_of_ble_eq_true rfl, Nat.le_of_ble_eq_true rfl⟩ hKm hHm hS hA2 hl.1 (Nat.le_of_ble_eq_true rfl) dL_law_295 (fun H2 locs hHm hk hS => ?_)
        have hHx := hHx.kept (fun q hq => hk q (hHx.lt q hq) (fun h => hdis q hq h))
        refine lv_icmp_eq (tgt := 346) hx hb dL_law_298 (by decide) (fun _ => ?_) (fun q => absurd (rfl) q)
        exact next (op_take st (xs (nI (i + 1)).toNatClampNeg)).2 _ locs hHx hHm hS ls (lv_sub hl [0, 1, 2, 3] rfl)
      · refine lv_tableIn (off := 271) (tgt := 303) hx hb dL_law_32 (by decide) (by decide) (by decide) (by decide) ?_
        refine lv_aload_n hx hb dL_law_303 rfl (lv_at hl 1 rfl) ?_
        refine lv_aload_n hx hb dL_law_304 rfl (lv_at hl 0 rfl) ?_
        refine lv_iload_n hx hb dL_law_305 rfl (lv_at hl 3 rfl) ?_
        refine lv_iconst (v := 1) hx hb dL_law_306 (by decide) ?_
        refine lv_iadd hx hb dL_law_307 ?_
        refine ml_top (y := nI (i + 1)) (nI_add i 1) ?_
        refine va_sld hx hb hX hbl hbA hS (vp_in_nI (by omega) (by omega)) dL_law_308 ?_
        refine lv_aload_n hx hb dL_law_309 rfl (lv_at hl 0 rfl) ?_
        refine lv_iload_n hx hb dL_law_310 rfl (lv_at hl 3 rfl) ?_
        refine lv_iconst (v := 2) hx hb dL_law_311 (by decide) ?_
        refine lv_iadd hx hb dL_law_312 ?_
        refine ml_top (y := nI (i + 2)) (nI_add i 2) ?_
        refine va_sld hx hb hX hbl hbA hS (vp_in_nI (by omega) (by omega)) dL_law_313 ?_
        refine lv_aload_n hx hb dL_law_314 rfl (lv_at hl 0 rfl) ?_
        refine lv_iload_n hx hb dL_law_315 rfl (lv_at hl 3 rfl) ?_
        refine lv_iconst (v := 3) hx hb dL_law_316 (by decide) ?_
        refine lv_iadd hx hb dL_law_317 ?_
        refine ml_top (y := nI (i + 3)) (nI_add i 3) ?_
        refine va_sld hx hb hX hbl hbA hS (vp_in_nI (by omega) (by omega)) dL_law_318 ?_
        refine xq_rootFrom hD1 S ⟨Nat.le_of_ble_eq_true rfl, Nat.le_of_ble_eq_true rfl⟩ ⟨Nat.le_of_ble_eq_true rfl, Nat.le_of_ble_eq_true rfl⟩ hK hHx hl.1 (Nat.le_of_ble_eq_true rfl) dL_law_319 ?_
        refine lv_aload_n hx hb dL_law_322 rfl (lv_at hl 2 rfl) ?_
        refine lv_aload_n hx hb dL_law_323 rfl (lv_at hl 0 rfl) ?_
        refine lv_iload_n hx hb dL_law_324 rfl (lv_at hl 3 rfl) ?_
        refine lv_iconst (v := 1) hx hb dL_law_325 (by decide) ?_
        refine lv_iadd hx hb dL_law_326 ?_
        refine ml_top (y := nI (i + 1)) (nI_add i 1) ?_
        refine va_sld hx hb hX hbl hbA hS (vp_in_nI (by omega) (by omega)) dL_law_327 ?_
        refine lv_aload_n hx hb dL_law_328 rfl (lv_at hl 0 rfl) ?_
        refine lv_iload_n hx hb dL_law_329 rfl (lv_at hl 3 rfl) ?_
        refine lv_iconst (v := 2) hx hb dL_law_330 (by decide) ?_
        refine lv_iadd hx hb dL_law_331 ?_
        refine ml_top (y := nI (i + 2)) (nI_add i 2) ?_
        refine va_sld hx hb hX hbl hbA hS (vp_in_nI (by omega) (by omega)) dL_law_332 ?_
        refine lv_aload_n hx hb dL_law_333 rfl (lv_at hl 0 rfl) ?_
        refine lv_iload_n hx hb dL_law_334 rfl (lv_at hl 3 rfl) ?_
        refine lv_iconst (v := 3) hx hb dL_law_335 (by decide) ?_
        refine lv_iadd hx hb dL_law_336 ?_
        refine ml_top (y := nI (i + 3)) (nI_add i 3) ?_
        refine va_sld hx hb hX hbl hbA hS (vp_in_nI (by omega) (by omega)) dL_law_337 ?_
        refine mq_rootFrom hD2 S ⟨Nat.le_of_ble_eq_true rfl, Nat.le_of_ble_eq_true rfl⟩ ⟨Nat.le_of_ble_eq_true rfl, Nat.le_of_ble_eq_true rfl⟩ hKm hHm hl.1 (Nat.le_of_ble_eq_true rfl) dL_law_338 ?_
        refine lv_icmp_eq (tgt := 346) hx hb dL_law_341 (by decide) (fun _ => ?_) (fun q => absurd (rfl) q)
        exact next st _ locs hHx hHm hS ls (lv_sub hl [0, 1, 2, 3] rfl)
      · refine lv_tableOut (tgt := 346) hx hb dL_law_32 (Or.inr (by rw [nI_toInt (by omega)]; omega)) (by decide) ?_
        exact next st H locs hHx hHm hS ls (lv_sub hl [0, 1, 2, 3] rfl)
end
section
set_option maxHeartbeats 8000000 in
set_option maxRecDepth 100000 in
/-- THE LAW, from its entry -/
theorem whole_start {p : Program} {e : Env} {s : State} {m : MethodId} {below : List Frame} {meth : Method} {c : Code} (l : Launch) {b L : Nat} {xs : Nat → Int32} (hL : L ≤ 256) (C0 : lw_At p s m meth c b L xs) : W p l e room_1 s m #[Value.ref b] below meth c s.heap [] 0 0 (lw_Z below #[Value.ref b] s) (entryFrame m ([Value.ref b] : List Value).toArray 4) := by
  obtain ⟨hx, hb, hr, hml, hown, hts0, hX, hbl, hlocks, hgv⟩ := id C0
  have hts : ∀ w ∈ lw_all, w.before #[Value.ref b] s = true := fun w h => hts0 w (lw_all_tbl h)
  have S : CallFix p m c cL_law 4 s #[Value.ref b] lw_all R_law := ⟨hx, hb, hml, hown, hts⟩
  have hA : ∀ q : Nat, s.heap.size ≤ q → (fun q : Nat => s.heap.size ≤ q) q := fun _ h => h
  obtain ⟨c0, iS0, hKn0⟩ := u_known (C := RX0) (T := TX0) (N := 6) (n := 6) hts in_X0 (hts _ q11)
  obtain ⟨c1, iS1, hKn1⟩ := u_known (C := RX1) (T := TX1) (N := 8) (n := 8) hts in_X1 (hts _ q108)
  obtain ⟨D, hKc⟩ : ∃ D : va_G, ∀ (k : Nat) (q : vw_C), ml_cl[k]? = some q → u_Kn s q.1 q.2.1 q.2.2 (D.1 k) (D.2 k) := by
    refine ⟨(fun k => if k = 0 then c0 else c1, fun k => if k = 0 then iS0 else iS1), ?_⟩
    intro k q hq
    match k, hq with
    | 0, hq => cases hq; exact hKn0
    | 1, hq => cases hq; exact hKn1
    | k + 2, hq => simp [ml_cl] at hq
  have hS : va_S (fun q : Nat => s.heap.size ≤ q) s.heap s.heap [] := va_S.rf
  have hK0 : va_K D ml_cl [] s := ⟨hKc, fun k q h => by simp at h⟩
  have hP : va_P D ml_cl [] s.heap := fun k q h => by simp at h
  have hD : va_D (fun q : Nat => s.heap.size ≤ q) [] := ⟨fun i j p q h => by simp at h, fun k q h => by simp at h⟩
  have hl := lv_entry ([.ref b]) (n := 4) (Nat.le_of_ble_eq_true rfl)
  rw [lg_entry_eq]
  generalize (lg_sl ([.ref b]) ++ List.replicate (4 - (lg_sl ([.ref b])).length) Slot.unset).toArray = ls at hl ⊢
  have hl : lv_has ls 4 [(0, .ref b)] := hl
  refine va_new (ci := 0) (fs := [.int 0, .null, .int 0, .null, .int 0, .null]) (C := RX0) (T := TX0) (N := 6) hx hb hts in_X0 tyX0 tyX0_ok hown (hts _ q10) (hts _ q11) (hts _ q8) hK0 hP hD hS hA rfl (fun j hj => by rcases (show j = 0 ∨ j = 1 ∨ j = 2 ∨ j = 3 ∨ j = 4 ∨ j = 5 by omega) with rfl | rfl | rfl | rfl | rfl | rfl <;> rfl) (Nat.le_of_ble_eq_true rfl) (Nat.le_of_ble_eq_true rfl) dL_law_0 (fun qx H hP hD hS => ?_)
  have hP : va_P D ml_cl (xB qx) H := hP
  have hD : va_D (fun q : Nat => s.heap.size ≤ q) (xB qx) := hD
  refine lv_dup hx hb dL_law_3 rfl ?_
  have hPc := hP.sub (ws' := xB qx) [0] rfl
  have hDc := hD.sub (ws' := xB qx) [0] (by decide) rfl
  have hFc := va_free (wc := xB qx) hD hS hA [0] rfl
  refine va_callv (va_runI (As := []) (rest := [.ref qx]) S (xm_init l D qx H.size) (cwI 0 hts (lw_meth q14) rfl rfl rfl (hts _ q8) (hts _ q12) (hts _ q13) rfl (by decide +kernel) ⟨Nat.le_of_ble_eq_true rfl, Nat.le_of_ble_eq_true rfl⟩) ⟨fun a U g mk q => by obtain ⟨q0, q1, qP, qK, qD⟩ := q; exact ⟨q0, q1, qP, va_K.moved (u := U) (U := U.calling g mk a) (Vm.Alike.refl U.vm) qK, qD⟩, fun U hU hW => ⟨rfl, by rw [hU], by rw [hU]; exact hPc, va_K.moved hW.alike hK0, hDc.weaken (fun _ _ _ _ => trivial)⟩⟩ rfl rfl hl.1 rfl (lv_room (Nat.le_of_ble_eq_true rfl)) dL_law_4 ⟨Nat.le_of_ble_eq_true rfl, Nat.le_of_ble_eq_true rfl⟩) hS (fun q _ h => hFc q h) hFc (fun _ t H1 locs ht hvm _ hB hz1 hk1 hS => ?_)
  obtain ⟨d, a, ea, hHx, hK1, hDa⟩ := hB
  rw [ht] at hHx
  have hK1 := va_K.moved hvm.symm hK1
  have hDx : xD (fun q : Nat => s.heap.size ≤ q) a := hDa.wk hFc
  subst ea
  refine lv_astore_n (lv' := [(1, .ref (a 0)), (0, .ref b)]) hx hb dL_law_7 rfl hl (by decide) rfl (fun ls hl => ?_)
  obtain ⟨n, cnt, fnd, part, nums, downs, hR, hP⟩ := hHx
  have hD : va_D (fun q : Nat => s.heap.size ≤ q) (wX d a n cnt fnd part nums downs) := hDx.at
  clear hk1 hFc hDc hPc
  refine va_new (ci := 1) (fs := [.int 0, .null, .null, .int 0, .null, .null, .null, .null]) (C := RX1) (T := TX1) (N := 8) hx hb hts in_X1 tyX1 tyX1_ok hown (hts _ q107) (hts _ q108) (hts _ q9) hK0 hP hD hS hA rfl (fun j hj => by rcases (show j = 0 ∨ j = 1 ∨ j = 2 ∨ j = 3 ∨ j = 4 ∨ j = 5 ∨ j = 6 ∨ j = 7 by omega) with rfl | rfl | rfl | rfl | rfl | rfl | rfl | rfl <;> rfl) (Nat.le_of_ble_eq_true rfl) (Nat.le_of_ble_eq_true rfl) dL_law_8 (fun qm H hP hD hS => ?_)
  have hP : va_P D ml_cl (wX d a n cnt fnd part nums downs ++ mB qm) H := hP
  have hD : va_D (fun q : Nat => s.heap.size ≤ q) (wX d a n cnt fnd part nums downs ++ mB qm) := hD
  refine lv_dup hx hb dL_law_11 rfl ?_
  have hPc := hP.sub (ws' := mB qm) [4] rfl
  have hDc := hD.sub (ws' := mB qm) [4] (by decide) rfl
  have hFc := va_free (wc := mB qm) hD hS hA [4] rfl
  refine va_callv (va_runI (As := []) (rest := [.ref qm]) S (mm_init l D qm H.size) (cwI 0 hts (lw_meth q111) rfl rfl rfl (hts _ q9) (hts _ q109) (hts _ q110) rfl (by decide +kernel) ⟨Nat.le_of_ble_eq_true rfl, Nat.le_of_ble_eq_true rfl⟩) ⟨fun a U g mk q => by obtain ⟨q0, q1, qP, qK, qD⟩ := q; exact ⟨q0, q1, qP, va_K.moved (u := U) (U := U.calling g mk a) (Vm.Alike.refl U.vm) qK, qD⟩, fun U hU hW => ⟨rfl, by rw [hU], by rw [hU]; exact hPc, va_K.moved hW.alike hK0, hDc.weaken (fun _ _ _ _ => trivial)⟩⟩ rfl rfl hl.1 rfl (lv_room (Nat.le_of_ble_eq_true rfl)) dL_law_12 ⟨Nat.le_of_ble_eq_true rfl, Nat.le_of_ble_eq_true rfl⟩) hS (fun q _ h => hFc q h) hFc (fun _ t H1 locs ht hvm _ hB hz1 hk1 hS => ?_)
  obtain ⟨dm, am, eam, hHm, hK2, hDam⟩ := hB
  rw [ht] at hHm
  have hK2 := va_K.moved hvm.symm hK2
  have hDm : mD (fun q : Nat => s.heap.size ≤ q) am := hDam.wk hFc
  subst eam
  have hPx := hP.sub (ws' := wX d a n cnt fnd part nums downs) [0, 1, 2, 3] rfl
  have hlt : ∀ q, xA a q → q < H.size := xP.in hPx
  have hapart : ∀ q, xA a q → ¬ va_A (mB (am 0)) H.size q := by
    intro q hq h
    rcases h with ⟨k, e9, h⟩ | h
    · have hk0 : k = 0 := by
        match k, h with
        | 0, _ => rfl
        | k + 1, h => simp at h
      subst hk0
      have hqe : q = am 0 := by cases h; rfl
      rcases hq with e | e | e | e
      · exact absurd (hD.1 0 4 _ _ rfl rfl (by show a 0 = am 0; rw [← e]; exact hqe)) (by decide)
      · exact absurd (hD.1 1 4 _ _ rfl rfl (by show a 1 = am 0; rw [← e]; exact hqe)) (by decide)
      · exact absurd (hD.1 2 4 _ _ rfl rfl (by show a 2 = am 0; rw [← e]; exact hqe)) (by decide)
      · exact absurd (hD.1 3 4 _ _ rfl rfl (by show a 3 = am 0; rw [← e]; exact hqe)) (by decide)
    · have := hlt q hq
      omega
  have hHx : xH D d a ml_s0 H1 := xH.kept ⟨n, cnt, fnd, part, nums, downs, hR, hPx⟩ (fun q hq => hk1 q (hlt q hq) (hapart q hq))
  have hdis : ∀ q, xA a q → ¬ mA am q := fun q hq h => hapart q hq (hDam.in q h)
  refine lv_astore_n (lv' := [(2, .ref (am 0)), (1, .ref (a 0)), (0, .ref b)]) hx hb dL_law_15 rfl hl (by decide) rfl (fun ls hl => ?_)
  refine lv_iconst (v := 0) hx hb dL_law_16 (by decide) ?_
  refine lv_istore_n (lv' := [(3, .int 0), (2, .ref (am 0)), (1, .ref (a 0)), (0, .ref b)]) hx hb dL_law_17 rfl hl (by decide) rfl (fun ls hl => ?_)
  refine W.widen (k := 11) (n := 582) (by decide) (by decide) ?_
  exact law_loop hL C0 ⟨hDx, hDm, hdis⟩ hK1 hK2 (L + 1) 0 ml_s0 (Nat.zero_le L) (by omega) H1 locs hHx hHm hS ls (lv_sub hl [3, 2, 1, 0] rfl)
end
section
set_option maxHeartbeats 4000000 in
theorem lw_walk (l : Launch) (b : Addr) (xs : List Int32) : MetFree l x (headSpec (Jvm.Cond.code x code maxLocals ret :: tables_1) room_1) (lw_P b xs) (fun _ _ _ _ _ => True) lw_Q := by
  refine MetFree.of_bodyS (code := code) (maxLocals := maxLocals) (ret := ret) (by decide) ?_ ?_
  · intro args s m h hn
    obtain ⟨meth, c, h1, h2, h3, h4, h5, h6, -, -⟩ := Cond.code_spec hn (atoms_spec (ws := Jvm.Cond.code x code maxLocals ret :: tables_1) h _ List.mem_cons_self)
    exact ⟨meth, c, h1, h2, h3, h4, h5, h6⟩
  · intro p e s m args below meth c s₁ B hml0 hP _
    obtain ⟨rfl, hx, hbd, hgv⟩ := hP
    obtain ⟨scr, harrAt, hlist, hof, hsmall⟩ := hx
    obtain ⟨hcb, hkn, -, -⟩ := State.arrayAt?_spec harrAt
    have hown : s.vm.findClass R_law = some m.cls := findClass_of_methodNamed B.named
    have hts0 : ∀ c ∈ (Jvm.Cond.code x code maxLocals ret :: tables_1), c.before #[Value.ref b] s = true := atoms_spec (ws := Jvm.Cond.code x code maxLocals ret :: tables_1) B.pre
    have hts : ∀ w ∈ lw_tbl, w.before #[Value.ref b] s = true := k2_hts_sels lw_privs (fun w hw => hts0 w (List.mem_cons_of_mem _ hw)) lw_privs_ok
    have hml : c.maxLocals = 4 := B.maxLocals_eq (hts0 _ List.mem_cons_self)
    have X₀ : Stand p l e room_1 s m #[Value.ref b] below meth c s₁ [] 0 0 := Stand.of_body B
    have hh0 : s₁.heap = s.heap := by rw [B.state]; rfl
    have hsz : scr.slots.size = xs.length := by rw [← Array.length_toList, hlist, List.length_map]
    have hval : ∀ j : Nat, j < xs.length → scr.slots[j]? = some (.int (xs.getD j 0)) := fun j hj => by
      rw [← Array.getElem?_toList, hlist]
      simp [hj]
    have hbl : b < s.heap.size := (Array.getElem?_eq_some_iff.mp hcb).1
    have hX : va_X b xs.length (fun j => xs.getD j 0) s s.heap := ⟨scr, hcb, hof, hkn, hsz, hval⟩
    have K : W p l e room_1 s m #[Value.ref b] below meth c s₁.heap [] 0 0 (lw_Z below #[Value.ref b] s) (entryFrame m ([Value.ref b] : List Value).toArray 4) := by
      rw [hh0]
      exact whole_start l hbd ⟨B.exec, B.bytes, B.returns, hml, hown, hts, hX, hbl, B.notSynchronized, hgv⟩
    obtain ⟨t, a1, o, b1, b2, b3⟩ := K s₁ rfl X₀
    exact ⟨t, o, a1, b1, b2, b3⟩
theorem lw_pre_spec {args : Array Value} {s : State} (h : (Jvm.Cond.and given_1 narrow_1).before args s = true) (hr : rest_1_c.before args s = true) : ∃ (b : Addr) (xs : List Int32), lw_P b xs args s := by
  have hs := flat_of_before _ h
  have hq := flat_of_before _ hr
  have hc : (Cond.count 1).before args s = true := hs _ (by decide +kernel)
  have harr : (Cond.arrayOf (.arg 0) .int).before args s = true := hs _ (by decide +kernel)
  have hle : (Cond.le (.length (.arg 0)) (.int 256)).before args s = true := hs _ (by decide +kernel)
  have hlen : (Cond.isInt (.length (.arg 0))).before args s = true := hq _ (by decide +kernel)
  have hall : (Cond.all (.arg 0) (.isInt (.elem (.arg 0) (.index 0)))).before args s = true := hq _ (by decide +kernel)
  obtain ⟨b, xs, hb, hx⟩ := State.ints_of_pre rfl harr hlen hall
  have hsm : xs.length < 2 ^ 31 := hx.choose_spec.2.2.2
  have hev : (Term.length (.arg 0)).eval args s none [] s = some (.int xs.length.toInt32) := hx.length_eval hb
  have hv := Cond.le_ints hev (show (Term.int 256).eval args s none [] s = some (.int 256) from rfl)
  have hd : xs.length.toInt32 ≤ 256 := by
    simpa [Cond.before, Cond.holds, hv] using hle
  have hN : xs.length ≤ 256 := (Int32.ofNat_le_ofNat hsm (by decide)).mp (show Int32.ofNat xs.length ≤ Int32.ofNat 256 from hd)
  exact ⟨b, xs, Cond.one_arg hc (show args[0]? = some (.ref b) from hb), hx, hN, h⟩
theorem lw_comes (l : Launch) : Comes l x (Jvm.Cond.code x code maxLocals ret :: tables_1) room_1 (fun tb e args s => Calls_1 tb e args s ∧ rest_1 tb e args s ∧ Pre_1 tb e args s)
    (fun _ _ args s o t => lw_Q args s o t) := by
  intro p e ha hc hk s m args below hf hfit hheap happ hpre
  obtain ⟨b, xs, hP⟩ := lw_pre_spec hpre.2.2 hpre.2.1
  obtain ⟨k, o, h1, h2, h3, hQ⟩ := lw_walk l b xs p e ha hc hk s m args below hf ((Spec.applies_iff_loose hf).mp happ).1 hP trivial
  exact ⟨k, o, h1, h2, h3, hQ⟩
theorem lw_frame {s t : State} {o : Outcome} {args : Array Value} (h : Framed s o t [] 600000 7290000) :
    Framed s o t (fieldLocs frame_1_writes args s ++ arrayLocs frame_1_arrays args s ++ staticLocs frame_1_statics s) 600000 7290000 := h
theorem lw_limb (L : Cond) (hL : ∀ (args : Array Value) (s t : State), L.after args s (.returned (some (.int 1))) t = true) :
    ArmFor flags0 classFile x code maxLocals ret World_1 tables_1 room_1 Calls_1 rest_1 Pre_1
      (fun tb e a s o t => postC L tb e a s o t ∧ Framed s o t (fieldLocs frame_1_writes a s ++ arrayLocs frame_1_arrays a s ++ staticLocs frame_1_statics s) 600000 7290000) := by
  intro l _ _ _ p e ha hc hk s m args below hf hfit hheap happ hpre
  obtain ⟨k, o, h1, h2, h3, rfl, hF⟩ := lw_comes l p e ha hc hk s m args below hf hfit hheap happ hpre
  exact ⟨k, _, h1, h2, h3, hL args s _, lw_frame hF⟩
theorem i_vc : Claimed_1_1 ∧ Claimed_1_2 := ⟨lw_limb limb_1_1 (fun args s t => by simp [limb_1_1, Cond.after, Cond.holds, Cond.value]), lw_limb limb_1_2 (fun args s t => Cond.after_iff.mpr (by
  first | (rw [show limb_1_2 = Cond.eq .result (.int 1) from rfl, Cond.eq_ints (x := 1) (y := 1) rfl rfl]; simp; done) | (simp [limb_1_2, Cond.value, Term.eval]; done)))⟩
end
